/-! the tables are right over the machine: printed by gen.py -/
section SND
variable {l : Launch} {g : GC} {D : va_G} {H0 : Heap}
theorem gT137_0 : sG l g D H0 mT 137 0 (s_load vRf 137 1 0) := ⟨ok_load _ _ _ _, so_aload_n mT137 dX4_init_0 rfl⟩
theorem gT137_1 : sG l g D H0 mT 137 1 (s_oinit 137 4) := ⟨ok_oinit _ _, so_oinit mT137 (by decide) dX4_init_1 q1177 q91 q92⟩
theorem gT137_4 : sG l g D H0 mT 137 4 (s_load vRf 137 5 0) := ⟨ok_load _ _ _ _, so_aload_n mT137 dX4_init_4 rfl⟩
theorem gT137_5 : sG l g D H0 mT 137 5 (s_new g 137 8 4 10 (fun k => defaultValue (tyX5 k))) := ⟨ok_new _ _ _ _ _ _, so_new mT137 cl4 (fun _ _ => rfl) dX4_init_5 q1178 q1179 q67⟩
theorem gT137_8 : sG l g D H0 mT 137 8 (s_dup 137 9) := ⟨ok_dup _ _, so_dup mT137 dX4_init_8⟩
theorem gT137_9 : sG l g D H0 mT 137 9 (s_callik 137 12 177 [] 1) := ⟨ok_callik _ _ _ _ _, sk_calli (by decide) (so_callIN mT137 mo177 (by decide) rfl dX4_init_9 q1180 q1181 q67)⟩
theorem gT137_12 : sG l g D H0 mT 137 12 (s_putf g pR 137 15 3 1) := ⟨ok_putf _ _ _ _ _ _, so_putf mT137 cl3 (k := 1) (by decide) fR rfl dX4_init_12 q1227 (fs_rf rfl)⟩
theorem gT137_15 : sG l g D H0 mT 137 15 (s_vret) := ⟨ok_vret, so_vret mT137 dX4_init_15⟩
theorem gT137 (pc : Nat) : sG l g D H0 mT 137 pc (tT137 g pc) := sG_cond (sG_cond (sG_cond (sG_leaf gT137_0) (sG_leaf gT137_1)) (sG_cond (sG_leaf gT137_4) (sG_leaf gT137_5))) (sG_cond (sG_cond (sG_leaf gT137_8) (sG_leaf gT137_9)) (sG_cond (sG_leaf gT137_12) (sG_leaf gT137_15)))
theorem gT138_0 : sG l g D H0 mT 138 0 (s_load vRf 138 1 0) := ⟨ok_load _ _ _ _, so_aload_n mT138 dX4_thrown_0 rfl⟩
theorem gT138_1 : sG l g D H0 mT 138 1 (s_getf 138 4 3 0) := ⟨ok_getf _ _ _ _, so_getf mT138 cl3 (k := 0) (by decide) dX4_thrown_1 q1226 (fs_rf rfl)⟩
theorem gT138_4 : sG l g D H0 mT 138 4 (s_ret pI) := ⟨ok_ret _, so_iret mT138 dX4_thrown_4⟩
theorem gT138 (pc : Nat) : sG l g D H0 mT 138 pc (tT138 g pc) := sG_cond (sG_leaf gT138_0) (sG_cond (sG_leaf gT138_1) (sG_leaf gT138_4))
theorem gT139_0 : sG l g D H0 mT 139 0 (s_load vRf 139 1 0) := ⟨ok_load _ _ _ _, so_aload_n mT139 dX4_guest_0 rfl⟩
theorem gT139_1 : sG l g D H0 mT 139 1 (s_const 139 2 (.int 0)) := ⟨ok_const _ _ _, so_iconst mT139 dX4_guest_1 (by decide)⟩
theorem gT139_2 : sG l g D H0 mT 139 2 (s_putf g pI 139 5 3 0) := ⟨ok_putf _ _ _ _ _ _, so_putf mT139 cl3 (k := 0) (by decide) fI rfl dX4_guest_2 q1226 (fs_rf rfl)⟩
theorem gT139_5 : sG l g D H0 mT 139 5 (s_load vI 139 6 1) := ⟨ok_load _ _ _ _, so_iload_n mT139 dX4_guest_5 rfl⟩
theorem gT139_6 : sG l g D H0 mT 139 6 (s_const 139 7 (.int 1)) := ⟨ok_const _ _ _, so_iconst mT139 dX4_guest_6 (by decide)⟩
theorem gT139_7 : sG l g D H0 mT 139 7 (s_const 139 8 (.int 4)) := ⟨ok_const _ _ _, so_iconst mT139 dX4_guest_7 (by decide)⟩
theorem gT139_8 : sG l g D H0 mT 139 8 (s_callk 139 11 140 [0, 0, 0] 3) := ⟨ok_callk _ _ _ _ _, sk_call (by decide) (so_callS mT139 mo140 (by decide) dX4_guest_8 q1244 q1245 q66)⟩
theorem gT139_11 : sG l g D H0 mT 139 11 (s_if 139 20 14 (fun a => a = 0)) := ⟨ok_if _ _ _ _, so_if_ne mT139 dX4_guest_11 (by decide)⟩
theorem gT139_14 : sG l g D H0 mT 139 14 (s_load vRf 139 15 0) := ⟨ok_load _ _ _ _, so_aload_n mT139 dX4_guest_14 rfl⟩
theorem gT139_15 : sG l g D H0 mT 139 15 (s_const 139 16 (.int 1)) := ⟨ok_const _ _ _, so_iconst mT139 dX4_guest_15 (by decide)⟩
theorem gT139_16 : sG l g D H0 mT 139 16 (s_callvk 139 19 141 3 [0] 2) := ⟨ok_callvk _ _ _ _ _ _, sk_callv (by decide) (so_callV mT139 mo141 (by decide) (t := 3) (C := "HyperVaneModel") (by decide) rfl rfl dX4_guest_16 q1247 q1249 qs31 q66)⟩
theorem gT139_19 : sG l g D H0 mT 139 19 (s_ret pI) := ⟨ok_ret _, so_iret mT139 dX4_guest_19⟩
theorem gT139_20 : sG l g D H0 mT 139 20 (s_load vRf 139 21 0) := ⟨ok_load _ _ _ _, so_aload_n mT139 dX4_guest_20 rfl⟩
theorem gT139_21 : sG l g D H0 mT 139 21 (s_getf 139 24 3 1) := ⟨ok_getf _ _ _ _, so_getf mT139 cl3 (k := 1) (by decide) dX4_guest_21 q1227 (fs_rf rfl)⟩
theorem gT139_24 : sG l g D H0 mT 139 24 (s_getf 139 27 4 0) := ⟨ok_getf _ _ _ _, so_getfN mT139 cl4 (k := 0) (by decide) dX4_guest_24 q1187 (fs_rf rfl)⟩
theorem gT139_27 : sG l g D H0 mT 139 27 (s_callvk 139 30 15 10 [] 1) := ⟨ok_callvk _ _ _ _ _ _, sk_callv (by decide) (so_callV mT139 mo15 (by decide) (t := 10) (C := "java/util/ArrayList") (by decide) rfl rfl dX4_guest_27 q1251 q173 q174 q58)⟩
theorem gT139_30 : sG l g D H0 mT 139 30 (s_const 139 31 (.int 3)) := ⟨ok_const _ _ _, so_iconst mT139 dX4_guest_30 (by decide)⟩
theorem gT139_31 : sG l g D H0 mT 139 31 (s_icmp 139 40 34 (fun a b => a = b)) := ⟨ok_icmp _ _ _ _, so_icmp_ne mT139 dX4_guest_31 (by decide)⟩
theorem gT139_34 : sG l g D H0 mT 139 34 (s_load vRf 139 35 0) := ⟨ok_load _ _ _ _, so_aload_n mT139 dX4_guest_34 rfl⟩
theorem gT139_35 : sG l g D H0 mT 139 35 (s_const 139 36 (.int 2)) := ⟨ok_const _ _ _, so_iconst mT139 dX4_guest_35 (by decide)⟩
theorem gT139_36 : sG l g D H0 mT 139 36 (s_callvk 139 39 141 3 [0] 2) := ⟨ok_callvk _ _ _ _ _ _, sk_callv (by decide) (so_callV mT139 mo141 (by decide) (t := 3) (C := "HyperVaneModel") (by decide) rfl rfl dX4_guest_36 q1247 q1249 qs31 q66)⟩
theorem gT139_39 : sG l g D H0 mT 139 39 (s_ret pI) := ⟨ok_ret _, so_iret mT139 dX4_guest_39⟩
theorem gT139_40 : sG l g D H0 mT 139 40 (s_new g 139 43 7 32 (fun k => defaultValue (tyX8 k))) := ⟨ok_new _ _ _ _ _ _, so_new mT139 cl7 (fun _ _ => rfl) dX4_guest_40 q1252 q1253 q75⟩
theorem gT139_43 : sG l g D H0 mT 139 43 (s_dup 139 44) := ⟨ok_dup _ _, so_dup mT139 dX4_guest_43⟩
theorem gT139_44 : sG l g D H0 mT 139 44 (s_callik 139 47 205 [] 1) := ⟨ok_callik _ _ _ _ _, sk_calli (by decide) (so_callIN mT139 mo205 (by decide) rfl dX4_guest_44 q1254 q1255 q75)⟩
theorem gT139_47 : sG l g D H0 mT 139 47 (s_store vRf 139 48 2) := ⟨ok_store _ _ _ _, so_astore_n mT139 dX4_guest_47 rfl⟩
theorem gT139_48 : sG l g D H0 mT 139 48 (s_load vRf 139 49 2) := ⟨ok_load _ _ _ _, so_aload_n mT139 dX4_guest_48 rfl⟩
theorem gT139_49 : sG l g D H0 mT 139 49 (s_load vI 139 50 1) := ⟨ok_load _ _ _ _, so_iload_n mT139 dX4_guest_49 rfl⟩
theorem gT139_50 : sG l g D H0 mT 139 50 (s_putf g pI 139 53 7 0) := ⟨ok_putf _ _ _ _ _ _, so_putfN mT139 cl7 (k := 0) (by decide) fI rfl dX4_guest_50 q1262 (fs_rf rfl)⟩
theorem gT139_53 : sG l g D H0 mT 139 53 (s_load vRf 139 54 0) := ⟨ok_load _ _ _ _, so_aload_n mT139 dX4_guest_53 rfl⟩
theorem gT139_54 : sG l g D H0 mT 139 54 (s_getf 139 57 3 1) := ⟨ok_getf _ _ _ _, so_getf mT139 cl3 (k := 1) (by decide) dX4_guest_54 q1227 (fs_rf rfl)⟩
theorem gT139_57 : sG l g D H0 mT 139 57 (s_getf 139 60 4 0) := ⟨ok_getf _ _ _ _, so_getfN mT139 cl4 (k := 0) (by decide) dX4_guest_57 q1187 (fs_rf rfl)⟩
theorem gT139_60 : sG l g D H0 mT 139 60 (s_load vRf 139 61 2) := ⟨ok_load _ _ _ _, so_aload_n mT139 dX4_guest_60 rfl⟩
theorem gT139_61 : sG l g D H0 mT 139 61 (s_callvk 139 64 18 10 [1] 2) := ⟨ok_callvk _ _ _ _ _ _, sk_callv (by decide) (so_callV mT139 mo18 (by decide) (t := 10) (C := "java/util/ArrayList") (by decide) rfl rfl dX4_guest_61 q1411 q228 q229 q58)⟩
theorem gT139_64 : sG l g D H0 mT 139 64 (s_pop 139 65) := ⟨ok_pop _ _, so_pop mT139 dX4_guest_64⟩
theorem gT139_65 : sG l g D H0 mT 139 65 (s_load vRf 139 66 0) := ⟨ok_load _ _ _ _, so_aload_n mT139 dX4_guest_65 rfl⟩
theorem gT139_66 : sG l g D H0 mT 139 66 (s_getf 139 69 3 1) := ⟨ok_getf _ _ _ _, so_getf mT139 cl3 (k := 1) (by decide) dX4_guest_66 q1227 (fs_rf rfl)⟩
theorem gT139_69 : sG l g D H0 mT 139 69 (s_getf 139 72 4 0) := ⟨ok_getf _ _ _ _, so_getfN mT139 cl4 (k := 0) (by decide) dX4_guest_69 q1187 (fs_rf rfl)⟩
theorem gT139_72 : sG l g D H0 mT 139 72 (s_callvk 139 75 15 10 [] 1) := ⟨ok_callvk _ _ _ _ _ _, sk_callv (by decide) (so_callV mT139 mo15 (by decide) (t := 10) (C := "java/util/ArrayList") (by decide) rfl rfl dX4_guest_72 q1251 q173 q174 q58)⟩
theorem gT139_75 : sG l g D H0 mT 139 75 (s_const 139 76 (.int 1)) := ⟨ok_const _ _ _, so_iconst mT139 dX4_guest_75 (by decide)⟩
theorem gT139_76 : sG l g D H0 mT 139 76 (s_bin 139 77 (fun a b => a - b)) := ⟨ok_bin _ _ _, so_isub mT139 dX4_guest_76⟩
theorem gT139_77 : sG l g D H0 mT 139 77 (s_ret pI) := ⟨ok_ret _, so_iret mT139 dX4_guest_77⟩
theorem gT139 (pc : Nat) : sG l g D H0 mT 139 pc (tT139 g pc) := sG_cond (sG_cond (sG_cond (sG_cond (sG_cond (sG_leaf gT139_0) (sG_leaf gT139_1)) (sG_cond (sG_leaf gT139_2) (sG_cond (sG_leaf gT139_5) (sG_leaf gT139_6)))) (sG_cond (sG_cond (sG_leaf gT139_7) (sG_leaf gT139_8)) (sG_cond (sG_leaf gT139_11) (sG_cond (sG_leaf gT139_14) (sG_leaf gT139_15))))) (sG_cond (sG_cond (sG_cond (sG_leaf gT139_16) (sG_leaf gT139_19)) (sG_cond (sG_leaf gT139_20) (sG_cond (sG_leaf gT139_21) (sG_leaf gT139_24)))) (sG_cond (sG_cond (sG_leaf gT139_27) (sG_cond (sG_leaf gT139_30) (sG_leaf gT139_31))) (sG_cond (sG_leaf gT139_34) (sG_cond (sG_leaf gT139_35) (sG_leaf gT139_36)))))) (sG_cond (sG_cond (sG_cond (sG_cond (sG_leaf gT139_39) (sG_leaf gT139_40)) (sG_cond (sG_leaf gT139_43) (sG_cond (sG_leaf gT139_44) (sG_leaf gT139_47)))) (sG_cond (sG_cond (sG_leaf gT139_48) (sG_leaf gT139_49)) (sG_cond (sG_leaf gT139_50) (sG_cond (sG_leaf gT139_53) (sG_leaf gT139_54))))) (sG_cond (sG_cond (sG_cond (sG_leaf gT139_57) (sG_leaf gT139_60)) (sG_cond (sG_leaf gT139_61) (sG_cond (sG_leaf gT139_64) (sG_leaf gT139_65)))) (sG_cond (sG_cond (sG_leaf gT139_66) (sG_cond (sG_leaf gT139_69) (sG_leaf gT139_72))) (sG_cond (sG_leaf gT139_75) (sG_cond (sG_leaf gT139_76) (sG_leaf gT139_77))))))
theorem gT140_0 : sG l g D H0 mT 140 0 (s_load vI 140 1 0) := ⟨ok_load _ _ _ _, so_iload_n mT140 dX4_is_0 rfl⟩
theorem gT140_1 : sG l g D H0 mT 140 1 (s_load vI 140 2 1) := ⟨ok_load _ _ _ _, so_iload_n mT140 dX4_is_1 rfl⟩
theorem gT140_2 : sG l g D H0 mT 140 2 (s_icmp 140 5 14 (fun a b => a < b)) := ⟨ok_icmp _ _ _ _, so_icmp_lt mT140 dX4_is_2 (by decide)⟩
theorem gT140_5 : sG l g D H0 mT 140 5 (s_load vI 140 6 0) := ⟨ok_load _ _ _ _, so_iload_n mT140 dX4_is_5 rfl⟩
theorem gT140_6 : sG l g D H0 mT 140 6 (s_load vI 140 7 2) := ⟨ok_load _ _ _ _, so_iload_n mT140 dX4_is_6 rfl⟩
theorem gT140_7 : sG l g D H0 mT 140 7 (s_icmp 140 10 14 (fun a b => b < a)) := ⟨ok_icmp _ _ _ _, so_icmp_gt mT140 dX4_is_7 (by decide)⟩
theorem gT140_10 : sG l g D H0 mT 140 10 (s_const 140 11 (.int 1)) := ⟨ok_const _ _ _, so_iconst mT140 dX4_is_10 (by decide)⟩
theorem gT140_11 : sG l g D H0 mT 140 11 (s_goto 140 15) := ⟨ok_goto _ _, so_goto mT140 dX4_is_11 (by decide)⟩
theorem gT140_14 : sG l g D H0 mT 140 14 (s_const 140 15 (.int 0)) := ⟨ok_const _ _ _, so_iconst mT140 dX4_is_14 (by decide)⟩
theorem gT140_15 : sG l g D H0 mT 140 15 (s_ret vZ) := ⟨ok_ret _, so_zret mT140 dX4_is_15⟩
theorem gT140 (pc : Nat) : sG l g D H0 mT 140 pc (tT140 g pc) := sG_cond (sG_cond (sG_cond (sG_leaf gT140_0) (sG_leaf gT140_1)) (sG_cond (sG_leaf gT140_2) (sG_cond (sG_leaf gT140_5) (sG_leaf gT140_6)))) (sG_cond (sG_cond (sG_leaf gT140_7) (sG_leaf gT140_10)) (sG_cond (sG_leaf gT140_11) (sG_cond (sG_leaf gT140_14) (sG_leaf gT140_15))))
theorem gT141_0 : sG l g D H0 mT 141 0 (s_load vRf 141 1 0) := ⟨ok_load _ _ _ _, so_aload_n mT141 dX4_refuse_0 rfl⟩
theorem gT141_1 : sG l g D H0 mT 141 1 (s_load vI 141 2 1) := ⟨ok_load _ _ _ _, so_iload_n mT141 dX4_refuse_1 rfl⟩
theorem gT141_2 : sG l g D H0 mT 141 2 (s_putf g pI 141 5 3 0) := ⟨ok_putf _ _ _ _ _ _, so_putf mT141 cl3 (k := 0) (by decide) fI rfl dX4_refuse_2 q1226 (fs_rf rfl)⟩
theorem gT141_5 : sG l g D H0 mT 141 5 (s_const 141 6 (.int 0)) := ⟨ok_const _ _ _, so_iconst mT141 dX4_refuse_5 (by decide)⟩
theorem gT141_6 : sG l g D H0 mT 141 6 (s_ret pI) := ⟨ok_ret _, so_iret mT141 dX4_refuse_6⟩
theorem gT141 (pc : Nat) : sG l g D H0 mT 141 pc (tT141 g pc) := sG_cond (sG_cond (sG_leaf gT141_0) (sG_leaf gT141_1)) (sG_cond (sG_leaf gT141_2) (sG_cond (sG_leaf gT141_5) (sG_leaf gT141_6)))
theorem gT142_0 : sG l g D H0 mT 142 0 (s_load vRf 142 1 0) := ⟨ok_load _ _ _ _, so_aload_n mT142 dX4_op_0 rfl⟩
theorem gT142_1 : sG l g D H0 mT 142 1 (s_const 142 2 (.int 0)) := ⟨ok_const _ _ _, so_iconst mT142 dX4_op_1 (by decide)⟩
theorem gT142_2 : sG l g D H0 mT 142 2 (s_putf g pI 142 5 3 0) := ⟨ok_putf _ _ _ _ _ _, so_putf mT142 cl3 (k := 0) (by decide) fI rfl dX4_op_2 q1226 (fs_rf rfl)⟩
theorem gT142_5 : sG l g D H0 mT 142 5 (s_load vRf 142 6 0) := ⟨ok_load _ _ _ _, so_aload_n mT142 dX4_op_5 rfl⟩
theorem gT142_6 : sG l g D H0 mT 142 6 (s_load vI 142 7 1) := ⟨ok_load _ _ _ _, so_iload_n mT142 dX4_op_6 rfl⟩
theorem gT142_7 : sG l g D H0 mT 142 7 (s_callvk 142 10 143 3 [0] 2) := ⟨ok_callvk _ _ _ _ _ _, sk_callv (by decide) (so_callV mT142 mo143 (by decide) (t := 3) (C := "HyperVaneModel") (by decide) rfl rfl dX4_op_7 q1416 q1418 qs32 q66)⟩
theorem gT142_10 : sG l g D H0 mT 142 10 (s_if 142 19 13 (fun a => a = 0)) := ⟨ok_if _ _ _ _, so_if_ne mT142 dX4_op_10 (by decide)⟩
theorem gT142_13 : sG l g D H0 mT 142 13 (s_load vRf 142 14 0) := ⟨ok_load _ _ _ _, so_aload_n mT142 dX4_op_13 rfl⟩
theorem gT142_14 : sG l g D H0 mT 142 14 (s_const 142 15 (.int 1)) := ⟨ok_const _ _ _, so_iconst mT142 dX4_op_14 (by decide)⟩
theorem gT142_15 : sG l g D H0 mT 142 15 (s_callvk 142 18 141 3 [0] 2) := ⟨ok_callvk _ _ _ _ _ _, sk_callv (by decide) (so_callV mT142 mo141 (by decide) (t := 3) (C := "HyperVaneModel") (by decide) rfl rfl dX4_op_15 q1247 q1249 qs31 q66)⟩
theorem gT142_18 : sG l g D H0 mT 142 18 (s_ret pI) := ⟨ok_ret _, so_iret mT142 dX4_op_18⟩
theorem gT142_19 : sG l g D H0 mT 142 19 (s_load vI 142 20 2) := ⟨ok_load _ _ _ _, so_iload_n mT142 dX4_op_19 rfl⟩
theorem gT142_20 : sG l g D H0 mT 142 20 (s_const 142 21 (.int 0)) := ⟨ok_const _ _ _, so_iconst mT142 dX4_op_20 (by decide)⟩
theorem gT142_21 : sG l g D H0 mT 142 21 (s_const 142 23 (.int 6)) := ⟨ok_const _ _ _, so_bipush mT142 dX4_op_21 (by decide)⟩
theorem gT142_23 : sG l g D H0 mT 142 23 (s_callk 142 26 140 [0, 0, 0] 3) := ⟨ok_callk _ _ _ _ _, sk_call (by decide) (so_callS mT142 mo140 (by decide) dX4_op_23 q1244 q1245 q66)⟩
theorem gT142_26 : sG l g D H0 mT 142 26 (s_if 142 29 53 (fun a => a = 0)) := ⟨ok_if _ _ _ _, so_if_eq mT142 dX4_op_26 (by decide)⟩
theorem gT142_29 : sG l g D H0 mT 142 29 (s_load vI 142 30 2) := ⟨ok_load _ _ _ _, so_iload_n mT142 dX4_op_29 rfl⟩
theorem gT142_30 : sG l g D H0 mT 142 30 (s_const 142 31 (.int 1)) := ⟨ok_const _ _ _, so_iconst mT142 dX4_op_30 (by decide)⟩
theorem gT142_31 : sG l g D H0 mT 142 31 (s_icmp 142 34 39 (fun a b => a = b)) := ⟨ok_icmp _ _ _ _, so_icmp_eq mT142 dX4_op_31 (by decide)⟩
theorem gT142_34 : sG l g D H0 mT 142 34 (s_load vI 142 35 2) := ⟨ok_load _ _ _ _, so_iload_n mT142 dX4_op_34 rfl⟩
theorem gT142_35 : sG l g D H0 mT 142 35 (s_const 142 36 (.int 2)) := ⟨ok_const _ _ _, so_iconst mT142 dX4_op_35 (by decide)⟩
theorem gT142_36 : sG l g D H0 mT 142 36 (s_icmp 142 49 39 (fun a b => a = b)) := ⟨ok_icmp _ _ _ _, so_icmp_ne mT142 dX4_op_36 (by decide)⟩
theorem gT142_39 : sG l g D H0 mT 142 39 (s_load vI 142 40 3) := ⟨ok_load _ _ _ _, so_iload_n mT142 dX4_op_39 rfl⟩
theorem gT142_40 : sG l g D H0 mT 142 40 (s_callk 142 43 144 [0] 1) := ⟨ok_callk _ _ _ _ _, sk_call (by decide) (so_callS mT142 mo144 (by decide) dX4_op_40 q1420 q1421 q66)⟩
theorem gT142_43 : sG l g D H0 mT 142 43 (s_if 142 46 53 (fun a => a = 0)) := ⟨ok_if _ _ _ _, so_if_eq mT142 dX4_op_43 (by decide)⟩
theorem gT142_46 : sG l g D H0 mT 142 46 (s_goto 142 59) := ⟨ok_goto _ _, so_goto mT142 dX4_op_46 (by decide)⟩
theorem gT142_49 : sG l g D H0 mT 142 49 (s_load vI 142 50 3) := ⟨ok_load _ _ _ _, so_iload_n mT142 dX4_op_49 rfl⟩
theorem gT142_50 : sG l g D H0 mT 142 50 (s_if 142 53 59 (fun a => a = 0)) := ⟨ok_if _ _ _ _, so_if_eq mT142 dX4_op_50 (by decide)⟩
theorem gT142_53 : sG l g D H0 mT 142 53 (s_load vRf 142 54 0) := ⟨ok_load _ _ _ _, so_aload_n mT142 dX4_op_53 rfl⟩
theorem gT142_54 : sG l g D H0 mT 142 54 (s_const 142 55 (.int 2)) := ⟨ok_const _ _ _, so_iconst mT142 dX4_op_54 (by decide)⟩
theorem gT142_55 : sG l g D H0 mT 142 55 (s_callvk 142 58 141 3 [0] 2) := ⟨ok_callvk _ _ _ _ _ _, sk_callv (by decide) (so_callV mT142 mo141 (by decide) (t := 3) (C := "HyperVaneModel") (by decide) rfl rfl dX4_op_55 q1247 q1249 qs31 q66)⟩
theorem gT142_58 : sG l g D H0 mT 142 58 (s_ret pI) := ⟨ok_ret _, so_iret mT142 dX4_op_58⟩
theorem gT142_59 : sG l g D H0 mT 142 59 (s_load vRf 142 60 0) := ⟨ok_load _ _ _ _, so_aload_n mT142 dX4_op_59 rfl⟩
theorem gT142_60 : sG l g D H0 mT 142 60 (s_getf 142 63 3 1) := ⟨ok_getf _ _ _ _, so_getf mT142 cl3 (k := 1) (by decide) dX4_op_60 q1227 (fs_rf rfl)⟩
theorem gT142_63 : sG l g D H0 mT 142 63 (s_getf 142 66 4 0) := ⟨ok_getf _ _ _ _, so_getfN mT142 cl4 (k := 0) (by decide) dX4_op_63 q1187 (fs_rf rfl)⟩
theorem gT142_66 : sG l g D H0 mT 142 66 (s_load vI 142 67 1) := ⟨ok_load _ _ _ _, so_iload_n mT142 dX4_op_66 rfl⟩
theorem gT142_67 : sG l g D H0 mT 142 67 (s_callvk 142 70 25 10 [0] 2) := ⟨ok_callvk _ _ _ _ _ _, sk_callv (by decide) (so_callV mT142 mo25 (by decide) (t := 10) (C := "java/util/ArrayList") (by decide) rfl rfl dX4_op_67 q1423 q439 q440 q58)⟩
theorem gT142_70 : sG l g D H0 mT 142 70 (s_cast 142 73 [7]) := ⟨ok_cast _ _ _, so_cast mT142 (T := "HyperVaneModel$Guest") (ts := [7]) (by intro u hu; rw [List.mem_singleton] at hu; subst hu; exact ⟨by decide, Or.inl rfl⟩) dX4_op_70 q1252⟩
theorem gT142_73 : sG l g D H0 mT 142 73 (s_store vRf 142 75 4) := ⟨ok_store _ _ _ _, so_astore mT142 dX4_op_73⟩
theorem gT142_75 : sG l g D H0 mT 142 75 (s_load vRf 142 77 4) := ⟨ok_load _ _ _ _, so_aload mT142 dX4_op_75⟩
theorem gT142_77 : sG l g D H0 mT 142 77 (s_getf 142 80 7 1) := ⟨ok_getf _ _ _ _, so_getfN mT142 cl7 (k := 1) (by decide) dX4_op_77 q1265 (fs_rf rfl)⟩
theorem gT142_80 : sG l g D H0 mT 142 80 (s_callvk 142 83 15 10 [] 1) := ⟨ok_callvk _ _ _ _ _ _, sk_callv (by decide) (so_callV mT142 mo15 (by decide) (t := 10) (C := "java/util/ArrayList") (by decide) rfl rfl dX4_op_80 q1251 q173 q174 q58)⟩
theorem gT142_83 : sG l g D H0 mT 142 83 (s_const 142 85 (.int 12)) := ⟨ok_const _ _ _, so_bipush mT142 dX4_op_83 (by decide)⟩
theorem gT142_85 : sG l g D H0 mT 142 85 (s_icmp 142 88 97 (fun a b => a = b)) := ⟨ok_icmp _ _ _ _, so_icmp_eq mT142 dX4_op_85 (by decide)⟩
theorem gT142_88 : sG l g D H0 mT 142 88 (s_load vRf 142 90 4) := ⟨ok_load _ _ _ _, so_aload mT142 dX4_op_88⟩
theorem gT142_90 : sG l g D H0 mT 142 90 (s_getf 142 93 7 6) := ⟨ok_getf _ _ _ _, so_getfN mT142 cl7 (k := 6) (by decide) dX4_op_90 q1280 (fs_rf rfl)⟩
theorem gT142_93 : sG l g D H0 mT 142 93 (s_const 142 94 (.int 4)) := ⟨ok_const _ _ _, so_iconst mT142 dX4_op_93 (by decide)⟩
theorem gT142_94 : sG l g D H0 mT 142 94 (s_icmp 142 103 97 (fun a b => a = b)) := ⟨ok_icmp _ _ _ _, so_icmp_ne mT142 dX4_op_94 (by decide)⟩
theorem gT142_97 : sG l g D H0 mT 142 97 (s_load vRf 142 98 0) := ⟨ok_load _ _ _ _, so_aload_n mT142 dX4_op_97 rfl⟩
theorem gT142_98 : sG l g D H0 mT 142 98 (s_const 142 99 (.int 3)) := ⟨ok_const _ _ _, so_iconst mT142 dX4_op_98 (by decide)⟩
theorem gT142_99 : sG l g D H0 mT 142 99 (s_callvk 142 102 141 3 [0] 2) := ⟨ok_callvk _ _ _ _ _ _, sk_callv (by decide) (so_callV mT142 mo141 (by decide) (t := 3) (C := "HyperVaneModel") (by decide) rfl rfl dX4_op_99 q1247 q1249 qs31 q66)⟩
theorem gT142_102 : sG l g D H0 mT 142 102 (s_ret pI) := ⟨ok_ret _, so_iret mT142 dX4_op_102⟩
theorem gT142_103 : sG l g D H0 mT 142 103 (s_const 142 104 (.int 2)) := ⟨ok_const _ _ _, so_iconst mT142 dX4_op_103 (by decide)⟩
theorem gT142_104 : sG l g D H0 mT 142 104 (s_newa g 142 106 20 (.int 0)) := ⟨ok_newa _ _ _ _ _, so_newa mT142 (t := 20) (by decide) rfl rfl (by decide) dX4_op_104 q486⟩
theorem gT142_106 : sG l g D H0 mT 142 106 (s_dup 142 107) := ⟨ok_dup _ _, so_dup mT142 dX4_op_106⟩
theorem gT142_107 : sG l g D H0 mT 142 107 (s_const 142 108 (.int 0)) := ⟨ok_const _ _ _, so_iconst mT142 dX4_op_107 (by decide)⟩
theorem gT142_108 : sG l g D H0 mT 142 108 (s_load vI 142 109 2) := ⟨ok_load _ _ _ _, so_iload_n mT142 dX4_op_108 rfl⟩
theorem gT142_109 : sG l g D H0 mT 142 109 (s_ast g (fun _ v => vI v = true) 142 110 20) := ⟨ok_ast _ _ _ _ _, so_iast mT142 a20 dX4_op_109⟩
theorem gT142_110 : sG l g D H0 mT 142 110 (s_dup 142 111) := ⟨ok_dup _ _, so_dup mT142 dX4_op_110⟩
theorem gT142_111 : sG l g D H0 mT 142 111 (s_const 142 112 (.int 1)) := ⟨ok_const _ _ _, so_iconst mT142 dX4_op_111 (by decide)⟩
theorem gT142_112 : sG l g D H0 mT 142 112 (s_load vI 142 113 3) := ⟨ok_load _ _ _ _, so_iload_n mT142 dX4_op_112 rfl⟩
theorem gT142_113 : sG l g D H0 mT 142 113 (s_ast g (fun _ v => vI v = true) 142 114 20) := ⟨ok_ast _ _ _ _ _, so_iast mT142 a20 dX4_op_113⟩
theorem gT142_114 : sG l g D H0 mT 142 114 (s_store vRf 142 116 5) := ⟨ok_store _ _ _ _, so_astore mT142 dX4_op_114⟩
theorem gT142_116 : sG l g D H0 mT 142 116 (s_load vRf 142 118 4) := ⟨ok_load _ _ _ _, so_aload mT142 dX4_op_116⟩
theorem gT142_118 : sG l g D H0 mT 142 118 (s_getf 142 121 7 1) := ⟨ok_getf _ _ _ _, so_getfN mT142 cl7 (k := 1) (by decide) dX4_op_118 q1265 (fs_rf rfl)⟩
theorem gT142_121 : sG l g D H0 mT 142 121 (s_load vRf 142 123 5) := ⟨ok_load _ _ _ _, so_aload mT142 dX4_op_121⟩
theorem gT142_123 : sG l g D H0 mT 142 123 (s_callvk 142 126 18 10 [1] 2) := ⟨ok_callvk _ _ _ _ _ _, sk_callv (by decide) (so_callV mT142 mo18 (by decide) (t := 10) (C := "java/util/ArrayList") (by decide) rfl rfl dX4_op_123 q1411 q228 q229 q58)⟩
theorem gT142_126 : sG l g D H0 mT 142 126 (s_pop 142 127) := ⟨ok_pop _ _, so_pop mT142 dX4_op_126⟩
theorem gT142_127 : sG l g D H0 mT 142 127 (s_load vRf 142 129 4) := ⟨ok_load _ _ _ _, so_aload mT142 dX4_op_127⟩
theorem gT142_129 : sG l g D H0 mT 142 129 (s_getf 142 132 7 6) := ⟨ok_getf _ _ _ _, so_getfN mT142 cl7 (k := 6) (by decide) dX4_op_129 q1280 (fs_rf rfl)⟩
theorem gT142_132 : sG l g D H0 mT 142 132 (s_const 142 133 (.int 5)) := ⟨ok_const _ _ _, so_iconst mT142 dX4_op_132 (by decide)⟩
theorem gT142_133 : sG l g D H0 mT 142 133 (s_icmp 142 142 136 (fun a b => a = b)) := ⟨ok_icmp _ _ _ _, so_icmp_ne mT142 dX4_op_133 (by decide)⟩
theorem gT142_136 : sG l g D H0 mT 142 136 (s_load vRf 142 138 4) := ⟨ok_load _ _ _ _, so_aload mT142 dX4_op_136⟩
theorem gT142_138 : sG l g D H0 mT 142 138 (s_const 142 139 (.int 0)) := ⟨ok_const _ _ _, so_iconst mT142 dX4_op_138 (by decide)⟩
theorem gT142_139 : sG l g D H0 mT 142 139 (s_putf g pI 142 142 7 6) := ⟨ok_putf _ _ _ _ _ _, so_putfN mT142 cl7 (k := 6) (by decide) fI rfl dX4_op_139 q1280 (fs_rf rfl)⟩
theorem gT142_142 : sG l g D H0 mT 142 142 (s_load vRf 142 144 4) := ⟨ok_load _ _ _ _, so_aload mT142 dX4_op_142⟩
theorem gT142_144 : sG l g D H0 mT 142 144 (s_getf 142 147 7 6) := ⟨ok_getf _ _ _ _, so_getfN mT142 cl7 (k := 6) (by decide) dX4_op_144 q1280 (fs_rf rfl)⟩
theorem gT142_147 : sG l g D H0 mT 142 147 (s_const 142 148 (.int 3)) := ⟨ok_const _ _ _, so_iconst mT142 dX4_op_147 (by decide)⟩
theorem gT142_148 : sG l g D H0 mT 142 148 (s_icmp 142 166 151 (fun a b => a = b)) := ⟨ok_icmp _ _ _ _, so_icmp_ne mT142 dX4_op_148 (by decide)⟩
theorem gT142_151 : sG l g D H0 mT 142 151 (s_load vRf 142 153 4) := ⟨ok_load _ _ _ _, so_aload mT142 dX4_op_151⟩
theorem gT142_153 : sG l g D H0 mT 142 153 (s_getf 142 156 7 7) := ⟨ok_getf _ _ _ _, so_getfN mT142 cl7 (k := 7) (by decide) dX4_op_153 q1282 (fs_rf rfl)⟩
theorem gT142_156 : sG l g D H0 mT 142 156 (s_const 142 157 (.int 5)) := ⟨ok_const _ _ _, so_iconst mT142 dX4_op_156 (by decide)⟩
theorem gT142_157 : sG l g D H0 mT 142 157 (s_icmp 142 166 160 (fun a b => a = b)) := ⟨ok_icmp _ _ _ _, so_icmp_ne mT142 dX4_op_157 (by decide)⟩
theorem gT142_160 : sG l g D H0 mT 142 160 (s_load vRf 142 162 4) := ⟨ok_load _ _ _ _, so_aload mT142 dX4_op_160⟩
theorem gT142_162 : sG l g D H0 mT 142 162 (s_const 142 163 (.int 0)) := ⟨ok_const _ _ _, so_iconst mT142 dX4_op_162 (by decide)⟩
theorem gT142_163 : sG l g D H0 mT 142 163 (s_putf g pI 142 166 7 7) := ⟨ok_putf _ _ _ _ _ _, so_putfN mT142 cl7 (k := 7) (by decide) fI rfl dX4_op_163 q1282 (fs_rf rfl)⟩
theorem gT142_166 : sG l g D H0 mT 142 166 (s_load vRf 142 168 4) := ⟨ok_load _ _ _ _, so_aload mT142 dX4_op_166⟩
theorem gT142_168 : sG l g D H0 mT 142 168 (s_const 142 169 (.int 0)) := ⟨ok_const _ _ _, so_iconst mT142 dX4_op_168 (by decide)⟩
theorem gT142_169 : sG l g D H0 mT 142 169 (s_putf g vZ 142 172 7 25) := ⟨ok_putf _ _ _ _ _ _, so_putfN mT142 cl7 (k := 25) (by decide) fZ rfl dX4_op_169 q1333 (fs_rf rfl)⟩
theorem gT142_172 : sG l g D H0 mT 142 172 (s_load vRf 142 174 4) := ⟨ok_load _ _ _ _, so_aload mT142 dX4_op_172⟩
theorem gT142_174 : sG l g D H0 mT 142 174 (s_getf 142 177 7 1) := ⟨ok_getf _ _ _ _, so_getfN mT142 cl7 (k := 1) (by decide) dX4_op_174 q1265 (fs_rf rfl)⟩
theorem gT142_177 : sG l g D H0 mT 142 177 (s_callvk 142 180 15 10 [] 1) := ⟨ok_callvk _ _ _ _ _ _, sk_callv (by decide) (so_callV mT142 mo15 (by decide) (t := 10) (C := "java/util/ArrayList") (by decide) rfl rfl dX4_op_177 q1251 q173 q174 q58)⟩
theorem gT142_180 : sG l g D H0 mT 142 180 (s_ret pI) := ⟨ok_ret _, so_iret mT142 dX4_op_180⟩
theorem gT142 (pc : Nat) : sG l g D H0 mT 142 pc (tT142 g pc) := sG_cond (sG_cond (sG_cond (sG_cond (sG_cond (sG_cond (sG_leaf gT142_0) (sG_leaf gT142_1)) (sG_cond (sG_leaf gT142_2) (sG_cond (sG_leaf gT142_5) (sG_leaf gT142_6)))) (sG_cond (sG_cond (sG_leaf gT142_7) (sG_cond (sG_leaf gT142_10) (sG_leaf gT142_13))) (sG_cond (sG_leaf gT142_14) (sG_cond (sG_leaf gT142_15) (sG_leaf gT142_18))))) (sG_cond (sG_cond (sG_cond (sG_leaf gT142_19) (sG_cond (sG_leaf gT142_20) (sG_leaf gT142_21))) (sG_cond (sG_leaf gT142_23) (sG_cond (sG_leaf gT142_26) (sG_leaf gT142_29)))) (sG_cond (sG_cond (sG_leaf gT142_30) (sG_cond (sG_leaf gT142_31) (sG_leaf gT142_34))) (sG_cond (sG_leaf gT142_35) (sG_cond (sG_leaf gT142_36) (sG_leaf gT142_39)))))) (sG_cond (sG_cond (sG_cond (sG_cond (sG_leaf gT142_40) (sG_leaf gT142_43)) (sG_cond (sG_leaf gT142_46) (sG_cond (sG_leaf gT142_49) (sG_leaf gT142_50)))) (sG_cond (sG_cond (sG_leaf gT142_53) (sG_cond (sG_leaf gT142_54) (sG_leaf gT142_55))) (sG_cond (sG_leaf gT142_58) (sG_cond (sG_leaf gT142_59) (sG_leaf gT142_60))))) (sG_cond (sG_cond (sG_cond (sG_leaf gT142_63) (sG_cond (sG_leaf gT142_66) (sG_leaf gT142_67))) (sG_cond (sG_leaf gT142_70) (sG_cond (sG_leaf gT142_73) (sG_leaf gT142_75)))) (sG_cond (sG_cond (sG_leaf gT142_77) (sG_cond (sG_leaf gT142_80) (sG_leaf gT142_83))) (sG_cond (sG_leaf gT142_85) (sG_cond (sG_leaf gT142_88) (sG_leaf gT142_90))))))) (sG_cond (sG_cond (sG_cond (sG_cond (sG_cond (sG_leaf gT142_93) (sG_leaf gT142_94)) (sG_cond (sG_leaf gT142_97) (sG_cond (sG_leaf gT142_98) (sG_leaf gT142_99)))) (sG_cond (sG_cond (sG_leaf gT142_102) (sG_cond (sG_leaf gT142_103) (sG_leaf gT142_104))) (sG_cond (sG_leaf gT142_106) (sG_cond (sG_leaf gT142_107) (sG_leaf gT142_108))))) (sG_cond (sG_cond (sG_cond (sG_leaf gT142_109) (sG_cond (sG_leaf gT142_110) (sG_leaf gT142_111))) (sG_cond (sG_leaf gT142_112) (sG_cond (sG_leaf gT142_113) (sG_leaf gT142_114)))) (sG_cond (sG_cond (sG_leaf gT142_116) (sG_cond (sG_leaf gT142_118) (sG_leaf gT142_121))) (sG_cond (sG_leaf gT142_123) (sG_cond (sG_leaf gT142_126) (sG_leaf gT142_127)))))) (sG_cond (sG_cond (sG_cond (sG_cond (sG_leaf gT142_129) (sG_cond (sG_leaf gT142_132) (sG_leaf gT142_133))) (sG_cond (sG_leaf gT142_136) (sG_cond (sG_leaf gT142_138) (sG_leaf gT142_139)))) (sG_cond (sG_cond (sG_leaf gT142_142) (sG_cond (sG_leaf gT142_144) (sG_leaf gT142_147))) (sG_cond (sG_leaf gT142_148) (sG_cond (sG_leaf gT142_151) (sG_leaf gT142_153))))) (sG_cond (sG_cond (sG_cond (sG_leaf gT142_156) (sG_cond (sG_leaf gT142_157) (sG_leaf gT142_160))) (sG_cond (sG_leaf gT142_162) (sG_cond (sG_leaf gT142_163) (sG_leaf gT142_166)))) (sG_cond (sG_cond (sG_leaf gT142_168) (sG_cond (sG_leaf gT142_169) (sG_leaf gT142_172))) (sG_cond (sG_leaf gT142_174) (sG_cond (sG_leaf gT142_177) (sG_leaf gT142_180)))))))
theorem gT143_0 : sG l g D H0 mT 143 0 (s_load vI 143 1 1) := ⟨ok_load _ _ _ _, so_iload_n mT143 dX4_isGuest_0 rfl⟩
theorem gT143_1 : sG l g D H0 mT 143 1 (s_const 143 2 (.int 0)) := ⟨ok_const _ _ _, so_iconst mT143 dX4_isGuest_1 (by decide)⟩
theorem gT143_2 : sG l g D H0 mT 143 2 (s_load vRf 143 3 0) := ⟨ok_load _ _ _ _, so_aload_n mT143 dX4_isGuest_2 rfl⟩
theorem gT143_3 : sG l g D H0 mT 143 3 (s_getf 143 6 3 1) := ⟨ok_getf _ _ _ _, so_getf mT143 cl3 (k := 1) (by decide) dX4_isGuest_3 q1227 (fs_rf rfl)⟩
theorem gT143_6 : sG l g D H0 mT 143 6 (s_getf 143 9 4 0) := ⟨ok_getf _ _ _ _, so_getfN mT143 cl4 (k := 0) (by decide) dX4_isGuest_6 q1187 (fs_rf rfl)⟩
theorem gT143_9 : sG l g D H0 mT 143 9 (s_callvk 143 12 15 10 [] 1) := ⟨ok_callvk _ _ _ _ _ _, sk_callv (by decide) (so_callV mT143 mo15 (by decide) (t := 10) (C := "java/util/ArrayList") (by decide) rfl rfl dX4_isGuest_9 q1251 q173 q174 q58)⟩
theorem gT143_12 : sG l g D H0 mT 143 12 (s_const 143 13 (.int 1)) := ⟨ok_const _ _ _, so_iconst mT143 dX4_isGuest_12 (by decide)⟩
theorem gT143_13 : sG l g D H0 mT 143 13 (s_bin 143 14 (fun a b => a - b)) := ⟨ok_bin _ _ _, so_isub mT143 dX4_isGuest_13⟩
theorem gT143_14 : sG l g D H0 mT 143 14 (s_callk 143 17 140 [0, 0, 0] 3) := ⟨ok_callk _ _ _ _ _, sk_call (by decide) (so_callS mT143 mo140 (by decide) dX4_isGuest_14 q1244 q1245 q66)⟩
theorem gT143_17 : sG l g D H0 mT 143 17 (s_ret vZ) := ⟨ok_ret _, so_zret mT143 dX4_isGuest_17⟩
theorem gT143 (pc : Nat) : sG l g D H0 mT 143 pc (tT143 g pc) := sG_cond (sG_cond (sG_cond (sG_leaf gT143_0) (sG_leaf gT143_1)) (sG_cond (sG_leaf gT143_2) (sG_cond (sG_leaf gT143_3) (sG_leaf gT143_6)))) (sG_cond (sG_cond (sG_leaf gT143_9) (sG_leaf gT143_12)) (sG_cond (sG_leaf gT143_13) (sG_cond (sG_leaf gT143_14) (sG_leaf gT143_17))))
theorem gT144_0 : sG l g D H0 mT 144 0 (s_load vI 144 1 0) := ⟨ok_load _ _ _ _, so_iload_n mT144 dX4_isPage_0 rfl⟩
theorem gT144_1 : sG l g D H0 mT 144 1 (s_const 144 2 (.int 0)) := ⟨ok_const _ _ _, so_iconst mT144 dX4_isPage_1 (by decide)⟩
theorem gT144_2 : sG l g D H0 mT 144 2 (s_const 144 3 (.int 5)) := ⟨ok_const _ _ _, so_iconst mT144 dX4_isPage_2 (by decide)⟩
theorem gT144_3 : sG l g D H0 mT 144 3 (s_callk 144 6 140 [0, 0, 0] 3) := ⟨ok_callk _ _ _ _ _, sk_call (by decide) (so_callS mT144 mo140 (by decide) dX4_isPage_3 q1244 q1245 q66)⟩
theorem gT144_6 : sG l g D H0 mT 144 6 (s_ret vZ) := ⟨ok_ret _, so_zret mT144 dX4_isPage_6⟩
theorem gT144 (pc : Nat) : sG l g D H0 mT 144 pc (tT144 g pc) := sG_cond (sG_cond (sG_leaf gT144_0) (sG_leaf gT144_1)) (sG_cond (sG_leaf gT144_2) (sG_cond (sG_leaf gT144_3) (sG_leaf gT144_6)))
theorem gT145_0 : sG l g D H0 mT 145 0 (s_load vRf 145 1 0) := ⟨ok_load _ _ _ _, so_aload_n mT145 dX4_weight_0 rfl⟩
theorem gT145_1 : sG l g D H0 mT 145 1 (s_const 145 2 (.int 0)) := ⟨ok_const _ _ _, so_iconst mT145 dX4_weight_1 (by decide)⟩
theorem gT145_2 : sG l g D H0 mT 145 2 (s_putf g pI 145 5 3 0) := ⟨ok_putf _ _ _ _ _ _, so_putf mT145 cl3 (k := 0) (by decide) fI rfl dX4_weight_2 q1226 (fs_rf rfl)⟩
theorem gT145_5 : sG l g D H0 mT 145 5 (s_load vRf 145 6 0) := ⟨ok_load _ _ _ _, so_aload_n mT145 dX4_weight_5 rfl⟩
theorem gT145_6 : sG l g D H0 mT 145 6 (s_load vI 145 7 1) := ⟨ok_load _ _ _ _, so_iload_n mT145 dX4_weight_6 rfl⟩
theorem gT145_7 : sG l g D H0 mT 145 7 (s_callvk 145 10 143 3 [0] 2) := ⟨ok_callvk _ _ _ _ _ _, sk_callv (by decide) (so_callV mT145 mo143 (by decide) (t := 3) (C := "HyperVaneModel") (by decide) rfl rfl dX4_weight_7 q1416 q1418 qs32 q66)⟩
theorem gT145_10 : sG l g D H0 mT 145 10 (s_if 145 19 13 (fun a => a = 0)) := ⟨ok_if _ _ _ _, so_if_ne mT145 dX4_weight_10 (by decide)⟩
theorem gT145_13 : sG l g D H0 mT 145 13 (s_load vRf 145 14 0) := ⟨ok_load _ _ _ _, so_aload_n mT145 dX4_weight_13 rfl⟩
theorem gT145_14 : sG l g D H0 mT 145 14 (s_const 145 15 (.int 1)) := ⟨ok_const _ _ _, so_iconst mT145 dX4_weight_14 (by decide)⟩
theorem gT145_15 : sG l g D H0 mT 145 15 (s_callvk 145 18 141 3 [0] 2) := ⟨ok_callvk _ _ _ _ _ _, sk_callv (by decide) (so_callV mT145 mo141 (by decide) (t := 3) (C := "HyperVaneModel") (by decide) rfl rfl dX4_weight_15 q1247 q1249 qs31 q66)⟩
theorem gT145_18 : sG l g D H0 mT 145 18 (s_ret pI) := ⟨ok_ret _, so_iret mT145 dX4_weight_18⟩
theorem gT145_19 : sG l g D H0 mT 145 19 (s_load vI 145 20 2) := ⟨ok_load _ _ _ _, so_iload_n mT145 dX4_weight_19 rfl⟩
theorem gT145_20 : sG l g D H0 mT 145 20 (s_const 145 21 (.int 1)) := ⟨ok_const _ _ _, so_iconst mT145 dX4_weight_20 (by decide)⟩
theorem gT145_21 : sG l g D H0 mT 145 21 (s_const 145 22 (.int 4)) := ⟨ok_const _ _ _, so_iconst mT145 dX4_weight_21 (by decide)⟩
theorem gT145_22 : sG l g D H0 mT 145 22 (s_callk 145 25 140 [0, 0, 0] 3) := ⟨ok_callk _ _ _ _ _, sk_call (by decide) (so_callS mT145 mo140 (by decide) dX4_weight_22 q1244 q1245 q66)⟩
theorem gT145_25 : sG l g D H0 mT 145 25 (s_if 145 34 28 (fun a => a = 0)) := ⟨ok_if _ _ _ _, so_if_ne mT145 dX4_weight_25 (by decide)⟩
theorem gT145_28 : sG l g D H0 mT 145 28 (s_load vRf 145 29 0) := ⟨ok_load _ _ _ _, so_aload_n mT145 dX4_weight_28 rfl⟩
theorem gT145_29 : sG l g D H0 mT 145 29 (s_const 145 30 (.int 2)) := ⟨ok_const _ _ _, so_iconst mT145 dX4_weight_29 (by decide)⟩
theorem gT145_30 : sG l g D H0 mT 145 30 (s_callvk 145 33 141 3 [0] 2) := ⟨ok_callvk _ _ _ _ _ _, sk_callv (by decide) (so_callV mT145 mo141 (by decide) (t := 3) (C := "HyperVaneModel") (by decide) rfl rfl dX4_weight_30 q1247 q1249 qs31 q66)⟩
theorem gT145_33 : sG l g D H0 mT 145 33 (s_ret pI) := ⟨ok_ret _, so_iret mT145 dX4_weight_33⟩
theorem gT145_34 : sG l g D H0 mT 145 34 (s_load vRf 145 35 0) := ⟨ok_load _ _ _ _, so_aload_n mT145 dX4_weight_34 rfl⟩
theorem gT145_35 : sG l g D H0 mT 145 35 (s_getf 145 38 3 1) := ⟨ok_getf _ _ _ _, so_getf mT145 cl3 (k := 1) (by decide) dX4_weight_35 q1227 (fs_rf rfl)⟩
theorem gT145_38 : sG l g D H0 mT 145 38 (s_getf 145 41 4 0) := ⟨ok_getf _ _ _ _, so_getfN mT145 cl4 (k := 0) (by decide) dX4_weight_38 q1187 (fs_rf rfl)⟩
theorem gT145_41 : sG l g D H0 mT 145 41 (s_load vI 145 42 1) := ⟨ok_load _ _ _ _, so_iload_n mT145 dX4_weight_41 rfl⟩
theorem gT145_42 : sG l g D H0 mT 145 42 (s_callvk 145 45 25 10 [0] 2) := ⟨ok_callvk _ _ _ _ _ _, sk_callv (by decide) (so_callV mT145 mo25 (by decide) (t := 10) (C := "java/util/ArrayList") (by decide) rfl rfl dX4_weight_42 q1423 q439 q440 q58)⟩
theorem gT145_45 : sG l g D H0 mT 145 45 (s_cast 145 48 [7]) := ⟨ok_cast _ _ _, so_cast mT145 (T := "HyperVaneModel$Guest") (ts := [7]) (by intro u hu; rw [List.mem_singleton] at hu; subst hu; exact ⟨by decide, Or.inl rfl⟩) dX4_weight_45 q1252⟩
theorem gT145_48 : sG l g D H0 mT 145 48 (s_getf 145 51 7 0) := ⟨ok_getf _ _ _ _, so_getfN mT145 cl7 (k := 0) (by decide) dX4_weight_48 q1262 (fs_rf rfl)⟩
theorem gT145_51 : sG l g D H0 mT 145 51 (s_store vI 145 52 3) := ⟨ok_store _ _ _ _, so_istore_n mT145 dX4_weight_51 rfl⟩
theorem gT145_52 : sG l g D H0 mT 145 52 (s_load vRf 145 53 0) := ⟨ok_load _ _ _ _, so_aload_n mT145 dX4_weight_52 rfl⟩
theorem gT145_53 : sG l g D H0 mT 145 53 (s_getf 145 56 3 1) := ⟨ok_getf _ _ _ _, so_getf mT145 cl3 (k := 1) (by decide) dX4_weight_53 q1227 (fs_rf rfl)⟩
theorem gT145_56 : sG l g D H0 mT 145 56 (s_getf 145 59 4 0) := ⟨ok_getf _ _ _ _, so_getfN mT145 cl4 (k := 0) (by decide) dX4_weight_56 q1187 (fs_rf rfl)⟩
theorem gT145_59 : sG l g D H0 mT 145 59 (s_load vI 145 60 1) := ⟨ok_load _ _ _ _, so_iload_n mT145 dX4_weight_59 rfl⟩
theorem gT145_60 : sG l g D H0 mT 145 60 (s_callvk 145 63 25 10 [0] 2) := ⟨ok_callvk _ _ _ _ _ _, sk_callv (by decide) (so_callV mT145 mo25 (by decide) (t := 10) (C := "java/util/ArrayList") (by decide) rfl rfl dX4_weight_60 q1423 q439 q440 q58)⟩
theorem gT145_63 : sG l g D H0 mT 145 63 (s_cast 145 66 [7]) := ⟨ok_cast _ _ _, so_cast mT145 (T := "HyperVaneModel$Guest") (ts := [7]) (by intro u hu; rw [List.mem_singleton] at hu; subst hu; exact ⟨by decide, Or.inl rfl⟩) dX4_weight_63 q1252⟩
theorem gT145_66 : sG l g D H0 mT 145 66 (s_load vI 145 67 2) := ⟨ok_load _ _ _ _, so_iload_n mT145 dX4_weight_66 rfl⟩
theorem gT145_67 : sG l g D H0 mT 145 67 (s_putf g pI 145 70 7 0) := ⟨ok_putf _ _ _ _ _ _, so_putfN mT145 cl7 (k := 0) (by decide) fI rfl dX4_weight_67 q1262 (fs_rf rfl)⟩
theorem gT145_70 : sG l g D H0 mT 145 70 (s_load vI 145 71 3) := ⟨ok_load _ _ _ _, so_iload_n mT145 dX4_weight_70 rfl⟩
theorem gT145_71 : sG l g D H0 mT 145 71 (s_ret pI) := ⟨ok_ret _, so_iret mT145 dX4_weight_71⟩
theorem gT145 (pc : Nat) : sG l g D H0 mT 145 pc (tT145 g pc) := sG_cond (sG_cond (sG_cond (sG_cond (sG_cond (sG_leaf gT145_0) (sG_leaf gT145_1)) (sG_cond (sG_leaf gT145_2) (sG_leaf gT145_5))) (sG_cond (sG_cond (sG_leaf gT145_6) (sG_leaf gT145_7)) (sG_cond (sG_leaf gT145_10) (sG_cond (sG_leaf gT145_13) (sG_leaf gT145_14))))) (sG_cond (sG_cond (sG_cond (sG_leaf gT145_15) (sG_leaf gT145_18)) (sG_cond (sG_leaf gT145_19) (sG_cond (sG_leaf gT145_20) (sG_leaf gT145_21)))) (sG_cond (sG_cond (sG_leaf gT145_22) (sG_leaf gT145_25)) (sG_cond (sG_leaf gT145_28) (sG_cond (sG_leaf gT145_29) (sG_leaf gT145_30)))))) (sG_cond (sG_cond (sG_cond (sG_cond (sG_leaf gT145_33) (sG_leaf gT145_34)) (sG_cond (sG_leaf gT145_35) (sG_leaf gT145_38))) (sG_cond (sG_cond (sG_leaf gT145_41) (sG_leaf gT145_42)) (sG_cond (sG_leaf gT145_45) (sG_cond (sG_leaf gT145_48) (sG_leaf gT145_51))))) (sG_cond (sG_cond (sG_cond (sG_leaf gT145_52) (sG_leaf gT145_53)) (sG_cond (sG_leaf gT145_56) (sG_cond (sG_leaf gT145_59) (sG_leaf gT145_60)))) (sG_cond (sG_cond (sG_leaf gT145_63) (sG_leaf gT145_66)) (sG_cond (sG_leaf gT145_67) (sG_cond (sG_leaf gT145_70) (sG_leaf gT145_71))))))
theorem gT146_0 : sG l g D H0 mT 146 0 (s_load vRf 146 1 0) := ⟨ok_load _ _ _ _, so_aload_n mT146 dX4_pause_0 rfl⟩
theorem gT146_1 : sG l g D H0 mT 146 1 (s_const 146 2 (.int 0)) := ⟨ok_const _ _ _, so_iconst mT146 dX4_pause_1 (by decide)⟩
theorem gT146_2 : sG l g D H0 mT 146 2 (s_putf g pI 146 5 3 0) := ⟨ok_putf _ _ _ _ _ _, so_putf mT146 cl3 (k := 0) (by decide) fI rfl dX4_pause_2 q1226 (fs_rf rfl)⟩
theorem gT146_5 : sG l g D H0 mT 146 5 (s_load vRf 146 6 0) := ⟨ok_load _ _ _ _, so_aload_n mT146 dX4_pause_5 rfl⟩
theorem gT146_6 : sG l g D H0 mT 146 6 (s_load vI 146 7 1) := ⟨ok_load _ _ _ _, so_iload_n mT146 dX4_pause_6 rfl⟩
theorem gT146_7 : sG l g D H0 mT 146 7 (s_callvk 146 10 143 3 [0] 2) := ⟨ok_callvk _ _ _ _ _ _, sk_callv (by decide) (so_callV mT146 mo143 (by decide) (t := 3) (C := "HyperVaneModel") (by decide) rfl rfl dX4_pause_7 q1416 q1418 qs32 q66)⟩
theorem gT146_10 : sG l g D H0 mT 146 10 (s_if 146 20 13 (fun a => a = 0)) := ⟨ok_if _ _ _ _, so_if_ne mT146 dX4_pause_10 (by decide)⟩
theorem gT146_13 : sG l g D H0 mT 146 13 (s_load vRf 146 14 0) := ⟨ok_load _ _ _ _, so_aload_n mT146 dX4_pause_13 rfl⟩
theorem gT146_14 : sG l g D H0 mT 146 14 (s_const 146 15 (.int 1)) := ⟨ok_const _ _ _, so_iconst mT146 dX4_pause_14 (by decide)⟩
theorem gT146_15 : sG l g D H0 mT 146 15 (s_putf g pI 146 18 3 0) := ⟨ok_putf _ _ _ _ _ _, so_putf mT146 cl3 (k := 0) (by decide) fI rfl dX4_pause_15 q1226 (fs_rf rfl)⟩
theorem gT146_18 : sG l g D H0 mT 146 18 (s_const 146 19 (.int 0)) := ⟨ok_const _ _ _, so_iconst mT146 dX4_pause_18 (by decide)⟩
theorem gT146_19 : sG l g D H0 mT 146 19 (s_ret vZ) := ⟨ok_ret _, so_zret mT146 dX4_pause_19⟩
theorem gT146_20 : sG l g D H0 mT 146 20 (s_load vRf 146 21 0) := ⟨ok_load _ _ _ _, so_aload_n mT146 dX4_pause_20 rfl⟩
theorem gT146_21 : sG l g D H0 mT 146 21 (s_getf 146 24 3 1) := ⟨ok_getf _ _ _ _, so_getf mT146 cl3 (k := 1) (by decide) dX4_pause_21 q1227 (fs_rf rfl)⟩
theorem gT146_24 : sG l g D H0 mT 146 24 (s_getf 146 27 4 0) := ⟨ok_getf _ _ _ _, so_getfN mT146 cl4 (k := 0) (by decide) dX4_pause_24 q1187 (fs_rf rfl)⟩
theorem gT146_27 : sG l g D H0 mT 146 27 (s_load vI 146 28 1) := ⟨ok_load _ _ _ _, so_iload_n mT146 dX4_pause_27 rfl⟩
theorem gT146_28 : sG l g D H0 mT 146 28 (s_callvk 146 31 25 10 [0] 2) := ⟨ok_callvk _ _ _ _ _ _, sk_callv (by decide) (so_callV mT146 mo25 (by decide) (t := 10) (C := "java/util/ArrayList") (by decide) rfl rfl dX4_pause_28 q1423 q439 q440 q58)⟩
theorem gT146_31 : sG l g D H0 mT 146 31 (s_cast 146 34 [7]) := ⟨ok_cast _ _ _, so_cast mT146 (T := "HyperVaneModel$Guest") (ts := [7]) (by intro u hu; rw [List.mem_singleton] at hu; subst hu; exact ⟨by decide, Or.inl rfl⟩) dX4_pause_31 q1252⟩
theorem gT146_34 : sG l g D H0 mT 146 34 (s_store vRf 146 35 3) := ⟨ok_store _ _ _ _, so_astore_n mT146 dX4_pause_34 rfl⟩
theorem gT146_35 : sG l g D H0 mT 146 35 (s_load vRf 146 36 3) := ⟨ok_load _ _ _ _, so_aload_n mT146 dX4_pause_35 rfl⟩
theorem gT146_36 : sG l g D H0 mT 146 36 (s_getf 146 39 7 6) := ⟨ok_getf _ _ _ _, so_getfN mT146 cl7 (k := 6) (by decide) dX4_pause_36 q1280 (fs_rf rfl)⟩
theorem gT146_39 : sG l g D H0 mT 146 39 (s_const 146 40 (.int 3)) := ⟨ok_const _ _ _, so_iconst mT146 dX4_pause_39 (by decide)⟩
theorem gT146_40 : sG l g D H0 mT 146 40 (s_icmp 146 47 43 (fun a b => a = b)) := ⟨ok_icmp _ _ _ _, so_icmp_ne mT146 dX4_pause_40 (by decide)⟩
theorem gT146_43 : sG l g D H0 mT 146 43 (s_const 146 44 (.int 1)) := ⟨ok_const _ _ _, so_iconst mT146 dX4_pause_43 (by decide)⟩
theorem gT146_44 : sG l g D H0 mT 146 44 (s_goto 146 48) := ⟨ok_goto _ _, so_goto mT146 dX4_pause_44 (by decide)⟩
theorem gT146_47 : sG l g D H0 mT 146 47 (s_const 146 48 (.int 0)) := ⟨ok_const _ _ _, so_iconst mT146 dX4_pause_47 (by decide)⟩
theorem gT146_48 : sG l g D H0 mT 146 48 (s_store vI 146 50 4) := ⟨ok_store _ _ _ _, so_istore mT146 dX4_pause_48⟩
theorem gT146_50 : sG l g D H0 mT 146 50 (s_load vRf 146 51 3) := ⟨ok_load _ _ _ _, so_aload_n mT146 dX4_pause_50 rfl⟩
theorem gT146_51 : sG l g D H0 mT 146 51 (s_getf 146 54 7 6) := ⟨ok_getf _ _ _ _, so_getfN mT146 cl7 (k := 6) (by decide) dX4_pause_51 q1280 (fs_rf rfl)⟩
theorem gT146_54 : sG l g D H0 mT 146 54 (s_const 146 55 (.int 4)) := ⟨ok_const _ _ _, so_iconst mT146 dX4_pause_54 (by decide)⟩
theorem gT146_55 : sG l g D H0 mT 146 55 (s_icmp 146 58 74 (fun a b => a = b)) := ⟨ok_icmp _ _ _ _, so_icmp_eq mT146 dX4_pause_55 (by decide)⟩
theorem gT146_58 : sG l g D H0 mT 146 58 (s_load vI 146 59 2) := ⟨ok_load _ _ _ _, so_iload_n mT146 dX4_pause_58 rfl⟩
theorem gT146_59 : sG l g D H0 mT 146 59 (s_if 146 81 62 (fun a => a = 0)) := ⟨ok_if _ _ _ _, so_if_ne mT146 dX4_pause_59 (by decide)⟩
theorem gT146_62 : sG l g D H0 mT 146 62 (s_load vI 146 64 4) := ⟨ok_load _ _ _ _, so_iload mT146 dX4_pause_62⟩
theorem gT146_64 : sG l g D H0 mT 146 64 (s_if 146 67 81 (fun a => a = 0)) := ⟨ok_if _ _ _ _, so_if_eq mT146 dX4_pause_64 (by decide)⟩
theorem gT146_67 : sG l g D H0 mT 146 67 (s_load vRf 146 68 3) := ⟨ok_load _ _ _ _, so_aload_n mT146 dX4_pause_67 rfl⟩
theorem gT146_68 : sG l g D H0 mT 146 68 (s_getf 146 71 7 20) := ⟨ok_getf _ _ _ _, so_getfN mT146 cl7 (k := 20) (by decide) dX4_pause_68 q1320 (fs_rf rfl)⟩
theorem gT146_71 : sG l g D H0 mT 146 71 (s_if 146 74 81 (fun a => a = 0)) := ⟨ok_if _ _ _ _, so_if_eq mT146 dX4_pause_71 (by decide)⟩
theorem gT146_74 : sG l g D H0 mT 146 74 (s_load vRf 146 75 0) := ⟨ok_load _ _ _ _, so_aload_n mT146 dX4_pause_74 rfl⟩
theorem gT146_75 : sG l g D H0 mT 146 75 (s_const 146 76 (.int 2)) := ⟨ok_const _ _ _, so_iconst mT146 dX4_pause_75 (by decide)⟩
theorem gT146_76 : sG l g D H0 mT 146 76 (s_putf g pI 146 79 3 0) := ⟨ok_putf _ _ _ _ _ _, so_putf mT146 cl3 (k := 0) (by decide) fI rfl dX4_pause_76 q1226 (fs_rf rfl)⟩
theorem gT146_79 : sG l g D H0 mT 146 79 (s_const 146 80 (.int 0)) := ⟨ok_const _ _ _, so_iconst mT146 dX4_pause_79 (by decide)⟩
theorem gT146_80 : sG l g D H0 mT 146 80 (s_ret vZ) := ⟨ok_ret _, so_zret mT146 dX4_pause_80⟩
theorem gT146_81 : sG l g D H0 mT 146 81 (s_load vI 146 82 2) := ⟨ok_load _ _ _ _, so_iload_n mT146 dX4_pause_81 rfl⟩
theorem gT146_82 : sG l g D H0 mT 146 82 (s_if 146 85 96 (fun a => a = 0)) := ⟨ok_if _ _ _ _, so_if_eq mT146 dX4_pause_82 (by decide)⟩
theorem gT146_85 : sG l g D H0 mT 146 85 (s_load vRf 146 86 0) := ⟨ok_load _ _ _ _, so_aload_n mT146 dX4_pause_85 rfl⟩
theorem gT146_86 : sG l g D H0 mT 146 86 (s_getf 146 89 3 1) := ⟨ok_getf _ _ _ _, so_getf mT146 cl3 (k := 1) (by decide) dX4_pause_86 q1227 (fs_rf rfl)⟩
theorem gT146_89 : sG l g D H0 mT 146 89 (s_load vRf 146 90 3) := ⟨ok_load _ _ _ _, so_aload_n mT146 dX4_pause_89 rfl⟩
theorem gT146_90 : sG l g D H0 mT 146 90 (s_callvk 146 93 178 4 [1] 2) := ⟨ok_callvk _ _ _ _ _ _, sk_callv (by decide) (so_callV mT146 mo178 (by decide) (t := 4) (C := "HyperVaneModel$World") (by decide) rfl rfl dX4_pause_90 q1432 q1433 q1434 q67)⟩
theorem gT146_93 : sG l g D H0 mT 146 93 (s_goto 146 106) := ⟨ok_goto _ _, so_goto mT146 dX4_pause_93 (by decide)⟩
theorem gT146_96 : sG l g D H0 mT 146 96 (s_load vI 146 98 4) := ⟨ok_load _ _ _ _, so_iload mT146 dX4_pause_96⟩
theorem gT146_98 : sG l g D H0 mT 146 98 (s_if 146 101 106 (fun a => a = 0)) := ⟨ok_if _ _ _ _, so_if_eq mT146 dX4_pause_98 (by decide)⟩
theorem gT146_101 : sG l g D H0 mT 146 101 (s_load vRf 146 102 0) := ⟨ok_load _ _ _ _, so_aload_n mT146 dX4_pause_101 rfl⟩
theorem gT146_102 : sG l g D H0 mT 146 102 (s_load vRf 146 103 3) := ⟨ok_load _ _ _ _, so_aload_n mT146 dX4_pause_102 rfl⟩
theorem gT146_103 : sG l g D H0 mT 146 103 (s_callvk 146 106 147 3 [1] 3) := ⟨ok_callvk _ _ _ _ _ _, sk_callv (by decide) (so_callV mT146 mo147 (by decide) (t := 3) (C := "HyperVaneModel") (by decide) rfl rfl dX4_pause_103 q1436 q1438 qs33 q66)⟩
theorem gT146_106 : sG l g D H0 mT 146 106 (s_load vI 146 108 4) := ⟨ok_load _ _ _ _, so_iload mT146 dX4_pause_106⟩
theorem gT146_108 : sG l g D H0 mT 146 108 (s_ret vZ) := ⟨ok_ret _, so_zret mT146 dX4_pause_108⟩
theorem gT146 (pc : Nat) : sG l g D H0 mT 146 pc (tT146 g pc) := sG_cond (sG_cond (sG_cond (sG_cond (sG_cond (sG_leaf gT146_0) (sG_cond (sG_leaf gT146_1) (sG_leaf gT146_2))) (sG_cond (sG_cond (sG_leaf gT146_5) (sG_leaf gT146_6)) (sG_cond (sG_leaf gT146_7) (sG_leaf gT146_10)))) (sG_cond (sG_cond (sG_leaf gT146_13) (sG_cond (sG_leaf gT146_14) (sG_leaf gT146_15))) (sG_cond (sG_cond (sG_leaf gT146_18) (sG_leaf gT146_19)) (sG_cond (sG_leaf gT146_20) (sG_leaf gT146_21))))) (sG_cond (sG_cond (sG_cond (sG_leaf gT146_24) (sG_cond (sG_leaf gT146_27) (sG_leaf gT146_28))) (sG_cond (sG_cond (sG_leaf gT146_31) (sG_leaf gT146_34)) (sG_cond (sG_leaf gT146_35) (sG_leaf gT146_36)))) (sG_cond (sG_cond (sG_leaf gT146_39) (sG_cond (sG_leaf gT146_40) (sG_leaf gT146_43))) (sG_cond (sG_cond (sG_leaf gT146_44) (sG_leaf gT146_47)) (sG_cond (sG_leaf gT146_48) (sG_leaf gT146_50)))))) (sG_cond (sG_cond (sG_cond (sG_cond (sG_leaf gT146_51) (sG_cond (sG_leaf gT146_54) (sG_leaf gT146_55))) (sG_cond (sG_cond (sG_leaf gT146_58) (sG_leaf gT146_59)) (sG_cond (sG_leaf gT146_62) (sG_leaf gT146_64)))) (sG_cond (sG_cond (sG_leaf gT146_67) (sG_cond (sG_leaf gT146_68) (sG_leaf gT146_71))) (sG_cond (sG_cond (sG_leaf gT146_74) (sG_leaf gT146_75)) (sG_cond (sG_leaf gT146_76) (sG_leaf gT146_79))))) (sG_cond (sG_cond (sG_cond (sG_leaf gT146_80) (sG_cond (sG_leaf gT146_81) (sG_leaf gT146_82))) (sG_cond (sG_cond (sG_leaf gT146_85) (sG_leaf gT146_86)) (sG_cond (sG_leaf gT146_89) (sG_leaf gT146_90)))) (sG_cond (sG_cond (sG_cond (sG_leaf gT146_93) (sG_leaf gT146_96)) (sG_cond (sG_leaf gT146_98) (sG_leaf gT146_101))) (sG_cond (sG_cond (sG_leaf gT146_102) (sG_leaf gT146_103)) (sG_cond (sG_leaf gT146_106) (sG_leaf gT146_108))))))
theorem gT147_0 : sG l g D H0 mT 147 0 (s_load vRf 147 1 1) := ⟨ok_load _ _ _ _, so_aload_n mT147 dX4_goOn_0 rfl⟩
theorem gT147_1 : sG l g D H0 mT 147 1 (s_getf 147 4 7 7) := ⟨ok_getf _ _ _ _, so_getfN mT147 cl7 (k := 7) (by decide) dX4_goOn_1 q1282 (fs_rf rfl)⟩
theorem gT147_4 : sG l g D H0 mT 147 4 (s_const 147 5 (.int 1)) := ⟨ok_const _ _ _, so_iconst mT147 dX4_goOn_4 (by decide)⟩
theorem gT147_5 : sG l g D H0 mT 147 5 (s_icmp 147 15 8 (fun a b => a = b)) := ⟨ok_icmp _ _ _ _, so_icmp_ne mT147 dX4_goOn_5 (by decide)⟩
theorem gT147_8 : sG l g D H0 mT 147 8 (s_load vRf 147 9 1) := ⟨ok_load _ _ _ _, so_aload_n mT147 dX4_goOn_8 rfl⟩
theorem gT147_9 : sG l g D H0 mT 147 9 (s_getf 147 12 7 5) := ⟨ok_getf _ _ _ _, so_getfN mT147 cl7 (k := 5) (by decide) dX4_goOn_9 q1277 (fs_rf rfl)⟩
theorem gT147_12 : sG l g D H0 mT 147 12 (s_if 147 15 37 (fun a => 0 < a)) := ⟨ok_if _ _ _ _, so_if_gt mT147 dX4_goOn_12 (by decide)⟩
theorem gT147_15 : sG l g D H0 mT 147 15 (s_load vRf 147 16 1) := ⟨ok_load _ _ _ _, so_aload_n mT147 dX4_goOn_15 rfl⟩
theorem gT147_16 : sG l g D H0 mT 147 16 (s_getf 147 19 7 7) := ⟨ok_getf _ _ _ _, so_getfN mT147 cl7 (k := 7) (by decide) dX4_goOn_16 q1282 (fs_rf rfl)⟩
theorem gT147_19 : sG l g D H0 mT 147 19 (s_const 147 20 (.int 2)) := ⟨ok_const _ _ _, so_iconst mT147 dX4_goOn_19 (by decide)⟩
theorem gT147_20 : sG l g D H0 mT 147 20 (s_icmp 147 41 23 (fun a b => a = b)) := ⟨ok_icmp _ _ _ _, so_icmp_ne mT147 dX4_goOn_20 (by decide)⟩
theorem gT147_23 : sG l g D H0 mT 147 23 (s_load vRf 147 24 1) := ⟨ok_load _ _ _ _, so_aload_n mT147 dX4_goOn_23 rfl⟩
theorem gT147_24 : sG l g D H0 mT 147 24 (s_getf 147 27 7 8) := ⟨ok_getf _ _ _ _, so_getfN mT147 cl7 (k := 8) (by decide) dX4_goOn_24 q1286 (fs_rf rfl)⟩
theorem gT147_27 : sG l g D H0 mT 147 27 (s_load vRf 147 28 0) := ⟨ok_load _ _ _ _, so_aload_n mT147 dX4_goOn_27 rfl⟩
theorem gT147_28 : sG l g D H0 mT 147 28 (s_getf 147 31 3 1) := ⟨ok_getf _ _ _ _, so_getf mT147 cl3 (k := 1) (by decide) dX4_goOn_28 q1227 (fs_rf rfl)⟩
theorem gT147_31 : sG l g D H0 mT 147 31 (s_getf 147 34 4 1) := ⟨ok_getf _ _ _ _, so_getfN mT147 cl4 (k := 1) (by decide) dX4_goOn_31 q1189 (fs_rf rfl)⟩
theorem gT147_34 : sG l g D H0 mT 147 34 (s_icmp 147 37 41 (fun a b => b < a)) := ⟨ok_icmp _ _ _ _, so_icmp_gt mT147 dX4_goOn_34 (by decide)⟩
theorem gT147_37 : sG l g D H0 mT 147 37 (s_const 147 38 (.int 1)) := ⟨ok_const _ _ _, so_iconst mT147 dX4_goOn_37 (by decide)⟩
theorem gT147_38 : sG l g D H0 mT 147 38 (s_goto 147 42) := ⟨ok_goto _ _, so_goto mT147 dX4_goOn_38 (by decide)⟩
theorem gT147_41 : sG l g D H0 mT 147 41 (s_const 147 42 (.int 0)) := ⟨ok_const _ _ _, so_iconst mT147 dX4_goOn_41 (by decide)⟩
theorem gT147_42 : sG l g D H0 mT 147 42 (s_store vI 147 43 2) := ⟨ok_store _ _ _ _, so_istore_n mT147 dX4_goOn_42 rfl⟩
theorem gT147_43 : sG l g D H0 mT 147 43 (s_load vRf 147 44 1) := ⟨ok_load _ _ _ _, so_aload_n mT147 dX4_goOn_43 rfl⟩
theorem gT147_44 : sG l g D H0 mT 147 44 (s_load vI 147 45 2) := ⟨ok_load _ _ _ _, so_iload_n mT147 dX4_goOn_44 rfl⟩
theorem gT147_45 : sG l g D H0 mT 147 45 (s_if 147 48 52 (fun a => a = 0)) := ⟨ok_if _ _ _ _, so_if_eq mT147 dX4_goOn_45 (by decide)⟩
theorem gT147_48 : sG l g D H0 mT 147 48 (s_const 147 49 (.int 0)) := ⟨ok_const _ _ _, so_iconst mT147 dX4_goOn_48 (by decide)⟩
theorem gT147_49 : sG l g D H0 mT 147 49 (s_goto 147 56) := ⟨ok_goto _ _, so_goto mT147 dX4_goOn_49 (by decide)⟩
theorem gT147_52 : sG l g D H0 mT 147 52 (s_load vRf 147 53 1) := ⟨ok_load _ _ _ _, so_aload_n mT147 dX4_goOn_52 rfl⟩
theorem gT147_53 : sG l g D H0 mT 147 53 (s_getf 147 56 7 7) := ⟨ok_getf _ _ _ _, so_getfN mT147 cl7 (k := 7) (by decide) dX4_goOn_53 q1282 (fs_rf rfl)⟩
theorem gT147_56 : sG l g D H0 mT 147 56 (s_putf g pI 147 59 7 6) := ⟨ok_putf _ _ _ _ _ _, so_putfN mT147 cl7 (k := 6) (by decide) fI rfl dX4_goOn_56 q1280 (fs_rf rfl)⟩
theorem gT147_59 : sG l g D H0 mT 147 59 (s_vret) := ⟨ok_vret, so_vret mT147 dX4_goOn_59⟩
theorem gT147 (pc : Nat) : sG l g D H0 mT 147 pc (tT147 g pc) := sG_cond (sG_cond (sG_cond (sG_cond (sG_leaf gT147_0) (sG_cond (sG_leaf gT147_1) (sG_leaf gT147_4))) (sG_cond (sG_cond (sG_leaf gT147_5) (sG_leaf gT147_8)) (sG_cond (sG_leaf gT147_9) (sG_leaf gT147_12)))) (sG_cond (sG_cond (sG_cond (sG_leaf gT147_15) (sG_leaf gT147_16)) (sG_cond (sG_leaf gT147_19) (sG_leaf gT147_20))) (sG_cond (sG_cond (sG_leaf gT147_23) (sG_leaf gT147_24)) (sG_cond (sG_leaf gT147_27) (sG_leaf gT147_28))))) (sG_cond (sG_cond (sG_cond (sG_leaf gT147_31) (sG_cond (sG_leaf gT147_34) (sG_leaf gT147_37))) (sG_cond (sG_cond (sG_leaf gT147_38) (sG_leaf gT147_41)) (sG_cond (sG_leaf gT147_42) (sG_leaf gT147_43)))) (sG_cond (sG_cond (sG_cond (sG_leaf gT147_44) (sG_leaf gT147_45)) (sG_cond (sG_leaf gT147_48) (sG_leaf gT147_49))) (sG_cond (sG_cond (sG_leaf gT147_52) (sG_leaf gT147_53)) (sG_cond (sG_leaf gT147_56) (sG_leaf gT147_59)))))
theorem gT148_0 : sG l g D H0 mT 148 0 (s_load vRf 148 1 0) := ⟨ok_load _ _ _ _, so_aload_n mT148 dX4_frames_0 rfl⟩
theorem gT148_1 : sG l g D H0 mT 148 1 (s_const 148 2 (.int 0)) := ⟨ok_const _ _ _, so_iconst mT148 dX4_frames_1 (by decide)⟩
theorem gT148_2 : sG l g D H0 mT 148 2 (s_putf g pI 148 5 3 0) := ⟨ok_putf _ _ _ _ _ _, so_putf mT148 cl3 (k := 0) (by decide) fI rfl dX4_frames_2 q1226 (fs_rf rfl)⟩
theorem gT148_5 : sG l g D H0 mT 148 5 (s_load vI 148 6 1) := ⟨ok_load _ _ _ _, so_iload_n mT148 dX4_frames_5 rfl⟩
theorem gT148_6 : sG l g D H0 mT 148 6 (s_const 148 7 (.int 1)) := ⟨ok_const _ _ _, so_iconst mT148 dX4_frames_6 (by decide)⟩
theorem gT148_7 : sG l g D H0 mT 148 7 (s_const 148 9 (.int 10)) := ⟨ok_const _ _ _, so_bipush mT148 dX4_frames_7 (by decide)⟩
theorem gT148_9 : sG l g D H0 mT 148 9 (s_callk 148 12 140 [0, 0, 0] 3) := ⟨ok_callk _ _ _ _ _, sk_call (by decide) (so_callS mT148 mo140 (by decide) dX4_frames_9 q1244 q1245 q66)⟩
theorem gT148_12 : sG l g D H0 mT 148 12 (s_if 148 21 15 (fun a => a = 0)) := ⟨ok_if _ _ _ _, so_if_ne mT148 dX4_frames_12 (by decide)⟩
theorem gT148_15 : sG l g D H0 mT 148 15 (s_load vRf 148 16 0) := ⟨ok_load _ _ _ _, so_aload_n mT148 dX4_frames_15 rfl⟩
theorem gT148_16 : sG l g D H0 mT 148 16 (s_const 148 17 (.int 1)) := ⟨ok_const _ _ _, so_iconst mT148 dX4_frames_16 (by decide)⟩
theorem gT148_17 : sG l g D H0 mT 148 17 (s_callvk 148 20 141 3 [0] 2) := ⟨ok_callvk _ _ _ _ _ _, sk_callv (by decide) (so_callV mT148 mo141 (by decide) (t := 3) (C := "HyperVaneModel") (by decide) rfl rfl dX4_frames_17 q1247 q1249 qs31 q66)⟩
theorem gT148_20 : sG l g D H0 mT 148 20 (s_ret pI) := ⟨ok_ret _, so_iret mT148 dX4_frames_20⟩
theorem gT148_21 : sG l g D H0 mT 148 21 (s_const 148 22 (.int 0)) := ⟨ok_const _ _ _, so_iconst mT148 dX4_frames_21 (by decide)⟩
theorem gT148_22 : sG l g D H0 mT 148 22 (s_store vI 148 23 2) := ⟨ok_store _ _ _ _, so_istore_n mT148 dX4_frames_22 rfl⟩
theorem gT148_23 : sG l g D H0 mT 148 23 (s_load vRf 148 24 0) := ⟨ok_load _ _ _ _, so_aload_n mT148 dX4_frames_23 rfl⟩
theorem gT148_24 : sG l g D H0 mT 148 24 (s_getf 148 27 3 1) := ⟨ok_getf _ _ _ _, so_getf mT148 cl3 (k := 1) (by decide) dX4_frames_24 q1227 (fs_rf rfl)⟩
theorem gT148_27 : sG l g D H0 mT 148 27 (s_getf 148 30 4 2) := ⟨ok_getf _ _ _ _, so_getfN mT148 cl4 (k := 2) (by decide) dX4_frames_27 q1191 (fs_rf rfl)⟩
theorem gT148_30 : sG l g D H0 mT 148 30 (s_const 148 31 (.int 1)) := ⟨ok_const _ _ _, so_iconst mT148 dX4_frames_30 (by decide)⟩
theorem gT148_31 : sG l g D H0 mT 148 31 (s_bin 148 32 (fun a b => a - b)) := ⟨ok_bin _ _ _, so_isub mT148 dX4_frames_31⟩
theorem gT148_32 : sG l g D H0 mT 148 32 (s_store vI 148 33 3) := ⟨ok_store _ _ _ _, so_istore_n mT148 dX4_frames_32 rfl⟩
theorem gT148_33 : sG l g D H0 mT 148 33 (s_load vI 148 34 3) := ⟨ok_load _ _ _ _, so_iload_n mT148 dX4_frames_33 rfl⟩
theorem gT148_34 : sG l g D H0 mT 148 34 (s_load vI 148 35 1) := ⟨ok_load _ _ _ _, so_iload_n mT148 dX4_frames_34 rfl⟩
theorem gT148_35 : sG l g D H0 mT 148 35 (s_icmp 148 38 63 (fun a b => a < b)) := ⟨ok_icmp _ _ _ _, so_icmp_lt mT148 dX4_frames_35 (by decide)⟩
theorem gT148_38 : sG l g D H0 mT 148 38 (s_load vI 148 39 2) := ⟨ok_load _ _ _ _, so_iload_n mT148 dX4_frames_38 rfl⟩
theorem gT148_39 : sG l g D H0 mT 148 39 (s_load vRf 148 40 0) := ⟨ok_load _ _ _ _, so_aload_n mT148 dX4_frames_39 rfl⟩
theorem gT148_40 : sG l g D H0 mT 148 40 (s_getf 148 43 3 1) := ⟨ok_getf _ _ _ _, so_getf mT148 cl3 (k := 1) (by decide) dX4_frames_40 q1227 (fs_rf rfl)⟩
theorem gT148_43 : sG l g D H0 mT 148 43 (s_load vI 148 44 3) := ⟨ok_load _ _ _ _, so_iload_n mT148 dX4_frames_43 rfl⟩
theorem gT148_44 : sG l g D H0 mT 148 44 (s_callvk 148 47 179 4 [0] 3) := ⟨ok_callvk _ _ _ _ _ _, sk_callv (by decide) (so_callV mT148 mo179 (by decide) (t := 4) (C := "HyperVaneModel$World") (by decide) rfl rfl dX4_frames_44 q1444 q1445 q1446 q67)⟩
theorem gT148_47 : sG l g D H0 mT 148 47 (s_if 148 50 54 (fun a => a = 0)) := ⟨ok_if _ _ _ _, so_if_eq mT148 dX4_frames_47 (by decide)⟩
theorem gT148_50 : sG l g D H0 mT 148 50 (s_const 148 51 (.int 1)) := ⟨ok_const _ _ _, so_iconst mT148 dX4_frames_50 (by decide)⟩
theorem gT148_51 : sG l g D H0 mT 148 51 (s_goto 148 55) := ⟨ok_goto _ _, so_goto mT148 dX4_frames_51 (by decide)⟩
theorem gT148_54 : sG l g D H0 mT 148 54 (s_const 148 55 (.int 0)) := ⟨ok_const _ _ _, so_iconst mT148 dX4_frames_54 (by decide)⟩
theorem gT148_55 : sG l g D H0 mT 148 55 (s_bin 148 56 (fun a b => a + b)) := ⟨ok_bin _ _ _, so_iadd mT148 dX4_frames_55⟩
theorem gT148_56 : sG l g D H0 mT 148 56 (s_store vI 148 57 2) := ⟨ok_store _ _ _ _, so_istore_n mT148 dX4_frames_56 rfl⟩
theorem gT148_57 : sG l g D H0 mT 148 57 (s_iinc 148 60 3 (-1)) := ⟨ok_iinc _ _ _ _, so_iinc mT148 dX4_frames_57 (by decide)⟩
theorem gT148_60 : sG l g D H0 mT 148 60 (s_goto 148 33) := ⟨ok_goto _ _, so_goto mT148 dX4_frames_60 (by decide)⟩
theorem gT148_63 : sG l g D H0 mT 148 63 (s_load vRf 148 64 0) := ⟨ok_load _ _ _ _, so_aload_n mT148 dX4_frames_63 rfl⟩
theorem gT148_64 : sG l g D H0 mT 148 64 (s_getf 148 67 3 1) := ⟨ok_getf _ _ _ _, so_getf mT148 cl3 (k := 1) (by decide) dX4_frames_64 q1227 (fs_rf rfl)⟩
theorem gT148_67 : sG l g D H0 mT 148 67 (s_load vI 148 68 1) := ⟨ok_load _ _ _ _, so_iload_n mT148 dX4_frames_67 rfl⟩
theorem gT148_68 : sG l g D H0 mT 148 68 (s_putf g pI 148 71 4 2) := ⟨ok_putf _ _ _ _ _ _, so_putfN mT148 cl4 (k := 2) (by decide) fI rfl dX4_frames_68 q1191 (fs_rf rfl)⟩
theorem gT148_71 : sG l g D H0 mT 148 71 (s_load vI 148 72 2) := ⟨ok_load _ _ _ _, so_iload_n mT148 dX4_frames_71 rfl⟩
theorem gT148_72 : sG l g D H0 mT 148 72 (s_ret pI) := ⟨ok_ret _, so_iret mT148 dX4_frames_72⟩
theorem gT148 (pc : Nat) : sG l g D H0 mT 148 pc (tT148 g pc) := sG_cond (sG_cond (sG_cond (sG_cond (sG_cond (sG_leaf gT148_0) (sG_leaf gT148_1)) (sG_cond (sG_leaf gT148_2) (sG_cond (sG_leaf gT148_5) (sG_leaf gT148_6)))) (sG_cond (sG_cond (sG_leaf gT148_7) (sG_leaf gT148_9)) (sG_cond (sG_leaf gT148_12) (sG_cond (sG_leaf gT148_15) (sG_leaf gT148_16))))) (sG_cond (sG_cond (sG_cond (sG_leaf gT148_17) (sG_leaf gT148_20)) (sG_cond (sG_leaf gT148_21) (sG_cond (sG_leaf gT148_22) (sG_leaf gT148_23)))) (sG_cond (sG_cond (sG_leaf gT148_24) (sG_cond (sG_leaf gT148_27) (sG_leaf gT148_30))) (sG_cond (sG_leaf gT148_31) (sG_cond (sG_leaf gT148_32) (sG_leaf gT148_33)))))) (sG_cond (sG_cond (sG_cond (sG_cond (sG_leaf gT148_34) (sG_leaf gT148_35)) (sG_cond (sG_leaf gT148_38) (sG_cond (sG_leaf gT148_39) (sG_leaf gT148_40)))) (sG_cond (sG_cond (sG_leaf gT148_43) (sG_leaf gT148_44)) (sG_cond (sG_leaf gT148_47) (sG_cond (sG_leaf gT148_50) (sG_leaf gT148_51))))) (sG_cond (sG_cond (sG_cond (sG_leaf gT148_54) (sG_leaf gT148_55)) (sG_cond (sG_leaf gT148_56) (sG_cond (sG_leaf gT148_57) (sG_leaf gT148_60)))) (sG_cond (sG_cond (sG_leaf gT148_63) (sG_cond (sG_leaf gT148_64) (sG_leaf gT148_67))) (sG_cond (sG_leaf gT148_68) (sG_cond (sG_leaf gT148_71) (sG_leaf gT148_72))))))
theorem gT149_0 : sG l g D H0 mT 149 0 (s_load vRf 149 1 0) := ⟨ok_load _ _ _ _, so_aload_n mT149 dX4_giveUp_0 rfl⟩
theorem gT149_1 : sG l g D H0 mT 149 1 (s_const 149 2 (.int 0)) := ⟨ok_const _ _ _, so_iconst mT149 dX4_giveUp_1 (by decide)⟩
theorem gT149_2 : sG l g D H0 mT 149 2 (s_putf g pI 149 5 3 0) := ⟨ok_putf _ _ _ _ _ _, so_putf mT149 cl3 (k := 0) (by decide) fI rfl dX4_giveUp_2 q1226 (fs_rf rfl)⟩
theorem gT149_5 : sG l g D H0 mT 149 5 (s_load vRf 149 6 0) := ⟨ok_load _ _ _ _, so_aload_n mT149 dX4_giveUp_5 rfl⟩
theorem gT149_6 : sG l g D H0 mT 149 6 (s_load vI 149 7 1) := ⟨ok_load _ _ _ _, so_iload_n mT149 dX4_giveUp_6 rfl⟩
theorem gT149_7 : sG l g D H0 mT 149 7 (s_callvk 149 10 143 3 [0] 2) := ⟨ok_callvk _ _ _ _ _ _, sk_callv (by decide) (so_callV mT149 mo143 (by decide) (t := 3) (C := "HyperVaneModel") (by decide) rfl rfl dX4_giveUp_7 q1416 q1418 qs32 q66)⟩
theorem gT149_10 : sG l g D H0 mT 149 10 (s_if 149 19 13 (fun a => a = 0)) := ⟨ok_if _ _ _ _, so_if_ne mT149 dX4_giveUp_10 (by decide)⟩
theorem gT149_13 : sG l g D H0 mT 149 13 (s_load vRf 149 14 0) := ⟨ok_load _ _ _ _, so_aload_n mT149 dX4_giveUp_13 rfl⟩
theorem gT149_14 : sG l g D H0 mT 149 14 (s_const 149 15 (.int 1)) := ⟨ok_const _ _ _, so_iconst mT149 dX4_giveUp_14 (by decide)⟩
theorem gT149_15 : sG l g D H0 mT 149 15 (s_callvk 149 18 141 3 [0] 2) := ⟨ok_callvk _ _ _ _ _ _, sk_callv (by decide) (so_callV mT149 mo141 (by decide) (t := 3) (C := "HyperVaneModel") (by decide) rfl rfl dX4_giveUp_15 q1247 q1249 qs31 q66)⟩
theorem gT149_18 : sG l g D H0 mT 149 18 (s_ret pI) := ⟨ok_ret _, so_iret mT149 dX4_giveUp_18⟩
theorem gT149_19 : sG l g D H0 mT 149 19 (s_load vI 149 20 2) := ⟨ok_load _ _ _ _, so_iload_n mT149 dX4_giveUp_19 rfl⟩
theorem gT149_20 : sG l g D H0 mT 149 20 (s_const 149 21 (.int 1)) := ⟨ok_const _ _ _, so_iconst mT149 dX4_giveUp_20 (by decide)⟩
theorem gT149_21 : sG l g D H0 mT 149 21 (s_const 149 23 (.int 6)) := ⟨ok_const _ _ _, so_bipush mT149 dX4_giveUp_21 (by decide)⟩
theorem gT149_23 : sG l g D H0 mT 149 23 (s_callk 149 26 140 [0, 0, 0] 3) := ⟨ok_callk _ _ _ _ _, sk_call (by decide) (so_callS mT149 mo140 (by decide) dX4_giveUp_23 q1244 q1245 q66)⟩
theorem gT149_26 : sG l g D H0 mT 149 26 (s_if 149 35 29 (fun a => a = 0)) := ⟨ok_if _ _ _ _, so_if_ne mT149 dX4_giveUp_26 (by decide)⟩
theorem gT149_29 : sG l g D H0 mT 149 29 (s_load vRf 149 30 0) := ⟨ok_load _ _ _ _, so_aload_n mT149 dX4_giveUp_29 rfl⟩
theorem gT149_30 : sG l g D H0 mT 149 30 (s_const 149 31 (.int 2)) := ⟨ok_const _ _ _, so_iconst mT149 dX4_giveUp_30 (by decide)⟩
theorem gT149_31 : sG l g D H0 mT 149 31 (s_callvk 149 34 141 3 [0] 2) := ⟨ok_callvk _ _ _ _ _ _, sk_callv (by decide) (so_callV mT149 mo141 (by decide) (t := 3) (C := "HyperVaneModel") (by decide) rfl rfl dX4_giveUp_31 q1247 q1249 qs31 q66)⟩
theorem gT149_34 : sG l g D H0 mT 149 34 (s_ret pI) := ⟨ok_ret _, so_iret mT149 dX4_giveUp_34⟩
theorem gT149_35 : sG l g D H0 mT 149 35 (s_load vRf 149 36 0) := ⟨ok_load _ _ _ _, so_aload_n mT149 dX4_giveUp_35 rfl⟩
theorem gT149_36 : sG l g D H0 mT 149 36 (s_getf 149 39 3 1) := ⟨ok_getf _ _ _ _, so_getf mT149 cl3 (k := 1) (by decide) dX4_giveUp_36 q1227 (fs_rf rfl)⟩
theorem gT149_39 : sG l g D H0 mT 149 39 (s_getf 149 42 4 0) := ⟨ok_getf _ _ _ _, so_getfN mT149 cl4 (k := 0) (by decide) dX4_giveUp_39 q1187 (fs_rf rfl)⟩
theorem gT149_42 : sG l g D H0 mT 149 42 (s_load vI 149 43 1) := ⟨ok_load _ _ _ _, so_iload_n mT149 dX4_giveUp_42 rfl⟩
theorem gT149_43 : sG l g D H0 mT 149 43 (s_callvk 149 46 25 10 [0] 2) := ⟨ok_callvk _ _ _ _ _ _, sk_callv (by decide) (so_callV mT149 mo25 (by decide) (t := 10) (C := "java/util/ArrayList") (by decide) rfl rfl dX4_giveUp_43 q1423 q439 q440 q58)⟩
theorem gT149_46 : sG l g D H0 mT 149 46 (s_cast 149 49 [7]) := ⟨ok_cast _ _ _, so_cast mT149 (T := "HyperVaneModel$Guest") (ts := [7]) (by intro u hu; rw [List.mem_singleton] at hu; subst hu; exact ⟨by decide, Or.inl rfl⟩) dX4_giveUp_46 q1252⟩
theorem gT149_49 : sG l g D H0 mT 149 49 (s_store vRf 149 50 3) := ⟨ok_store _ _ _ _, so_astore_n mT149 dX4_giveUp_49 rfl⟩
theorem gT149_50 : sG l g D H0 mT 149 50 (s_load vRf 149 51 3) := ⟨ok_load _ _ _ _, so_aload_n mT149 dX4_giveUp_50 rfl⟩
theorem gT149_51 : sG l g D H0 mT 149 51 (s_getf 149 54 7 6) := ⟨ok_getf _ _ _ _, so_getfN mT149 cl7 (k := 6) (by decide) dX4_giveUp_51 q1280 (fs_rf rfl)⟩
theorem gT149_54 : sG l g D H0 mT 149 54 (s_const 149 55 (.int 4)) := ⟨ok_const _ _ _, so_iconst mT149 dX4_giveUp_54 (by decide)⟩
theorem gT149_55 : sG l g D H0 mT 149 55 (s_icmp 149 64 58 (fun a b => a = b)) := ⟨ok_icmp _ _ _ _, so_icmp_ne mT149 dX4_giveUp_55 (by decide)⟩
theorem gT149_58 : sG l g D H0 mT 149 58 (s_load vRf 149 59 0) := ⟨ok_load _ _ _ _, so_aload_n mT149 dX4_giveUp_58 rfl⟩
theorem gT149_59 : sG l g D H0 mT 149 59 (s_const 149 60 (.int 3)) := ⟨ok_const _ _ _, so_iconst mT149 dX4_giveUp_59 (by decide)⟩
theorem gT149_60 : sG l g D H0 mT 149 60 (s_callvk 149 63 141 3 [0] 2) := ⟨ok_callvk _ _ _ _ _ _, sk_callv (by decide) (so_callV mT149 mo141 (by decide) (t := 3) (C := "HyperVaneModel") (by decide) rfl rfl dX4_giveUp_60 q1247 q1249 qs31 q66)⟩
theorem gT149_63 : sG l g D H0 mT 149 63 (s_ret pI) := ⟨ok_ret _, so_iret mT149 dX4_giveUp_63⟩
theorem gT149_64 : sG l g D H0 mT 149 64 (s_load vI 149 65 2) := ⟨ok_load _ _ _ _, so_iload_n mT149 dX4_giveUp_64 rfl⟩
theorem gT149_65 : sG l g D H0 mT 149 65 (s_load vRf 149 66 3) := ⟨ok_load _ _ _ _, so_aload_n mT149 dX4_giveUp_65 rfl⟩
theorem gT149_66 : sG l g D H0 mT 149 66 (s_const 149 67 (.int 0)) := ⟨ok_const _ _ _, so_iconst mT149 dX4_giveUp_66 (by decide)⟩
theorem gT149_67 : sG l g D H0 mT 149 67 (s_callvk 149 70 206 7 [0] 4) := ⟨ok_callvk _ _ _ _ _ _, sk_callv (by decide) (so_callV mT149 mo206 (by decide) (t := 7) (C := "HyperVaneModel$Guest") (by decide) rfl rfl dX4_giveUp_67 q1459 q1460 q1461 q75)⟩
theorem gT149_70 : sG l g D H0 mT 149 70 (s_callk 149 73 35 [0, 0] 2) := ⟨ok_callk _ _ _ _ _, sk_call (by decide) (so_callS mT149 mo35 (by decide) dX4_giveUp_70 q1463 q284 q64)⟩
theorem gT149_73 : sG l g D H0 mT 149 73 (s_store vI 149 75 4) := ⟨ok_store _ _ _ _, so_istore mT149 dX4_giveUp_73⟩
theorem gT149_75 : sG l g D H0 mT 149 75 (s_const 149 76 (.int 0)) := ⟨ok_const _ _ _, so_iconst mT149 dX4_giveUp_75 (by decide)⟩
theorem gT149_76 : sG l g D H0 mT 149 76 (s_store vI 149 78 5) := ⟨ok_store _ _ _ _, so_istore mT149 dX4_giveUp_76⟩
theorem gT149_78 : sG l g D H0 mT 149 78 (s_load vI 149 80 5) := ⟨ok_load _ _ _ _, so_iload mT149 dX4_giveUp_78⟩
theorem gT149_80 : sG l g D H0 mT 149 80 (s_load vI 149 82 4) := ⟨ok_load _ _ _ _, so_iload mT149 dX4_giveUp_80⟩
theorem gT149_82 : sG l g D H0 mT 149 82 (s_icmp 149 85 212 (fun a b => b ≤ a)) := ⟨ok_icmp _ _ _ _, so_icmp_ge mT149 dX4_giveUp_82 (by decide)⟩
theorem gT149_85 : sG l g D H0 mT 149 85 (s_const 149 86 (.int (-1))) := ⟨ok_const _ _ _, so_iconst mT149 dX4_giveUp_85 (by decide)⟩
theorem gT149_86 : sG l g D H0 mT 149 86 (s_store vI 149 88 6) := ⟨ok_store _ _ _ _, so_istore mT149 dX4_giveUp_86⟩
theorem gT149_88 : sG l g D H0 mT 149 88 (s_const 149 89 (.int 0)) := ⟨ok_const _ _ _, so_iconst mT149 dX4_giveUp_88 (by decide)⟩
theorem gT149_89 : sG l g D H0 mT 149 89 (s_store vI 149 91 7) := ⟨ok_store _ _ _ _, so_istore mT149 dX4_giveUp_89⟩
theorem gT149_91 : sG l g D H0 mT 149 91 (s_load vI 149 93 7) := ⟨ok_load _ _ _ _, so_iload mT149 dX4_giveUp_91⟩
theorem gT149_93 : sG l g D H0 mT 149 93 (s_const 149 95 (.int 6)) := ⟨ok_const _ _ _, so_bipush mT149 dX4_giveUp_93 (by decide)⟩
theorem gT149_95 : sG l g D H0 mT 149 95 (s_icmp 149 98 141 (fun a b => b ≤ a)) := ⟨ok_icmp _ _ _ _, so_icmp_ge mT149 dX4_giveUp_95 (by decide)⟩
theorem gT149_98 : sG l g D H0 mT 149 98 (s_load vRf 149 99 3) := ⟨ok_load _ _ _ _, so_aload_n mT149 dX4_giveUp_98 rfl⟩
theorem gT149_99 : sG l g D H0 mT 149 99 (s_getf 149 102 7 14) := ⟨ok_getf _ _ _ _, so_getfN mT149 cl7 (k := 14) (by decide) dX4_giveUp_99 q1304 (fs_rf rfl)⟩
theorem gT149_102 : sG l g D H0 mT 149 102 (s_load vI 149 104 7) := ⟨ok_load _ _ _ _, so_iload mT149 dX4_giveUp_102⟩
theorem gT149_104 : sG l g D H0 mT 149 104 (s_ald 149 105 20) := ⟨ok_ald _ _ _, so_iald mT149 a20 dX4_giveUp_104⟩
theorem gT149_105 : sG l g D H0 mT 149 105 (s_if 149 135 108 (fun a => a = 0)) := ⟨ok_if _ _ _ _, so_if_ne mT149 dX4_giveUp_105 (by decide)⟩
theorem gT149_108 : sG l g D H0 mT 149 108 (s_load vI 149 110 6) := ⟨ok_load _ _ _ _, so_iload mT149 dX4_giveUp_108⟩
theorem gT149_110 : sG l g D H0 mT 149 110 (s_const 149 111 (.int (-1))) := ⟨ok_const _ _ _, so_iconst mT149 dX4_giveUp_110 (by decide)⟩
theorem gT149_111 : sG l g D H0 mT 149 111 (s_icmp 149 114 131 (fun a b => a = b)) := ⟨ok_icmp _ _ _ _, so_icmp_eq mT149 dX4_giveUp_111 (by decide)⟩
theorem gT149_114 : sG l g D H0 mT 149 114 (s_load vRf 149 115 3) := ⟨ok_load _ _ _ _, so_aload_n mT149 dX4_giveUp_114 rfl⟩
theorem gT149_115 : sG l g D H0 mT 149 115 (s_getf 149 118 7 16) := ⟨ok_getf _ _ _ _, so_getfN mT149 cl7 (k := 16) (by decide) dX4_giveUp_115 q1310 (fs_rf rfl)⟩
theorem gT149_118 : sG l g D H0 mT 149 118 (s_load vI 149 120 7) := ⟨ok_load _ _ _ _, so_iload mT149 dX4_giveUp_118⟩
theorem gT149_120 : sG l g D H0 mT 149 120 (s_ald 149 121 20) := ⟨ok_ald _ _ _, so_iald mT149 a20 dX4_giveUp_120⟩
theorem gT149_121 : sG l g D H0 mT 149 121 (s_load vRf 149 122 3) := ⟨ok_load _ _ _ _, so_aload_n mT149 dX4_giveUp_121 rfl⟩
theorem gT149_122 : sG l g D H0 mT 149 122 (s_getf 149 125 7 16) := ⟨ok_getf _ _ _ _, so_getfN mT149 cl7 (k := 16) (by decide) dX4_giveUp_122 q1310 (fs_rf rfl)⟩
theorem gT149_125 : sG l g D H0 mT 149 125 (s_load vI 149 127 6) := ⟨ok_load _ _ _ _, so_iload mT149 dX4_giveUp_125⟩
theorem gT149_127 : sG l g D H0 mT 149 127 (s_ald 149 128 20) := ⟨ok_ald _ _ _, so_iald mT149 a20 dX4_giveUp_127⟩
theorem gT149_128 : sG l g D H0 mT 149 128 (s_icmp 149 131 135 (fun a b => b ≤ a)) := ⟨ok_icmp _ _ _ _, so_icmp_ge mT149 dX4_giveUp_128 (by decide)⟩
theorem gT149_131 : sG l g D H0 mT 149 131 (s_load vI 149 133 7) := ⟨ok_load _ _ _ _, so_iload mT149 dX4_giveUp_131⟩
theorem gT149_133 : sG l g D H0 mT 149 133 (s_store vI 149 135 6) := ⟨ok_store _ _ _ _, so_istore mT149 dX4_giveUp_133⟩
theorem gT149_135 : sG l g D H0 mT 149 135 (s_iinc 149 138 7 1) := ⟨ok_iinc _ _ _ _, so_iinc mT149 dX4_giveUp_135 (by decide)⟩
theorem gT149_138 : sG l g D H0 mT 149 138 (s_goto 149 91) := ⟨ok_goto _ _, so_goto mT149 dX4_giveUp_138 (by decide)⟩
theorem gT149_141 : sG l g D H0 mT 149 141 (s_load vRf 149 142 3) := ⟨ok_load _ _ _ _, so_aload_n mT149 dX4_giveUp_141 rfl⟩
theorem gT149_142 : sG l g D H0 mT 149 142 (s_getf 149 145 7 14) := ⟨ok_getf _ _ _ _, so_getfN mT149 cl7 (k := 14) (by decide) dX4_giveUp_142 q1304 (fs_rf rfl)⟩
theorem gT149_145 : sG l g D H0 mT 149 145 (s_load vI 149 147 6) := ⟨ok_load _ _ _ _, so_iload mT149 dX4_giveUp_145⟩
theorem gT149_147 : sG l g D H0 mT 149 147 (s_const 149 148 (.int 2)) := ⟨ok_const _ _ _, so_iconst mT149 dX4_giveUp_147 (by decide)⟩
theorem gT149_148 : sG l g D H0 mT 149 148 (s_ast g (fun _ v => vI v = true) 149 149 20) := ⟨ok_ast _ _ _ _ _, so_iast mT149 a20 dX4_giveUp_148⟩
theorem gT149_149 : sG l g D H0 mT 149 149 (s_load vRf 149 150 3) := ⟨ok_load _ _ _ _, so_aload_n mT149 dX4_giveUp_149 rfl⟩
theorem gT149_150 : sG l g D H0 mT 149 150 (s_getf 149 153 7 13) := ⟨ok_getf _ _ _ _, so_getfN mT149 cl7 (k := 13) (by decide) dX4_giveUp_150 q1301 (fs_rf rfl)⟩
theorem gT149_153 : sG l g D H0 mT 149 153 (s_load vI 149 155 6) := ⟨ok_load _ _ _ _, so_iload mT149 dX4_giveUp_153⟩
theorem gT149_155 : sG l g D H0 mT 149 155 (s_const 149 156 (.int 0)) := ⟨ok_const _ _ _, so_iconst mT149 dX4_giveUp_155 (by decide)⟩
theorem gT149_156 : sG l g D H0 mT 149 156 (s_ast g (fun _ v => vI v = true) 149 157 20) := ⟨ok_ast _ _ _ _ _, so_iast mT149 a20 dX4_giveUp_156⟩
theorem gT149_157 : sG l g D H0 mT 149 157 (s_load vRf 149 158 3) := ⟨ok_load _ _ _ _, so_aload_n mT149 dX4_giveUp_157 rfl⟩
theorem gT149_158 : sG l g D H0 mT 149 158 (s_dup 149 159) := ⟨ok_dup _ _, so_dup mT149 dX4_giveUp_158⟩
theorem gT149_159 : sG l g D H0 mT 149 159 (s_getf 149 162 7 22) := ⟨ok_getf _ _ _ _, so_getfN mT149 cl7 (k := 22) (by decide) dX4_giveUp_159 q1326 (fs_rf rfl)⟩
theorem gT149_162 : sG l g D H0 mT 149 162 (s_const 149 163 (.int 1)) := ⟨ok_const _ _ _, so_iconst mT149 dX4_giveUp_162 (by decide)⟩
theorem gT149_163 : sG l g D H0 mT 149 163 (s_load vI 149 165 6) := ⟨ok_load _ _ _ _, so_iload mT149 dX4_giveUp_163⟩
theorem gT149_165 : sG l g D H0 mT 149 165 (s_bin 149 166 (fun a b => a <<< (b &&& 31))) := ⟨ok_bin _ _ _, so_ishl mT149 dX4_giveUp_165⟩
theorem gT149_166 : sG l g D H0 mT 149 166 (s_const 149 167 (.int (-1))) := ⟨ok_const _ _ _, so_iconst mT149 dX4_giveUp_166 (by decide)⟩
theorem gT149_167 : sG l g D H0 mT 149 167 (s_bin 149 168 (fun a b => a ^^^ b)) := ⟨ok_bin _ _ _, so_ixor mT149 dX4_giveUp_167⟩
theorem gT149_168 : sG l g D H0 mT 149 168 (s_bin 149 169 (fun a b => a &&& b)) := ⟨ok_bin _ _ _, so_iand mT149 dX4_giveUp_168⟩
theorem gT149_169 : sG l g D H0 mT 149 169 (s_putf g pI 149 172 7 22) := ⟨ok_putf _ _ _ _ _ _, so_putfN mT149 cl7 (k := 22) (by decide) fI rfl dX4_giveUp_169 q1326 (fs_rf rfl)⟩
theorem gT149_172 : sG l g D H0 mT 149 172 (s_const 149 173 (.int 2)) := ⟨ok_const _ _ _, so_iconst mT149 dX4_giveUp_172 (by decide)⟩
theorem gT149_173 : sG l g D H0 mT 149 173 (s_newa g 149 175 20 (.int 0)) := ⟨ok_newa _ _ _ _ _, so_newa mT149 (t := 20) (by decide) rfl rfl (by decide) dX4_giveUp_173 q486⟩
theorem gT149_175 : sG l g D H0 mT 149 175 (s_dup 149 176) := ⟨ok_dup _ _, so_dup mT149 dX4_giveUp_175⟩
theorem gT149_176 : sG l g D H0 mT 149 176 (s_const 149 177 (.int 0)) := ⟨ok_const _ _ _, so_iconst mT149 dX4_giveUp_176 (by decide)⟩
theorem gT149_177 : sG l g D H0 mT 149 177 (s_load vRf 149 178 3) := ⟨ok_load _ _ _ _, so_aload_n mT149 dX4_giveUp_177 rfl⟩
theorem gT149_178 : sG l g D H0 mT 149 178 (s_getf 149 181 7 29) := ⟨ok_getf _ _ _ _, so_getfN mT149 cl7 (k := 29) (by decide) dX4_giveUp_178 q1341 (fs_rf rfl)⟩
theorem gT149_181 : sG l g D H0 mT 149 181 (s_ast g (fun _ v => vI v = true) 149 182 20) := ⟨ok_ast _ _ _ _ _, so_iast mT149 a20 dX4_giveUp_181⟩
theorem gT149_182 : sG l g D H0 mT 149 182 (s_dup 149 183) := ⟨ok_dup _ _, so_dup mT149 dX4_giveUp_182⟩
theorem gT149_183 : sG l g D H0 mT 149 183 (s_const 149 184 (.int 1)) := ⟨ok_const _ _ _, so_iconst mT149 dX4_giveUp_183 (by decide)⟩
theorem gT149_184 : sG l g D H0 mT 149 184 (s_load vI 149 186 6) := ⟨ok_load _ _ _ _, so_iload mT149 dX4_giveUp_184⟩
theorem gT149_186 : sG l g D H0 mT 149 186 (s_ast g (fun _ v => vI v = true) 149 187 20) := ⟨ok_ast _ _ _ _ _, so_iast mT149 a20 dX4_giveUp_186⟩
theorem gT149_187 : sG l g D H0 mT 149 187 (s_store vRf 149 189 7) := ⟨ok_store _ _ _ _, so_astore mT149 dX4_giveUp_187⟩
theorem gT149_189 : sG l g D H0 mT 149 189 (s_load vRf 149 190 3) := ⟨ok_load _ _ _ _, so_aload_n mT149 dX4_giveUp_189 rfl⟩
theorem gT149_190 : sG l g D H0 mT 149 190 (s_getf 149 193 7 25) := ⟨ok_getf _ _ _ _, so_getfN mT149 cl7 (k := 25) (by decide) dX4_giveUp_190 q1333 (fs_rf rfl)⟩
theorem gT149_193 : sG l g D H0 mT 149 193 (s_if 149 196 206 (fun a => a = 0)) := ⟨ok_if _ _ _ _, so_if_eq mT149 dX4_giveUp_193 (by decide)⟩
theorem gT149_196 : sG l g D H0 mT 149 196 (s_load vRf 149 197 3) := ⟨ok_load _ _ _ _, so_aload_n mT149 dX4_giveUp_196 rfl⟩
theorem gT149_197 : sG l g D H0 mT 149 197 (s_getf 149 200 7 31) := ⟨ok_getf _ _ _ _, so_getfN mT149 cl7 (k := 31) (by decide) dX4_giveUp_197 q1345 (fs_rf rfl)⟩
theorem gT149_200 : sG l g D H0 mT 149 200 (s_load vRf 149 202 7) := ⟨ok_load _ _ _ _, so_aload mT149 dX4_giveUp_200⟩
theorem gT149_202 : sG l g D H0 mT 149 202 (s_callvk 149 205 18 10 [1] 2) := ⟨ok_callvk _ _ _ _ _ _, sk_callv (by decide) (so_callV mT149 mo18 (by decide) (t := 10) (C := "java/util/ArrayList") (by decide) rfl rfl dX4_giveUp_202 q1411 q228 q229 q58)⟩
theorem gT149_205 : sG l g D H0 mT 149 205 (s_pop 149 206) := ⟨ok_pop _ _, so_pop mT149 dX4_giveUp_205⟩
theorem gT149_206 : sG l g D H0 mT 149 206 (s_iinc 149 209 5 1) := ⟨ok_iinc _ _ _ _, so_iinc mT149 dX4_giveUp_206 (by decide)⟩
theorem gT149_209 : sG l g D H0 mT 149 209 (s_goto 149 78) := ⟨ok_goto _ _, so_goto mT149 dX4_giveUp_209 (by decide)⟩
theorem gT149_212 : sG l g D H0 mT 149 212 (s_load vI 149 214 4) := ⟨ok_load _ _ _ _, so_iload mT149 dX4_giveUp_212⟩
theorem gT149_214 : sG l g D H0 mT 149 214 (s_ret pI) := ⟨ok_ret _, so_iret mT149 dX4_giveUp_214⟩
theorem gT149 (pc : Nat) : sG l g D H0 mT 149 pc (tT149 g pc) := sG_cond (sG_cond (sG_cond (sG_cond (sG_cond (sG_cond (sG_leaf gT149_0) (sG_cond (sG_leaf gT149_1) (sG_leaf gT149_2))) (sG_cond (sG_cond (sG_leaf gT149_5) (sG_leaf gT149_6)) (sG_cond (sG_leaf gT149_7) (sG_leaf gT149_10)))) (sG_cond (sG_cond (sG_leaf gT149_13) (sG_cond (sG_leaf gT149_14) (sG_leaf gT149_15))) (sG_cond (sG_cond (sG_leaf gT149_18) (sG_leaf gT149_19)) (sG_cond (sG_leaf gT149_20) (sG_leaf gT149_21))))) (sG_cond (sG_cond (sG_cond (sG_leaf gT149_23) (sG_cond (sG_leaf gT149_26) (sG_leaf gT149_29))) (sG_cond (sG_cond (sG_leaf gT149_30) (sG_leaf gT149_31)) (sG_cond (sG_leaf gT149_34) (sG_leaf gT149_35)))) (sG_cond (sG_cond (sG_cond (sG_leaf gT149_36) (sG_leaf gT149_39)) (sG_cond (sG_leaf gT149_42) (sG_leaf gT149_43))) (sG_cond (sG_cond (sG_leaf gT149_46) (sG_leaf gT149_49)) (sG_cond (sG_leaf gT149_50) (sG_leaf gT149_51)))))) (sG_cond (sG_cond (sG_cond (sG_cond (sG_leaf gT149_54) (sG_cond (sG_leaf gT149_55) (sG_leaf gT149_58))) (sG_cond (sG_cond (sG_leaf gT149_59) (sG_leaf gT149_60)) (sG_cond (sG_leaf gT149_63) (sG_leaf gT149_64)))) (sG_cond (sG_cond (sG_cond (sG_leaf gT149_65) (sG_leaf gT149_66)) (sG_cond (sG_leaf gT149_67) (sG_leaf gT149_70))) (sG_cond (sG_cond (sG_leaf gT149_73) (sG_leaf gT149_75)) (sG_cond (sG_leaf gT149_76) (sG_leaf gT149_78))))) (sG_cond (sG_cond (sG_cond (sG_leaf gT149_80) (sG_cond (sG_leaf gT149_82) (sG_leaf gT149_85))) (sG_cond (sG_cond (sG_leaf gT149_86) (sG_leaf gT149_88)) (sG_cond (sG_leaf gT149_89) (sG_leaf gT149_91)))) (sG_cond (sG_cond (sG_cond (sG_leaf gT149_93) (sG_leaf gT149_95)) (sG_cond (sG_leaf gT149_98) (sG_leaf gT149_99))) (sG_cond (sG_cond (sG_leaf gT149_102) (sG_leaf gT149_104)) (sG_cond (sG_leaf gT149_105) (sG_leaf gT149_108))))))) (sG_cond (sG_cond (sG_cond (sG_cond (sG_cond (sG_leaf gT149_110) (sG_cond (sG_leaf gT149_111) (sG_leaf gT149_114))) (sG_cond (sG_cond (sG_leaf gT149_115) (sG_leaf gT149_118)) (sG_cond (sG_leaf gT149_120) (sG_leaf gT149_121)))) (sG_cond (sG_cond (sG_leaf gT149_122) (sG_cond (sG_leaf gT149_125) (sG_leaf gT149_127))) (sG_cond (sG_cond (sG_leaf gT149_128) (sG_leaf gT149_131)) (sG_cond (sG_leaf gT149_133) (sG_leaf gT149_135))))) (sG_cond (sG_cond (sG_cond (sG_leaf gT149_138) (sG_cond (sG_leaf gT149_141) (sG_leaf gT149_142))) (sG_cond (sG_cond (sG_leaf gT149_145) (sG_leaf gT149_147)) (sG_cond (sG_leaf gT149_148) (sG_leaf gT149_149)))) (sG_cond (sG_cond (sG_cond (sG_leaf gT149_150) (sG_leaf gT149_153)) (sG_cond (sG_leaf gT149_155) (sG_leaf gT149_156))) (sG_cond (sG_cond (sG_leaf gT149_157) (sG_leaf gT149_158)) (sG_cond (sG_leaf gT149_159) (sG_leaf gT149_162)))))) (sG_cond (sG_cond (sG_cond (sG_cond (sG_leaf gT149_163) (sG_cond (sG_leaf gT149_165) (sG_leaf gT149_166))) (sG_cond (sG_cond (sG_leaf gT149_167) (sG_leaf gT149_168)) (sG_cond (sG_leaf gT149_169) (sG_leaf gT149_172)))) (sG_cond (sG_cond (sG_cond (sG_leaf gT149_173) (sG_leaf gT149_175)) (sG_cond (sG_leaf gT149_176) (sG_leaf gT149_177))) (sG_cond (sG_cond (sG_leaf gT149_178) (sG_leaf gT149_181)) (sG_cond (sG_leaf gT149_182) (sG_leaf gT149_183))))) (sG_cond (sG_cond (sG_cond (sG_leaf gT149_184) (sG_cond (sG_leaf gT149_186) (sG_leaf gT149_187))) (sG_cond (sG_cond (sG_leaf gT149_189) (sG_leaf gT149_190)) (sG_cond (sG_leaf gT149_193) (sG_leaf gT149_196)))) (sG_cond (sG_cond (sG_cond (sG_leaf gT149_197) (sG_leaf gT149_200)) (sG_cond (sG_leaf gT149_202) (sG_leaf gT149_205))) (sG_cond (sG_cond (sG_leaf gT149_206) (sG_leaf gT149_209)) (sG_cond (sG_leaf gT149_212) (sG_leaf gT149_214)))))))
theorem gT150_0 : sG l g D H0 mT 150 0 (s_load vRf 150 1 0) := ⟨ok_load _ _ _ _, so_aload_n mT150 dX4_move_0 rfl⟩
theorem gT150_1 : sG l g D H0 mT 150 1 (s_const 150 2 (.int 0)) := ⟨ok_const _ _ _, so_iconst mT150 dX4_move_1 (by decide)⟩
theorem gT150_2 : sG l g D H0 mT 150 2 (s_putf g pI 150 5 3 0) := ⟨ok_putf _ _ _ _ _ _, so_putf mT150 cl3 (k := 0) (by decide) fI rfl dX4_move_2 q1226 (fs_rf rfl)⟩
theorem gT150_5 : sG l g D H0 mT 150 5 (s_load vRf 150 6 0) := ⟨ok_load _ _ _ _, so_aload_n mT150 dX4_move_5 rfl⟩
theorem gT150_6 : sG l g D H0 mT 150 6 (s_load vI 150 7 1) := ⟨ok_load _ _ _ _, so_iload_n mT150 dX4_move_6 rfl⟩
theorem gT150_7 : sG l g D H0 mT 150 7 (s_callvk 150 10 143 3 [0] 2) := ⟨ok_callvk _ _ _ _ _ _, sk_callv (by decide) (so_callV mT150 mo143 (by decide) (t := 3) (C := "HyperVaneModel") (by decide) rfl rfl dX4_move_7 q1416 q1418 qs32 q66)⟩
theorem gT150_10 : sG l g D H0 mT 150 10 (s_if 150 19 13 (fun a => a = 0)) := ⟨ok_if _ _ _ _, so_if_ne mT150 dX4_move_10 (by decide)⟩
theorem gT150_13 : sG l g D H0 mT 150 13 (s_load vRf 150 14 0) := ⟨ok_load _ _ _ _, so_aload_n mT150 dX4_move_13 rfl⟩
theorem gT150_14 : sG l g D H0 mT 150 14 (s_const 150 15 (.int 1)) := ⟨ok_const _ _ _, so_iconst mT150 dX4_move_14 (by decide)⟩
theorem gT150_15 : sG l g D H0 mT 150 15 (s_callvk 150 18 141 3 [0] 2) := ⟨ok_callvk _ _ _ _ _ _, sk_callv (by decide) (so_callV mT150 mo141 (by decide) (t := 3) (C := "HyperVaneModel") (by decide) rfl rfl dX4_move_15 q1247 q1249 qs31 q66)⟩
theorem gT150_18 : sG l g D H0 mT 150 18 (s_ret pI) := ⟨ok_ret _, so_iret mT150 dX4_move_18⟩
theorem gT150_19 : sG l g D H0 mT 150 19 (s_load vI 150 20 2) := ⟨ok_load _ _ _ _, so_iload_n mT150 dX4_move_19 rfl⟩
theorem gT150_20 : sG l g D H0 mT 150 20 (s_callk 150 23 151 [0] 1) := ⟨ok_callk _ _ _ _ _, sk_call (by decide) (so_callS mT150 mo151 (by decide) dX4_move_20 q1468 q1469 q66)⟩
theorem gT150_23 : sG l g D H0 mT 150 23 (s_if 150 32 26 (fun a => a = 0)) := ⟨ok_if _ _ _ _, so_if_ne mT150 dX4_move_23 (by decide)⟩
theorem gT150_26 : sG l g D H0 mT 150 26 (s_load vRf 150 27 0) := ⟨ok_load _ _ _ _, so_aload_n mT150 dX4_move_26 rfl⟩
theorem gT150_27 : sG l g D H0 mT 150 27 (s_const 150 28 (.int 2)) := ⟨ok_const _ _ _, so_iconst mT150 dX4_move_27 (by decide)⟩
theorem gT150_28 : sG l g D H0 mT 150 28 (s_callvk 150 31 141 3 [0] 2) := ⟨ok_callvk _ _ _ _ _ _, sk_callv (by decide) (so_callV mT150 mo141 (by decide) (t := 3) (C := "HyperVaneModel") (by decide) rfl rfl dX4_move_28 q1247 q1249 qs31 q66)⟩
theorem gT150_31 : sG l g D H0 mT 150 31 (s_ret pI) := ⟨ok_ret _, so_iret mT150 dX4_move_31⟩
theorem gT150_32 : sG l g D H0 mT 150 32 (s_load vRf 150 33 0) := ⟨ok_load _ _ _ _, so_aload_n mT150 dX4_move_32 rfl⟩
theorem gT150_33 : sG l g D H0 mT 150 33 (s_load vI 150 34 1) := ⟨ok_load _ _ _ _, so_iload_n mT150 dX4_move_33 rfl⟩
theorem gT150_34 : sG l g D H0 mT 150 34 (s_callvk 150 37 152 3 [0] 2) := ⟨ok_callvk _ _ _ _ _ _, sk_callv (by decide) (so_callV mT150 mo152 (by decide) (t := 3) (C := "HyperVaneModel") (by decide) rfl rfl dX4_move_34 q1471 q1473 qs34 q66)⟩
theorem gT150_37 : sG l g D H0 mT 150 37 (s_if 150 40 52 (fun a => a = 0)) := ⟨ok_if _ _ _ _, so_if_eq mT150 dX4_move_37 (by decide)⟩
theorem gT150_40 : sG l g D H0 mT 150 40 (s_load vRf 150 41 0) := ⟨ok_load _ _ _ _, so_aload_n mT150 dX4_move_40 rfl⟩
theorem gT150_41 : sG l g D H0 mT 150 41 (s_getf 150 44 3 1) := ⟨ok_getf _ _ _ _, so_getf mT150 cl3 (k := 1) (by decide) dX4_move_41 q1227 (fs_rf rfl)⟩
theorem gT150_44 : sG l g D H0 mT 150 44 (s_load vI 150 45 1) := ⟨ok_load _ _ _ _, so_iload_n mT150 dX4_move_44 rfl⟩
theorem gT150_45 : sG l g D H0 mT 150 45 (s_load vI 150 46 2) := ⟨ok_load _ _ _ _, so_iload_n mT150 dX4_move_45 rfl⟩
theorem gT150_46 : sG l g D H0 mT 150 46 (s_callvk 150 49 181 4 [0, 0] 5) := ⟨ok_callvk _ _ _ _ _ _, sk_callv (by decide) (so_callV mT150 mo181 (by decide) (t := 4) (C := "HyperVaneModel$World") (by decide) rfl rfl dX4_move_46 q1475 q1476 q1477 q67)⟩
theorem gT150_49 : sG l g D H0 mT 150 49 (s_goto 150 57) := ⟨ok_goto _ _, so_goto mT150 dX4_move_49 (by decide)⟩
theorem gT150_52 : sG l g D H0 mT 150 52 (s_load vRf 150 53 0) := ⟨ok_load _ _ _ _, so_aload_n mT150 dX4_move_52 rfl⟩
theorem gT150_53 : sG l g D H0 mT 150 53 (s_const 150 54 (.int 3)) := ⟨ok_const _ _ _, so_iconst mT150 dX4_move_53 (by decide)⟩
theorem gT150_54 : sG l g D H0 mT 150 54 (s_callvk 150 57 141 3 [0] 2) := ⟨ok_callvk _ _ _ _ _ _, sk_callv (by decide) (so_callV mT150 mo141 (by decide) (t := 3) (C := "HyperVaneModel") (by decide) rfl rfl dX4_move_54 q1247 q1249 qs31 q66)⟩
theorem gT150_57 : sG l g D H0 mT 150 57 (s_ret pI) := ⟨ok_ret _, so_iret mT150 dX4_move_57⟩
theorem gT150 (pc : Nat) : sG l g D H0 mT 150 pc (tT150 g pc) := sG_cond (sG_cond (sG_cond (sG_cond (sG_cond (sG_leaf gT150_0) (sG_leaf gT150_1)) (sG_cond (sG_leaf gT150_2) (sG_leaf gT150_5))) (sG_cond (sG_cond (sG_leaf gT150_6) (sG_leaf gT150_7)) (sG_cond (sG_leaf gT150_10) (sG_leaf gT150_13)))) (sG_cond (sG_cond (sG_cond (sG_leaf gT150_14) (sG_leaf gT150_15)) (sG_cond (sG_leaf gT150_18) (sG_leaf gT150_19))) (sG_cond (sG_cond (sG_leaf gT150_20) (sG_leaf gT150_23)) (sG_cond (sG_leaf gT150_26) (sG_leaf gT150_27))))) (sG_cond (sG_cond (sG_cond (sG_cond (sG_leaf gT150_28) (sG_leaf gT150_31)) (sG_cond (sG_leaf gT150_32) (sG_leaf gT150_33))) (sG_cond (sG_cond (sG_leaf gT150_34) (sG_leaf gT150_37)) (sG_cond (sG_leaf gT150_40) (sG_leaf gT150_41)))) (sG_cond (sG_cond (sG_cond (sG_leaf gT150_44) (sG_leaf gT150_45)) (sG_cond (sG_leaf gT150_46) (sG_leaf gT150_49))) (sG_cond (sG_cond (sG_leaf gT150_52) (sG_leaf gT150_53)) (sG_cond (sG_leaf gT150_54) (sG_leaf gT150_57)))))
theorem gT151_0 : sG l g D H0 mT 151 0 (s_load vI 151 1 0) := ⟨ok_load _ _ _ _, so_iload_n mT151 dX4_isSpeed_0 rfl⟩
theorem gT151_1 : sG l g D H0 mT 151 1 (s_const 151 2 (.int 1)) := ⟨ok_const _ _ _, so_iconst mT151 dX4_isSpeed_1 (by decide)⟩
theorem gT151_2 : sG l g D H0 mT 151 2 (s_const 151 3 (.int 3)) := ⟨ok_const _ _ _, so_iconst mT151 dX4_isSpeed_2 (by decide)⟩
theorem gT151_3 : sG l g D H0 mT 151 3 (s_callk 151 6 140 [0, 0, 0] 3) := ⟨ok_callk _ _ _ _ _, sk_call (by decide) (so_callS mT151 mo140 (by decide) dX4_isSpeed_3 q1244 q1245 q66)⟩
theorem gT151_6 : sG l g D H0 mT 151 6 (s_ret vZ) := ⟨ok_ret _, so_zret mT151 dX4_isSpeed_6⟩
theorem gT151 (pc : Nat) : sG l g D H0 mT 151 pc (tT151 g pc) := sG_cond (sG_cond (sG_leaf gT151_0) (sG_leaf gT151_1)) (sG_cond (sG_leaf gT151_2) (sG_cond (sG_leaf gT151_3) (sG_leaf gT151_6)))
theorem gT152_0 : sG l g D H0 mT 152 0 (s_load vRf 152 1 0) := ⟨ok_load _ _ _ _, so_aload_n mT152 dX4_canBeMoved_0 rfl⟩
theorem gT152_1 : sG l g D H0 mT 152 1 (s_getf 152 4 3 1) := ⟨ok_getf _ _ _ _, so_getf mT152 cl3 (k := 1) (by decide) dX4_canBeMoved_1 q1227 (fs_rf rfl)⟩
theorem gT152_4 : sG l g D H0 mT 152 4 (s_getf 152 7 4 0) := ⟨ok_getf _ _ _ _, so_getfN mT152 cl4 (k := 0) (by decide) dX4_canBeMoved_4 q1187 (fs_rf rfl)⟩
theorem gT152_7 : sG l g D H0 mT 152 7 (s_load vI 152 8 1) := ⟨ok_load _ _ _ _, so_iload_n mT152 dX4_canBeMoved_7 rfl⟩
theorem gT152_8 : sG l g D H0 mT 152 8 (s_callvk 152 11 25 10 [0] 2) := ⟨ok_callvk _ _ _ _ _ _, sk_callv (by decide) (so_callV mT152 mo25 (by decide) (t := 10) (C := "java/util/ArrayList") (by decide) rfl rfl dX4_canBeMoved_8 q1423 q439 q440 q58)⟩
theorem gT152_11 : sG l g D H0 mT 152 11 (s_cast 152 14 [7]) := ⟨ok_cast _ _ _, so_cast mT152 (T := "HyperVaneModel$Guest") (ts := [7]) (by intro u hu; rw [List.mem_singleton] at hu; subst hu; exact ⟨by decide, Or.inl rfl⟩) dX4_canBeMoved_11 q1252⟩
theorem gT152_14 : sG l g D H0 mT 152 14 (s_getf 152 17 7 6) := ⟨ok_getf _ _ _ _, so_getfN mT152 cl7 (k := 6) (by decide) dX4_canBeMoved_14 q1280 (fs_rf rfl)⟩
theorem gT152_17 : sG l g D H0 mT 152 17 (s_const 152 18 (.int 4)) := ⟨ok_const _ _ _, so_iconst mT152 dX4_canBeMoved_17 (by decide)⟩
theorem gT152_18 : sG l g D H0 mT 152 18 (s_icmp 152 21 45 (fun a b => a = b)) := ⟨ok_icmp _ _ _ _, so_icmp_eq mT152 dX4_canBeMoved_18 (by decide)⟩
theorem gT152_21 : sG l g D H0 mT 152 21 (s_load vRf 152 22 0) := ⟨ok_load _ _ _ _, so_aload_n mT152 dX4_canBeMoved_21 rfl⟩
theorem gT152_22 : sG l g D H0 mT 152 22 (s_getf 152 25 3 1) := ⟨ok_getf _ _ _ _, so_getf mT152 cl3 (k := 1) (by decide) dX4_canBeMoved_22 q1227 (fs_rf rfl)⟩
theorem gT152_25 : sG l g D H0 mT 152 25 (s_getf 152 28 4 0) := ⟨ok_getf _ _ _ _, so_getfN mT152 cl4 (k := 0) (by decide) dX4_canBeMoved_25 q1187 (fs_rf rfl)⟩
theorem gT152_28 : sG l g D H0 mT 152 28 (s_load vI 152 29 1) := ⟨ok_load _ _ _ _, so_iload_n mT152 dX4_canBeMoved_28 rfl⟩
theorem gT152_29 : sG l g D H0 mT 152 29 (s_callvk 152 32 25 10 [0] 2) := ⟨ok_callvk _ _ _ _ _ _, sk_callv (by decide) (so_callV mT152 mo25 (by decide) (t := 10) (C := "java/util/ArrayList") (by decide) rfl rfl dX4_canBeMoved_29 q1423 q439 q440 q58)⟩
theorem gT152_32 : sG l g D H0 mT 152 32 (s_cast 152 35 [7]) := ⟨ok_cast _ _ _, so_cast mT152 (T := "HyperVaneModel$Guest") (ts := [7]) (by intro u hu; rw [List.mem_singleton] at hu; subst hu; exact ⟨by decide, Or.inl rfl⟩) dX4_canBeMoved_32 q1252⟩
theorem gT152_35 : sG l g D H0 mT 152 35 (s_getf 152 38 7 18) := ⟨ok_getf _ _ _ _, so_getfN mT152 cl7 (k := 18) (by decide) dX4_canBeMoved_35 q1316 (fs_rf rfl)⟩
theorem gT152_38 : sG l g D H0 mT 152 38 (s_if 152 45 41 (fun a => a = 0)) := ⟨ok_if _ _ _ _, so_if_ne mT152 dX4_canBeMoved_38 (by decide)⟩
theorem gT152_41 : sG l g D H0 mT 152 41 (s_const 152 42 (.int 1)) := ⟨ok_const _ _ _, so_iconst mT152 dX4_canBeMoved_41 (by decide)⟩
theorem gT152_42 : sG l g D H0 mT 152 42 (s_goto 152 46) := ⟨ok_goto _ _, so_goto mT152 dX4_canBeMoved_42 (by decide)⟩
theorem gT152_45 : sG l g D H0 mT 152 45 (s_const 152 46 (.int 0)) := ⟨ok_const _ _ _, so_iconst mT152 dX4_canBeMoved_45 (by decide)⟩
theorem gT152_46 : sG l g D H0 mT 152 46 (s_ret vZ) := ⟨ok_ret _, so_zret mT152 dX4_canBeMoved_46⟩
theorem gT152 (pc : Nat) : sG l g D H0 mT 152 pc (tT152 g pc) := sG_cond (sG_cond (sG_cond (sG_cond (sG_leaf gT152_0) (sG_leaf gT152_1)) (sG_cond (sG_leaf gT152_4) (sG_cond (sG_leaf gT152_7) (sG_leaf gT152_8)))) (sG_cond (sG_cond (sG_leaf gT152_11) (sG_leaf gT152_14)) (sG_cond (sG_leaf gT152_17) (sG_cond (sG_leaf gT152_18) (sG_leaf gT152_21))))) (sG_cond (sG_cond (sG_cond (sG_leaf gT152_22) (sG_leaf gT152_25)) (sG_cond (sG_leaf gT152_28) (sG_cond (sG_leaf gT152_29) (sG_leaf gT152_32)))) (sG_cond (sG_cond (sG_leaf gT152_35) (sG_cond (sG_leaf gT152_38) (sG_leaf gT152_41))) (sG_cond (sG_leaf gT152_42) (sG_cond (sG_leaf gT152_45) (sG_leaf gT152_46)))))
theorem gT153_0 : sG l g D H0 mT 153 0 (s_load vRf 153 1 0) := ⟨ok_load _ _ _ _, so_aload_n mT153 dX4_snap_0 rfl⟩
theorem gT153_1 : sG l g D H0 mT 153 1 (s_const 153 2 (.int 0)) := ⟨ok_const _ _ _, so_iconst mT153 dX4_snap_1 (by decide)⟩
theorem gT153_2 : sG l g D H0 mT 153 2 (s_putf g pI 153 5 3 0) := ⟨ok_putf _ _ _ _ _ _, so_putf mT153 cl3 (k := 0) (by decide) fI rfl dX4_snap_2 q1226 (fs_rf rfl)⟩
theorem gT153_5 : sG l g D H0 mT 153 5 (s_load vRf 153 6 0) := ⟨ok_load _ _ _ _, so_aload_n mT153 dX4_snap_5 rfl⟩
theorem gT153_6 : sG l g D H0 mT 153 6 (s_load vI 153 7 1) := ⟨ok_load _ _ _ _, so_iload_n mT153 dX4_snap_6 rfl⟩
theorem gT153_7 : sG l g D H0 mT 153 7 (s_callvk 153 10 143 3 [0] 2) := ⟨ok_callvk _ _ _ _ _ _, sk_callv (by decide) (so_callV mT153 mo143 (by decide) (t := 3) (C := "HyperVaneModel") (by decide) rfl rfl dX4_snap_7 q1416 q1418 qs32 q66)⟩
theorem gT153_10 : sG l g D H0 mT 153 10 (s_if 153 19 13 (fun a => a = 0)) := ⟨ok_if _ _ _ _, so_if_ne mT153 dX4_snap_10 (by decide)⟩
theorem gT153_13 : sG l g D H0 mT 153 13 (s_load vRf 153 14 0) := ⟨ok_load _ _ _ _, so_aload_n mT153 dX4_snap_13 rfl⟩
theorem gT153_14 : sG l g D H0 mT 153 14 (s_const 153 15 (.int 1)) := ⟨ok_const _ _ _, so_iconst mT153 dX4_snap_14 (by decide)⟩
theorem gT153_15 : sG l g D H0 mT 153 15 (s_callvk 153 18 141 3 [0] 2) := ⟨ok_callvk _ _ _ _ _ _, sk_callv (by decide) (so_callV mT153 mo141 (by decide) (t := 3) (C := "HyperVaneModel") (by decide) rfl rfl dX4_snap_15 q1247 q1249 qs31 q66)⟩
theorem gT153_18 : sG l g D H0 mT 153 18 (s_ret pI) := ⟨ok_ret _, so_iret mT153 dX4_snap_18⟩
theorem gT153_19 : sG l g D H0 mT 153 19 (s_load vRf 153 20 0) := ⟨ok_load _ _ _ _, so_aload_n mT153 dX4_snap_19 rfl⟩
theorem gT153_20 : sG l g D H0 mT 153 20 (s_getf 153 23 3 1) := ⟨ok_getf _ _ _ _, so_getf mT153 cl3 (k := 1) (by decide) dX4_snap_20 q1227 (fs_rf rfl)⟩
theorem gT153_23 : sG l g D H0 mT 153 23 (s_getf 153 26 4 0) := ⟨ok_getf _ _ _ _, so_getfN mT153 cl4 (k := 0) (by decide) dX4_snap_23 q1187 (fs_rf rfl)⟩
theorem gT153_26 : sG l g D H0 mT 153 26 (s_load vI 153 27 1) := ⟨ok_load _ _ _ _, so_iload_n mT153 dX4_snap_26 rfl⟩
theorem gT153_27 : sG l g D H0 mT 153 27 (s_callvk 153 30 25 10 [0] 2) := ⟨ok_callvk _ _ _ _ _ _, sk_callv (by decide) (so_callV mT153 mo25 (by decide) (t := 10) (C := "java/util/ArrayList") (by decide) rfl rfl dX4_snap_27 q1423 q439 q440 q58)⟩
theorem gT153_30 : sG l g D H0 mT 153 30 (s_cast 153 33 [7]) := ⟨ok_cast _ _ _, so_cast mT153 (T := "HyperVaneModel$Guest") (ts := [7]) (by intro u hu; rw [List.mem_singleton] at hu; subst hu; exact ⟨by decide, Or.inl rfl⟩) dX4_snap_30 q1252⟩
theorem gT153_33 : sG l g D H0 mT 153 33 (s_store vRf 153 34 2) := ⟨ok_store _ _ _ _, so_astore_n mT153 dX4_snap_33 rfl⟩
theorem gT153_34 : sG l g D H0 mT 153 34 (s_load vRf 153 35 2) := ⟨ok_load _ _ _ _, so_aload_n mT153 dX4_snap_34 rfl⟩
theorem gT153_35 : sG l g D H0 mT 153 35 (s_getf 153 38 7 6) := ⟨ok_getf _ _ _ _, so_getfN mT153 cl7 (k := 6) (by decide) dX4_snap_35 q1280 (fs_rf rfl)⟩
theorem gT153_38 : sG l g D H0 mT 153 38 (s_const 153 39 (.int 4)) := ⟨ok_const _ _ _, so_iconst mT153 dX4_snap_38 (by decide)⟩
theorem gT153_39 : sG l g D H0 mT 153 39 (s_icmp 153 48 42 (fun a b => a = b)) := ⟨ok_icmp _ _ _ _, so_icmp_ne mT153 dX4_snap_39 (by decide)⟩
theorem gT153_42 : sG l g D H0 mT 153 42 (s_load vRf 153 43 0) := ⟨ok_load _ _ _ _, so_aload_n mT153 dX4_snap_42 rfl⟩
theorem gT153_43 : sG l g D H0 mT 153 43 (s_const 153 44 (.int 2)) := ⟨ok_const _ _ _, so_iconst mT153 dX4_snap_43 (by decide)⟩
theorem gT153_44 : sG l g D H0 mT 153 44 (s_callvk 153 47 141 3 [0] 2) := ⟨ok_callvk _ _ _ _ _ _, sk_callv (by decide) (so_callV mT153 mo141 (by decide) (t := 3) (C := "HyperVaneModel") (by decide) rfl rfl dX4_snap_44 q1247 q1249 qs31 q66)⟩
theorem gT153_47 : sG l g D H0 mT 153 47 (s_ret pI) := ⟨ok_ret _, so_iret mT153 dX4_snap_47⟩
theorem gT153_48 : sG l g D H0 mT 153 48 (s_load vRf 153 49 2) := ⟨ok_load _ _ _ _, so_aload_n mT153 dX4_snap_48 rfl⟩
theorem gT153_49 : sG l g D H0 mT 153 49 (s_getf 153 52 7 25) := ⟨ok_getf _ _ _ _, so_getfN mT153 cl7 (k := 25) (by decide) dX4_snap_49 q1333 (fs_rf rfl)⟩
theorem gT153_52 : sG l g D H0 mT 153 52 (s_if 153 55 65 (fun a => a = 0)) := ⟨ok_if _ _ _ _, so_if_eq mT153 dX4_snap_52 (by decide)⟩
theorem gT153_55 : sG l g D H0 mT 153 55 (s_load vRf 153 56 2) := ⟨ok_load _ _ _ _, so_aload_n mT153 dX4_snap_55 rfl⟩
theorem gT153_56 : sG l g D H0 mT 153 56 (s_getf 153 59 7 30) := ⟨ok_getf _ _ _ _, so_getfN mT153 cl7 (k := 30) (by decide) dX4_snap_56 q1343 (fs_rf rfl)⟩
theorem gT153_59 : sG l g D H0 mT 153 59 (s_callvk 153 62 15 10 [] 1) := ⟨ok_callvk _ _ _ _ _ _, sk_callv (by decide) (so_callV mT153 mo15 (by decide) (t := 10) (C := "java/util/ArrayList") (by decide) rfl rfl dX4_snap_59 q1251 q173 q174 q58)⟩
theorem gT153_62 : sG l g D H0 mT 153 62 (s_goto 153 66) := ⟨ok_goto _ _, so_goto mT153 dX4_snap_62 (by decide)⟩
theorem gT153_65 : sG l g D H0 mT 153 65 (s_const 153 66 (.int 0)) := ⟨ok_const _ _ _, so_iconst mT153 dX4_snap_65 (by decide)⟩
theorem gT153_66 : sG l g D H0 mT 153 66 (s_store vI 153 67 3) := ⟨ok_store _ _ _ _, so_istore_n mT153 dX4_snap_66 rfl⟩
theorem gT153_67 : sG l g D H0 mT 153 67 (s_load vRf 153 68 2) := ⟨ok_load _ _ _ _, so_aload_n mT153 dX4_snap_67 rfl⟩
theorem gT153_68 : sG l g D H0 mT 153 68 (s_const 153 69 (.int 1)) := ⟨ok_const _ _ _, so_iconst mT153 dX4_snap_68 (by decide)⟩
theorem gT153_69 : sG l g D H0 mT 153 69 (s_putf g vZ 153 72 7 25) := ⟨ok_putf _ _ _ _ _ _, so_putfN mT153 cl7 (k := 25) (by decide) fZ rfl dX4_snap_69 q1333 (fs_rf rfl)⟩
theorem gT153_72 : sG l g D H0 mT 153 72 (s_load vRf 153 73 2) := ⟨ok_load _ _ _ _, so_aload_n mT153 dX4_snap_72 rfl⟩
theorem gT153_73 : sG l g D H0 mT 153 73 (s_load vRf 153 74 2) := ⟨ok_load _ _ _ _, so_aload_n mT153 dX4_snap_73 rfl⟩
theorem gT153_74 : sG l g D H0 mT 153 74 (s_getf 153 77 7 2) := ⟨ok_getf _ _ _ _, so_getfN mT153 cl7 (k := 2) (by decide) dX4_snap_74 q1268 (fs_rf rfl)⟩
theorem gT153_77 : sG l g D H0 mT 153 77 (s_putf g pI 153 80 7 26) := ⟨ok_putf _ _ _ _ _ _, so_putfN mT153 cl7 (k := 26) (by decide) fI rfl dX4_snap_77 q1335 (fs_rf rfl)⟩
theorem gT153_80 : sG l g D H0 mT 153 80 (s_load vRf 153 81 2) := ⟨ok_load _ _ _ _, so_aload_n mT153 dX4_snap_80 rfl⟩
theorem gT153_81 : sG l g D H0 mT 153 81 (s_load vRf 153 82 2) := ⟨ok_load _ _ _ _, so_aload_n mT153 dX4_snap_81 rfl⟩
theorem gT153_82 : sG l g D H0 mT 153 82 (s_getf 153 85 7 3) := ⟨ok_getf _ _ _ _, so_getfN mT153 cl7 (k := 3) (by decide) dX4_snap_82 q1271 (fs_rf rfl)⟩
theorem gT153_85 : sG l g D H0 mT 153 85 (s_putf g pI 153 88 7 27) := ⟨ok_putf _ _ _ _ _ _, so_putfN mT153 cl7 (k := 27) (by decide) fI rfl dX4_snap_85 q1337 (fs_rf rfl)⟩
theorem gT153_88 : sG l g D H0 mT 153 88 (s_load vRf 153 89 2) := ⟨ok_load _ _ _ _, so_aload_n mT153 dX4_snap_88 rfl⟩
theorem gT153_89 : sG l g D H0 mT 153 89 (s_getf 153 92 7 13) := ⟨ok_getf _ _ _ _, so_getfN mT153 cl7 (k := 13) (by decide) dX4_snap_89 q1301 (fs_rf rfl)⟩
theorem gT153_92 : sG l g D H0 mT 153 92 (s_const 153 93 (.int 0)) := ⟨ok_const _ _ _, so_iconst mT153 dX4_snap_92 (by decide)⟩
theorem gT153_93 : sG l g D H0 mT 153 93 (s_load vRf 153 94 2) := ⟨ok_load _ _ _ _, so_aload_n mT153 dX4_snap_93 rfl⟩
theorem gT153_94 : sG l g D H0 mT 153 94 (s_getf 153 97 7 28) := ⟨ok_getf _ _ _ _, so_getfN mT153 cl7 (k := 28) (by decide) dX4_snap_94 q1339 (fs_rf rfl)⟩
theorem gT153_97 : sG l g D H0 mT 153 97 (s_const 153 98 (.int 0)) := ⟨ok_const _ _ _, so_iconst mT153 dX4_snap_97 (by decide)⟩
theorem gT153_98 : sG l g D H0 mT 153 98 (s_const 153 100 (.int 6)) := ⟨ok_const _ _ _, so_bipush mT153 dX4_snap_98 (by decide)⟩
theorem gT153_100 : sG l g D H0 mT 153 100 (s_acopy g (fun _ v => vI v = true) 153 103 20) := ⟨ok_acopy _ _ _ _ _, so_acopy mT153 (by decide) a20 e20 dX4_snap_100 q1489 q192 q191 q61⟩
theorem gT153_103 : sG l g D H0 mT 153 103 (s_load vRf 153 104 2) := ⟨ok_load _ _ _ _, so_aload_n mT153 dX4_snap_103 rfl⟩
theorem gT153_104 : sG l g D H0 mT 153 104 (s_const 153 105 (.int 0)) := ⟨ok_const _ _ _, so_iconst mT153 dX4_snap_104 (by decide)⟩
theorem gT153_105 : sG l g D H0 mT 153 105 (s_putf g pI 153 108 7 29) := ⟨ok_putf _ _ _ _ _ _, so_putfN mT153 cl7 (k := 29) (by decide) fI rfl dX4_snap_105 q1341 (fs_rf rfl)⟩
theorem gT153_108 : sG l g D H0 mT 153 108 (s_load vRf 153 109 2) := ⟨ok_load _ _ _ _, so_aload_n mT153 dX4_snap_108 rfl⟩
theorem gT153_109 : sG l g D H0 mT 153 109 (s_new g 153 112 10 3 (fun k => defaultValue (tyJ2 k))) := ⟨ok_new _ _ _ _ _ _, so_new mT153 cl10 (fun _ _ => rfl) dX4_snap_109 q1490 q100 q58⟩
theorem gT153_112 : sG l g D H0 mT 153 112 (s_dup 153 113) := ⟨ok_dup _ _, so_dup mT153 dX4_snap_112⟩
theorem gT153_113 : sG l g D H0 mT 153 113 (s_callik 153 116 14 [] 1) := ⟨ok_callik _ _ _ _ _, sk_calli (by decide) (so_callI mT153 mo14 (by decide) rfl dX4_snap_113 q1491 q102 q58)⟩
theorem gT153_116 : sG l g D H0 mT 153 116 (s_putf g pR 153 119 7 30) := ⟨ok_putf _ _ _ _ _ _, so_putfN mT153 cl7 (k := 30) (by decide) fR rfl dX4_snap_116 q1343 (fs_rf rfl)⟩
theorem gT153_119 : sG l g D H0 mT 153 119 (s_load vRf 153 120 2) := ⟨ok_load _ _ _ _, so_aload_n mT153 dX4_snap_119 rfl⟩
theorem gT153_120 : sG l g D H0 mT 153 120 (s_new g 153 123 10 3 (fun k => defaultValue (tyJ2 k))) := ⟨ok_new _ _ _ _ _ _, so_new mT153 cl10 (fun _ _ => rfl) dX4_snap_120 q1490 q100 q58⟩
theorem gT153_123 : sG l g D H0 mT 153 123 (s_dup 153 124) := ⟨ok_dup _ _, so_dup mT153 dX4_snap_123⟩
theorem gT153_124 : sG l g D H0 mT 153 124 (s_callik 153 127 14 [] 1) := ⟨ok_callik _ _ _ _ _, sk_calli (by decide) (so_callI mT153 mo14 (by decide) rfl dX4_snap_124 q1491 q102 q58)⟩
theorem gT153_127 : sG l g D H0 mT 153 127 (s_putf g pR 153 130 7 31) := ⟨ok_putf _ _ _ _ _ _, so_putfN mT153 cl7 (k := 31) (by decide) fR rfl dX4_snap_127 q1345 (fs_rf rfl)⟩
theorem gT153_130 : sG l g D H0 mT 153 130 (s_load vI 153 131 3) := ⟨ok_load _ _ _ _, so_iload_n mT153 dX4_snap_130 rfl⟩
theorem gT153_131 : sG l g D H0 mT 153 131 (s_ret pI) := ⟨ok_ret _, so_iret mT153 dX4_snap_131⟩
theorem gT153 (pc : Nat) : sG l g D H0 mT 153 pc (tT153 g pc) := sG_cond (sG_cond (sG_cond (sG_cond (sG_cond (sG_cond (sG_leaf gT153_0) (sG_leaf gT153_1)) (sG_cond (sG_leaf gT153_2) (sG_leaf gT153_5))) (sG_cond (sG_cond (sG_leaf gT153_6) (sG_leaf gT153_7)) (sG_cond (sG_leaf gT153_10) (sG_leaf gT153_13)))) (sG_cond (sG_cond (sG_cond (sG_leaf gT153_14) (sG_leaf gT153_15)) (sG_cond (sG_leaf gT153_18) (sG_leaf gT153_19))) (sG_cond (sG_cond (sG_leaf gT153_20) (sG_leaf gT153_23)) (sG_cond (sG_leaf gT153_26) (sG_cond (sG_leaf gT153_27) (sG_leaf gT153_30)))))) (sG_cond (sG_cond (sG_cond (sG_cond (sG_leaf gT153_33) (sG_leaf gT153_34)) (sG_cond (sG_leaf gT153_35) (sG_leaf gT153_38))) (sG_cond (sG_cond (sG_leaf gT153_39) (sG_leaf gT153_42)) (sG_cond (sG_leaf gT153_43) (sG_leaf gT153_44)))) (sG_cond (sG_cond (sG_cond (sG_leaf gT153_47) (sG_leaf gT153_48)) (sG_cond (sG_leaf gT153_49) (sG_leaf gT153_52))) (sG_cond (sG_cond (sG_leaf gT153_55) (sG_leaf gT153_56)) (sG_cond (sG_leaf gT153_59) (sG_cond (sG_leaf gT153_62) (sG_leaf gT153_65))))))) (sG_cond (sG_cond (sG_cond (sG_cond (sG_cond (sG_leaf gT153_66) (sG_leaf gT153_67)) (sG_cond (sG_leaf gT153_68) (sG_leaf gT153_69))) (sG_cond (sG_cond (sG_leaf gT153_72) (sG_leaf gT153_73)) (sG_cond (sG_leaf gT153_74) (sG_leaf gT153_77)))) (sG_cond (sG_cond (sG_cond (sG_leaf gT153_80) (sG_leaf gT153_81)) (sG_cond (sG_leaf gT153_82) (sG_leaf gT153_85))) (sG_cond (sG_cond (sG_leaf gT153_88) (sG_leaf gT153_89)) (sG_cond (sG_leaf gT153_92) (sG_cond (sG_leaf gT153_93) (sG_leaf gT153_94)))))) (sG_cond (sG_cond (sG_cond (sG_cond (sG_leaf gT153_97) (sG_leaf gT153_98)) (sG_cond (sG_leaf gT153_100) (sG_leaf gT153_103))) (sG_cond (sG_cond (sG_leaf gT153_104) (sG_leaf gT153_105)) (sG_cond (sG_leaf gT153_108) (sG_cond (sG_leaf gT153_109) (sG_leaf gT153_112))))) (sG_cond (sG_cond (sG_cond (sG_leaf gT153_113) (sG_leaf gT153_116)) (sG_cond (sG_leaf gT153_119) (sG_leaf gT153_120))) (sG_cond (sG_cond (sG_leaf gT153_123) (sG_leaf gT153_124)) (sG_cond (sG_leaf gT153_127) (sG_cond (sG_leaf gT153_130) (sG_leaf gT153_131)))))))
theorem gT154_0 : sG l g D H0 mT 154 0 (s_load vRf 154 1 0) := ⟨ok_load _ _ _ _, so_aload_n mT154 dX4_run_0 rfl⟩
theorem gT154_1 : sG l g D H0 mT 154 1 (s_const 154 2 (.int 0)) := ⟨ok_const _ _ _, so_iconst mT154 dX4_run_1 (by decide)⟩
theorem gT154_2 : sG l g D H0 mT 154 2 (s_putf g pI 154 5 3 0) := ⟨ok_putf _ _ _ _ _ _, so_putf mT154 cl3 (k := 0) (by decide) fI rfl dX4_run_2 q1226 (fs_rf rfl)⟩
theorem gT154_5 : sG l g D H0 mT 154 5 (s_load vI 154 6 1) := ⟨ok_load _ _ _ _, so_iload_n mT154 dX4_run_5 rfl⟩
theorem gT154_6 : sG l g D H0 mT 154 6 (s_callk 154 9 155 [0] 1) := ⟨ok_callk _ _ _ _ _, sk_call (by decide) (so_callS mT154 mo155 (by decide) dX4_run_6 q1496 q1497 q66)⟩
theorem gT154_9 : sG l g D H0 mT 154 9 (s_if 154 18 12 (fun a => a = 0)) := ⟨ok_if _ _ _ _, so_if_ne mT154 dX4_run_9 (by decide)⟩
theorem gT154_12 : sG l g D H0 mT 154 12 (s_load vRf 154 13 0) := ⟨ok_load _ _ _ _, so_aload_n mT154 dX4_run_12 rfl⟩
theorem gT154_13 : sG l g D H0 mT 154 13 (s_const 154 14 (.int 1)) := ⟨ok_const _ _ _, so_iconst mT154 dX4_run_13 (by decide)⟩
theorem gT154_14 : sG l g D H0 mT 154 14 (s_callvk 154 17 141 3 [0] 2) := ⟨ok_callvk _ _ _ _ _ _, sk_callv (by decide) (so_callV mT154 mo141 (by decide) (t := 3) (C := "HyperVaneModel") (by decide) rfl rfl dX4_run_14 q1247 q1249 qs31 q66)⟩
theorem gT154_17 : sG l g D H0 mT 154 17 (s_ret pI) := ⟨ok_ret _, so_iret mT154 dX4_run_17⟩
theorem gT154_18 : sG l g D H0 mT 154 18 (s_load vRf 154 19 0) := ⟨ok_load _ _ _ _, so_aload_n mT154 dX4_run_18 rfl⟩
theorem gT154_19 : sG l g D H0 mT 154 19 (s_getf 154 22 3 1) := ⟨ok_getf _ _ _ _, so_getf mT154 cl3 (k := 1) (by decide) dX4_run_19 q1227 (fs_rf rfl)⟩
theorem gT154_22 : sG l g D H0 mT 154 22 (s_callvk 154 25 182 4 [] 4) := ⟨ok_callvk _ _ _ _ _ _, sk_callv (by decide) (so_callV mT154 mo182 (by decide) (t := 4) (C := "HyperVaneModel$World") (by decide) rfl rfl dX4_run_22 q1499 q1500 q1501 q67)⟩
theorem gT154_25 : sG l g D H0 mT 154 25 (s_store vI 154 26 2) := ⟨ok_store _ _ _ _, so_istore_n mT154 dX4_run_25 rfl⟩
theorem gT154_26 : sG l g D H0 mT 154 26 (s_const 154 27 (.int 0)) := ⟨ok_const _ _ _, so_iconst mT154 dX4_run_26 (by decide)⟩
theorem gT154_27 : sG l g D H0 mT 154 27 (s_store vI 154 28 3) := ⟨ok_store _ _ _ _, so_istore_n mT154 dX4_run_27 rfl⟩
theorem gT154_28 : sG l g D H0 mT 154 28 (s_load vI 154 29 3) := ⟨ok_load _ _ _ _, so_iload_n mT154 dX4_run_28 rfl⟩
theorem gT154_29 : sG l g D H0 mT 154 29 (s_load vI 154 30 1) := ⟨ok_load _ _ _ _, so_iload_n mT154 dX4_run_29 rfl⟩
theorem gT154_30 : sG l g D H0 mT 154 30 (s_icmp 154 33 46 (fun a b => b ≤ a)) := ⟨ok_icmp _ _ _ _, so_icmp_ge mT154 dX4_run_30 (by decide)⟩
theorem gT154_33 : sG l g D H0 mT 154 33 (s_load vRf 154 34 0) := ⟨ok_load _ _ _ _, so_aload_n mT154 dX4_run_33 rfl⟩
theorem gT154_34 : sG l g D H0 mT 154 34 (s_getf 154 37 3 1) := ⟨ok_getf _ _ _ _, so_getf mT154 cl3 (k := 1) (by decide) dX4_run_34 q1227 (fs_rf rfl)⟩
theorem gT154_37 : sG l g D H0 mT 154 37 (s_callvk 154 40 183 4 [] 3) := ⟨ok_callvk _ _ _ _ _ _, sk_callv (by decide) (so_callV mT154 mo183 (by decide) (t := 4) (C := "HyperVaneModel$World") (by decide) rfl rfl dX4_run_37 q1508 q1509 q1510 q67)⟩
theorem gT154_40 : sG l g D H0 mT 154 40 (s_iinc 154 43 3 1) := ⟨ok_iinc _ _ _ _, so_iinc mT154 dX4_run_40 (by decide)⟩
theorem gT154_43 : sG l g D H0 mT 154 43 (s_goto 154 28) := ⟨ok_goto _ _, so_goto mT154 dX4_run_43 (by decide)⟩
theorem gT154_46 : sG l g D H0 mT 154 46 (s_load vRf 154 47 0) := ⟨ok_load _ _ _ _, so_aload_n mT154 dX4_run_46 rfl⟩
theorem gT154_47 : sG l g D H0 mT 154 47 (s_getf 154 50 3 1) := ⟨ok_getf _ _ _ _, so_getf mT154 cl3 (k := 1) (by decide) dX4_run_47 q1227 (fs_rf rfl)⟩
theorem gT154_50 : sG l g D H0 mT 154 50 (s_callvk 154 53 182 4 [] 4) := ⟨ok_callvk _ _ _ _ _ _, sk_callv (by decide) (so_callV mT154 mo182 (by decide) (t := 4) (C := "HyperVaneModel$World") (by decide) rfl rfl dX4_run_50 q1499 q1500 q1501 q67)⟩
theorem gT154_53 : sG l g D H0 mT 154 53 (s_load vI 154 54 2) := ⟨ok_load _ _ _ _, so_iload_n mT154 dX4_run_53 rfl⟩
theorem gT154_54 : sG l g D H0 mT 154 54 (s_bin 154 55 (fun a b => a - b)) := ⟨ok_bin _ _ _, so_isub mT154 dX4_run_54⟩
theorem gT154_55 : sG l g D H0 mT 154 55 (s_ret pI) := ⟨ok_ret _, so_iret mT154 dX4_run_55⟩
theorem gT154 (pc : Nat) : sG l g D H0 mT 154 pc (tT154 g pc) := sG_cond (sG_cond (sG_cond (sG_cond (sG_leaf gT154_0) (sG_cond (sG_leaf gT154_1) (sG_leaf gT154_2))) (sG_cond (sG_cond (sG_leaf gT154_5) (sG_leaf gT154_6)) (sG_cond (sG_leaf gT154_9) (sG_leaf gT154_12)))) (sG_cond (sG_cond (sG_cond (sG_leaf gT154_13) (sG_leaf gT154_14)) (sG_cond (sG_leaf gT154_17) (sG_leaf gT154_18))) (sG_cond (sG_cond (sG_leaf gT154_19) (sG_leaf gT154_22)) (sG_cond (sG_leaf gT154_25) (sG_leaf gT154_26))))) (sG_cond (sG_cond (sG_cond (sG_leaf gT154_27) (sG_cond (sG_leaf gT154_28) (sG_leaf gT154_29))) (sG_cond (sG_cond (sG_leaf gT154_30) (sG_leaf gT154_33)) (sG_cond (sG_leaf gT154_34) (sG_leaf gT154_37)))) (sG_cond (sG_cond (sG_cond (sG_leaf gT154_40) (sG_leaf gT154_43)) (sG_cond (sG_leaf gT154_46) (sG_leaf gT154_47))) (sG_cond (sG_cond (sG_leaf gT154_50) (sG_leaf gT154_53)) (sG_cond (sG_leaf gT154_54) (sG_leaf gT154_55)))))
theorem gT155_0 : sG l g D H0 mT 155 0 (s_load vI 155 1 0) := ⟨ok_load _ _ _ _, so_iload_n mT155 dX4_areTicks_0 rfl⟩
theorem gT155_1 : sG l g D H0 mT 155 1 (s_const 155 2 (.int 1)) := ⟨ok_const _ _ _, so_iconst mT155 dX4_areTicks_1 (by decide)⟩
theorem gT155_2 : sG l g D H0 mT 155 2 (s_const 155 4 (.int 60)) := ⟨ok_const _ _ _, so_bipush mT155 dX4_areTicks_2 (by decide)⟩
theorem gT155_4 : sG l g D H0 mT 155 4 (s_callk 155 7 140 [0, 0, 0] 3) := ⟨ok_callk _ _ _ _ _, sk_call (by decide) (so_callS mT155 mo140 (by decide) dX4_areTicks_4 q1244 q1245 q66)⟩
theorem gT155_7 : sG l g D H0 mT 155 7 (s_ret vZ) := ⟨ok_ret _, so_zret mT155 dX4_areTicks_7⟩
theorem gT155 (pc : Nat) : sG l g D H0 mT 155 pc (tT155 g pc) := sG_cond (sG_cond (sG_leaf gT155_0) (sG_leaf gT155_1)) (sG_cond (sG_leaf gT155_2) (sG_cond (sG_leaf gT155_4) (sG_leaf gT155_7)))
theorem gT156_0 : sG l g D H0 mT 156 0 (s_load vRf 156 1 0) := ⟨ok_load _ _ _ _, so_aload_n mT156 dX4_ofGuest_0 rfl⟩
theorem gT156_1 : sG l g D H0 mT 156 1 (s_const 156 2 (.int 0)) := ⟨ok_const _ _ _, so_iconst mT156 dX4_ofGuest_1 (by decide)⟩
theorem gT156_2 : sG l g D H0 mT 156 2 (s_putf g pI 156 5 3 0) := ⟨ok_putf _ _ _ _ _ _, so_putf mT156 cl3 (k := 0) (by decide) fI rfl dX4_ofGuest_2 q1226 (fs_rf rfl)⟩
theorem gT156_5 : sG l g D H0 mT 156 5 (s_load vRf 156 6 0) := ⟨ok_load _ _ _ _, so_aload_n mT156 dX4_ofGuest_5 rfl⟩
theorem gT156_6 : sG l g D H0 mT 156 6 (s_load vI 156 7 1) := ⟨ok_load _ _ _ _, so_iload_n mT156 dX4_ofGuest_6 rfl⟩
theorem gT156_7 : sG l g D H0 mT 156 7 (s_callvk 156 10 143 3 [0] 2) := ⟨ok_callvk _ _ _ _ _ _, sk_callv (by decide) (so_callV mT156 mo143 (by decide) (t := 3) (C := "HyperVaneModel") (by decide) rfl rfl dX4_ofGuest_7 q1416 q1418 qs32 q66)⟩
theorem gT156_10 : sG l g D H0 mT 156 10 (s_if 156 19 13 (fun a => a = 0)) := ⟨ok_if _ _ _ _, so_if_ne mT156 dX4_ofGuest_10 (by decide)⟩
theorem gT156_13 : sG l g D H0 mT 156 13 (s_load vRf 156 14 0) := ⟨ok_load _ _ _ _, so_aload_n mT156 dX4_ofGuest_13 rfl⟩
theorem gT156_14 : sG l g D H0 mT 156 14 (s_const 156 15 (.int 1)) := ⟨ok_const _ _ _, so_iconst mT156 dX4_ofGuest_14 (by decide)⟩
theorem gT156_15 : sG l g D H0 mT 156 15 (s_callvk 156 18 141 3 [0] 2) := ⟨ok_callvk _ _ _ _ _ _, sk_callv (by decide) (so_callV mT156 mo141 (by decide) (t := 3) (C := "HyperVaneModel") (by decide) rfl rfl dX4_ofGuest_15 q1247 q1249 qs31 q66)⟩
theorem gT156_18 : sG l g D H0 mT 156 18 (s_ret pI) := ⟨ok_ret _, so_iret mT156 dX4_ofGuest_18⟩
theorem gT156_19 : sG l g D H0 mT 156 19 (s_load vI 156 20 2) := ⟨ok_load _ _ _ _, so_iload_n mT156 dX4_ofGuest_19 rfl⟩
theorem gT156_20 : sG l g D H0 mT 156 20 (s_const 156 21 (.int 0)) := ⟨ok_const _ _ _, so_iconst mT156 dX4_ofGuest_20 (by decide)⟩
theorem gT156_21 : sG l g D H0 mT 156 21 (s_const 156 23 (.int 15)) := ⟨ok_const _ _ _, so_bipush mT156 dX4_ofGuest_21 (by decide)⟩
theorem gT156_23 : sG l g D H0 mT 156 23 (s_callk 156 26 140 [0, 0, 0] 3) := ⟨ok_callk _ _ _ _ _, sk_call (by decide) (so_callS mT156 mo140 (by decide) dX4_ofGuest_23 q1244 q1245 q66)⟩
theorem gT156_26 : sG l g D H0 mT 156 26 (s_if 156 29 38 (fun a => a = 0)) := ⟨ok_if _ _ _ _, so_if_eq mT156 dX4_ofGuest_26 (by decide)⟩
theorem gT156_29 : sG l g D H0 mT 156 29 (s_load vRf 156 30 0) := ⟨ok_load _ _ _ _, so_aload_n mT156 dX4_ofGuest_29 rfl⟩
theorem gT156_30 : sG l g D H0 mT 156 30 (s_load vI 156 31 1) := ⟨ok_load _ _ _ _, so_iload_n mT156 dX4_ofGuest_30 rfl⟩
theorem gT156_31 : sG l g D H0 mT 156 31 (s_load vI 156 32 2) := ⟨ok_load _ _ _ _, so_iload_n mT156 dX4_ofGuest_31 rfl⟩
theorem gT156_32 : sG l g D H0 mT 156 32 (s_callvk 156 35 157 3 [0, 0] 5) := ⟨ok_callvk _ _ _ _ _ _, sk_callv (by decide) (so_callV mT156 mo157 (by decide) (t := 3) (C := "HyperVaneModel") (by decide) rfl rfl dX4_ofGuest_32 q1564 q1566 qs44 q66)⟩
theorem gT156_35 : sG l g D H0 mT 156 35 (s_goto 156 43) := ⟨ok_goto _ _, so_goto mT156 dX4_ofGuest_35 (by decide)⟩
theorem gT156_38 : sG l g D H0 mT 156 38 (s_load vRf 156 39 0) := ⟨ok_load _ _ _ _, so_aload_n mT156 dX4_ofGuest_38 rfl⟩
theorem gT156_39 : sG l g D H0 mT 156 39 (s_const 156 40 (.int 2)) := ⟨ok_const _ _ _, so_iconst mT156 dX4_ofGuest_39 (by decide)⟩
theorem gT156_40 : sG l g D H0 mT 156 40 (s_callvk 156 43 141 3 [0] 2) := ⟨ok_callvk _ _ _ _ _ _, sk_callv (by decide) (so_callV mT156 mo141 (by decide) (t := 3) (C := "HyperVaneModel") (by decide) rfl rfl dX4_ofGuest_40 q1247 q1249 qs31 q66)⟩
theorem gT156_43 : sG l g D H0 mT 156 43 (s_ret pI) := ⟨ok_ret _, so_iret mT156 dX4_ofGuest_43⟩
theorem gT156 (pc : Nat) : sG l g D H0 mT 156 pc (tT156 g pc) := sG_cond (sG_cond (sG_cond (sG_cond (sG_leaf gT156_0) (sG_cond (sG_leaf gT156_1) (sG_leaf gT156_2))) (sG_cond (sG_leaf gT156_5) (sG_cond (sG_leaf gT156_6) (sG_leaf gT156_7)))) (sG_cond (sG_cond (sG_leaf gT156_10) (sG_cond (sG_leaf gT156_13) (sG_leaf gT156_14))) (sG_cond (sG_leaf gT156_15) (sG_cond (sG_leaf gT156_18) (sG_leaf gT156_19))))) (sG_cond (sG_cond (sG_cond (sG_leaf gT156_20) (sG_cond (sG_leaf gT156_21) (sG_leaf gT156_23))) (sG_cond (sG_leaf gT156_26) (sG_cond (sG_leaf gT156_29) (sG_leaf gT156_30)))) (sG_cond (sG_cond (sG_leaf gT156_31) (sG_cond (sG_leaf gT156_32) (sG_leaf gT156_35))) (sG_cond (sG_cond (sG_leaf gT156_38) (sG_leaf gT156_39)) (sG_cond (sG_leaf gT156_40) (sG_leaf gT156_43)))))
theorem gT157_0 : sG l g D H0 mT 157 0 (s_load vRf 157 1 0) := ⟨ok_load _ _ _ _, so_aload_n mT157 dX4_ofGuestNow_0 rfl⟩
theorem gT157_1 : sG l g D H0 mT 157 1 (s_getf 157 4 3 1) := ⟨ok_getf _ _ _ _, so_getf mT157 cl3 (k := 1) (by decide) dX4_ofGuestNow_1 q1227 (fs_rf rfl)⟩
theorem gT157_4 : sG l g D H0 mT 157 4 (s_getf 157 7 4 0) := ⟨ok_getf _ _ _ _, so_getfN mT157 cl4 (k := 0) (by decide) dX4_ofGuestNow_4 q1187 (fs_rf rfl)⟩
theorem gT157_7 : sG l g D H0 mT 157 7 (s_load vI 157 8 1) := ⟨ok_load _ _ _ _, so_iload_n mT157 dX4_ofGuestNow_7 rfl⟩
theorem gT157_8 : sG l g D H0 mT 157 8 (s_callvk 157 11 25 10 [0] 2) := ⟨ok_callvk _ _ _ _ _ _, sk_callv (by decide) (so_callV mT157 mo25 (by decide) (t := 10) (C := "java/util/ArrayList") (by decide) rfl rfl dX4_ofGuestNow_8 q1423 q439 q440 q58)⟩
theorem gT157_11 : sG l g D H0 mT 157 11 (s_cast 157 14 [7]) := ⟨ok_cast _ _ _, so_cast mT157 (T := "HyperVaneModel$Guest") (ts := [7]) (by intro u hu; rw [List.mem_singleton] at hu; subst hu; exact ⟨by decide, Or.inl rfl⟩) dX4_ofGuestNow_11 q1252⟩
theorem gT157_14 : sG l g D H0 mT 157 14 (s_store vRf 157 15 3) := ⟨ok_store _ _ _ _, so_astore_n mT157 dX4_ofGuestNow_14 rfl⟩
theorem gT157_15 : sG l g D H0 mT 157 15 (s_const 157 17 (.int 16)) := ⟨ok_const _ _ _, so_bipush mT157 dX4_ofGuestNow_15 (by decide)⟩
theorem gT157_17 : sG l g D H0 mT 157 17 (s_newa g 157 19 20 (.int 0)) := ⟨ok_newa _ _ _ _ _, so_newa mT157 (t := 20) (by decide) rfl rfl (by decide) dX4_ofGuestNow_17 q486⟩
theorem gT157_19 : sG l g D H0 mT 157 19 (s_dup 157 20) := ⟨ok_dup _ _, so_dup mT157 dX4_ofGuestNow_19⟩
theorem gT157_20 : sG l g D H0 mT 157 20 (s_const 157 21 (.int 0)) := ⟨ok_const _ _ _, so_iconst mT157 dX4_ofGuestNow_20 (by decide)⟩
theorem gT157_21 : sG l g D H0 mT 157 21 (s_load vRf 157 22 3) := ⟨ok_load _ _ _ _, so_aload_n mT157 dX4_ofGuestNow_21 rfl⟩
theorem gT157_22 : sG l g D H0 mT 157 22 (s_getf 157 25 7 6) := ⟨ok_getf _ _ _ _, so_getfN mT157 cl7 (k := 6) (by decide) dX4_ofGuestNow_22 q1280 (fs_rf rfl)⟩
theorem gT157_25 : sG l g D H0 mT 157 25 (s_ast g (fun _ v => vI v = true) 157 26 20) := ⟨ok_ast _ _ _ _ _, so_iast mT157 a20 dX4_ofGuestNow_25⟩
theorem gT157_26 : sG l g D H0 mT 157 26 (s_dup 157 27) := ⟨ok_dup _ _, so_dup mT157 dX4_ofGuestNow_26⟩
theorem gT157_27 : sG l g D H0 mT 157 27 (s_const 157 28 (.int 1)) := ⟨ok_const _ _ _, so_iconst mT157 dX4_ofGuestNow_27 (by decide)⟩
theorem gT157_28 : sG l g D H0 mT 157 28 (s_load vRf 157 29 3) := ⟨ok_load _ _ _ _, so_aload_n mT157 dX4_ofGuestNow_28 rfl⟩
theorem gT157_29 : sG l g D H0 mT 157 29 (s_getf 157 32 7 2) := ⟨ok_getf _ _ _ _, so_getfN mT157 cl7 (k := 2) (by decide) dX4_ofGuestNow_29 q1268 (fs_rf rfl)⟩
theorem gT157_32 : sG l g D H0 mT 157 32 (s_ast g (fun _ v => vI v = true) 157 33 20) := ⟨ok_ast _ _ _ _ _, so_iast mT157 a20 dX4_ofGuestNow_32⟩
theorem gT157_33 : sG l g D H0 mT 157 33 (s_dup 157 34) := ⟨ok_dup _ _, so_dup mT157 dX4_ofGuestNow_33⟩
theorem gT157_34 : sG l g D H0 mT 157 34 (s_const 157 35 (.int 2)) := ⟨ok_const _ _ _, so_iconst mT157 dX4_ofGuestNow_34 (by decide)⟩
theorem gT157_35 : sG l g D H0 mT 157 35 (s_load vRf 157 36 3) := ⟨ok_load _ _ _ _, so_aload_n mT157 dX4_ofGuestNow_35 rfl⟩
theorem gT157_36 : sG l g D H0 mT 157 36 (s_getf 157 39 7 3) := ⟨ok_getf _ _ _ _, so_getfN mT157 cl7 (k := 3) (by decide) dX4_ofGuestNow_36 q1271 (fs_rf rfl)⟩
theorem gT157_39 : sG l g D H0 mT 157 39 (s_ast g (fun _ v => vI v = true) 157 40 20) := ⟨ok_ast _ _ _ _ _, so_iast mT157 a20 dX4_ofGuestNow_39⟩
theorem gT157_40 : sG l g D H0 mT 157 40 (s_dup 157 41) := ⟨ok_dup _ _, so_dup mT157 dX4_ofGuestNow_40⟩
theorem gT157_41 : sG l g D H0 mT 157 41 (s_const 157 42 (.int 3)) := ⟨ok_const _ _ _, so_iconst mT157 dX4_ofGuestNow_41 (by decide)⟩
theorem gT157_42 : sG l g D H0 mT 157 42 (s_load vRf 157 43 3) := ⟨ok_load _ _ _ _, so_aload_n mT157 dX4_ofGuestNow_42 rfl⟩
theorem gT157_43 : sG l g D H0 mT 157 43 (s_getf 157 46 7 4) := ⟨ok_getf _ _ _ _, so_getfN mT157 cl7 (k := 4) (by decide) dX4_ofGuestNow_43 q1274 (fs_rf rfl)⟩
theorem gT157_46 : sG l g D H0 mT 157 46 (s_ast g (fun _ v => vI v = true) 157 47 20) := ⟨ok_ast _ _ _ _ _, so_iast mT157 a20 dX4_ofGuestNow_46⟩
theorem gT157_47 : sG l g D H0 mT 157 47 (s_dup 157 48) := ⟨ok_dup _ _, so_dup mT157 dX4_ofGuestNow_47⟩
theorem gT157_48 : sG l g D H0 mT 157 48 (s_const 157 49 (.int 4)) := ⟨ok_const _ _ _, so_iconst mT157 dX4_ofGuestNow_48 (by decide)⟩
theorem gT157_49 : sG l g D H0 mT 157 49 (s_load vRf 157 50 3) := ⟨ok_load _ _ _ _, so_aload_n mT157 dX4_ofGuestNow_49 rfl⟩
theorem gT157_50 : sG l g D H0 mT 157 50 (s_getf 157 53 7 5) := ⟨ok_getf _ _ _ _, so_getfN mT157 cl7 (k := 5) (by decide) dX4_ofGuestNow_50 q1277 (fs_rf rfl)⟩
theorem gT157_53 : sG l g D H0 mT 157 53 (s_ast g (fun _ v => vI v = true) 157 54 20) := ⟨ok_ast _ _ _ _ _, so_iast mT157 a20 dX4_ofGuestNow_53⟩
theorem gT157_54 : sG l g D H0 mT 157 54 (s_dup 157 55) := ⟨ok_dup _ _, so_dup mT157 dX4_ofGuestNow_54⟩
theorem gT157_55 : sG l g D H0 mT 157 55 (s_const 157 56 (.int 5)) := ⟨ok_const _ _ _, so_iconst mT157 dX4_ofGuestNow_55 (by decide)⟩
theorem gT157_56 : sG l g D H0 mT 157 56 (s_load vRf 157 57 3) := ⟨ok_load _ _ _ _, so_aload_n mT157 dX4_ofGuestNow_56 rfl⟩
theorem gT157_57 : sG l g D H0 mT 157 57 (s_getf 157 60 7 9) := ⟨ok_getf _ _ _ _, so_getfN mT157 cl7 (k := 9) (by decide) dX4_ofGuestNow_57 q1289 (fs_rf rfl)⟩
theorem gT157_60 : sG l g D H0 mT 157 60 (s_ast g (fun _ v => vI v = true) 157 61 20) := ⟨ok_ast _ _ _ _ _, so_iast mT157 a20 dX4_ofGuestNow_60⟩
theorem gT157_61 : sG l g D H0 mT 157 61 (s_dup 157 62) := ⟨ok_dup _ _, so_dup mT157 dX4_ofGuestNow_61⟩
theorem gT157_62 : sG l g D H0 mT 157 62 (s_const 157 64 (.int 6)) := ⟨ok_const _ _ _, so_bipush mT157 dX4_ofGuestNow_62 (by decide)⟩
theorem gT157_64 : sG l g D H0 mT 157 64 (s_load vRf 157 65 3) := ⟨ok_load _ _ _ _, so_aload_n mT157 dX4_ofGuestNow_64 rfl⟩
theorem gT157_65 : sG l g D H0 mT 157 65 (s_getf 157 68 7 10) := ⟨ok_getf _ _ _ _, so_getfN mT157 cl7 (k := 10) (by decide) dX4_ofGuestNow_65 q1292 (fs_rf rfl)⟩
theorem gT157_68 : sG l g D H0 mT 157 68 (s_ast g (fun _ v => vI v = true) 157 69 20) := ⟨ok_ast _ _ _ _ _, so_iast mT157 a20 dX4_ofGuestNow_68⟩
theorem gT157_69 : sG l g D H0 mT 157 69 (s_dup 157 70) := ⟨ok_dup _ _, so_dup mT157 dX4_ofGuestNow_69⟩
theorem gT157_70 : sG l g D H0 mT 157 70 (s_const 157 72 (.int 7)) := ⟨ok_const _ _ _, so_bipush mT157 dX4_ofGuestNow_70 (by decide)⟩
theorem gT157_72 : sG l g D H0 mT 157 72 (s_load vRf 157 73 3) := ⟨ok_load _ _ _ _, so_aload_n mT157 dX4_ofGuestNow_72 rfl⟩
theorem gT157_73 : sG l g D H0 mT 157 73 (s_getf 157 76 7 11) := ⟨ok_getf _ _ _ _, so_getfN mT157 cl7 (k := 11) (by decide) dX4_ofGuestNow_73 q1295 (fs_rf rfl)⟩
theorem gT157_76 : sG l g D H0 mT 157 76 (s_ast g (fun _ v => vI v = true) 157 77 20) := ⟨ok_ast _ _ _ _ _, so_iast mT157 a20 dX4_ofGuestNow_76⟩
theorem gT157_77 : sG l g D H0 mT 157 77 (s_dup 157 78) := ⟨ok_dup _ _, so_dup mT157 dX4_ofGuestNow_77⟩
theorem gT157_78 : sG l g D H0 mT 157 78 (s_const 157 80 (.int 8)) := ⟨ok_const _ _ _, so_bipush mT157 dX4_ofGuestNow_78 (by decide)⟩
theorem gT157_80 : sG l g D H0 mT 157 80 (s_load vRf 157 81 3) := ⟨ok_load _ _ _ _, so_aload_n mT157 dX4_ofGuestNow_80 rfl⟩
theorem gT157_81 : sG l g D H0 mT 157 81 (s_getf 157 84 7 12) := ⟨ok_getf _ _ _ _, so_getfN mT157 cl7 (k := 12) (by decide) dX4_ofGuestNow_81 q1298 (fs_rf rfl)⟩
theorem gT157_84 : sG l g D H0 mT 157 84 (s_ast g (fun _ v => vI v = true) 157 85 20) := ⟨ok_ast _ _ _ _ _, so_iast mT157 a20 dX4_ofGuestNow_84⟩
theorem gT157_85 : sG l g D H0 mT 157 85 (s_dup 157 86) := ⟨ok_dup _ _, so_dup mT157 dX4_ofGuestNow_85⟩
theorem gT157_86 : sG l g D H0 mT 157 86 (s_const 157 88 (.int 9)) := ⟨ok_const _ _ _, so_bipush mT157 dX4_ofGuestNow_86 (by decide)⟩
theorem gT157_88 : sG l g D H0 mT 157 88 (s_load vRf 157 89 3) := ⟨ok_load _ _ _ _, so_aload_n mT157 dX4_ofGuestNow_88 rfl⟩
theorem gT157_89 : sG l g D H0 mT 157 89 (s_const 157 90 (.int 0)) := ⟨ok_const _ _ _, so_iconst mT157 dX4_ofGuestNow_89 (by decide)⟩
theorem gT157_90 : sG l g D H0 mT 157 90 (s_callvk 157 93 206 7 [0] 4) := ⟨ok_callvk _ _ _ _ _ _, sk_callv (by decide) (so_callV mT157 mo206 (by decide) (t := 7) (C := "HyperVaneModel$Guest") (by decide) rfl rfl dX4_ofGuestNow_90 q1459 q1460 q1461 q75)⟩
theorem gT157_93 : sG l g D H0 mT 157 93 (s_ast g (fun _ v => vI v = true) 157 94 20) := ⟨ok_ast _ _ _ _ _, so_iast mT157 a20 dX4_ofGuestNow_93⟩
theorem gT157_94 : sG l g D H0 mT 157 94 (s_dup 157 95) := ⟨ok_dup _ _, so_dup mT157 dX4_ofGuestNow_94⟩
theorem gT157_95 : sG l g D H0 mT 157 95 (s_const 157 97 (.int 10)) := ⟨ok_const _ _ _, so_bipush mT157 dX4_ofGuestNow_95 (by decide)⟩
theorem gT157_97 : sG l g D H0 mT 157 97 (s_load vRf 157 98 3) := ⟨ok_load _ _ _ _, so_aload_n mT157 dX4_ofGuestNow_97 rfl⟩
theorem gT157_98 : sG l g D H0 mT 157 98 (s_const 157 99 (.int 1)) := ⟨ok_const _ _ _, so_iconst mT157 dX4_ofGuestNow_98 (by decide)⟩
theorem gT157_99 : sG l g D H0 mT 157 99 (s_callvk 157 102 206 7 [0] 4) := ⟨ok_callvk _ _ _ _ _ _, sk_callv (by decide) (so_callV mT157 mo206 (by decide) (t := 7) (C := "HyperVaneModel$Guest") (by decide) rfl rfl dX4_ofGuestNow_99 q1459 q1460 q1461 q75)⟩
theorem gT157_102 : sG l g D H0 mT 157 102 (s_ast g (fun _ v => vI v = true) 157 103 20) := ⟨ok_ast _ _ _ _ _, so_iast mT157 a20 dX4_ofGuestNow_102⟩
theorem gT157_103 : sG l g D H0 mT 157 103 (s_dup 157 104) := ⟨ok_dup _ _, so_dup mT157 dX4_ofGuestNow_103⟩
theorem gT157_104 : sG l g D H0 mT 157 104 (s_const 157 106 (.int 11)) := ⟨ok_const _ _ _, so_bipush mT157 dX4_ofGuestNow_104 (by decide)⟩
theorem gT157_106 : sG l g D H0 mT 157 106 (s_load vRf 157 107 3) := ⟨ok_load _ _ _ _, so_aload_n mT157 dX4_ofGuestNow_106 rfl⟩
theorem gT157_107 : sG l g D H0 mT 157 107 (s_const 157 108 (.int 2)) := ⟨ok_const _ _ _, so_iconst mT157 dX4_ofGuestNow_107 (by decide)⟩
theorem gT157_108 : sG l g D H0 mT 157 108 (s_callvk 157 111 206 7 [0] 4) := ⟨ok_callvk _ _ _ _ _ _, sk_callv (by decide) (so_callV mT157 mo206 (by decide) (t := 7) (C := "HyperVaneModel$Guest") (by decide) rfl rfl dX4_ofGuestNow_108 q1459 q1460 q1461 q75)⟩
theorem gT157_111 : sG l g D H0 mT 157 111 (s_ast g (fun _ v => vI v = true) 157 112 20) := ⟨ok_ast _ _ _ _ _, so_iast mT157 a20 dX4_ofGuestNow_111⟩
theorem gT157_112 : sG l g D H0 mT 157 112 (s_dup 157 113) := ⟨ok_dup _ _, so_dup mT157 dX4_ofGuestNow_112⟩
theorem gT157_113 : sG l g D H0 mT 157 113 (s_const 157 115 (.int 12)) := ⟨ok_const _ _ _, so_bipush mT157 dX4_ofGuestNow_113 (by decide)⟩
theorem gT157_115 : sG l g D H0 mT 157 115 (s_load vRf 157 116 3) := ⟨ok_load _ _ _ _, so_aload_n mT157 dX4_ofGuestNow_115 rfl⟩
theorem gT157_116 : sG l g D H0 mT 157 116 (s_getf 157 119 7 18) := ⟨ok_getf _ _ _ _, so_getfN mT157 cl7 (k := 18) (by decide) dX4_ofGuestNow_116 q1316 (fs_rf rfl)⟩
theorem gT157_119 : sG l g D H0 mT 157 119 (s_if 157 122 132 (fun a => a = 0)) := ⟨ok_if _ _ _ _, so_if_eq mT157 dX4_ofGuestNow_119 (by decide)⟩
theorem gT157_122 : sG l g D H0 mT 157 122 (s_load vRf 157 123 3) := ⟨ok_load _ _ _ _, so_aload_n mT157 dX4_ofGuestNow_122 rfl⟩
theorem gT157_123 : sG l g D H0 mT 157 123 (s_getf 157 126 7 22) := ⟨ok_getf _ _ _ _, so_getfN mT157 cl7 (k := 22) (by decide) dX4_ofGuestNow_123 q1326 (fs_rf rfl)⟩
theorem gT157_126 : sG l g D H0 mT 157 126 (s_callk 157 129 11 [0] 1) := ⟨ok_callk _ _ _ _ _, sk_call (by decide) (so_callS mT157 mo11 (by decide) dX4_ofGuestNow_126 q1568 q1480 q82)⟩
theorem gT157_129 : sG l g D H0 mT 157 129 (s_goto 157 133) := ⟨ok_goto _ _, so_goto mT157 dX4_ofGuestNow_129 (by decide)⟩
theorem gT157_132 : sG l g D H0 mT 157 132 (s_const 157 133 (.int (-1))) := ⟨ok_const _ _ _, so_iconst mT157 dX4_ofGuestNow_132 (by decide)⟩
theorem gT157_133 : sG l g D H0 mT 157 133 (s_ast g (fun _ v => vI v = true) 157 134 20) := ⟨ok_ast _ _ _ _ _, so_iast mT157 a20 dX4_ofGuestNow_133⟩
theorem gT157_134 : sG l g D H0 mT 157 134 (s_dup 157 135) := ⟨ok_dup _ _, so_dup mT157 dX4_ofGuestNow_134⟩
theorem gT157_135 : sG l g D H0 mT 157 135 (s_const 157 137 (.int 13)) := ⟨ok_const _ _ _, so_bipush mT157 dX4_ofGuestNow_135 (by decide)⟩
theorem gT157_137 : sG l g D H0 mT 157 137 (s_load vRf 157 138 3) := ⟨ok_load _ _ _ _, so_aload_n mT157 dX4_ofGuestNow_137 rfl⟩
theorem gT157_138 : sG l g D H0 mT 157 138 (s_getf 157 141 7 24) := ⟨ok_getf _ _ _ _, so_getfN mT157 cl7 (k := 24) (by decide) dX4_ofGuestNow_138 q1331 (fs_rf rfl)⟩
theorem gT157_141 : sG l g D H0 mT 157 141 (s_ast g (fun _ v => vI v = true) 157 142 20) := ⟨ok_ast _ _ _ _ _, so_iast mT157 a20 dX4_ofGuestNow_141⟩
theorem gT157_142 : sG l g D H0 mT 157 142 (s_dup 157 143) := ⟨ok_dup _ _, so_dup mT157 dX4_ofGuestNow_142⟩
theorem gT157_143 : sG l g D H0 mT 157 143 (s_const 157 145 (.int 14)) := ⟨ok_const _ _ _, so_bipush mT157 dX4_ofGuestNow_143 (by decide)⟩
theorem gT157_145 : sG l g D H0 mT 157 145 (s_load vRf 157 146 3) := ⟨ok_load _ _ _ _, so_aload_n mT157 dX4_ofGuestNow_145 rfl⟩
theorem gT157_146 : sG l g D H0 mT 157 146 (s_getf 157 149 7 6) := ⟨ok_getf _ _ _ _, so_getfN mT157 cl7 (k := 6) (by decide) dX4_ofGuestNow_146 q1280 (fs_rf rfl)⟩
theorem gT157_149 : sG l g D H0 mT 157 149 (s_const 157 150 (.int 2)) := ⟨ok_const _ _ _, so_iconst mT157 dX4_ofGuestNow_149 (by decide)⟩
theorem gT157_150 : sG l g D H0 mT 157 150 (s_icmp 157 153 169 (fun a b => a = b)) := ⟨ok_icmp _ _ _ _, so_icmp_eq mT157 dX4_ofGuestNow_150 (by decide)⟩
theorem gT157_153 : sG l g D H0 mT 157 153 (s_load vRf 157 154 3) := ⟨ok_load _ _ _ _, so_aload_n mT157 dX4_ofGuestNow_153 rfl⟩
theorem gT157_154 : sG l g D H0 mT 157 154 (s_getf 157 157 7 6) := ⟨ok_getf _ _ _ _, so_getfN mT157 cl7 (k := 6) (by decide) dX4_ofGuestNow_154 q1280 (fs_rf rfl)⟩
theorem gT157_157 : sG l g D H0 mT 157 157 (s_const 157 158 (.int 3)) := ⟨ok_const _ _ _, so_iconst mT157 dX4_ofGuestNow_157 (by decide)⟩
theorem gT157_158 : sG l g D H0 mT 157 158 (s_icmp 157 176 161 (fun a b => a = b)) := ⟨ok_icmp _ _ _ _, so_icmp_ne mT157 dX4_ofGuestNow_158 (by decide)⟩
theorem gT157_161 : sG l g D H0 mT 157 161 (s_load vRf 157 162 3) := ⟨ok_load _ _ _ _, so_aload_n mT157 dX4_ofGuestNow_161 rfl⟩
theorem gT157_162 : sG l g D H0 mT 157 162 (s_getf 157 165 7 7) := ⟨ok_getf _ _ _ _, so_getfN mT157 cl7 (k := 7) (by decide) dX4_ofGuestNow_162 q1282 (fs_rf rfl)⟩
theorem gT157_165 : sG l g D H0 mT 157 165 (s_const 157 166 (.int 2)) := ⟨ok_const _ _ _, so_iconst mT157 dX4_ofGuestNow_165 (by decide)⟩
theorem gT157_166 : sG l g D H0 mT 157 166 (s_icmp 157 176 169 (fun a b => a = b)) := ⟨ok_icmp _ _ _ _, so_icmp_ne mT157 dX4_ofGuestNow_166 (by decide)⟩
theorem gT157_169 : sG l g D H0 mT 157 169 (s_load vRf 157 170 3) := ⟨ok_load _ _ _ _, so_aload_n mT157 dX4_ofGuestNow_169 rfl⟩
theorem gT157_170 : sG l g D H0 mT 157 170 (s_getf 157 173 7 8) := ⟨ok_getf _ _ _ _, so_getfN mT157 cl7 (k := 8) (by decide) dX4_ofGuestNow_170 q1286 (fs_rf rfl)⟩
theorem gT157_173 : sG l g D H0 mT 157 173 (s_goto 157 177) := ⟨ok_goto _ _, so_goto mT157 dX4_ofGuestNow_173 (by decide)⟩
theorem gT157_176 : sG l g D H0 mT 157 176 (s_const 157 177 (.int (-1))) := ⟨ok_const _ _ _, so_iconst mT157 dX4_ofGuestNow_176 (by decide)⟩
theorem gT157_177 : sG l g D H0 mT 157 177 (s_ast g (fun _ v => vI v = true) 157 178 20) := ⟨ok_ast _ _ _ _ _, so_iast mT157 a20 dX4_ofGuestNow_177⟩
theorem gT157_178 : sG l g D H0 mT 157 178 (s_dup 157 179) := ⟨ok_dup _ _, so_dup mT157 dX4_ofGuestNow_178⟩
theorem gT157_179 : sG l g D H0 mT 157 179 (s_const 157 181 (.int 15)) := ⟨ok_const _ _ _, so_bipush mT157 dX4_ofGuestNow_179 (by decide)⟩
theorem gT157_181 : sG l g D H0 mT 157 181 (s_load vRf 157 182 3) := ⟨ok_load _ _ _ _, so_aload_n mT157 dX4_ofGuestNow_181 rfl⟩
theorem gT157_182 : sG l g D H0 mT 157 182 (s_getf 157 185 7 0) := ⟨ok_getf _ _ _ _, so_getfN mT157 cl7 (k := 0) (by decide) dX4_ofGuestNow_182 q1262 (fs_rf rfl)⟩
theorem gT157_185 : sG l g D H0 mT 157 185 (s_ast g (fun _ v => vI v = true) 157 186 20) := ⟨ok_ast _ _ _ _ _, so_iast mT157 a20 dX4_ofGuestNow_185⟩
theorem gT157_186 : sG l g D H0 mT 157 186 (s_store vRf 157 188 4) := ⟨ok_store _ _ _ _, so_astore mT157 dX4_ofGuestNow_186⟩
theorem gT157_188 : sG l g D H0 mT 157 188 (s_load vRf 157 190 4) := ⟨ok_load _ _ _ _, so_aload mT157 dX4_ofGuestNow_188⟩
theorem gT157_190 : sG l g D H0 mT 157 190 (s_load vI 157 191 2) := ⟨ok_load _ _ _ _, so_iload_n mT157 dX4_ofGuestNow_190 rfl⟩
theorem gT157_191 : sG l g D H0 mT 157 191 (s_ald 157 192 20) := ⟨ok_ald _ _ _, so_iald mT157 a20 dX4_ofGuestNow_191⟩
theorem gT157_192 : sG l g D H0 mT 157 192 (s_ret pI) := ⟨ok_ret _, so_iret mT157 dX4_ofGuestNow_192⟩
theorem gT157 (pc : Nat) : sG l g D H0 mT 157 pc (tT157 g pc) := sG_cond (sG_cond (sG_cond (sG_cond (sG_cond (sG_cond (sG_leaf gT157_0) (sG_cond (sG_leaf gT157_1) (sG_leaf gT157_4))) (sG_cond (sG_cond (sG_leaf gT157_7) (sG_leaf gT157_8)) (sG_cond (sG_leaf gT157_11) (sG_leaf gT157_14)))) (sG_cond (sG_cond (sG_leaf gT157_15) (sG_cond (sG_leaf gT157_17) (sG_leaf gT157_19))) (sG_cond (sG_cond (sG_leaf gT157_20) (sG_leaf gT157_21)) (sG_cond (sG_leaf gT157_22) (sG_leaf gT157_25))))) (sG_cond (sG_cond (sG_cond (sG_leaf gT157_26) (sG_cond (sG_leaf gT157_27) (sG_leaf gT157_28))) (sG_cond (sG_cond (sG_leaf gT157_29) (sG_leaf gT157_32)) (sG_cond (sG_leaf gT157_33) (sG_leaf gT157_34)))) (sG_cond (sG_cond (sG_cond (sG_leaf gT157_35) (sG_leaf gT157_36)) (sG_cond (sG_leaf gT157_39) (sG_leaf gT157_40))) (sG_cond (sG_cond (sG_leaf gT157_41) (sG_leaf gT157_42)) (sG_cond (sG_leaf gT157_43) (sG_leaf gT157_46)))))) (sG_cond (sG_cond (sG_cond (sG_cond (sG_leaf gT157_47) (sG_cond (sG_leaf gT157_48) (sG_leaf gT157_49))) (sG_cond (sG_cond (sG_leaf gT157_50) (sG_leaf gT157_53)) (sG_cond (sG_leaf gT157_54) (sG_leaf gT157_55)))) (sG_cond (sG_cond (sG_leaf gT157_56) (sG_cond (sG_leaf gT157_57) (sG_leaf gT157_60))) (sG_cond (sG_cond (sG_leaf gT157_61) (sG_leaf gT157_62)) (sG_cond (sG_leaf gT157_64) (sG_leaf gT157_65))))) (sG_cond (sG_cond (sG_cond (sG_leaf gT157_68) (sG_cond (sG_leaf gT157_69) (sG_leaf gT157_70))) (sG_cond (sG_cond (sG_leaf gT157_72) (sG_leaf gT157_73)) (sG_cond (sG_leaf gT157_76) (sG_leaf gT157_77)))) (sG_cond (sG_cond (sG_cond (sG_leaf gT157_78) (sG_leaf gT157_80)) (sG_cond (sG_leaf gT157_81) (sG_leaf gT157_84))) (sG_cond (sG_cond (sG_leaf gT157_85) (sG_leaf gT157_86)) (sG_cond (sG_leaf gT157_88) (sG_leaf gT157_89))))))) (sG_cond (sG_cond (sG_cond (sG_cond (sG_cond (sG_leaf gT157_90) (sG_cond (sG_leaf gT157_93) (sG_leaf gT157_94))) (sG_cond (sG_cond (sG_leaf gT157_95) (sG_leaf gT157_97)) (sG_cond (sG_leaf gT157_98) (sG_leaf gT157_99)))) (sG_cond (sG_cond (sG_leaf gT157_102) (sG_cond (sG_leaf gT157_103) (sG_leaf gT157_104))) (sG_cond (sG_cond (sG_leaf gT157_106) (sG_leaf gT157_107)) (sG_cond (sG_leaf gT157_108) (sG_leaf gT157_111))))) (sG_cond (sG_cond (sG_cond (sG_leaf gT157_112) (sG_cond (sG_leaf gT157_113) (sG_leaf gT157_115))) (sG_cond (sG_cond (sG_leaf gT157_116) (sG_leaf gT157_119)) (sG_cond (sG_leaf gT157_122) (sG_leaf gT157_123)))) (sG_cond (sG_cond (sG_cond (sG_leaf gT157_126) (sG_leaf gT157_129)) (sG_cond (sG_leaf gT157_132) (sG_leaf gT157_133))) (sG_cond (sG_cond (sG_leaf gT157_134) (sG_leaf gT157_135)) (sG_cond (sG_leaf gT157_137) (sG_leaf gT157_138)))))) (sG_cond (sG_cond (sG_cond (sG_cond (sG_leaf gT157_141) (sG_cond (sG_leaf gT157_142) (sG_leaf gT157_143))) (sG_cond (sG_cond (sG_leaf gT157_145) (sG_leaf gT157_146)) (sG_cond (sG_leaf gT157_149) (sG_leaf gT157_150)))) (sG_cond (sG_cond (sG_cond (sG_leaf gT157_153) (sG_leaf gT157_154)) (sG_cond (sG_leaf gT157_157) (sG_leaf gT157_158))) (sG_cond (sG_cond (sG_leaf gT157_161) (sG_leaf gT157_162)) (sG_cond (sG_leaf gT157_165) (sG_leaf gT157_166))))) (sG_cond (sG_cond (sG_cond (sG_leaf gT157_169) (sG_cond (sG_leaf gT157_170) (sG_leaf gT157_173))) (sG_cond (sG_cond (sG_leaf gT157_176) (sG_leaf gT157_177)) (sG_cond (sG_leaf gT157_178) (sG_leaf gT157_179)))) (sG_cond (sG_cond (sG_cond (sG_leaf gT157_181) (sG_leaf gT157_182)) (sG_cond (sG_leaf gT157_185) (sG_leaf gT157_186))) (sG_cond (sG_cond (sG_leaf gT157_188) (sG_leaf gT157_190)) (sG_cond (sG_leaf gT157_191) (sG_leaf gT157_192)))))))
theorem gT158_0 : sG l g D H0 mT 158 0 (s_load vRf 158 1 0) := ⟨ok_load _ _ _ _, so_aload_n mT158 dX4_exits_0 rfl⟩
theorem gT158_1 : sG l g D H0 mT 158 1 (s_const 158 2 (.int 0)) := ⟨ok_const _ _ _, so_iconst mT158 dX4_exits_1 (by decide)⟩
theorem gT158_2 : sG l g D H0 mT 158 2 (s_putf g pI 158 5 3 0) := ⟨ok_putf _ _ _ _ _ _, so_putf mT158 cl3 (k := 0) (by decide) fI rfl dX4_exits_2 q1226 (fs_rf rfl)⟩
theorem gT158_5 : sG l g D H0 mT 158 5 (s_load vRf 158 6 0) := ⟨ok_load _ _ _ _, so_aload_n mT158 dX4_exits_5 rfl⟩
theorem gT158_6 : sG l g D H0 mT 158 6 (s_load vI 158 7 1) := ⟨ok_load _ _ _ _, so_iload_n mT158 dX4_exits_6 rfl⟩
theorem gT158_7 : sG l g D H0 mT 158 7 (s_callvk 158 10 143 3 [0] 2) := ⟨ok_callvk _ _ _ _ _ _, sk_callv (by decide) (so_callV mT158 mo143 (by decide) (t := 3) (C := "HyperVaneModel") (by decide) rfl rfl dX4_exits_7 q1416 q1418 qs32 q66)⟩
theorem gT158_10 : sG l g D H0 mT 158 10 (s_if 158 19 13 (fun a => a = 0)) := ⟨ok_if _ _ _ _, so_if_ne mT158 dX4_exits_10 (by decide)⟩
theorem gT158_13 : sG l g D H0 mT 158 13 (s_load vRf 158 14 0) := ⟨ok_load _ _ _ _, so_aload_n mT158 dX4_exits_13 rfl⟩
theorem gT158_14 : sG l g D H0 mT 158 14 (s_const 158 15 (.int 1)) := ⟨ok_const _ _ _, so_iconst mT158 dX4_exits_14 (by decide)⟩
theorem gT158_15 : sG l g D H0 mT 158 15 (s_callvk 158 18 141 3 [0] 2) := ⟨ok_callvk _ _ _ _ _ _, sk_callv (by decide) (so_callV mT158 mo141 (by decide) (t := 3) (C := "HyperVaneModel") (by decide) rfl rfl dX4_exits_15 q1247 q1249 qs31 q66)⟩
theorem gT158_18 : sG l g D H0 mT 158 18 (s_ret pI) := ⟨ok_ret _, so_iret mT158 dX4_exits_18⟩
theorem gT158_19 : sG l g D H0 mT 158 19 (s_load vI 158 20 2) := ⟨ok_load _ _ _ _, so_iload_n mT158 dX4_exits_19 rfl⟩
theorem gT158_20 : sG l g D H0 mT 158 20 (s_const 158 21 (.int 0)) := ⟨ok_const _ _ _, so_iconst mT158 dX4_exits_20 (by decide)⟩
theorem gT158_21 : sG l g D H0 mT 158 21 (s_const 158 22 (.int 4)) := ⟨ok_const _ _ _, so_iconst mT158 dX4_exits_21 (by decide)⟩
theorem gT158_22 : sG l g D H0 mT 158 22 (s_callk 158 25 140 [0, 0, 0] 3) := ⟨ok_callk _ _ _ _ _, sk_call (by decide) (so_callS mT158 mo140 (by decide) dX4_exits_22 q1244 q1245 q66)⟩
theorem gT158_25 : sG l g D H0 mT 158 25 (s_if 158 28 50 (fun a => a = 0)) := ⟨ok_if _ _ _ _, so_if_eq mT158 dX4_exits_25 (by decide)⟩
theorem gT158_28 : sG l g D H0 mT 158 28 (s_load vRf 158 29 0) := ⟨ok_load _ _ _ _, so_aload_n mT158 dX4_exits_28 rfl⟩
theorem gT158_29 : sG l g D H0 mT 158 29 (s_getf 158 32 3 1) := ⟨ok_getf _ _ _ _, so_getf mT158 cl3 (k := 1) (by decide) dX4_exits_29 q1227 (fs_rf rfl)⟩
theorem gT158_32 : sG l g D H0 mT 158 32 (s_getf 158 35 4 0) := ⟨ok_getf _ _ _ _, so_getfN mT158 cl4 (k := 0) (by decide) dX4_exits_32 q1187 (fs_rf rfl)⟩
theorem gT158_35 : sG l g D H0 mT 158 35 (s_load vI 158 36 1) := ⟨ok_load _ _ _ _, so_iload_n mT158 dX4_exits_35 rfl⟩
theorem gT158_36 : sG l g D H0 mT 158 36 (s_callvk 158 39 25 10 [0] 2) := ⟨ok_callvk _ _ _ _ _ _, sk_callv (by decide) (so_callV mT158 mo25 (by decide) (t := 10) (C := "java/util/ArrayList") (by decide) rfl rfl dX4_exits_36 q1423 q439 q440 q58)⟩
theorem gT158_39 : sG l g D H0 mT 158 39 (s_cast 158 42 [7]) := ⟨ok_cast _ _ _, so_cast mT158 (T := "HyperVaneModel$Guest") (ts := [7]) (by intro u hu; rw [List.mem_singleton] at hu; subst hu; exact ⟨by decide, Or.inl rfl⟩) dX4_exits_39 q1252⟩
theorem gT158_42 : sG l g D H0 mT 158 42 (s_getf 158 45 7 17) := ⟨ok_getf _ _ _ _, so_getfN mT158 cl7 (k := 17) (by decide) dX4_exits_42 q1313 (fs_rf rfl)⟩
theorem gT158_45 : sG l g D H0 mT 158 45 (s_load vI 158 46 2) := ⟨ok_load _ _ _ _, so_iload_n mT158 dX4_exits_45 rfl⟩
theorem gT158_46 : sG l g D H0 mT 158 46 (s_ald 158 47 20) := ⟨ok_ald _ _ _, so_iald mT158 a20 dX4_exits_46⟩
theorem gT158_47 : sG l g D H0 mT 158 47 (s_goto 158 55) := ⟨ok_goto _ _, so_goto mT158 dX4_exits_47 (by decide)⟩
theorem gT158_50 : sG l g D H0 mT 158 50 (s_load vRf 158 51 0) := ⟨ok_load _ _ _ _, so_aload_n mT158 dX4_exits_50 rfl⟩
theorem gT158_51 : sG l g D H0 mT 158 51 (s_const 158 52 (.int 2)) := ⟨ok_const _ _ _, so_iconst mT158 dX4_exits_51 (by decide)⟩
theorem gT158_52 : sG l g D H0 mT 158 52 (s_callvk 158 55 141 3 [0] 2) := ⟨ok_callvk _ _ _ _ _ _, sk_callv (by decide) (so_callV mT158 mo141 (by decide) (t := 3) (C := "HyperVaneModel") (by decide) rfl rfl dX4_exits_52 q1247 q1249 qs31 q66)⟩
theorem gT158_55 : sG l g D H0 mT 158 55 (s_ret pI) := ⟨ok_ret _, so_iret mT158 dX4_exits_55⟩
theorem gT158 (pc : Nat) : sG l g D H0 mT 158 pc (tT158 g pc) := sG_cond (sG_cond (sG_cond (sG_cond (sG_leaf gT158_0) (sG_cond (sG_leaf gT158_1) (sG_leaf gT158_2))) (sG_cond (sG_cond (sG_leaf gT158_5) (sG_leaf gT158_6)) (sG_cond (sG_leaf gT158_7) (sG_leaf gT158_10)))) (sG_cond (sG_cond (sG_cond (sG_leaf gT158_13) (sG_leaf gT158_14)) (sG_cond (sG_leaf gT158_15) (sG_leaf gT158_18))) (sG_cond (sG_cond (sG_leaf gT158_19) (sG_leaf gT158_20)) (sG_cond (sG_leaf gT158_21) (sG_leaf gT158_22))))) (sG_cond (sG_cond (sG_cond (sG_leaf gT158_25) (sG_cond (sG_leaf gT158_28) (sG_leaf gT158_29))) (sG_cond (sG_cond (sG_leaf gT158_32) (sG_leaf gT158_35)) (sG_cond (sG_leaf gT158_36) (sG_leaf gT158_39)))) (sG_cond (sG_cond (sG_cond (sG_leaf gT158_42) (sG_leaf gT158_45)) (sG_cond (sG_leaf gT158_46) (sG_leaf gT158_47))) (sG_cond (sG_cond (sG_leaf gT158_50) (sG_leaf gT158_51)) (sG_cond (sG_leaf gT158_52) (sG_leaf gT158_55)))))
theorem gT159_0 : sG l g D H0 mT 159 0 (s_load vRf 159 1 0) := ⟨ok_load _ _ _ _, so_aload_n mT159 dX4_ofPage_0 rfl⟩
theorem gT159_1 : sG l g D H0 mT 159 1 (s_const 159 2 (.int 0)) := ⟨ok_const _ _ _, so_iconst mT159 dX4_ofPage_1 (by decide)⟩
theorem gT159_2 : sG l g D H0 mT 159 2 (s_putf g pI 159 5 3 0) := ⟨ok_putf _ _ _ _ _ _, so_putf mT159 cl3 (k := 0) (by decide) fI rfl dX4_ofPage_2 q1226 (fs_rf rfl)⟩
theorem gT159_5 : sG l g D H0 mT 159 5 (s_load vRf 159 6 0) := ⟨ok_load _ _ _ _, so_aload_n mT159 dX4_ofPage_5 rfl⟩
theorem gT159_6 : sG l g D H0 mT 159 6 (s_load vI 159 7 1) := ⟨ok_load _ _ _ _, so_iload_n mT159 dX4_ofPage_6 rfl⟩
theorem gT159_7 : sG l g D H0 mT 159 7 (s_callvk 159 10 143 3 [0] 2) := ⟨ok_callvk _ _ _ _ _ _, sk_callv (by decide) (so_callV mT159 mo143 (by decide) (t := 3) (C := "HyperVaneModel") (by decide) rfl rfl dX4_ofPage_7 q1416 q1418 qs32 q66)⟩
theorem gT159_10 : sG l g D H0 mT 159 10 (s_if 159 13 20 (fun a => a = 0)) := ⟨ok_if _ _ _ _, so_if_eq mT159 dX4_ofPage_10 (by decide)⟩
theorem gT159_13 : sG l g D H0 mT 159 13 (s_load vI 159 14 2) := ⟨ok_load _ _ _ _, so_iload_n mT159 dX4_ofPage_13 rfl⟩
theorem gT159_14 : sG l g D H0 mT 159 14 (s_callk 159 17 144 [0] 1) := ⟨ok_callk _ _ _ _ _, sk_call (by decide) (so_callS mT159 mo144 (by decide) dX4_ofPage_14 q1420 q1421 q66)⟩
theorem gT159_17 : sG l g D H0 mT 159 17 (s_if 159 26 20 (fun a => a = 0)) := ⟨ok_if _ _ _ _, so_if_ne mT159 dX4_ofPage_17 (by decide)⟩
theorem gT159_20 : sG l g D H0 mT 159 20 (s_load vRf 159 21 0) := ⟨ok_load _ _ _ _, so_aload_n mT159 dX4_ofPage_20 rfl⟩
theorem gT159_21 : sG l g D H0 mT 159 21 (s_const 159 22 (.int 1)) := ⟨ok_const _ _ _, so_iconst mT159 dX4_ofPage_21 (by decide)⟩
theorem gT159_22 : sG l g D H0 mT 159 22 (s_callvk 159 25 141 3 [0] 2) := ⟨ok_callvk _ _ _ _ _ _, sk_callv (by decide) (so_callV mT159 mo141 (by decide) (t := 3) (C := "HyperVaneModel") (by decide) rfl rfl dX4_ofPage_22 q1247 q1249 qs31 q66)⟩
theorem gT159_25 : sG l g D H0 mT 159 25 (s_ret pI) := ⟨ok_ret _, so_iret mT159 dX4_ofPage_25⟩
theorem gT159_26 : sG l g D H0 mT 159 26 (s_load vI 159 27 3) := ⟨ok_load _ _ _ _, so_iload_n mT159 dX4_ofPage_26 rfl⟩
theorem gT159_27 : sG l g D H0 mT 159 27 (s_const 159 28 (.int 0)) := ⟨ok_const _ _ _, so_iconst mT159 dX4_ofPage_27 (by decide)⟩
theorem gT159_28 : sG l g D H0 mT 159 28 (s_const 159 29 (.int 3)) := ⟨ok_const _ _ _, so_iconst mT159 dX4_ofPage_28 (by decide)⟩
theorem gT159_29 : sG l g D H0 mT 159 29 (s_callk 159 32 140 [0, 0, 0] 3) := ⟨ok_callk _ _ _ _ _, sk_call (by decide) (so_callS mT159 mo140 (by decide) dX4_ofPage_29 q1244 q1245 q66)⟩
theorem gT159_32 : sG l g D H0 mT 159 32 (s_if 159 35 45 (fun a => a = 0)) := ⟨ok_if _ _ _ _, so_if_eq mT159 dX4_ofPage_32 (by decide)⟩
theorem gT159_35 : sG l g D H0 mT 159 35 (s_load vRf 159 36 0) := ⟨ok_load _ _ _ _, so_aload_n mT159 dX4_ofPage_35 rfl⟩
theorem gT159_36 : sG l g D H0 mT 159 36 (s_load vI 159 37 1) := ⟨ok_load _ _ _ _, so_iload_n mT159 dX4_ofPage_36 rfl⟩
theorem gT159_37 : sG l g D H0 mT 159 37 (s_load vI 159 38 2) := ⟨ok_load _ _ _ _, so_iload_n mT159 dX4_ofPage_37 rfl⟩
theorem gT159_38 : sG l g D H0 mT 159 38 (s_load vI 159 39 3) := ⟨ok_load _ _ _ _, so_iload_n mT159 dX4_ofPage_38 rfl⟩
theorem gT159_39 : sG l g D H0 mT 159 39 (s_callvk 159 42 160 3 [0, 0, 0] 7) := ⟨ok_callvk _ _ _ _ _ _, sk_callv (by decide) (so_callV mT159 mo160 (by decide) (t := 3) (C := "HyperVaneModel") (by decide) rfl rfl dX4_ofPage_39 q1577 q1579 qs45 q66)⟩
theorem gT159_42 : sG l g D H0 mT 159 42 (s_goto 159 50) := ⟨ok_goto _ _, so_goto mT159 dX4_ofPage_42 (by decide)⟩
theorem gT159_45 : sG l g D H0 mT 159 45 (s_load vRf 159 46 0) := ⟨ok_load _ _ _ _, so_aload_n mT159 dX4_ofPage_45 rfl⟩
theorem gT159_46 : sG l g D H0 mT 159 46 (s_const 159 47 (.int 2)) := ⟨ok_const _ _ _, so_iconst mT159 dX4_ofPage_46 (by decide)⟩
theorem gT159_47 : sG l g D H0 mT 159 47 (s_callvk 159 50 141 3 [0] 2) := ⟨ok_callvk _ _ _ _ _ _, sk_callv (by decide) (so_callV mT159 mo141 (by decide) (t := 3) (C := "HyperVaneModel") (by decide) rfl rfl dX4_ofPage_47 q1247 q1249 qs31 q66)⟩
theorem gT159_50 : sG l g D H0 mT 159 50 (s_ret pI) := ⟨ok_ret _, so_iret mT159 dX4_ofPage_50⟩
theorem gT159 (pc : Nat) : sG l g D H0 mT 159 pc (tT159 g pc) := sG_cond (sG_cond (sG_cond (sG_cond (sG_leaf gT159_0) (sG_cond (sG_leaf gT159_1) (sG_leaf gT159_2))) (sG_cond (sG_cond (sG_leaf gT159_5) (sG_leaf gT159_6)) (sG_cond (sG_leaf gT159_7) (sG_leaf gT159_10)))) (sG_cond (sG_cond (sG_leaf gT159_13) (sG_cond (sG_leaf gT159_14) (sG_leaf gT159_17))) (sG_cond (sG_cond (sG_leaf gT159_20) (sG_leaf gT159_21)) (sG_cond (sG_leaf gT159_22) (sG_leaf gT159_25))))) (sG_cond (sG_cond (sG_cond (sG_leaf gT159_26) (sG_cond (sG_leaf gT159_27) (sG_leaf gT159_28))) (sG_cond (sG_cond (sG_leaf gT159_29) (sG_leaf gT159_32)) (sG_cond (sG_leaf gT159_35) (sG_leaf gT159_36)))) (sG_cond (sG_cond (sG_cond (sG_leaf gT159_37) (sG_leaf gT159_38)) (sG_cond (sG_leaf gT159_39) (sG_leaf gT159_42))) (sG_cond (sG_cond (sG_leaf gT159_45) (sG_leaf gT159_46)) (sG_cond (sG_leaf gT159_47) (sG_leaf gT159_50)))))
theorem gT160_0 : sG l g D H0 mT 160 0 (s_load vRf 160 1 0) := ⟨ok_load _ _ _ _, so_aload_n mT160 dX4_ofPageNow_0 rfl⟩
theorem gT160_1 : sG l g D H0 mT 160 1 (s_getf 160 4 3 1) := ⟨ok_getf _ _ _ _, so_getf mT160 cl3 (k := 1) (by decide) dX4_ofPageNow_1 q1227 (fs_rf rfl)⟩
theorem gT160_4 : sG l g D H0 mT 160 4 (s_getf 160 7 4 0) := ⟨ok_getf _ _ _ _, so_getfN mT160 cl4 (k := 0) (by decide) dX4_ofPageNow_4 q1187 (fs_rf rfl)⟩
theorem gT160_7 : sG l g D H0 mT 160 7 (s_load vI 160 8 1) := ⟨ok_load _ _ _ _, so_iload_n mT160 dX4_ofPageNow_7 rfl⟩
theorem gT160_8 : sG l g D H0 mT 160 8 (s_callvk 160 11 25 10 [0] 2) := ⟨ok_callvk _ _ _ _ _ _, sk_callv (by decide) (so_callV mT160 mo25 (by decide) (t := 10) (C := "java/util/ArrayList") (by decide) rfl rfl dX4_ofPageNow_8 q1423 q439 q440 q58)⟩
theorem gT160_11 : sG l g D H0 mT 160 11 (s_cast 160 14 [7]) := ⟨ok_cast _ _ _, so_cast mT160 (T := "HyperVaneModel$Guest") (ts := [7]) (by intro u hu; rw [List.mem_singleton] at hu; subst hu; exact ⟨by decide, Or.inl rfl⟩) dX4_ofPageNow_11 q1252⟩
theorem gT160_14 : sG l g D H0 mT 160 14 (s_store vRf 160 16 4) := ⟨ok_store _ _ _ _, so_astore mT160 dX4_ofPageNow_14⟩
theorem gT160_16 : sG l g D H0 mT 160 16 (s_load vRf 160 18 4) := ⟨ok_load _ _ _ _, so_aload mT160 dX4_ofPageNow_16⟩
theorem gT160_18 : sG l g D H0 mT 160 18 (s_getf 160 21 7 14) := ⟨ok_getf _ _ _ _, so_getfN mT160 cl7 (k := 14) (by decide) dX4_ofPageNow_18 q1304 (fs_rf rfl)⟩
theorem gT160_21 : sG l g D H0 mT 160 21 (s_load vI 160 22 2) := ⟨ok_load _ _ _ _, so_iload_n mT160 dX4_ofPageNow_21 rfl⟩
theorem gT160_22 : sG l g D H0 mT 160 22 (s_ald 160 23 20) := ⟨ok_ald _ _ _, so_iald mT160 a20 dX4_ofPageNow_22⟩
theorem gT160_23 : sG l g D H0 mT 160 23 (s_store vI 160 25 5) := ⟨ok_store _ _ _ _, so_istore mT160 dX4_ofPageNow_23⟩
theorem gT160_25 : sG l g D H0 mT 160 25 (s_const 160 26 (.int 4)) := ⟨ok_const _ _ _, so_iconst mT160 dX4_ofPageNow_25 (by decide)⟩
theorem gT160_26 : sG l g D H0 mT 160 26 (s_newa g 160 28 20 (.int 0)) := ⟨ok_newa _ _ _ _ _, so_newa mT160 (t := 20) (by decide) rfl rfl (by decide) dX4_ofPageNow_26 q486⟩
theorem gT160_28 : sG l g D H0 mT 160 28 (s_dup 160 29) := ⟨ok_dup _ _, so_dup mT160 dX4_ofPageNow_28⟩
theorem gT160_29 : sG l g D H0 mT 160 29 (s_const 160 30 (.int 0)) := ⟨ok_const _ _ _, so_iconst mT160 dX4_ofPageNow_29 (by decide)⟩
theorem gT160_30 : sG l g D H0 mT 160 30 (s_load vRf 160 32 4) := ⟨ok_load _ _ _ _, so_aload mT160 dX4_ofPageNow_30⟩
theorem gT160_32 : sG l g D H0 mT 160 32 (s_getf 160 35 7 13) := ⟨ok_getf _ _ _ _, so_getfN mT160 cl7 (k := 13) (by decide) dX4_ofPageNow_32 q1301 (fs_rf rfl)⟩
theorem gT160_35 : sG l g D H0 mT 160 35 (s_load vI 160 36 2) := ⟨ok_load _ _ _ _, so_iload_n mT160 dX4_ofPageNow_35 rfl⟩
theorem gT160_36 : sG l g D H0 mT 160 36 (s_ald 160 37 20) := ⟨ok_ald _ _ _, so_iald mT160 a20 dX4_ofPageNow_36⟩
theorem gT160_37 : sG l g D H0 mT 160 37 (s_ast g (fun _ v => vI v = true) 160 38 20) := ⟨ok_ast _ _ _ _ _, so_iast mT160 a20 dX4_ofPageNow_37⟩
theorem gT160_38 : sG l g D H0 mT 160 38 (s_dup 160 39) := ⟨ok_dup _ _, so_dup mT160 dX4_ofPageNow_38⟩
theorem gT160_39 : sG l g D H0 mT 160 39 (s_const 160 40 (.int 1)) := ⟨ok_const _ _ _, so_iconst mT160 dX4_ofPageNow_39 (by decide)⟩
theorem gT160_40 : sG l g D H0 mT 160 40 (s_load vI 160 42 5) := ⟨ok_load _ _ _ _, so_iload mT160 dX4_ofPageNow_40⟩
theorem gT160_42 : sG l g D H0 mT 160 42 (s_if 160 55 45 (fun a => a = 0)) := ⟨ok_if _ _ _ _, so_if_ne mT160 dX4_ofPageNow_42 (by decide)⟩
theorem gT160_45 : sG l g D H0 mT 160 45 (s_load vRf 160 47 4) := ⟨ok_load _ _ _ _, so_aload mT160 dX4_ofPageNow_45⟩
theorem gT160_47 : sG l g D H0 mT 160 47 (s_getf 160 50 7 15) := ⟨ok_getf _ _ _ _, so_getfN mT160 cl7 (k := 15) (by decide) dX4_ofPageNow_47 q1307 (fs_rf rfl)⟩
theorem gT160_50 : sG l g D H0 mT 160 50 (s_load vI 160 51 2) := ⟨ok_load _ _ _ _, so_iload_n mT160 dX4_ofPageNow_50 rfl⟩
theorem gT160_51 : sG l g D H0 mT 160 51 (s_ald 160 52 20) := ⟨ok_ald _ _ _, so_iald mT160 a20 dX4_ofPageNow_51⟩
theorem gT160_52 : sG l g D H0 mT 160 52 (s_goto 160 56) := ⟨ok_goto _ _, so_goto mT160 dX4_ofPageNow_52 (by decide)⟩
theorem gT160_55 : sG l g D H0 mT 160 55 (s_const 160 56 (.int (-1))) := ⟨ok_const _ _ _, so_iconst mT160 dX4_ofPageNow_55 (by decide)⟩
theorem gT160_56 : sG l g D H0 mT 160 56 (s_ast g (fun _ v => vI v = true) 160 57 20) := ⟨ok_ast _ _ _ _ _, so_iast mT160 a20 dX4_ofPageNow_56⟩
theorem gT160_57 : sG l g D H0 mT 160 57 (s_dup 160 58) := ⟨ok_dup _ _, so_dup mT160 dX4_ofPageNow_57⟩
theorem gT160_58 : sG l g D H0 mT 160 58 (s_const 160 59 (.int 2)) := ⟨ok_const _ _ _, so_iconst mT160 dX4_ofPageNow_58 (by decide)⟩
theorem gT160_59 : sG l g D H0 mT 160 59 (s_load vI 160 61 5) := ⟨ok_load _ _ _ _, so_iload mT160 dX4_ofPageNow_59⟩
theorem gT160_61 : sG l g D H0 mT 160 61 (s_ast g (fun _ v => vI v = true) 160 62 20) := ⟨ok_ast _ _ _ _ _, so_iast mT160 a20 dX4_ofPageNow_61⟩
theorem gT160_62 : sG l g D H0 mT 160 62 (s_dup 160 63) := ⟨ok_dup _ _, so_dup mT160 dX4_ofPageNow_62⟩
theorem gT160_63 : sG l g D H0 mT 160 63 (s_const 160 64 (.int 3)) := ⟨ok_const _ _ _, so_iconst mT160 dX4_ofPageNow_63 (by decide)⟩
theorem gT160_64 : sG l g D H0 mT 160 64 (s_load vRf 160 66 4) := ⟨ok_load _ _ _ _, so_aload mT160 dX4_ofPageNow_64⟩
theorem gT160_66 : sG l g D H0 mT 160 66 (s_getf 160 69 7 18) := ⟨ok_getf _ _ _ _, so_getfN mT160 cl7 (k := 18) (by decide) dX4_ofPageNow_66 q1316 (fs_rf rfl)⟩
theorem gT160_69 : sG l g D H0 mT 160 69 (s_if 160 72 88 (fun a => a = 0)) := ⟨ok_if _ _ _ _, so_if_eq mT160 dX4_ofPageNow_69 (by decide)⟩
theorem gT160_72 : sG l g D H0 mT 160 72 (s_load vRf 160 74 4) := ⟨ok_load _ _ _ _, so_aload mT160 dX4_ofPageNow_72⟩
theorem gT160_74 : sG l g D H0 mT 160 74 (s_getf 160 77 7 22) := ⟨ok_getf _ _ _ _, so_getfN mT160 cl7 (k := 22) (by decide) dX4_ofPageNow_74 q1326 (fs_rf rfl)⟩
theorem gT160_77 : sG l g D H0 mT 160 77 (s_load vI 160 78 2) := ⟨ok_load _ _ _ _, so_iload_n mT160 dX4_ofPageNow_77 rfl⟩
theorem gT160_78 : sG l g D H0 mT 160 78 (s_callk 160 81 161 [0, 0] 2) := ⟨ok_callk _ _ _ _ _, sk_call (by decide) (so_callS mT160 mo161 (by decide) dX4_ofPageNow_78 q1581 q1582 q66)⟩
theorem gT160_81 : sG l g D H0 mT 160 81 (s_if 160 84 88 (fun a => a = 0)) := ⟨ok_if _ _ _ _, so_if_eq mT160 dX4_ofPageNow_81 (by decide)⟩
theorem gT160_84 : sG l g D H0 mT 160 84 (s_const 160 85 (.int 1)) := ⟨ok_const _ _ _, so_iconst mT160 dX4_ofPageNow_84 (by decide)⟩
theorem gT160_85 : sG l g D H0 mT 160 85 (s_goto 160 89) := ⟨ok_goto _ _, so_goto mT160 dX4_ofPageNow_85 (by decide)⟩
theorem gT160_88 : sG l g D H0 mT 160 88 (s_const 160 89 (.int 0)) := ⟨ok_const _ _ _, so_iconst mT160 dX4_ofPageNow_88 (by decide)⟩
theorem gT160_89 : sG l g D H0 mT 160 89 (s_ast g (fun _ v => vI v = true) 160 90 20) := ⟨ok_ast _ _ _ _ _, so_iast mT160 a20 dX4_ofPageNow_89⟩
theorem gT160_90 : sG l g D H0 mT 160 90 (s_store vRf 160 92 6) := ⟨ok_store _ _ _ _, so_astore mT160 dX4_ofPageNow_90⟩
theorem gT160_92 : sG l g D H0 mT 160 92 (s_load vRf 160 94 6) := ⟨ok_load _ _ _ _, so_aload mT160 dX4_ofPageNow_92⟩
theorem gT160_94 : sG l g D H0 mT 160 94 (s_load vI 160 95 3) := ⟨ok_load _ _ _ _, so_iload_n mT160 dX4_ofPageNow_94 rfl⟩
theorem gT160_95 : sG l g D H0 mT 160 95 (s_ald 160 96 20) := ⟨ok_ald _ _ _, so_iald mT160 a20 dX4_ofPageNow_95⟩
theorem gT160_96 : sG l g D H0 mT 160 96 (s_ret pI) := ⟨ok_ret _, so_iret mT160 dX4_ofPageNow_96⟩
theorem gT160 (pc : Nat) : sG l g D H0 mT 160 pc (tT160 g pc) := sG_cond (sG_cond (sG_cond (sG_cond (sG_cond (sG_leaf gT160_0) (sG_cond (sG_leaf gT160_1) (sG_leaf gT160_4))) (sG_cond (sG_leaf gT160_7) (sG_cond (sG_leaf gT160_8) (sG_leaf gT160_11)))) (sG_cond (sG_cond (sG_leaf gT160_14) (sG_cond (sG_leaf gT160_16) (sG_leaf gT160_18))) (sG_cond (sG_cond (sG_leaf gT160_21) (sG_leaf gT160_22)) (sG_cond (sG_leaf gT160_23) (sG_leaf gT160_25))))) (sG_cond (sG_cond (sG_cond (sG_leaf gT160_26) (sG_cond (sG_leaf gT160_28) (sG_leaf gT160_29))) (sG_cond (sG_cond (sG_leaf gT160_30) (sG_leaf gT160_32)) (sG_cond (sG_leaf gT160_35) (sG_leaf gT160_36)))) (sG_cond (sG_cond (sG_leaf gT160_37) (sG_cond (sG_leaf gT160_38) (sG_leaf gT160_39))) (sG_cond (sG_cond (sG_leaf gT160_40) (sG_leaf gT160_42)) (sG_cond (sG_leaf gT160_45) (sG_leaf gT160_47)))))) (sG_cond (sG_cond (sG_cond (sG_cond (sG_leaf gT160_50) (sG_cond (sG_leaf gT160_51) (sG_leaf gT160_52))) (sG_cond (sG_cond (sG_leaf gT160_55) (sG_leaf gT160_56)) (sG_cond (sG_leaf gT160_57) (sG_leaf gT160_58)))) (sG_cond (sG_cond (sG_leaf gT160_59) (sG_cond (sG_leaf gT160_61) (sG_leaf gT160_62))) (sG_cond (sG_cond (sG_leaf gT160_63) (sG_leaf gT160_64)) (sG_cond (sG_leaf gT160_66) (sG_leaf gT160_69))))) (sG_cond (sG_cond (sG_cond (sG_leaf gT160_72) (sG_cond (sG_leaf gT160_74) (sG_leaf gT160_77))) (sG_cond (sG_cond (sG_leaf gT160_78) (sG_leaf gT160_81)) (sG_cond (sG_leaf gT160_84) (sG_leaf gT160_85)))) (sG_cond (sG_cond (sG_leaf gT160_88) (sG_cond (sG_leaf gT160_89) (sG_leaf gT160_90))) (sG_cond (sG_cond (sG_leaf gT160_92) (sG_leaf gT160_94)) (sG_cond (sG_leaf gT160_95) (sG_leaf gT160_96))))))
theorem gT161_0 : sG l g D H0 mT 161 0 (s_load vI 161 1 0) := ⟨ok_load _ _ _ _, so_iload_n mT161 dX4_has_0 rfl⟩
theorem gT161_1 : sG l g D H0 mT 161 1 (s_load vI 161 2 1) := ⟨ok_load _ _ _ _, so_iload_n mT161 dX4_has_1 rfl⟩
theorem gT161_2 : sG l g D H0 mT 161 2 (s_bin 161 3 (fun a b => a >>> (b &&& 31))) := ⟨ok_bin _ _ _, so_ishr mT161 dX4_has_2⟩
theorem gT161_3 : sG l g D H0 mT 161 3 (s_const 161 4 (.int 1)) := ⟨ok_const _ _ _, so_iconst mT161 dX4_has_3 (by decide)⟩
theorem gT161_4 : sG l g D H0 mT 161 4 (s_bin 161 5 (fun a b => a &&& b)) := ⟨ok_bin _ _ _, so_iand mT161 dX4_has_4⟩
theorem gT161_5 : sG l g D H0 mT 161 5 (s_const 161 6 (.int 1)) := ⟨ok_const _ _ _, so_iconst mT161 dX4_has_5 (by decide)⟩
theorem gT161_6 : sG l g D H0 mT 161 6 (s_icmp 161 13 9 (fun a b => a = b)) := ⟨ok_icmp _ _ _ _, so_icmp_ne mT161 dX4_has_6 (by decide)⟩
theorem gT161_9 : sG l g D H0 mT 161 9 (s_const 161 10 (.int 1)) := ⟨ok_const _ _ _, so_iconst mT161 dX4_has_9 (by decide)⟩
theorem gT161_10 : sG l g D H0 mT 161 10 (s_goto 161 14) := ⟨ok_goto _ _, so_goto mT161 dX4_has_10 (by decide)⟩
theorem gT161_13 : sG l g D H0 mT 161 13 (s_const 161 14 (.int 0)) := ⟨ok_const _ _ _, so_iconst mT161 dX4_has_13 (by decide)⟩
theorem gT161_14 : sG l g D H0 mT 161 14 (s_ret vZ) := ⟨ok_ret _, so_zret mT161 dX4_has_14⟩
theorem gT161 (pc : Nat) : sG l g D H0 mT 161 pc (tT161 g pc) := sG_cond (sG_cond (sG_cond (sG_leaf gT161_0) (sG_leaf gT161_1)) (sG_cond (sG_leaf gT161_2) (sG_cond (sG_leaf gT161_3) (sG_leaf gT161_4)))) (sG_cond (sG_cond (sG_leaf gT161_5) (sG_cond (sG_leaf gT161_6) (sG_leaf gT161_9))) (sG_cond (sG_leaf gT161_10) (sG_cond (sG_leaf gT161_13) (sG_leaf gT161_14))))
theorem gT162_0 : sG l g D H0 mT 162 0 (s_load vRf 162 1 0) := ⟨ok_load _ _ _ _, so_aload_n mT162 dX4_ofFrame_0 rfl⟩
theorem gT162_1 : sG l g D H0 mT 162 1 (s_const 162 2 (.int 0)) := ⟨ok_const _ _ _, so_iconst mT162 dX4_ofFrame_1 (by decide)⟩
theorem gT162_2 : sG l g D H0 mT 162 2 (s_putf g pI 162 5 3 0) := ⟨ok_putf _ _ _ _ _ _, so_putf mT162 cl3 (k := 0) (by decide) fI rfl dX4_ofFrame_2 q1226 (fs_rf rfl)⟩
theorem gT162_5 : sG l g D H0 mT 162 5 (s_load vI 162 6 1) := ⟨ok_load _ _ _ _, so_iload_n mT162 dX4_ofFrame_5 rfl⟩
theorem gT162_6 : sG l g D H0 mT 162 6 (s_const 162 7 (.int 0)) := ⟨ok_const _ _ _, so_iconst mT162 dX4_ofFrame_6 (by decide)⟩
theorem gT162_7 : sG l g D H0 mT 162 7 (s_load vRf 162 8 0) := ⟨ok_load _ _ _ _, so_aload_n mT162 dX4_ofFrame_7 rfl⟩
theorem gT162_8 : sG l g D H0 mT 162 8 (s_getf 162 11 3 1) := ⟨ok_getf _ _ _ _, so_getf mT162 cl3 (k := 1) (by decide) dX4_ofFrame_8 q1227 (fs_rf rfl)⟩
theorem gT162_11 : sG l g D H0 mT 162 11 (s_getf 162 14 4 2) := ⟨ok_getf _ _ _ _, so_getfN mT162 cl4 (k := 2) (by decide) dX4_ofFrame_11 q1191 (fs_rf rfl)⟩
theorem gT162_14 : sG l g D H0 mT 162 14 (s_const 162 15 (.int 1)) := ⟨ok_const _ _ _, so_iconst mT162 dX4_ofFrame_14 (by decide)⟩
theorem gT162_15 : sG l g D H0 mT 162 15 (s_bin 162 16 (fun a b => a - b)) := ⟨ok_bin _ _ _, so_isub mT162 dX4_ofFrame_15⟩
theorem gT162_16 : sG l g D H0 mT 162 16 (s_callk 162 19 140 [0, 0, 0] 3) := ⟨ok_callk _ _ _ _ _, sk_call (by decide) (so_callS mT162 mo140 (by decide) dX4_ofFrame_16 q1244 q1245 q66)⟩
theorem gT162_19 : sG l g D H0 mT 162 19 (s_if 162 28 22 (fun a => a = 0)) := ⟨ok_if _ _ _ _, so_if_ne mT162 dX4_ofFrame_19 (by decide)⟩
theorem gT162_22 : sG l g D H0 mT 162 22 (s_load vRf 162 23 0) := ⟨ok_load _ _ _ _, so_aload_n mT162 dX4_ofFrame_22 rfl⟩
theorem gT162_23 : sG l g D H0 mT 162 23 (s_const 162 24 (.int 1)) := ⟨ok_const _ _ _, so_iconst mT162 dX4_ofFrame_23 (by decide)⟩
theorem gT162_24 : sG l g D H0 mT 162 24 (s_callvk 162 27 141 3 [0] 2) := ⟨ok_callvk _ _ _ _ _ _, sk_callv (by decide) (so_callV mT162 mo141 (by decide) (t := 3) (C := "HyperVaneModel") (by decide) rfl rfl dX4_ofFrame_24 q1247 q1249 qs31 q66)⟩
theorem gT162_27 : sG l g D H0 mT 162 27 (s_ret pI) := ⟨ok_ret _, so_iret mT162 dX4_ofFrame_27⟩
theorem gT162_28 : sG l g D H0 mT 162 28 (s_load vI 162 29 2) := ⟨ok_load _ _ _ _, so_iload_n mT162 dX4_ofFrame_28 rfl⟩
theorem gT162_29 : sG l g D H0 mT 162 29 (s_const 162 30 (.int 0)) := ⟨ok_const _ _ _, so_iconst mT162 dX4_ofFrame_29 (by decide)⟩
theorem gT162_30 : sG l g D H0 mT 162 30 (s_const 162 31 (.int 2)) := ⟨ok_const _ _ _, so_iconst mT162 dX4_ofFrame_30 (by decide)⟩
theorem gT162_31 : sG l g D H0 mT 162 31 (s_callk 162 34 140 [0, 0, 0] 3) := ⟨ok_callk _ _ _ _ _, sk_call (by decide) (so_callS mT162 mo140 (by decide) dX4_ofFrame_31 q1244 q1245 q66)⟩
theorem gT162_34 : sG l g D H0 mT 162 34 (s_if 162 37 46 (fun a => a = 0)) := ⟨ok_if _ _ _ _, so_if_eq mT162 dX4_ofFrame_34 (by decide)⟩
theorem gT162_37 : sG l g D H0 mT 162 37 (s_load vRf 162 38 0) := ⟨ok_load _ _ _ _, so_aload_n mT162 dX4_ofFrame_37 rfl⟩
theorem gT162_38 : sG l g D H0 mT 162 38 (s_load vI 162 39 1) := ⟨ok_load _ _ _ _, so_iload_n mT162 dX4_ofFrame_38 rfl⟩
theorem gT162_39 : sG l g D H0 mT 162 39 (s_load vI 162 40 2) := ⟨ok_load _ _ _ _, so_iload_n mT162 dX4_ofFrame_39 rfl⟩
theorem gT162_40 : sG l g D H0 mT 162 40 (s_callvk 162 43 163 3 [0, 0] 4) := ⟨ok_callvk _ _ _ _ _ _, sk_callv (by decide) (so_callV mT162 mo163 (by decide) (t := 3) (C := "HyperVaneModel") (by decide) rfl rfl dX4_ofFrame_40 q1588 q1590 qs46 q66)⟩
theorem gT162_43 : sG l g D H0 mT 162 43 (s_goto 162 51) := ⟨ok_goto _ _, so_goto mT162 dX4_ofFrame_43 (by decide)⟩
theorem gT162_46 : sG l g D H0 mT 162 46 (s_load vRf 162 47 0) := ⟨ok_load _ _ _ _, so_aload_n mT162 dX4_ofFrame_46 rfl⟩
theorem gT162_47 : sG l g D H0 mT 162 47 (s_const 162 48 (.int 2)) := ⟨ok_const _ _ _, so_iconst mT162 dX4_ofFrame_47 (by decide)⟩
theorem gT162_48 : sG l g D H0 mT 162 48 (s_callvk 162 51 141 3 [0] 2) := ⟨ok_callvk _ _ _ _ _ _, sk_callv (by decide) (so_callV mT162 mo141 (by decide) (t := 3) (C := "HyperVaneModel") (by decide) rfl rfl dX4_ofFrame_48 q1247 q1249 qs31 q66)⟩
theorem gT162_51 : sG l g D H0 mT 162 51 (s_ret pI) := ⟨ok_ret _, so_iret mT162 dX4_ofFrame_51⟩
theorem gT162 (pc : Nat) : sG l g D H0 mT 162 pc (tT162 g pc) := sG_cond (sG_cond (sG_cond (sG_cond (sG_leaf gT162_0) (sG_cond (sG_leaf gT162_1) (sG_leaf gT162_2))) (sG_cond (sG_cond (sG_leaf gT162_5) (sG_leaf gT162_6)) (sG_cond (sG_leaf gT162_7) (sG_leaf gT162_8)))) (sG_cond (sG_cond (sG_cond (sG_leaf gT162_11) (sG_leaf gT162_14)) (sG_cond (sG_leaf gT162_15) (sG_leaf gT162_16))) (sG_cond (sG_cond (sG_leaf gT162_19) (sG_leaf gT162_22)) (sG_cond (sG_leaf gT162_23) (sG_leaf gT162_24))))) (sG_cond (sG_cond (sG_cond (sG_leaf gT162_27) (sG_cond (sG_leaf gT162_28) (sG_leaf gT162_29))) (sG_cond (sG_cond (sG_leaf gT162_30) (sG_leaf gT162_31)) (sG_cond (sG_leaf gT162_34) (sG_leaf gT162_37)))) (sG_cond (sG_cond (sG_cond (sG_leaf gT162_38) (sG_leaf gT162_39)) (sG_cond (sG_leaf gT162_40) (sG_leaf gT162_43))) (sG_cond (sG_cond (sG_leaf gT162_46) (sG_leaf gT162_47)) (sG_cond (sG_leaf gT162_48) (sG_leaf gT162_51)))))
theorem gT163_0 : sG l g D H0 mT 163 0 (s_load vRf 163 1 0) := ⟨ok_load _ _ _ _, so_aload_n mT163 dX4_ofFrameNow_0 rfl⟩
theorem gT163_1 : sG l g D H0 mT 163 1 (s_getf 163 4 3 1) := ⟨ok_getf _ _ _ _, so_getf mT163 cl3 (k := 1) (by decide) dX4_ofFrameNow_1 q1227 (fs_rf rfl)⟩
theorem gT163_4 : sG l g D H0 mT 163 4 (s_load vI 163 5 1) := ⟨ok_load _ _ _ _, so_iload_n mT163 dX4_ofFrameNow_4 rfl⟩
theorem gT163_5 : sG l g D H0 mT 163 5 (s_callvk 163 8 180 4 [0] 4) := ⟨ok_callvk _ _ _ _ _ _, sk_callv (by decide) (so_callV mT163 mo180 (by decide) (t := 4) (C := "HyperVaneModel$World") (by decide) rfl rfl dX4_ofFrameNow_5 q1592 q1449 q1450 q67)⟩
theorem gT163_8 : sG l g D H0 mT 163 8 (s_store vI 163 9 3) := ⟨ok_store _ _ _ _, so_istore_n mT163 dX4_ofFrameNow_8 rfl⟩
theorem gT163_9 : sG l g D H0 mT 163 9 (s_load vI 163 10 3) := ⟨ok_load _ _ _ _, so_iload_n mT163 dX4_ofFrameNow_9 rfl⟩
theorem gT163_10 : sG l g D H0 mT 163 10 (s_const 163 11 (.int (-1))) := ⟨ok_const _ _ _, so_iconst mT163 dX4_ofFrameNow_10 (by decide)⟩
theorem gT163_11 : sG l g D H0 mT 163 11 (s_icmp 163 18 14 (fun a b => a = b)) := ⟨ok_icmp _ _ _ _, so_icmp_ne mT163 dX4_ofFrameNow_11 (by decide)⟩
theorem gT163_14 : sG l g D H0 mT 163 14 (s_const 163 15 (.int (-1))) := ⟨ok_const _ _ _, so_iconst mT163 dX4_ofFrameNow_14 (by decide)⟩
theorem gT163_15 : sG l g D H0 mT 163 15 (s_goto 163 66) := ⟨ok_goto _ _, so_goto mT163 dX4_ofFrameNow_15 (by decide)⟩
theorem gT163_18 : sG l g D H0 mT 163 18 (s_load vI 163 19 2) := ⟨ok_load _ _ _ _, so_iload_n mT163 dX4_ofFrameNow_18 rfl⟩
theorem gT163_19 : sG l g D H0 mT 163 19 (s_if 163 29 22 (fun a => a = 0)) := ⟨ok_if _ _ _ _, so_if_ne mT163 dX4_ofFrameNow_19 (by decide)⟩
theorem gT163_22 : sG l g D H0 mT 163 22 (s_load vI 163 23 3) := ⟨ok_load _ _ _ _, so_iload_n mT163 dX4_ofFrameNow_22 rfl⟩
theorem gT163_23 : sG l g D H0 mT 163 23 (s_const 163 25 (.int 8)) := ⟨ok_const _ _ _, so_bipush mT163 dX4_ofFrameNow_23 (by decide)⟩
theorem gT163_25 : sG l g D H0 mT 163 25 (s_div 163 26 (fun a b => a / b)) := ⟨ok_div _ _ _, so_idiv mT163 dX4_ofFrameNow_25⟩
theorem gT163_26 : sG l g D H0 mT 163 26 (s_goto 163 66) := ⟨ok_goto _ _, so_goto mT163 dX4_ofFrameNow_26 (by decide)⟩
theorem gT163_29 : sG l g D H0 mT 163 29 (s_load vI 163 30 2) := ⟨ok_load _ _ _ _, so_iload_n mT163 dX4_ofFrameNow_29 rfl⟩
theorem gT163_30 : sG l g D H0 mT 163 30 (s_const 163 31 (.int 1)) := ⟨ok_const _ _ _, so_iconst mT163 dX4_ofFrameNow_30 (by decide)⟩
theorem gT163_31 : sG l g D H0 mT 163 31 (s_icmp 163 41 34 (fun a b => a = b)) := ⟨ok_icmp _ _ _ _, so_icmp_ne mT163 dX4_ofFrameNow_31 (by decide)⟩
theorem gT163_34 : sG l g D H0 mT 163 34 (s_load vI 163 35 3) := ⟨ok_load _ _ _ _, so_iload_n mT163 dX4_ofFrameNow_34 rfl⟩
theorem gT163_35 : sG l g D H0 mT 163 35 (s_const 163 37 (.int 8)) := ⟨ok_const _ _ _, so_bipush mT163 dX4_ofFrameNow_35 (by decide)⟩
theorem gT163_37 : sG l g D H0 mT 163 37 (s_div 163 38 (fun a b => a - a / b * b)) := ⟨ok_div _ _ _, so_irem mT163 dX4_ofFrameNow_37⟩
theorem gT163_38 : sG l g D H0 mT 163 38 (s_goto 163 66) := ⟨ok_goto _ _, so_goto mT163 dX4_ofFrameNow_38 (by decide)⟩
theorem gT163_41 : sG l g D H0 mT 163 41 (s_load vRf 163 42 0) := ⟨ok_load _ _ _ _, so_aload_n mT163 dX4_ofFrameNow_41 rfl⟩
theorem gT163_42 : sG l g D H0 mT 163 42 (s_getf 163 45 3 1) := ⟨ok_getf _ _ _ _, so_getf mT163 cl3 (k := 1) (by decide) dX4_ofFrameNow_42 q1227 (fs_rf rfl)⟩
theorem gT163_45 : sG l g D H0 mT 163 45 (s_getf 163 48 4 0) := ⟨ok_getf _ _ _ _, so_getfN mT163 cl4 (k := 0) (by decide) dX4_ofFrameNow_45 q1187 (fs_rf rfl)⟩
theorem gT163_48 : sG l g D H0 mT 163 48 (s_load vI 163 49 3) := ⟨ok_load _ _ _ _, so_iload_n mT163 dX4_ofFrameNow_48 rfl⟩
theorem gT163_49 : sG l g D H0 mT 163 49 (s_const 163 51 (.int 8)) := ⟨ok_const _ _ _, so_bipush mT163 dX4_ofFrameNow_49 (by decide)⟩
theorem gT163_51 : sG l g D H0 mT 163 51 (s_div 163 52 (fun a b => a / b)) := ⟨ok_div _ _ _, so_idiv mT163 dX4_ofFrameNow_51⟩
theorem gT163_52 : sG l g D H0 mT 163 52 (s_callvk 163 55 25 10 [0] 2) := ⟨ok_callvk _ _ _ _ _ _, sk_callv (by decide) (so_callV mT163 mo25 (by decide) (t := 10) (C := "java/util/ArrayList") (by decide) rfl rfl dX4_ofFrameNow_52 q1423 q439 q440 q58)⟩
theorem gT163_55 : sG l g D H0 mT 163 55 (s_cast 163 58 [7]) := ⟨ok_cast _ _ _, so_cast mT163 (T := "HyperVaneModel$Guest") (ts := [7]) (by intro u hu; rw [List.mem_singleton] at hu; subst hu; exact ⟨by decide, Or.inl rfl⟩) dX4_ofFrameNow_55 q1252⟩
theorem gT163_58 : sG l g D H0 mT 163 58 (s_getf 163 61 7 16) := ⟨ok_getf _ _ _ _, so_getfN mT163 cl7 (k := 16) (by decide) dX4_ofFrameNow_58 q1310 (fs_rf rfl)⟩
theorem gT163_61 : sG l g D H0 mT 163 61 (s_load vI 163 62 3) := ⟨ok_load _ _ _ _, so_iload_n mT163 dX4_ofFrameNow_61 rfl⟩
theorem gT163_62 : sG l g D H0 mT 163 62 (s_const 163 64 (.int 8)) := ⟨ok_const _ _ _, so_bipush mT163 dX4_ofFrameNow_62 (by decide)⟩
theorem gT163_64 : sG l g D H0 mT 163 64 (s_div 163 65 (fun a b => a - a / b * b)) := ⟨ok_div _ _ _, so_irem mT163 dX4_ofFrameNow_64⟩
theorem gT163_65 : sG l g D H0 mT 163 65 (s_ald 163 66 20) := ⟨ok_ald _ _ _, so_iald mT163 a20 dX4_ofFrameNow_65⟩
theorem gT163_66 : sG l g D H0 mT 163 66 (s_ret pI) := ⟨ok_ret _, so_iret mT163 dX4_ofFrameNow_66⟩
theorem gT163 (pc : Nat) : sG l g D H0 mT 163 pc (tT163 g pc) := sG_cond (sG_cond (sG_cond (sG_cond (sG_cond (sG_leaf gT163_0) (sG_leaf gT163_1)) (sG_cond (sG_leaf gT163_4) (sG_leaf gT163_5))) (sG_cond (sG_cond (sG_leaf gT163_8) (sG_leaf gT163_9)) (sG_cond (sG_leaf gT163_10) (sG_cond (sG_leaf gT163_11) (sG_leaf gT163_14))))) (sG_cond (sG_cond (sG_cond (sG_leaf gT163_15) (sG_leaf gT163_18)) (sG_cond (sG_leaf gT163_19) (sG_leaf gT163_22))) (sG_cond (sG_cond (sG_leaf gT163_23) (sG_leaf gT163_25)) (sG_cond (sG_leaf gT163_26) (sG_cond (sG_leaf gT163_29) (sG_leaf gT163_30)))))) (sG_cond (sG_cond (sG_cond (sG_cond (sG_leaf gT163_31) (sG_leaf gT163_34)) (sG_cond (sG_leaf gT163_35) (sG_leaf gT163_37))) (sG_cond (sG_cond (sG_leaf gT163_38) (sG_leaf gT163_41)) (sG_cond (sG_leaf gT163_42) (sG_cond (sG_leaf gT163_45) (sG_leaf gT163_48))))) (sG_cond (sG_cond (sG_cond (sG_leaf gT163_49) (sG_leaf gT163_51)) (sG_cond (sG_leaf gT163_52) (sG_cond (sG_leaf gT163_55) (sG_leaf gT163_58)))) (sG_cond (sG_cond (sG_leaf gT163_61) (sG_leaf gT163_62)) (sG_cond (sG_leaf gT163_64) (sG_cond (sG_leaf gT163_65) (sG_leaf gT163_66))))))
theorem gT164_0 : sG l g D H0 mT 164 0 (s_load vRf 164 1 0) := ⟨ok_load _ _ _ _, so_aload_n mT164 dX4_logged_0 rfl⟩
theorem gT164_1 : sG l g D H0 mT 164 1 (s_const 164 2 (.int 0)) := ⟨ok_const _ _ _, so_iconst mT164 dX4_logged_1 (by decide)⟩
theorem gT164_2 : sG l g D H0 mT 164 2 (s_putf g pI 164 5 3 0) := ⟨ok_putf _ _ _ _ _ _, so_putf mT164 cl3 (k := 0) (by decide) fI rfl dX4_logged_2 q1226 (fs_rf rfl)⟩
theorem gT164_5 : sG l g D H0 mT 164 5 (s_load vRf 164 6 0) := ⟨ok_load _ _ _ _, so_aload_n mT164 dX4_logged_5 rfl⟩
theorem gT164_6 : sG l g D H0 mT 164 6 (s_load vI 164 7 1) := ⟨ok_load _ _ _ _, so_iload_n mT164 dX4_logged_6 rfl⟩
theorem gT164_7 : sG l g D H0 mT 164 7 (s_callvk 164 10 143 3 [0] 2) := ⟨ok_callvk _ _ _ _ _ _, sk_callv (by decide) (so_callV mT164 mo143 (by decide) (t := 3) (C := "HyperVaneModel") (by decide) rfl rfl dX4_logged_7 q1416 q1418 qs32 q66)⟩
theorem gT164_10 : sG l g D H0 mT 164 10 (s_if 164 19 13 (fun a => a = 0)) := ⟨ok_if _ _ _ _, so_if_ne mT164 dX4_logged_10 (by decide)⟩
theorem gT164_13 : sG l g D H0 mT 164 13 (s_load vRf 164 14 0) := ⟨ok_load _ _ _ _, so_aload_n mT164 dX4_logged_13 rfl⟩
theorem gT164_14 : sG l g D H0 mT 164 14 (s_const 164 15 (.int 1)) := ⟨ok_const _ _ _, so_iconst mT164 dX4_logged_14 (by decide)⟩
theorem gT164_15 : sG l g D H0 mT 164 15 (s_callvk 164 18 141 3 [0] 2) := ⟨ok_callvk _ _ _ _ _ _, sk_callv (by decide) (so_callV mT164 mo141 (by decide) (t := 3) (C := "HyperVaneModel") (by decide) rfl rfl dX4_logged_15 q1247 q1249 qs31 q66)⟩
theorem gT164_18 : sG l g D H0 mT 164 18 (s_ret pI) := ⟨ok_ret _, so_iret mT164 dX4_logged_18⟩
theorem gT164_19 : sG l g D H0 mT 164 19 (s_load vI 164 20 2) := ⟨ok_load _ _ _ _, so_iload_n mT164 dX4_logged_19 rfl⟩
theorem gT164_20 : sG l g D H0 mT 164 20 (s_if 164 23 32 (fun a => a < 0)) := ⟨ok_if _ _ _ _, so_if_lt mT164 dX4_logged_20 (by decide)⟩
theorem gT164_23 : sG l g D H0 mT 164 23 (s_load vRf 164 24 0) := ⟨ok_load _ _ _ _, so_aload_n mT164 dX4_logged_23 rfl⟩
theorem gT164_24 : sG l g D H0 mT 164 24 (s_load vI 164 25 1) := ⟨ok_load _ _ _ _, so_iload_n mT164 dX4_logged_24 rfl⟩
theorem gT164_25 : sG l g D H0 mT 164 25 (s_load vI 164 26 2) := ⟨ok_load _ _ _ _, so_iload_n mT164 dX4_logged_25 rfl⟩
theorem gT164_26 : sG l g D H0 mT 164 26 (s_callvk 164 29 165 3 [0, 0] 4) := ⟨ok_callvk _ _ _ _ _ _, sk_callv (by decide) (so_callV mT164 mo165 (by decide) (t := 3) (C := "HyperVaneModel") (by decide) rfl rfl dX4_logged_26 q1597 q1599 qs47 q66)⟩
theorem gT164_29 : sG l g D H0 mT 164 29 (s_goto 164 37) := ⟨ok_goto _ _, so_goto mT164 dX4_logged_29 (by decide)⟩
theorem gT164_32 : sG l g D H0 mT 164 32 (s_load vRf 164 33 0) := ⟨ok_load _ _ _ _, so_aload_n mT164 dX4_logged_32 rfl⟩
theorem gT164_33 : sG l g D H0 mT 164 33 (s_const 164 34 (.int 2)) := ⟨ok_const _ _ _, so_iconst mT164 dX4_logged_33 (by decide)⟩
theorem gT164_34 : sG l g D H0 mT 164 34 (s_callvk 164 37 141 3 [0] 2) := ⟨ok_callvk _ _ _ _ _ _, sk_callv (by decide) (so_callV mT164 mo141 (by decide) (t := 3) (C := "HyperVaneModel") (by decide) rfl rfl dX4_logged_34 q1247 q1249 qs31 q66)⟩
theorem gT164_37 : sG l g D H0 mT 164 37 (s_ret pI) := ⟨ok_ret _, so_iret mT164 dX4_logged_37⟩
theorem gT164 (pc : Nat) : sG l g D H0 mT 164 pc (tT164 g pc) := sG_cond (sG_cond (sG_cond (sG_cond (sG_leaf gT164_0) (sG_leaf gT164_1)) (sG_cond (sG_leaf gT164_2) (sG_cond (sG_leaf gT164_5) (sG_leaf gT164_6)))) (sG_cond (sG_cond (sG_leaf gT164_7) (sG_cond (sG_leaf gT164_10) (sG_leaf gT164_13))) (sG_cond (sG_leaf gT164_14) (sG_cond (sG_leaf gT164_15) (sG_leaf gT164_18))))) (sG_cond (sG_cond (sG_cond (sG_leaf gT164_19) (sG_leaf gT164_20)) (sG_cond (sG_leaf gT164_23) (sG_cond (sG_leaf gT164_24) (sG_leaf gT164_25)))) (sG_cond (sG_cond (sG_leaf gT164_26) (sG_cond (sG_leaf gT164_29) (sG_leaf gT164_32))) (sG_cond (sG_leaf gT164_33) (sG_cond (sG_leaf gT164_34) (sG_leaf gT164_37)))))
theorem gT165_0 : sG l g D H0 mT 165 0 (s_load vRf 165 1 0) := ⟨ok_load _ _ _ _, so_aload_n mT165 dX4_loggedNow_0 rfl⟩
theorem gT165_1 : sG l g D H0 mT 165 1 (s_getf 165 4 3 1) := ⟨ok_getf _ _ _ _, so_getf mT165 cl3 (k := 1) (by decide) dX4_loggedNow_1 q1227 (fs_rf rfl)⟩
theorem gT165_4 : sG l g D H0 mT 165 4 (s_getf 165 7 4 0) := ⟨ok_getf _ _ _ _, so_getfN mT165 cl4 (k := 0) (by decide) dX4_loggedNow_4 q1187 (fs_rf rfl)⟩
theorem gT165_7 : sG l g D H0 mT 165 7 (s_load vI 165 8 1) := ⟨ok_load _ _ _ _, so_iload_n mT165 dX4_loggedNow_7 rfl⟩
theorem gT165_8 : sG l g D H0 mT 165 8 (s_callvk 165 11 25 10 [0] 2) := ⟨ok_callvk _ _ _ _ _ _, sk_callv (by decide) (so_callV mT165 mo25 (by decide) (t := 10) (C := "java/util/ArrayList") (by decide) rfl rfl dX4_loggedNow_8 q1423 q439 q440 q58)⟩
theorem gT165_11 : sG l g D H0 mT 165 11 (s_cast 165 14 [7]) := ⟨ok_cast _ _ _, so_cast mT165 (T := "HyperVaneModel$Guest") (ts := [7]) (by intro u hu; rw [List.mem_singleton] at hu; subst hu; exact ⟨by decide, Or.inl rfl⟩) dX4_loggedNow_11 q1252⟩
theorem gT165_14 : sG l g D H0 mT 165 14 (s_store vRf 165 15 3) := ⟨ok_store _ _ _ _, so_astore_n mT165 dX4_loggedNow_14 rfl⟩
theorem gT165_15 : sG l g D H0 mT 165 15 (s_load vRf 165 16 3) := ⟨ok_load _ _ _ _, so_aload_n mT165 dX4_loggedNow_15 rfl⟩
theorem gT165_16 : sG l g D H0 mT 165 16 (s_getf 165 19 7 25) := ⟨ok_getf _ _ _ _, so_getfN mT165 cl7 (k := 25) (by decide) dX4_loggedNow_16 q1333 (fs_rf rfl)⟩
theorem gT165_19 : sG l g D H0 mT 165 19 (s_if 165 22 50 (fun a => a = 0)) := ⟨ok_if _ _ _ _, so_if_eq mT165 dX4_loggedNow_19 (by decide)⟩
theorem gT165_22 : sG l g D H0 mT 165 22 (s_load vI 165 23 2) := ⟨ok_load _ _ _ _, so_iload_n mT165 dX4_loggedNow_22 rfl⟩
theorem gT165_23 : sG l g D H0 mT 165 23 (s_load vRf 165 24 3) := ⟨ok_load _ _ _ _, so_aload_n mT165 dX4_loggedNow_23 rfl⟩
theorem gT165_24 : sG l g D H0 mT 165 24 (s_getf 165 27 7 30) := ⟨ok_getf _ _ _ _, so_getfN mT165 cl7 (k := 30) (by decide) dX4_loggedNow_24 q1343 (fs_rf rfl)⟩
theorem gT165_27 : sG l g D H0 mT 165 27 (s_callvk 165 30 15 10 [] 1) := ⟨ok_callvk _ _ _ _ _ _, sk_callv (by decide) (so_callV mT165 mo15 (by decide) (t := 10) (C := "java/util/ArrayList") (by decide) rfl rfl dX4_loggedNow_27 q1251 q173 q174 q58)⟩
theorem gT165_30 : sG l g D H0 mT 165 30 (s_icmp 165 33 50 (fun a b => b ≤ a)) := ⟨ok_icmp _ _ _ _, so_icmp_ge mT165 dX4_loggedNow_30 (by decide)⟩
theorem gT165_33 : sG l g D H0 mT 165 33 (s_load vRf 165 34 3) := ⟨ok_load _ _ _ _, so_aload_n mT165 dX4_loggedNow_33 rfl⟩
theorem gT165_34 : sG l g D H0 mT 165 34 (s_getf 165 37 7 30) := ⟨ok_getf _ _ _ _, so_getfN mT165 cl7 (k := 30) (by decide) dX4_loggedNow_34 q1343 (fs_rf rfl)⟩
theorem gT165_37 : sG l g D H0 mT 165 37 (s_load vI 165 38 2) := ⟨ok_load _ _ _ _, so_iload_n mT165 dX4_loggedNow_37 rfl⟩
theorem gT165_38 : sG l g D H0 mT 165 38 (s_callvk 165 41 25 10 [0] 2) := ⟨ok_callvk _ _ _ _ _ _, sk_callv (by decide) (so_callV mT165 mo25 (by decide) (t := 10) (C := "java/util/ArrayList") (by decide) rfl rfl dX4_loggedNow_38 q1423 q439 q440 q58)⟩
theorem gT165_41 : sG l g D H0 mT 165 41 (s_cast 165 44 [12]) := ⟨ok_cast _ _ _, so_cast mT165 (T := "java/lang/Integer") (ts := [12]) (by intro u hu; rw [List.mem_singleton] at hu; subst hu; exact ⟨by decide, Or.inl rfl⟩) dX4_loggedNow_41 q1601⟩
theorem gT165_44 : sG l g D H0 mT 165 44 (s_callvk 165 47 8 12 [] 1) := ⟨ok_callvk _ _ _ _ _ _, sk_callv (by decide) (so_callV mT165 mo8 (by decide) (t := 12) (C := "java/lang/Integer") (by decide) rfl rfl dX4_loggedNow_44 q1602 q430 q431 q82)⟩
theorem gT165_47 : sG l g D H0 mT 165 47 (s_goto 165 51) := ⟨ok_goto _ _, so_goto mT165 dX4_loggedNow_47 (by decide)⟩
theorem gT165_50 : sG l g D H0 mT 165 50 (s_const 165 51 (.int (-1))) := ⟨ok_const _ _ _, so_iconst mT165 dX4_loggedNow_50 (by decide)⟩
theorem gT165_51 : sG l g D H0 mT 165 51 (s_ret pI) := ⟨ok_ret _, so_iret mT165 dX4_loggedNow_51⟩
theorem gT165 (pc : Nat) : sG l g D H0 mT 165 pc (tT165 g pc) := sG_cond (sG_cond (sG_cond (sG_cond (sG_leaf gT165_0) (sG_cond (sG_leaf gT165_1) (sG_leaf gT165_4))) (sG_cond (sG_leaf gT165_7) (sG_cond (sG_leaf gT165_8) (sG_leaf gT165_11)))) (sG_cond (sG_cond (sG_leaf gT165_14) (sG_cond (sG_leaf gT165_15) (sG_leaf gT165_16))) (sG_cond (sG_leaf gT165_19) (sG_cond (sG_leaf gT165_22) (sG_leaf gT165_23))))) (sG_cond (sG_cond (sG_cond (sG_leaf gT165_24) (sG_cond (sG_leaf gT165_27) (sG_leaf gT165_30))) (sG_cond (sG_leaf gT165_33) (sG_cond (sG_leaf gT165_34) (sG_leaf gT165_37)))) (sG_cond (sG_cond (sG_leaf gT165_38) (sG_cond (sG_leaf gT165_41) (sG_leaf gT165_44))) (sG_cond (sG_leaf gT165_47) (sG_cond (sG_leaf gT165_50) (sG_leaf gT165_51)))))
theorem gT166_0 : sG l g D H0 mT 166 0 (s_load vRf 166 1 0) := ⟨ok_load _ _ _ _, so_aload_n mT166 dX4_many_0 rfl⟩
theorem gT166_1 : sG l g D H0 mT 166 1 (s_const 166 2 (.int 0)) := ⟨ok_const _ _ _, so_iconst mT166 dX4_many_1 (by decide)⟩
theorem gT166_2 : sG l g D H0 mT 166 2 (s_putf g pI 166 5 3 0) := ⟨ok_putf _ _ _ _ _ _, so_putf mT166 cl3 (k := 0) (by decide) fI rfl dX4_many_2 q1226 (fs_rf rfl)⟩
theorem gT166_5 : sG l g D H0 mT 166 5 (s_load vI 166 6 1) := ⟨ok_load _ _ _ _, so_iload_n mT166 dX4_many_5 rfl⟩
theorem gT166_6 : sG l g D H0 mT 166 6 (s_const 166 7 (.int 0)) := ⟨ok_const _ _ _, so_iconst mT166 dX4_many_6 (by decide)⟩
theorem gT166_7 : sG l g D H0 mT 166 7 (s_const 166 9 (.int 10)) := ⟨ok_const _ _ _, so_bipush mT166 dX4_many_7 (by decide)⟩
theorem gT166_9 : sG l g D H0 mT 166 9 (s_callk 166 12 140 [0, 0, 0] 3) := ⟨ok_callk _ _ _ _ _, sk_call (by decide) (so_callS mT166 mo140 (by decide) dX4_many_9 q1244 q1245 q66)⟩
theorem gT166_12 : sG l g D H0 mT 166 12 (s_if 166 15 23 (fun a => a = 0)) := ⟨ok_if _ _ _ _, so_if_eq mT166 dX4_many_12 (by decide)⟩
theorem gT166_15 : sG l g D H0 mT 166 15 (s_load vRf 166 16 0) := ⟨ok_load _ _ _ _, so_aload_n mT166 dX4_many_15 rfl⟩
theorem gT166_16 : sG l g D H0 mT 166 16 (s_load vI 166 17 1) := ⟨ok_load _ _ _ _, so_iload_n mT166 dX4_many_16 rfl⟩
theorem gT166_17 : sG l g D H0 mT 166 17 (s_callvk 166 20 167 3 [0] 10) := ⟨ok_callvk _ _ _ _ _ _, sk_callv (by decide) (so_callV mT166 mo167 (by decide) (t := 3) (C := "HyperVaneModel") (by decide) rfl rfl dX4_many_17 q1607 q1609 qs48 q66)⟩
theorem gT166_20 : sG l g D H0 mT 166 20 (s_goto 166 28) := ⟨ok_goto _ _, so_goto mT166 dX4_many_20 (by decide)⟩
theorem gT166_23 : sG l g D H0 mT 166 23 (s_load vRf 166 24 0) := ⟨ok_load _ _ _ _, so_aload_n mT166 dX4_many_23 rfl⟩
theorem gT166_24 : sG l g D H0 mT 166 24 (s_const 166 25 (.int 1)) := ⟨ok_const _ _ _, so_iconst mT166 dX4_many_24 (by decide)⟩
theorem gT166_25 : sG l g D H0 mT 166 25 (s_callvk 166 28 141 3 [0] 2) := ⟨ok_callvk _ _ _ _ _ _, sk_callv (by decide) (so_callV mT166 mo141 (by decide) (t := 3) (C := "HyperVaneModel") (by decide) rfl rfl dX4_many_25 q1247 q1249 qs31 q66)⟩
theorem gT166_28 : sG l g D H0 mT 166 28 (s_ret pI) := ⟨ok_ret _, so_iret mT166 dX4_many_28⟩
theorem gT166 (pc : Nat) : sG l g D H0 mT 166 pc (tT166 g pc) := sG_cond (sG_cond (sG_cond (sG_cond (sG_leaf gT166_0) (sG_leaf gT166_1)) (sG_cond (sG_leaf gT166_2) (sG_leaf gT166_5))) (sG_cond (sG_cond (sG_leaf gT166_6) (sG_leaf gT166_7)) (sG_cond (sG_leaf gT166_9) (sG_leaf gT166_12)))) (sG_cond (sG_cond (sG_cond (sG_leaf gT166_15) (sG_leaf gT166_16)) (sG_cond (sG_leaf gT166_17) (sG_leaf gT166_20))) (sG_cond (sG_cond (sG_leaf gT166_23) (sG_leaf gT166_24)) (sG_cond (sG_leaf gT166_25) (sG_leaf gT166_28))))
theorem gT167_0 : sG l g D H0 mT 167 0 (s_const 167 1 (.int 0)) := ⟨ok_const _ _ _, so_iconst mT167 dX4_manyNow_0 (by decide)⟩
theorem gT167_1 : sG l g D H0 mT 167 1 (s_store vI 167 2 2) := ⟨ok_store _ _ _ _, so_istore_n mT167 dX4_manyNow_1 rfl⟩
theorem gT167_2 : sG l g D H0 mT 167 2 (s_const 167 3 (.int 0)) := ⟨ok_const _ _ _, so_iconst mT167 dX4_manyNow_2 (by decide)⟩
theorem gT167_3 : sG l g D H0 mT 167 3 (s_store vI 167 4 3) := ⟨ok_store _ _ _ _, so_istore_n mT167 dX4_manyNow_3 rfl⟩
theorem gT167_4 : sG l g D H0 mT 167 4 (s_load vI 167 5 3) := ⟨ok_load _ _ _ _, so_iload_n mT167 dX4_manyNow_4 rfl⟩
theorem gT167_5 : sG l g D H0 mT 167 5 (s_load vRf 167 6 0) := ⟨ok_load _ _ _ _, so_aload_n mT167 dX4_manyNow_5 rfl⟩
theorem gT167_6 : sG l g D H0 mT 167 6 (s_getf 167 9 3 1) := ⟨ok_getf _ _ _ _, so_getf mT167 cl3 (k := 1) (by decide) dX4_manyNow_6 q1227 (fs_rf rfl)⟩
theorem gT167_9 : sG l g D H0 mT 167 9 (s_getf 167 12 4 2) := ⟨ok_getf _ _ _ _, so_getfN mT167 cl4 (k := 2) (by decide) dX4_manyNow_9 q1191 (fs_rf rfl)⟩
theorem gT167_12 : sG l g D H0 mT 167 12 (s_icmp 167 15 41 (fun a b => b ≤ a)) := ⟨ok_icmp _ _ _ _, so_icmp_ge mT167 dX4_manyNow_12 (by decide)⟩
theorem gT167_15 : sG l g D H0 mT 167 15 (s_load vI 167 16 2) := ⟨ok_load _ _ _ _, so_iload_n mT167 dX4_manyNow_15 rfl⟩
theorem gT167_16 : sG l g D H0 mT 167 16 (s_load vRf 167 17 0) := ⟨ok_load _ _ _ _, so_aload_n mT167 dX4_manyNow_16 rfl⟩
theorem gT167_17 : sG l g D H0 mT 167 17 (s_getf 167 20 3 1) := ⟨ok_getf _ _ _ _, so_getf mT167 cl3 (k := 1) (by decide) dX4_manyNow_17 q1227 (fs_rf rfl)⟩
theorem gT167_20 : sG l g D H0 mT 167 20 (s_load vI 167 21 3) := ⟨ok_load _ _ _ _, so_iload_n mT167 dX4_manyNow_20 rfl⟩
theorem gT167_21 : sG l g D H0 mT 167 21 (s_callvk 167 24 180 4 [0] 4) := ⟨ok_callvk _ _ _ _ _ _, sk_callv (by decide) (so_callV mT167 mo180 (by decide) (t := 4) (C := "HyperVaneModel$World") (by decide) rfl rfl dX4_manyNow_21 q1592 q1449 q1450 q67)⟩
theorem gT167_24 : sG l g D H0 mT 167 24 (s_const 167 25 (.int (-1))) := ⟨ok_const _ _ _, so_iconst mT167 dX4_manyNow_24 (by decide)⟩
theorem gT167_25 : sG l g D H0 mT 167 25 (s_icmp 167 32 28 (fun a b => a = b)) := ⟨ok_icmp _ _ _ _, so_icmp_ne mT167 dX4_manyNow_25 (by decide)⟩
theorem gT167_28 : sG l g D H0 mT 167 28 (s_const 167 29 (.int 1)) := ⟨ok_const _ _ _, so_iconst mT167 dX4_manyNow_28 (by decide)⟩
theorem gT167_29 : sG l g D H0 mT 167 29 (s_goto 167 33) := ⟨ok_goto _ _, so_goto mT167 dX4_manyNow_29 (by decide)⟩
theorem gT167_32 : sG l g D H0 mT 167 32 (s_const 167 33 (.int 0)) := ⟨ok_const _ _ _, so_iconst mT167 dX4_manyNow_32 (by decide)⟩
theorem gT167_33 : sG l g D H0 mT 167 33 (s_bin 167 34 (fun a b => a + b)) := ⟨ok_bin _ _ _, so_iadd mT167 dX4_manyNow_33⟩
theorem gT167_34 : sG l g D H0 mT 167 34 (s_store vI 167 35 2) := ⟨ok_store _ _ _ _, so_istore_n mT167 dX4_manyNow_34 rfl⟩
theorem gT167_35 : sG l g D H0 mT 167 35 (s_iinc 167 38 3 1) := ⟨ok_iinc _ _ _ _, so_iinc mT167 dX4_manyNow_35 (by decide)⟩
theorem gT167_38 : sG l g D H0 mT 167 38 (s_goto 167 4) := ⟨ok_goto _ _, so_goto mT167 dX4_manyNow_38 (by decide)⟩
theorem gT167_41 : sG l g D H0 mT 167 41 (s_const 167 42 (.int 0)) := ⟨ok_const _ _ _, so_iconst mT167 dX4_manyNow_41 (by decide)⟩
theorem gT167_42 : sG l g D H0 mT 167 42 (s_store vI 167 43 3) := ⟨ok_store _ _ _ _, so_istore_n mT167 dX4_manyNow_42 rfl⟩
theorem gT167_43 : sG l g D H0 mT 167 43 (s_load vRf 167 44 0) := ⟨ok_load _ _ _ _, so_aload_n mT167 dX4_manyNow_43 rfl⟩
theorem gT167_44 : sG l g D H0 mT 167 44 (s_getf 167 47 3 1) := ⟨ok_getf _ _ _ _, so_getf mT167 cl3 (k := 1) (by decide) dX4_manyNow_44 q1227 (fs_rf rfl)⟩
theorem gT167_47 : sG l g D H0 mT 167 47 (s_getf 167 50 4 0) := ⟨ok_getf _ _ _ _, so_getfN mT167 cl4 (k := 0) (by decide) dX4_manyNow_47 q1187 (fs_rf rfl)⟩
theorem gT167_50 : sG l g D H0 mT 167 50 (s_callvk 167 53 22 10 [] 1) := ⟨ok_callvk _ _ _ _ _ _, sk_callv (by decide) (so_callV mT167 mo22 (by decide) (t := 10) (C := "java/util/ArrayList") (by decide) rfl rfl dX4_manyNow_50 q1611 q303 q304 q58)⟩
theorem gT167_53 : sG l g D H0 mT 167 53 (s_store vRf 167 55 4) := ⟨ok_store _ _ _ _, so_astore mT167 dX4_manyNow_53⟩
theorem gT167_55 : sG l g D H0 mT 167 55 (s_load vRf 167 57 4) := ⟨ok_load _ _ _ _, so_aload mT167 dX4_manyNow_55⟩
theorem gT167_57 : sG l g D H0 mT 167 57 (s_callvk 167 62 3 11 [] 1) := ⟨ok_callvk _ _ _ _ _ _, sk_callv (by decide) (so_callF mT167 mo3 (by decide) (t := 11) (C := "java/util/ArrayList$Itr") (by decide) rfl (by decide +kernel) ⟨by decide, by decide, by decide +kernel⟩ dX4_manyNow_57 q1613 q332 q330 q80)⟩
theorem gT167_62 : sG l g D H0 mT 167 62 (s_if 167 65 120 (fun a => a = 0)) := ⟨ok_if _ _ _ _, so_if_eq mT167 dX4_manyNow_62 (by decide)⟩
theorem gT167_65 : sG l g D H0 mT 167 65 (s_load vRf 167 67 4) := ⟨ok_load _ _ _ _, so_aload mT167 dX4_manyNow_65⟩
theorem gT167_67 : sG l g D H0 mT 167 67 (s_callvk 167 72 4 11 [] 3) := ⟨ok_callvk _ _ _ _ _ _, sk_callv (by decide) (so_callF mT167 mo4 (by decide) (t := 11) (C := "java/util/ArrayList$Itr") (by decide) rfl (by decide +kernel) ⟨by decide, by decide, by decide +kernel⟩ dX4_manyNow_67 q1615 q341 q339 q80)⟩
theorem gT167_72 : sG l g D H0 mT 167 72 (s_cast 167 75 [7]) := ⟨ok_cast _ _ _, so_cast mT167 (T := "HyperVaneModel$Guest") (ts := [7]) (by intro u hu; rw [List.mem_singleton] at hu; subst hu; exact ⟨by decide, Or.inl rfl⟩) dX4_manyNow_72 q1252⟩
theorem gT167_75 : sG l g D H0 mT 167 75 (s_store vRf 167 77 5) := ⟨ok_store _ _ _ _, so_astore mT167 dX4_manyNow_75⟩
theorem gT167_77 : sG l g D H0 mT 167 77 (s_load vRf 167 79 5) := ⟨ok_load _ _ _ _, so_aload mT167 dX4_manyNow_77⟩
theorem gT167_79 : sG l g D H0 mT 167 79 (s_getf 167 82 7 17) := ⟨ok_getf _ _ _ _, so_getfN mT167 cl7 (k := 17) (by decide) dX4_manyNow_79 q1313 (fs_rf rfl)⟩
theorem gT167_82 : sG l g D H0 mT 167 82 (s_store vRf 167 84 6) := ⟨ok_store _ _ _ _, so_astore mT167 dX4_manyNow_82⟩
theorem gT167_84 : sG l g D H0 mT 167 84 (s_load vRf 167 86 6) := ⟨ok_load _ _ _ _, so_aload mT167 dX4_manyNow_84⟩
theorem gT167_86 : sG l g D H0 mT 167 86 (s_alen 167 87 20) := ⟨ok_alen _ _ _, so_alen mT167 a20 dX4_manyNow_86⟩
theorem gT167_87 : sG l g D H0 mT 167 87 (s_store vI 167 89 7) := ⟨ok_store _ _ _ _, so_istore mT167 dX4_manyNow_87⟩
theorem gT167_89 : sG l g D H0 mT 167 89 (s_const 167 90 (.int 0)) := ⟨ok_const _ _ _, so_iconst mT167 dX4_manyNow_89 (by decide)⟩
theorem gT167_90 : sG l g D H0 mT 167 90 (s_store vI 167 92 8) := ⟨ok_store _ _ _ _, so_istore mT167 dX4_manyNow_90⟩
theorem gT167_92 : sG l g D H0 mT 167 92 (s_load vI 167 94 8) := ⟨ok_load _ _ _ _, so_iload mT167 dX4_manyNow_92⟩
theorem gT167_94 : sG l g D H0 mT 167 94 (s_load vI 167 96 7) := ⟨ok_load _ _ _ _, so_iload mT167 dX4_manyNow_94⟩
theorem gT167_96 : sG l g D H0 mT 167 96 (s_icmp 167 99 117 (fun a b => b ≤ a)) := ⟨ok_icmp _ _ _ _, so_icmp_ge mT167 dX4_manyNow_96 (by decide)⟩
theorem gT167_99 : sG l g D H0 mT 167 99 (s_load vRf 167 101 6) := ⟨ok_load _ _ _ _, so_aload mT167 dX4_manyNow_99⟩
theorem gT167_101 : sG l g D H0 mT 167 101 (s_load vI 167 103 8) := ⟨ok_load _ _ _ _, so_iload mT167 dX4_manyNow_101⟩
theorem gT167_103 : sG l g D H0 mT 167 103 (s_ald 167 104 20) := ⟨ok_ald _ _ _, so_iald mT167 a20 dX4_manyNow_103⟩
theorem gT167_104 : sG l g D H0 mT 167 104 (s_store vI 167 106 9) := ⟨ok_store _ _ _ _, so_istore mT167 dX4_manyNow_104⟩
theorem gT167_106 : sG l g D H0 mT 167 106 (s_load vI 167 107 3) := ⟨ok_load _ _ _ _, so_iload_n mT167 dX4_manyNow_106 rfl⟩
theorem gT167_107 : sG l g D H0 mT 167 107 (s_load vI 167 109 9) := ⟨ok_load _ _ _ _, so_iload mT167 dX4_manyNow_107⟩
theorem gT167_109 : sG l g D H0 mT 167 109 (s_bin 167 110 (fun a b => a + b)) := ⟨ok_bin _ _ _, so_iadd mT167 dX4_manyNow_109⟩
theorem gT167_110 : sG l g D H0 mT 167 110 (s_store vI 167 111 3) := ⟨ok_store _ _ _ _, so_istore_n mT167 dX4_manyNow_110 rfl⟩
theorem gT167_111 : sG l g D H0 mT 167 111 (s_iinc 167 114 8 1) := ⟨ok_iinc _ _ _ _, so_iinc mT167 dX4_manyNow_111 (by decide)⟩
theorem gT167_114 : sG l g D H0 mT 167 114 (s_goto 167 92) := ⟨ok_goto _ _, so_goto mT167 dX4_manyNow_114 (by decide)⟩
theorem gT167_117 : sG l g D H0 mT 167 117 (s_goto 167 55) := ⟨ok_goto _ _, so_goto mT167 dX4_manyNow_117 (by decide)⟩
theorem gT167_120 : sG l g D H0 mT 167 120 (s_const 167 122 (.int 11)) := ⟨ok_const _ _ _, so_bipush mT167 dX4_manyNow_120 (by decide)⟩
theorem gT167_122 : sG l g D H0 mT 167 122 (s_newa g 167 124 20 (.int 0)) := ⟨ok_newa _ _ _ _ _, so_newa mT167 (t := 20) (by decide) rfl rfl (by decide) dX4_manyNow_122 q486⟩
theorem gT167_124 : sG l g D H0 mT 167 124 (s_dup 167 125) := ⟨ok_dup _ _, so_dup mT167 dX4_manyNow_124⟩
theorem gT167_125 : sG l g D H0 mT 167 125 (s_const 167 126 (.int 0)) := ⟨ok_const _ _ _, so_iconst mT167 dX4_manyNow_125 (by decide)⟩
theorem gT167_126 : sG l g D H0 mT 167 126 (s_load vRf 167 127 0) := ⟨ok_load _ _ _ _, so_aload_n mT167 dX4_manyNow_126 rfl⟩
theorem gT167_127 : sG l g D H0 mT 167 127 (s_getf 167 130 3 1) := ⟨ok_getf _ _ _ _, so_getf mT167 cl3 (k := 1) (by decide) dX4_manyNow_127 q1227 (fs_rf rfl)⟩
theorem gT167_130 : sG l g D H0 mT 167 130 (s_getf 167 133 4 0) := ⟨ok_getf _ _ _ _, so_getfN mT167 cl4 (k := 0) (by decide) dX4_manyNow_130 q1187 (fs_rf rfl)⟩
theorem gT167_133 : sG l g D H0 mT 167 133 (s_callvk 167 136 15 10 [] 1) := ⟨ok_callvk _ _ _ _ _ _, sk_callv (by decide) (so_callV mT167 mo15 (by decide) (t := 10) (C := "java/util/ArrayList") (by decide) rfl rfl dX4_manyNow_133 q1251 q173 q174 q58)⟩
theorem gT167_136 : sG l g D H0 mT 167 136 (s_ast g (fun _ v => vI v = true) 167 137 20) := ⟨ok_ast _ _ _ _ _, so_iast mT167 a20 dX4_manyNow_136⟩
theorem gT167_137 : sG l g D H0 mT 167 137 (s_dup 167 138) := ⟨ok_dup _ _, so_dup mT167 dX4_manyNow_137⟩
theorem gT167_138 : sG l g D H0 mT 167 138 (s_const 167 139 (.int 1)) := ⟨ok_const _ _ _, so_iconst mT167 dX4_manyNow_138 (by decide)⟩
theorem gT167_139 : sG l g D H0 mT 167 139 (s_load vRf 167 140 0) := ⟨ok_load _ _ _ _, so_aload_n mT167 dX4_manyNow_139 rfl⟩
theorem gT167_140 : sG l g D H0 mT 167 140 (s_getf 167 143 3 1) := ⟨ok_getf _ _ _ _, so_getf mT167 cl3 (k := 1) (by decide) dX4_manyNow_140 q1227 (fs_rf rfl)⟩
theorem gT167_143 : sG l g D H0 mT 167 143 (s_getf 167 146 4 1) := ⟨ok_getf _ _ _ _, so_getfN mT167 cl4 (k := 1) (by decide) dX4_manyNow_143 q1189 (fs_rf rfl)⟩
theorem gT167_146 : sG l g D H0 mT 167 146 (s_ast g (fun _ v => vI v = true) 167 147 20) := ⟨ok_ast _ _ _ _ _, so_iast mT167 a20 dX4_manyNow_146⟩
theorem gT167_147 : sG l g D H0 mT 167 147 (s_dup 167 148) := ⟨ok_dup _ _, so_dup mT167 dX4_manyNow_147⟩
theorem gT167_148 : sG l g D H0 mT 167 148 (s_const 167 149 (.int 2)) := ⟨ok_const _ _ _, so_iconst mT167 dX4_manyNow_148 (by decide)⟩
theorem gT167_149 : sG l g D H0 mT 167 149 (s_load vRf 167 150 0) := ⟨ok_load _ _ _ _, so_aload_n mT167 dX4_manyNow_149 rfl⟩
theorem gT167_150 : sG l g D H0 mT 167 150 (s_getf 167 153 3 1) := ⟨ok_getf _ _ _ _, so_getf mT167 cl3 (k := 1) (by decide) dX4_manyNow_150 q1227 (fs_rf rfl)⟩
theorem gT167_153 : sG l g D H0 mT 167 153 (s_getf 167 156 4 2) := ⟨ok_getf _ _ _ _, so_getfN mT167 cl4 (k := 2) (by decide) dX4_manyNow_153 q1191 (fs_rf rfl)⟩
theorem gT167_156 : sG l g D H0 mT 167 156 (s_ast g (fun _ v => vI v = true) 167 157 20) := ⟨ok_ast _ _ _ _ _, so_iast mT167 a20 dX4_manyNow_156⟩
theorem gT167_157 : sG l g D H0 mT 167 157 (s_dup 167 158) := ⟨ok_dup _ _, so_dup mT167 dX4_manyNow_157⟩
theorem gT167_158 : sG l g D H0 mT 167 158 (s_const 167 159 (.int 3)) := ⟨ok_const _ _ _, so_iconst mT167 dX4_manyNow_158 (by decide)⟩
theorem gT167_159 : sG l g D H0 mT 167 159 (s_load vI 167 160 2) := ⟨ok_load _ _ _ _, so_iload_n mT167 dX4_manyNow_159 rfl⟩
theorem gT167_160 : sG l g D H0 mT 167 160 (s_ast g (fun _ v => vI v = true) 167 161 20) := ⟨ok_ast _ _ _ _ _, so_iast mT167 a20 dX4_manyNow_160⟩
theorem gT167_161 : sG l g D H0 mT 167 161 (s_dup 167 162) := ⟨ok_dup _ _, so_dup mT167 dX4_manyNow_161⟩
theorem gT167_162 : sG l g D H0 mT 167 162 (s_const 167 163 (.int 4)) := ⟨ok_const _ _ _, so_iconst mT167 dX4_manyNow_162 (by decide)⟩
theorem gT167_163 : sG l g D H0 mT 167 163 (s_load vRf 167 164 0) := ⟨ok_load _ _ _ _, so_aload_n mT167 dX4_manyNow_163 rfl⟩
theorem gT167_164 : sG l g D H0 mT 167 164 (s_getf 167 167 3 1) := ⟨ok_getf _ _ _ _, so_getf mT167 cl3 (k := 1) (by decide) dX4_manyNow_164 q1227 (fs_rf rfl)⟩
theorem gT167_167 : sG l g D H0 mT 167 167 (s_getf 167 170 4 3) := ⟨ok_getf _ _ _ _, so_getfN mT167 cl4 (k := 3) (by decide) dX4_manyNow_167 q1193 (fs_rf rfl)⟩
theorem gT167_170 : sG l g D H0 mT 167 170 (s_ast g (fun _ v => vI v = true) 167 171 20) := ⟨ok_ast _ _ _ _ _, so_iast mT167 a20 dX4_manyNow_170⟩
theorem gT167_171 : sG l g D H0 mT 167 171 (s_dup 167 172) := ⟨ok_dup _ _, so_dup mT167 dX4_manyNow_171⟩
theorem gT167_172 : sG l g D H0 mT 167 172 (s_const 167 173 (.int 5)) := ⟨ok_const _ _ _, so_iconst mT167 dX4_manyNow_172 (by decide)⟩
theorem gT167_173 : sG l g D H0 mT 167 173 (s_load vRf 167 174 0) := ⟨ok_load _ _ _ _, so_aload_n mT167 dX4_manyNow_173 rfl⟩
theorem gT167_174 : sG l g D H0 mT 167 174 (s_getf 167 177 3 1) := ⟨ok_getf _ _ _ _, so_getf mT167 cl3 (k := 1) (by decide) dX4_manyNow_174 q1227 (fs_rf rfl)⟩
theorem gT167_177 : sG l g D H0 mT 167 177 (s_getf 167 180 4 4) := ⟨ok_getf _ _ _ _, so_getfN mT167 cl4 (k := 4) (by decide) dX4_manyNow_177 q1195 (fs_rf rfl)⟩
theorem gT167_180 : sG l g D H0 mT 167 180 (s_ast g (fun _ v => vI v = true) 167 181 20) := ⟨ok_ast _ _ _ _ _, so_iast mT167 a20 dX4_manyNow_180⟩
theorem gT167_181 : sG l g D H0 mT 167 181 (s_dup 167 182) := ⟨ok_dup _ _, so_dup mT167 dX4_manyNow_181⟩
theorem gT167_182 : sG l g D H0 mT 167 182 (s_const 167 184 (.int 6)) := ⟨ok_const _ _ _, so_bipush mT167 dX4_manyNow_182 (by decide)⟩
theorem gT167_184 : sG l g D H0 mT 167 184 (s_load vRf 167 185 0) := ⟨ok_load _ _ _ _, so_aload_n mT167 dX4_manyNow_184 rfl⟩
theorem gT167_185 : sG l g D H0 mT 167 185 (s_getf 167 188 3 1) := ⟨ok_getf _ _ _ _, so_getf mT167 cl3 (k := 1) (by decide) dX4_manyNow_185 q1227 (fs_rf rfl)⟩
theorem gT167_188 : sG l g D H0 mT 167 188 (s_getf 167 191 4 4) := ⟨ok_getf _ _ _ _, so_getfN mT167 cl4 (k := 4) (by decide) dX4_manyNow_188 q1195 (fs_rf rfl)⟩
theorem gT167_191 : sG l g D H0 mT 167 191 (s_const 167 192 (.int (-1))) := ⟨ok_const _ _ _, so_iconst mT167 dX4_manyNow_191 (by decide)⟩
theorem gT167_192 : sG l g D H0 mT 167 192 (s_icmp 167 199 195 (fun a b => a = b)) := ⟨ok_icmp _ _ _ _, so_icmp_ne mT167 dX4_manyNow_192 (by decide)⟩
theorem gT167_195 : sG l g D H0 mT 167 195 (s_const 167 196 (.int (-1))) := ⟨ok_const _ _ _, so_iconst mT167 dX4_manyNow_195 (by decide)⟩
theorem gT167_196 : sG l g D H0 mT 167 196 (s_goto 167 206) := ⟨ok_goto _ _, so_goto mT167 dX4_manyNow_196 (by decide)⟩
theorem gT167_199 : sG l g D H0 mT 167 199 (s_load vRf 167 200 0) := ⟨ok_load _ _ _ _, so_aload_n mT167 dX4_manyNow_199 rfl⟩
theorem gT167_200 : sG l g D H0 mT 167 200 (s_getf 167 203 3 1) := ⟨ok_getf _ _ _ _, so_getf mT167 cl3 (k := 1) (by decide) dX4_manyNow_200 q1227 (fs_rf rfl)⟩
theorem gT167_203 : sG l g D H0 mT 167 203 (s_getf 167 206 4 5) := ⟨ok_getf _ _ _ _, so_getfN mT167 cl4 (k := 5) (by decide) dX4_manyNow_203 q1197 (fs_rf rfl)⟩
theorem gT167_206 : sG l g D H0 mT 167 206 (s_ast g (fun _ v => vI v = true) 167 207 20) := ⟨ok_ast _ _ _ _ _, so_iast mT167 a20 dX4_manyNow_206⟩
theorem gT167_207 : sG l g D H0 mT 167 207 (s_dup 167 208) := ⟨ok_dup _ _, so_dup mT167 dX4_manyNow_207⟩
theorem gT167_208 : sG l g D H0 mT 167 208 (s_const 167 210 (.int 7)) := ⟨ok_const _ _ _, so_bipush mT167 dX4_manyNow_208 (by decide)⟩
theorem gT167_210 : sG l g D H0 mT 167 210 (s_load vRf 167 211 0) := ⟨ok_load _ _ _ _, so_aload_n mT167 dX4_manyNow_210 rfl⟩
theorem gT167_211 : sG l g D H0 mT 167 211 (s_getf 167 214 3 1) := ⟨ok_getf _ _ _ _, so_getf mT167 cl3 (k := 1) (by decide) dX4_manyNow_211 q1227 (fs_rf rfl)⟩
theorem gT167_214 : sG l g D H0 mT 167 214 (s_getf 167 217 4 7) := ⟨ok_getf _ _ _ _, so_getfN mT167 cl4 (k := 7) (by decide) dX4_manyNow_214 q1200 (fs_rf rfl)⟩
theorem gT167_217 : sG l g D H0 mT 167 217 (s_ast g (fun _ v => vI v = true) 167 218 20) := ⟨ok_ast _ _ _ _ _, so_iast mT167 a20 dX4_manyNow_217⟩
theorem gT167_218 : sG l g D H0 mT 167 218 (s_dup 167 219) := ⟨ok_dup _ _, so_dup mT167 dX4_manyNow_218⟩
theorem gT167_219 : sG l g D H0 mT 167 219 (s_const 167 221 (.int 8)) := ⟨ok_const _ _ _, so_bipush mT167 dX4_manyNow_219 (by decide)⟩
theorem gT167_221 : sG l g D H0 mT 167 221 (s_load vI 167 222 3) := ⟨ok_load _ _ _ _, so_iload_n mT167 dX4_manyNow_221 rfl⟩
theorem gT167_222 : sG l g D H0 mT 167 222 (s_ast g (fun _ v => vI v = true) 167 223 20) := ⟨ok_ast _ _ _ _ _, so_iast mT167 a20 dX4_manyNow_222⟩
theorem gT167_223 : sG l g D H0 mT 167 223 (s_dup 167 224) := ⟨ok_dup _ _, so_dup mT167 dX4_manyNow_223⟩
theorem gT167_224 : sG l g D H0 mT 167 224 (s_const 167 226 (.int 9)) := ⟨ok_const _ _ _, so_bipush mT167 dX4_manyNow_224 (by decide)⟩
theorem gT167_226 : sG l g D H0 mT 167 226 (s_load vRf 167 227 0) := ⟨ok_load _ _ _ _, so_aload_n mT167 dX4_manyNow_226 rfl⟩
theorem gT167_227 : sG l g D H0 mT 167 227 (s_getf 167 230 3 1) := ⟨ok_getf _ _ _ _, so_getf mT167 cl3 (k := 1) (by decide) dX4_manyNow_227 q1227 (fs_rf rfl)⟩
theorem gT167_230 : sG l g D H0 mT 167 230 (s_getf 167 233 4 8) := ⟨ok_getf _ _ _ _, so_getfN mT167 cl4 (k := 8) (by decide) dX4_manyNow_230 q1202 (fs_rf rfl)⟩
theorem gT167_233 : sG l g D H0 mT 167 233 (s_ast g (fun _ v => vI v = true) 167 234 20) := ⟨ok_ast _ _ _ _ _, so_iast mT167 a20 dX4_manyNow_233⟩
theorem gT167_234 : sG l g D H0 mT 167 234 (s_dup 167 235) := ⟨ok_dup _ _, so_dup mT167 dX4_manyNow_234⟩
theorem gT167_235 : sG l g D H0 mT 167 235 (s_const 167 237 (.int 10)) := ⟨ok_const _ _ _, so_bipush mT167 dX4_manyNow_235 (by decide)⟩
theorem gT167_237 : sG l g D H0 mT 167 237 (s_load vRf 167 238 0) := ⟨ok_load _ _ _ _, so_aload_n mT167 dX4_manyNow_237 rfl⟩
theorem gT167_238 : sG l g D H0 mT 167 238 (s_getf 167 241 3 1) := ⟨ok_getf _ _ _ _, so_getf mT167 cl3 (k := 1) (by decide) dX4_manyNow_238 q1227 (fs_rf rfl)⟩
theorem gT167_241 : sG l g D H0 mT 167 241 (s_getf 167 244 4 9) := ⟨ok_getf _ _ _ _, so_getfN mT167 cl4 (k := 9) (by decide) dX4_manyNow_241 q1204 (fs_rf rfl)⟩
theorem gT167_244 : sG l g D H0 mT 167 244 (s_ast g (fun _ v => vI v = true) 167 245 20) := ⟨ok_ast _ _ _ _ _, so_iast mT167 a20 dX4_manyNow_244⟩
theorem gT167_245 : sG l g D H0 mT 167 245 (s_store vRf 167 247 4) := ⟨ok_store _ _ _ _, so_astore mT167 dX4_manyNow_245⟩
theorem gT167_247 : sG l g D H0 mT 167 247 (s_load vRf 167 249 4) := ⟨ok_load _ _ _ _, so_aload mT167 dX4_manyNow_247⟩
theorem gT167_249 : sG l g D H0 mT 167 249 (s_load vI 167 250 1) := ⟨ok_load _ _ _ _, so_iload_n mT167 dX4_manyNow_249 rfl⟩
theorem gT167_250 : sG l g D H0 mT 167 250 (s_ald 167 251 20) := ⟨ok_ald _ _ _, so_iald mT167 a20 dX4_manyNow_250⟩
theorem gT167_251 : sG l g D H0 mT 167 251 (s_ret pI) := ⟨ok_ret _, so_iret mT167 dX4_manyNow_251⟩
theorem gT167 (pc : Nat) : sG l g D H0 mT 167 pc (tT167 g pc) := sG_cond (sG_cond (sG_cond (sG_cond (sG_cond (sG_cond (sG_cond (sG_leaf gT167_0) (sG_leaf gT167_1)) (sG_cond (sG_leaf gT167_2) (sG_leaf gT167_3))) (sG_cond (sG_cond (sG_leaf gT167_4) (sG_leaf gT167_5)) (sG_cond (sG_leaf gT167_6) (sG_leaf gT167_9)))) (sG_cond (sG_cond (sG_cond (sG_leaf gT167_12) (sG_leaf gT167_15)) (sG_cond (sG_leaf gT167_16) (sG_leaf gT167_17))) (sG_cond (sG_cond (sG_leaf gT167_20) (sG_leaf gT167_21)) (sG_cond (sG_leaf gT167_24) (sG_cond (sG_leaf gT167_25) (sG_leaf gT167_28)))))) (sG_cond (sG_cond (sG_cond (sG_cond (sG_leaf gT167_29) (sG_leaf gT167_32)) (sG_cond (sG_leaf gT167_33) (sG_leaf gT167_34))) (sG_cond (sG_cond (sG_leaf gT167_35) (sG_leaf gT167_38)) (sG_cond (sG_leaf gT167_41) (sG_leaf gT167_42)))) (sG_cond (sG_cond (sG_cond (sG_leaf gT167_43) (sG_leaf gT167_44)) (sG_cond (sG_leaf gT167_47) (sG_leaf gT167_50))) (sG_cond (sG_cond (sG_leaf gT167_53) (sG_leaf gT167_55)) (sG_cond (sG_leaf gT167_57) (sG_cond (sG_leaf gT167_62) (sG_leaf gT167_65))))))) (sG_cond (sG_cond (sG_cond (sG_cond (sG_cond (sG_leaf gT167_67) (sG_leaf gT167_72)) (sG_cond (sG_leaf gT167_75) (sG_leaf gT167_77))) (sG_cond (sG_cond (sG_leaf gT167_79) (sG_leaf gT167_82)) (sG_cond (sG_leaf gT167_84) (sG_leaf gT167_86)))) (sG_cond (sG_cond (sG_cond (sG_leaf gT167_87) (sG_leaf gT167_89)) (sG_cond (sG_leaf gT167_90) (sG_leaf gT167_92))) (sG_cond (sG_cond (sG_leaf gT167_94) (sG_leaf gT167_96)) (sG_cond (sG_leaf gT167_99) (sG_cond (sG_leaf gT167_101) (sG_leaf gT167_103)))))) (sG_cond (sG_cond (sG_cond (sG_cond (sG_leaf gT167_104) (sG_leaf gT167_106)) (sG_cond (sG_leaf gT167_107) (sG_leaf gT167_109))) (sG_cond (sG_cond (sG_leaf gT167_110) (sG_leaf gT167_111)) (sG_cond (sG_leaf gT167_114) (sG_leaf gT167_117)))) (sG_cond (sG_cond (sG_cond (sG_leaf gT167_120) (sG_leaf gT167_122)) (sG_cond (sG_leaf gT167_124) (sG_leaf gT167_125))) (sG_cond (sG_cond (sG_leaf gT167_126) (sG_leaf gT167_127)) (sG_cond (sG_leaf gT167_130) (sG_cond (sG_leaf gT167_133) (sG_leaf gT167_136)))))))) (sG_cond (sG_cond (sG_cond (sG_cond (sG_cond (sG_cond (sG_leaf gT167_137) (sG_leaf gT167_138)) (sG_cond (sG_leaf gT167_139) (sG_leaf gT167_140))) (sG_cond (sG_cond (sG_leaf gT167_143) (sG_leaf gT167_146)) (sG_cond (sG_leaf gT167_147) (sG_leaf gT167_148)))) (sG_cond (sG_cond (sG_cond (sG_leaf gT167_149) (sG_leaf gT167_150)) (sG_cond (sG_leaf gT167_153) (sG_leaf gT167_156))) (sG_cond (sG_cond (sG_leaf gT167_157) (sG_leaf gT167_158)) (sG_cond (sG_leaf gT167_159) (sG_cond (sG_leaf gT167_160) (sG_leaf gT167_161)))))) (sG_cond (sG_cond (sG_cond (sG_cond (sG_leaf gT167_162) (sG_leaf gT167_163)) (sG_cond (sG_leaf gT167_164) (sG_leaf gT167_167))) (sG_cond (sG_cond (sG_leaf gT167_170) (sG_leaf gT167_171)) (sG_cond (sG_leaf gT167_172) (sG_leaf gT167_173)))) (sG_cond (sG_cond (sG_cond (sG_leaf gT167_174) (sG_leaf gT167_177)) (sG_cond (sG_leaf gT167_180) (sG_leaf gT167_181))) (sG_cond (sG_cond (sG_leaf gT167_182) (sG_leaf gT167_184)) (sG_cond (sG_leaf gT167_185) (sG_cond (sG_leaf gT167_188) (sG_leaf gT167_191))))))) (sG_cond (sG_cond (sG_cond (sG_cond (sG_cond (sG_leaf gT167_192) (sG_leaf gT167_195)) (sG_cond (sG_leaf gT167_196) (sG_leaf gT167_199))) (sG_cond (sG_cond (sG_leaf gT167_200) (sG_leaf gT167_203)) (sG_cond (sG_leaf gT167_206) (sG_leaf gT167_207)))) (sG_cond (sG_cond (sG_cond (sG_leaf gT167_208) (sG_leaf gT167_210)) (sG_cond (sG_leaf gT167_211) (sG_leaf gT167_214))) (sG_cond (sG_cond (sG_leaf gT167_217) (sG_leaf gT167_218)) (sG_cond (sG_leaf gT167_219) (sG_cond (sG_leaf gT167_221) (sG_leaf gT167_222)))))) (sG_cond (sG_cond (sG_cond (sG_cond (sG_leaf gT167_223) (sG_leaf gT167_224)) (sG_cond (sG_leaf gT167_226) (sG_leaf gT167_227))) (sG_cond (sG_cond (sG_leaf gT167_230) (sG_leaf gT167_233)) (sG_cond (sG_leaf gT167_234) (sG_leaf gT167_235)))) (sG_cond (sG_cond (sG_cond (sG_leaf gT167_237) (sG_leaf gT167_238)) (sG_cond (sG_leaf gT167_241) (sG_leaf gT167_244))) (sG_cond (sG_cond (sG_leaf gT167_245) (sG_leaf gT167_247)) (sG_cond (sG_leaf gT167_249) (sG_cond (sG_leaf gT167_250) (sG_leaf gT167_251))))))))
theorem gT168_0 : sG l g D H0 mT 168 0 (s_load vRf 168 1 0) := ⟨ok_load _ _ _ _, so_aload_n mT168 dX4_meanDone_0 rfl⟩
theorem gT168_1 : sG l g D H0 mT 168 1 (s_load vRf 168 2 0) := ⟨ok_load _ _ _ _, so_aload_n mT168 dX4_meanDone_1 rfl⟩
theorem gT168_2 : sG l g D H0 mT 168 2 (s_load vI 168 3 1) := ⟨ok_load _ _ _ _, so_iload_n mT168 dX4_meanDone_2 rfl⟩
theorem gT168_3 : sG l g D H0 mT 168 3 (s_callvk 168 6 143 3 [0] 2) := ⟨ok_callvk _ _ _ _ _ _, sk_callv (by decide) (so_callV mT168 mo143 (by decide) (t := 3) (C := "HyperVaneModel") (by decide) rfl rfl dX4_meanDone_3 q1416 q1418 qs32 q66)⟩
theorem gT168_6 : sG l g D H0 mT 168 6 (s_if 168 9 13 (fun a => a = 0)) := ⟨ok_if _ _ _ _, so_if_eq mT168 dX4_meanDone_6 (by decide)⟩
theorem gT168_9 : sG l g D H0 mT 168 9 (s_const 168 10 (.int 0)) := ⟨ok_const _ _ _, so_iconst mT168 dX4_meanDone_9 (by decide)⟩
theorem gT168_10 : sG l g D H0 mT 168 10 (s_goto 168 14) := ⟨ok_goto _ _, so_goto mT168 dX4_meanDone_10 (by decide)⟩
theorem gT168_13 : sG l g D H0 mT 168 13 (s_const 168 14 (.int 1)) := ⟨ok_const _ _ _, so_iconst mT168 dX4_meanDone_13 (by decide)⟩
theorem gT168_14 : sG l g D H0 mT 168 14 (s_putf g pI 168 17 3 0) := ⟨ok_putf _ _ _ _ _ _, so_putf mT168 cl3 (k := 0) (by decide) fI rfl dX4_meanDone_14 q1226 (fs_rf rfl)⟩
theorem gT168_17 : sG l g D H0 mT 168 17 (s_load vRf 168 18 0) := ⟨ok_load _ _ _ _, so_aload_n mT168 dX4_meanDone_17 rfl⟩
theorem gT168_18 : sG l g D H0 mT 168 18 (s_getf 168 21 3 0) := ⟨ok_getf _ _ _ _, so_getf mT168 cl3 (k := 0) (by decide) dX4_meanDone_18 q1226 (fs_rf rfl)⟩
theorem gT168_21 : sG l g D H0 mT 168 21 (s_if 168 24 26 (fun a => a ≤ 0)) := ⟨ok_if _ _ _ _, so_if_le mT168 dX4_meanDone_21 (by decide)⟩
theorem gT168_24 : sG l g D H0 mT 168 24 (s_const 168 25 (.double FP.dconst0)) := ⟨ok_const _ _ _, so_dconst0 mT168 dX4_meanDone_24⟩
theorem gT168_25 : sG l g D H0 mT 168 25 (s_ret pD) := ⟨ok_ret _, so_dret mT168 dX4_meanDone_25⟩
theorem gT168_26 : sG l g D H0 mT 168 26 (s_load vRf 168 27 0) := ⟨ok_load _ _ _ _, so_aload_n mT168 dX4_meanDone_26 rfl⟩
theorem gT168_27 : sG l g D H0 mT 168 27 (s_getf 168 30 3 1) := ⟨ok_getf _ _ _ _, so_getf mT168 cl3 (k := 1) (by decide) dX4_meanDone_27 q1227 (fs_rf rfl)⟩
theorem gT168_30 : sG l g D H0 mT 168 30 (s_getf 168 33 4 0) := ⟨ok_getf _ _ _ _, so_getfN mT168 cl4 (k := 0) (by decide) dX4_meanDone_30 q1187 (fs_rf rfl)⟩
theorem gT168_33 : sG l g D H0 mT 168 33 (s_load vI 168 34 1) := ⟨ok_load _ _ _ _, so_iload_n mT168 dX4_meanDone_33 rfl⟩
theorem gT168_34 : sG l g D H0 mT 168 34 (s_callvk 168 37 25 10 [0] 2) := ⟨ok_callvk _ _ _ _ _ _, sk_callv (by decide) (so_callV mT168 mo25 (by decide) (t := 10) (C := "java/util/ArrayList") (by decide) rfl rfl dX4_meanDone_34 q1423 q439 q440 q58)⟩
theorem gT168_37 : sG l g D H0 mT 168 37 (s_cast 168 40 [7]) := ⟨ok_cast _ _ _, so_cast mT168 (T := "HyperVaneModel$Guest") (ts := [7]) (by intro u hu; rw [List.mem_singleton] at hu; subst hu; exact ⟨by decide, Or.inl rfl⟩) dX4_meanDone_37 q1252⟩
theorem gT168_40 : sG l g D H0 mT 168 40 (s_store vRf 168 41 2) := ⟨ok_store _ _ _ _, so_astore_n mT168 dX4_meanDone_40 rfl⟩
theorem gT168_41 : sG l g D H0 mT 168 41 (s_load vRf 168 42 2) := ⟨ok_load _ _ _ _, so_aload_n mT168 dX4_meanDone_41 rfl⟩
theorem gT168_42 : sG l g D H0 mT 168 42 (s_getf 168 45 7 4) := ⟨ok_getf _ _ _ _, so_getfN mT168 cl7 (k := 4) (by decide) dX4_meanDone_42 q1274 (fs_rf rfl)⟩
theorem gT168_45 : sG l g D H0 mT 168 45 (s_if 168 52 48 (fun a => a = 0)) := ⟨ok_if _ _ _ _, so_if_ne mT168 dX4_meanDone_45 (by decide)⟩
theorem gT168_48 : sG l g D H0 mT 168 48 (s_const 168 49 (.double FP.dconst0)) := ⟨ok_const _ _ _, so_dconst0 mT168 dX4_meanDone_48⟩
theorem gT168_49 : sG l g D H0 mT 168 49 (s_goto 168 63) := ⟨ok_goto _ _, so_goto mT168 dX4_meanDone_49 (by decide)⟩
theorem gT168_52 : sG l g D H0 mT 168 52 (s_load vRf 168 53 2) := ⟨ok_load _ _ _ _, so_aload_n mT168 dX4_meanDone_52 rfl⟩
theorem gT168_53 : sG l g D H0 mT 168 53 (s_getf 168 56 7 10) := ⟨ok_getf _ _ _ _, so_getfN mT168 cl7 (k := 10) (by decide) dX4_meanDone_53 q1292 (fs_rf rfl)⟩
theorem gT168_56 : sG l g D H0 mT 168 56 (s_i2 168 57 (fun a => .double (FP.i2d a))) := ⟨ok_i2 _ _ _, so_i2d mT168 dX4_meanDone_56⟩
theorem gT168_57 : sG l g D H0 mT 168 57 (s_load vRf 168 58 2) := ⟨ok_load _ _ _ _, so_aload_n mT168 dX4_meanDone_57 rfl⟩
theorem gT168_58 : sG l g D H0 mT 168 58 (s_getf 168 61 7 4) := ⟨ok_getf _ _ _ _, so_getfN mT168 cl7 (k := 4) (by decide) dX4_meanDone_58 q1274 (fs_rf rfl)⟩
theorem gT168_61 : sG l g D H0 mT 168 61 (s_i2 168 62 (fun a => .double (FP.i2d a))) := ⟨ok_i2 _ _ _, so_i2d mT168 dX4_meanDone_61⟩
theorem gT168_62 : sG l g D H0 mT 168 62 (s_ddiv 168 63) := ⟨ok_ddiv _ _, so_ddiv mT168 dX4_meanDone_62⟩
theorem gT168_63 : sG l g D H0 mT 168 63 (s_ret pD) := ⟨ok_ret _, so_dret mT168 dX4_meanDone_63⟩
theorem gT168 (pc : Nat) : sG l g D H0 mT 168 pc (tT168 g pc) := sG_cond (sG_cond (sG_cond (sG_cond (sG_cond (sG_leaf gT168_0) (sG_leaf gT168_1)) (sG_cond (sG_leaf gT168_2) (sG_leaf gT168_3))) (sG_cond (sG_cond (sG_leaf gT168_6) (sG_leaf gT168_9)) (sG_cond (sG_leaf gT168_10) (sG_leaf gT168_13)))) (sG_cond (sG_cond (sG_cond (sG_leaf gT168_14) (sG_leaf gT168_17)) (sG_cond (sG_leaf gT168_18) (sG_leaf gT168_21))) (sG_cond (sG_cond (sG_leaf gT168_24) (sG_leaf gT168_25)) (sG_cond (sG_leaf gT168_26) (sG_cond (sG_leaf gT168_27) (sG_leaf gT168_30)))))) (sG_cond (sG_cond (sG_cond (sG_cond (sG_leaf gT168_33) (sG_leaf gT168_34)) (sG_cond (sG_leaf gT168_37) (sG_leaf gT168_40))) (sG_cond (sG_cond (sG_leaf gT168_41) (sG_leaf gT168_42)) (sG_cond (sG_leaf gT168_45) (sG_leaf gT168_48)))) (sG_cond (sG_cond (sG_cond (sG_leaf gT168_49) (sG_leaf gT168_52)) (sG_cond (sG_leaf gT168_53) (sG_leaf gT168_56))) (sG_cond (sG_cond (sG_leaf gT168_57) (sG_leaf gT168_58)) (sG_cond (sG_leaf gT168_61) (sG_cond (sG_leaf gT168_62) (sG_leaf gT168_63))))))
theorem gT169_0 : sG l g D H0 mT 169 0 (s_load vRf 169 1 0) := ⟨ok_load _ _ _ _, so_aload_n mT169 dX4_replayed_0 rfl⟩
theorem gT169_1 : sG l g D H0 mT 169 1 (s_const 169 2 (.int 0)) := ⟨ok_const _ _ _, so_iconst mT169 dX4_replayed_1 (by decide)⟩
theorem gT169_2 : sG l g D H0 mT 169 2 (s_putf g pI 169 5 3 0) := ⟨ok_putf _ _ _ _ _ _, so_putf mT169 cl3 (k := 0) (by decide) fI rfl dX4_replayed_2 q1226 (fs_rf rfl)⟩
theorem gT169_5 : sG l g D H0 mT 169 5 (s_load vRf 169 6 0) := ⟨ok_load _ _ _ _, so_aload_n mT169 dX4_replayed_5 rfl⟩
theorem gT169_6 : sG l g D H0 mT 169 6 (s_load vI 169 7 1) := ⟨ok_load _ _ _ _, so_iload_n mT169 dX4_replayed_6 rfl⟩
theorem gT169_7 : sG l g D H0 mT 169 7 (s_callvk 169 10 143 3 [0] 2) := ⟨ok_callvk _ _ _ _ _ _, sk_callv (by decide) (so_callV mT169 mo143 (by decide) (t := 3) (C := "HyperVaneModel") (by decide) rfl rfl dX4_replayed_7 q1416 q1418 qs32 q66)⟩
theorem gT169_10 : sG l g D H0 mT 169 10 (s_if 169 13 25 (fun a => a = 0)) := ⟨ok_if _ _ _ _, so_if_eq mT169 dX4_replayed_10 (by decide)⟩
theorem gT169_13 : sG l g D H0 mT 169 13 (s_load vI 169 14 3) := ⟨ok_load _ _ _ _, so_iload_n mT169 dX4_replayed_13 rfl⟩
theorem gT169_14 : sG l g D H0 mT 169 14 (s_const 169 15 (.int (-1))) := ⟨ok_const _ _ _, so_iconst mT169 dX4_replayed_14 (by decide)⟩
theorem gT169_15 : sG l g D H0 mT 169 15 (s_icmp 169 18 31 (fun a b => a = b)) := ⟨ok_icmp _ _ _ _, so_icmp_eq mT169 dX4_replayed_15 (by decide)⟩
theorem gT169_18 : sG l g D H0 mT 169 18 (s_load vI 169 19 3) := ⟨ok_load _ _ _ _, so_iload_n mT169 dX4_replayed_18 rfl⟩
theorem gT169_19 : sG l g D H0 mT 169 19 (s_callk 169 22 144 [0] 1) := ⟨ok_callk _ _ _ _ _, sk_call (by decide) (so_callS mT169 mo144 (by decide) dX4_replayed_19 q1420 q1421 q66)⟩
theorem gT169_22 : sG l g D H0 mT 169 22 (s_if 169 31 25 (fun a => a = 0)) := ⟨ok_if _ _ _ _, so_if_ne mT169 dX4_replayed_22 (by decide)⟩
theorem gT169_25 : sG l g D H0 mT 169 25 (s_load vRf 169 26 0) := ⟨ok_load _ _ _ _, so_aload_n mT169 dX4_replayed_25 rfl⟩
theorem gT169_26 : sG l g D H0 mT 169 26 (s_const 169 27 (.int 1)) := ⟨ok_const _ _ _, so_iconst mT169 dX4_replayed_26 (by decide)⟩
theorem gT169_27 : sG l g D H0 mT 169 27 (s_callvk 169 30 141 3 [0] 2) := ⟨ok_callvk _ _ _ _ _ _, sk_callv (by decide) (so_callV mT169 mo141 (by decide) (t := 3) (C := "HyperVaneModel") (by decide) rfl rfl dX4_replayed_27 q1247 q1249 qs31 q66)⟩
theorem gT169_30 : sG l g D H0 mT 169 30 (s_ret pI) := ⟨ok_ret _, so_iret mT169 dX4_replayed_30⟩
theorem gT169_31 : sG l g D H0 mT 169 31 (s_load vI 169 32 2) := ⟨ok_load _ _ _ _, so_iload_n mT169 dX4_replayed_31 rfl⟩
theorem gT169_32 : sG l g D H0 mT 169 32 (s_const 169 33 (.int 0)) := ⟨ok_const _ _ _, so_iconst mT169 dX4_replayed_32 (by decide)⟩
theorem gT169_33 : sG l g D H0 mT 169 33 (s_const 169 36 (.int 200)) := ⟨ok_const _ _ _, so_sipush mT169 dX4_replayed_33 (by decide)⟩
theorem gT169_36 : sG l g D H0 mT 169 36 (s_callk 169 39 140 [0, 0, 0] 3) := ⟨ok_callk _ _ _ _ _, sk_call (by decide) (so_callS mT169 mo140 (by decide) dX4_replayed_36 q1244 q1245 q66)⟩
theorem gT169_39 : sG l g D H0 mT 169 39 (s_if 169 42 64 (fun a => a = 0)) := ⟨ok_if _ _ _ _, so_if_eq mT169 dX4_replayed_39 (by decide)⟩
theorem gT169_42 : sG l g D H0 mT 169 42 (s_load vRf 169 43 0) := ⟨ok_load _ _ _ _, so_aload_n mT169 dX4_replayed_42 rfl⟩
theorem gT169_43 : sG l g D H0 mT 169 43 (s_getf 169 46 3 1) := ⟨ok_getf _ _ _ _, so_getf mT169 cl3 (k := 1) (by decide) dX4_replayed_43 q1227 (fs_rf rfl)⟩
theorem gT169_46 : sG l g D H0 mT 169 46 (s_getf 169 49 4 0) := ⟨ok_getf _ _ _ _, so_getfN mT169 cl4 (k := 0) (by decide) dX4_replayed_46 q1187 (fs_rf rfl)⟩
theorem gT169_49 : sG l g D H0 mT 169 49 (s_load vI 169 50 1) := ⟨ok_load _ _ _ _, so_iload_n mT169 dX4_replayed_49 rfl⟩
theorem gT169_50 : sG l g D H0 mT 169 50 (s_callvk 169 53 25 10 [0] 2) := ⟨ok_callvk _ _ _ _ _ _, sk_callv (by decide) (so_callV mT169 mo25 (by decide) (t := 10) (C := "java/util/ArrayList") (by decide) rfl rfl dX4_replayed_50 q1423 q439 q440 q58)⟩
theorem gT169_53 : sG l g D H0 mT 169 53 (s_cast 169 56 [7]) := ⟨ok_cast _ _ _, so_cast mT169 (T := "HyperVaneModel$Guest") (ts := [7]) (by intro u hu; rw [List.mem_singleton] at hu; subst hu; exact ⟨by decide, Or.inl rfl⟩) dX4_replayed_53 q1252⟩
theorem gT169_56 : sG l g D H0 mT 169 56 (s_load vI 169 57 2) := ⟨ok_load _ _ _ _, so_iload_n mT169 dX4_replayed_56 rfl⟩
theorem gT169_57 : sG l g D H0 mT 169 57 (s_load vI 169 58 3) := ⟨ok_load _ _ _ _, so_iload_n mT169 dX4_replayed_57 rfl⟩
theorem gT169_58 : sG l g D H0 mT 169 58 (s_callvk 169 61 209 7 [0, 0] 10) := ⟨ok_callvk _ _ _ _ _ _, sk_callv (by decide) (so_callV mT169 mo209 (by decide) (t := 7) (C := "HyperVaneModel$Guest") (by decide) rfl rfl dX4_replayed_58 q1624 q1625 q1626 q75)⟩
theorem gT169_61 : sG l g D H0 mT 169 61 (s_goto 169 69) := ⟨ok_goto _ _, so_goto mT169 dX4_replayed_61 (by decide)⟩
theorem gT169_64 : sG l g D H0 mT 169 64 (s_load vRf 169 65 0) := ⟨ok_load _ _ _ _, so_aload_n mT169 dX4_replayed_64 rfl⟩
theorem gT169_65 : sG l g D H0 mT 169 65 (s_const 169 66 (.int 2)) := ⟨ok_const _ _ _, so_iconst mT169 dX4_replayed_65 (by decide)⟩
theorem gT169_66 : sG l g D H0 mT 169 66 (s_callvk 169 69 141 3 [0] 2) := ⟨ok_callvk _ _ _ _ _ _, sk_callv (by decide) (so_callV mT169 mo141 (by decide) (t := 3) (C := "HyperVaneModel") (by decide) rfl rfl dX4_replayed_66 q1247 q1249 qs31 q66)⟩
theorem gT169_69 : sG l g D H0 mT 169 69 (s_ret pI) := ⟨ok_ret _, so_iret mT169 dX4_replayed_69⟩
theorem gT169 (pc : Nat) : sG l g D H0 mT 169 pc (tT169 g pc) := sG_cond (sG_cond (sG_cond (sG_cond (sG_cond (sG_leaf gT169_0) (sG_leaf gT169_1)) (sG_cond (sG_leaf gT169_2) (sG_leaf gT169_5))) (sG_cond (sG_cond (sG_leaf gT169_6) (sG_leaf gT169_7)) (sG_cond (sG_leaf gT169_10) (sG_cond (sG_leaf gT169_13) (sG_leaf gT169_14))))) (sG_cond (sG_cond (sG_cond (sG_leaf gT169_15) (sG_leaf gT169_18)) (sG_cond (sG_leaf gT169_19) (sG_leaf gT169_22))) (sG_cond (sG_cond (sG_leaf gT169_25) (sG_leaf gT169_26)) (sG_cond (sG_leaf gT169_27) (sG_cond (sG_leaf gT169_30) (sG_leaf gT169_31)))))) (sG_cond (sG_cond (sG_cond (sG_cond (sG_leaf gT169_32) (sG_leaf gT169_33)) (sG_cond (sG_leaf gT169_36) (sG_leaf gT169_39))) (sG_cond (sG_cond (sG_leaf gT169_42) (sG_leaf gT169_43)) (sG_cond (sG_leaf gT169_46) (sG_cond (sG_leaf gT169_49) (sG_leaf gT169_50))))) (sG_cond (sG_cond (sG_cond (sG_leaf gT169_53) (sG_leaf gT169_56)) (sG_cond (sG_leaf gT169_57) (sG_leaf gT169_58))) (sG_cond (sG_cond (sG_leaf gT169_61) (sG_leaf gT169_64)) (sG_cond (sG_leaf gT169_65) (sG_cond (sG_leaf gT169_66) (sG_leaf gT169_69))))))
theorem gT170_0 : sG l g D H0 mT 170 0 (s_load vRf 170 1 0) := ⟨ok_load _ _ _ _, so_aload_n mT170 dX4_doneIn_0 rfl⟩
theorem gT170_1 : sG l g D H0 mT 170 1 (s_const 170 2 (.int 0)) := ⟨ok_const _ _ _, so_iconst mT170 dX4_doneIn_1 (by decide)⟩
theorem gT170_2 : sG l g D H0 mT 170 2 (s_putf g pI 170 5 3 0) := ⟨ok_putf _ _ _ _ _ _, so_putf mT170 cl3 (k := 0) (by decide) fI rfl dX4_doneIn_2 q1226 (fs_rf rfl)⟩
theorem gT170_5 : sG l g D H0 mT 170 5 (s_load vRf 170 6 0) := ⟨ok_load _ _ _ _, so_aload_n mT170 dX4_doneIn_5 rfl⟩
theorem gT170_6 : sG l g D H0 mT 170 6 (s_load vI 170 7 1) := ⟨ok_load _ _ _ _, so_iload_n mT170 dX4_doneIn_6 rfl⟩
theorem gT170_7 : sG l g D H0 mT 170 7 (s_callvk 170 10 143 3 [0] 2) := ⟨ok_callvk _ _ _ _ _ _, sk_callv (by decide) (so_callV mT170 mo143 (by decide) (t := 3) (C := "HyperVaneModel") (by decide) rfl rfl dX4_doneIn_7 q1416 q1418 qs32 q66)⟩
theorem gT170_10 : sG l g D H0 mT 170 10 (s_if 170 19 13 (fun a => a = 0)) := ⟨ok_if _ _ _ _, so_if_ne mT170 dX4_doneIn_10 (by decide)⟩
theorem gT170_13 : sG l g D H0 mT 170 13 (s_load vRf 170 14 0) := ⟨ok_load _ _ _ _, so_aload_n mT170 dX4_doneIn_13 rfl⟩
theorem gT170_14 : sG l g D H0 mT 170 14 (s_const 170 15 (.int 1)) := ⟨ok_const _ _ _, so_iconst mT170 dX4_doneIn_14 (by decide)⟩
theorem gT170_15 : sG l g D H0 mT 170 15 (s_callvk 170 18 141 3 [0] 2) := ⟨ok_callvk _ _ _ _ _ _, sk_callv (by decide) (so_callV mT170 mo141 (by decide) (t := 3) (C := "HyperVaneModel") (by decide) rfl rfl dX4_doneIn_15 q1247 q1249 qs31 q66)⟩
theorem gT170_18 : sG l g D H0 mT 170 18 (s_ret pI) := ⟨ok_ret _, so_iret mT170 dX4_doneIn_18⟩
theorem gT170_19 : sG l g D H0 mT 170 19 (s_load vI 170 20 2) := ⟨ok_load _ _ _ _, so_iload_n mT170 dX4_doneIn_19 rfl⟩
theorem gT170_20 : sG l g D H0 mT 170 20 (s_callk 170 23 155 [0] 1) := ⟨ok_callk _ _ _ _ _, sk_call (by decide) (so_callS mT170 mo155 (by decide) dX4_doneIn_20 q1496 q1497 q66)⟩
theorem gT170_23 : sG l g D H0 mT 170 23 (s_if 170 26 35 (fun a => a = 0)) := ⟨ok_if _ _ _ _, so_if_eq mT170 dX4_doneIn_23 (by decide)⟩
theorem gT170_26 : sG l g D H0 mT 170 26 (s_load vRf 170 27 0) := ⟨ok_load _ _ _ _, so_aload_n mT170 dX4_doneIn_26 rfl⟩
theorem gT170_27 : sG l g D H0 mT 170 27 (s_load vI 170 28 1) := ⟨ok_load _ _ _ _, so_iload_n mT170 dX4_doneIn_27 rfl⟩
theorem gT170_28 : sG l g D H0 mT 170 28 (s_load vI 170 29 2) := ⟨ok_load _ _ _ _, so_iload_n mT170 dX4_doneIn_28 rfl⟩
theorem gT170_29 : sG l g D H0 mT 170 29 (s_callvk 170 32 171 3 [0, 0] 5) := ⟨ok_callvk _ _ _ _ _ _, sk_callv (by decide) (so_callV mT170 mo171 (by decide) (t := 3) (C := "HyperVaneModel") (by decide) rfl rfl dX4_doneIn_29 q1640 q1642 qs49 q66)⟩
theorem gT170_32 : sG l g D H0 mT 170 32 (s_goto 170 40) := ⟨ok_goto _ _, so_goto mT170 dX4_doneIn_32 (by decide)⟩
theorem gT170_35 : sG l g D H0 mT 170 35 (s_load vRf 170 36 0) := ⟨ok_load _ _ _ _, so_aload_n mT170 dX4_doneIn_35 rfl⟩
theorem gT170_36 : sG l g D H0 mT 170 36 (s_const 170 37 (.int 2)) := ⟨ok_const _ _ _, so_iconst mT170 dX4_doneIn_36 (by decide)⟩
theorem gT170_37 : sG l g D H0 mT 170 37 (s_callvk 170 40 141 3 [0] 2) := ⟨ok_callvk _ _ _ _ _ _, sk_callv (by decide) (so_callV mT170 mo141 (by decide) (t := 3) (C := "HyperVaneModel") (by decide) rfl rfl dX4_doneIn_37 q1247 q1249 qs31 q66)⟩
theorem gT170_40 : sG l g D H0 mT 170 40 (s_ret pI) := ⟨ok_ret _, so_iret mT170 dX4_doneIn_40⟩
theorem gT170 (pc : Nat) : sG l g D H0 mT 170 pc (tT170 g pc) := sG_cond (sG_cond (sG_cond (sG_cond (sG_leaf gT170_0) (sG_leaf gT170_1)) (sG_cond (sG_leaf gT170_2) (sG_cond (sG_leaf gT170_5) (sG_leaf gT170_6)))) (sG_cond (sG_cond (sG_leaf gT170_7) (sG_cond (sG_leaf gT170_10) (sG_leaf gT170_13))) (sG_cond (sG_leaf gT170_14) (sG_cond (sG_leaf gT170_15) (sG_leaf gT170_18))))) (sG_cond (sG_cond (sG_cond (sG_leaf gT170_19) (sG_cond (sG_leaf gT170_20) (sG_leaf gT170_23))) (sG_cond (sG_leaf gT170_26) (sG_cond (sG_leaf gT170_27) (sG_leaf gT170_28)))) (sG_cond (sG_cond (sG_leaf gT170_29) (sG_cond (sG_leaf gT170_32) (sG_leaf gT170_35))) (sG_cond (sG_leaf gT170_36) (sG_cond (sG_leaf gT170_37) (sG_leaf gT170_40)))))
theorem gT171_0 : sG l g D H0 mT 171 0 (s_load vRf 171 1 0) := ⟨ok_load _ _ _ _, so_aload_n mT171 dX4_doneNow_0 rfl⟩
theorem gT171_1 : sG l g D H0 mT 171 1 (s_getf 171 4 3 1) := ⟨ok_getf _ _ _ _, so_getf mT171 cl3 (k := 1) (by decide) dX4_doneNow_1 q1227 (fs_rf rfl)⟩
theorem gT171_4 : sG l g D H0 mT 171 4 (s_callvk 171 7 192 4 [] 4) := ⟨ok_callvk _ _ _ _ _ _, sk_callv (by decide) (so_callV mT171 mo192 (by decide) (t := 4) (C := "HyperVaneModel$World") (by decide) rfl rfl dX4_doneNow_4 q1644 q1645 q1646 q67)⟩
theorem gT171_7 : sG l g D H0 mT 171 7 (s_store vRf 171 8 3) := ⟨ok_store _ _ _ _, so_astore_n mT171 dX4_doneNow_7 rfl⟩
theorem gT171_8 : sG l g D H0 mT 171 8 (s_const 171 9 (.int 0)) := ⟨ok_const _ _ _, so_iconst mT171 dX4_doneNow_8 (by decide)⟩
theorem gT171_9 : sG l g D H0 mT 171 9 (s_store vI 171 11 4) := ⟨ok_store _ _ _ _, so_istore mT171 dX4_doneNow_9⟩
theorem gT171_11 : sG l g D H0 mT 171 11 (s_load vI 171 13 4) := ⟨ok_load _ _ _ _, so_iload mT171 dX4_doneNow_11⟩
theorem gT171_13 : sG l g D H0 mT 171 13 (s_load vI 171 14 2) := ⟨ok_load _ _ _ _, so_iload_n mT171 dX4_doneNow_13 rfl⟩
theorem gT171_14 : sG l g D H0 mT 171 14 (s_icmp 171 17 27 (fun a b => b ≤ a)) := ⟨ok_icmp _ _ _ _, so_icmp_ge mT171 dX4_doneNow_14 (by decide)⟩
theorem gT171_17 : sG l g D H0 mT 171 17 (s_load vRf 171 18 3) := ⟨ok_load _ _ _ _, so_aload_n mT171 dX4_doneNow_17 rfl⟩
theorem gT171_18 : sG l g D H0 mT 171 18 (s_callvk 171 21 183 4 [] 3) := ⟨ok_callvk _ _ _ _ _ _, sk_callv (by decide) (so_callV mT171 mo183 (by decide) (t := 4) (C := "HyperVaneModel$World") (by decide) rfl rfl dX4_doneNow_18 q1508 q1509 q1510 q67)⟩
theorem gT171_21 : sG l g D H0 mT 171 21 (s_iinc 171 24 4 1) := ⟨ok_iinc _ _ _ _, so_iinc mT171 dX4_doneNow_21 (by decide)⟩
theorem gT171_24 : sG l g D H0 mT 171 24 (s_goto 171 11) := ⟨ok_goto _ _, so_goto mT171 dX4_doneNow_24 (by decide)⟩
theorem gT171_27 : sG l g D H0 mT 171 27 (s_load vRf 171 28 3) := ⟨ok_load _ _ _ _, so_aload_n mT171 dX4_doneNow_27 rfl⟩
theorem gT171_28 : sG l g D H0 mT 171 28 (s_getf 171 31 4 0) := ⟨ok_getf _ _ _ _, so_getfN mT171 cl4 (k := 0) (by decide) dX4_doneNow_28 q1187 (fs_rf rfl)⟩
theorem gT171_31 : sG l g D H0 mT 171 31 (s_load vI 171 32 1) := ⟨ok_load _ _ _ _, so_iload_n mT171 dX4_doneNow_31 rfl⟩
theorem gT171_32 : sG l g D H0 mT 171 32 (s_callvk 171 35 25 10 [0] 2) := ⟨ok_callvk _ _ _ _ _ _, sk_callv (by decide) (so_callV mT171 mo25 (by decide) (t := 10) (C := "java/util/ArrayList") (by decide) rfl rfl dX4_doneNow_32 q1423 q439 q440 q58)⟩
theorem gT171_35 : sG l g D H0 mT 171 35 (s_cast 171 38 [7]) := ⟨ok_cast _ _ _, so_cast mT171 (T := "HyperVaneModel$Guest") (ts := [7]) (by intro u hu; rw [List.mem_singleton] at hu; subst hu; exact ⟨by decide, Or.inl rfl⟩) dX4_doneNow_35 q1252⟩
theorem gT171_38 : sG l g D H0 mT 171 38 (s_getf 171 41 7 10) := ⟨ok_getf _ _ _ _, so_getfN mT171 cl7 (k := 10) (by decide) dX4_doneNow_38 q1292 (fs_rf rfl)⟩
theorem gT171_41 : sG l g D H0 mT 171 41 (s_load vRf 171 42 0) := ⟨ok_load _ _ _ _, so_aload_n mT171 dX4_doneNow_41 rfl⟩
theorem gT171_42 : sG l g D H0 mT 171 42 (s_getf 171 45 3 1) := ⟨ok_getf _ _ _ _, so_getf mT171 cl3 (k := 1) (by decide) dX4_doneNow_42 q1227 (fs_rf rfl)⟩
theorem gT171_45 : sG l g D H0 mT 171 45 (s_getf 171 48 4 0) := ⟨ok_getf _ _ _ _, so_getfN mT171 cl4 (k := 0) (by decide) dX4_doneNow_45 q1187 (fs_rf rfl)⟩
theorem gT171_48 : sG l g D H0 mT 171 48 (s_load vI 171 49 1) := ⟨ok_load _ _ _ _, so_iload_n mT171 dX4_doneNow_48 rfl⟩
theorem gT171_49 : sG l g D H0 mT 171 49 (s_callvk 171 52 25 10 [0] 2) := ⟨ok_callvk _ _ _ _ _ _, sk_callv (by decide) (so_callV mT171 mo25 (by decide) (t := 10) (C := "java/util/ArrayList") (by decide) rfl rfl dX4_doneNow_49 q1423 q439 q440 q58)⟩
theorem gT171_52 : sG l g D H0 mT 171 52 (s_cast 171 55 [7]) := ⟨ok_cast _ _ _, so_cast mT171 (T := "HyperVaneModel$Guest") (ts := [7]) (by intro u hu; rw [List.mem_singleton] at hu; subst hu; exact ⟨by decide, Or.inl rfl⟩) dX4_doneNow_52 q1252⟩
theorem gT171_55 : sG l g D H0 mT 171 55 (s_getf 171 58 7 10) := ⟨ok_getf _ _ _ _, so_getfN mT171 cl7 (k := 10) (by decide) dX4_doneNow_55 q1292 (fs_rf rfl)⟩
theorem gT171_58 : sG l g D H0 mT 171 58 (s_bin 171 59 (fun a b => a - b)) := ⟨ok_bin _ _ _, so_isub mT171 dX4_doneNow_58⟩
theorem gT171_59 : sG l g D H0 mT 171 59 (s_ret pI) := ⟨ok_ret _, so_iret mT171 dX4_doneNow_59⟩
theorem gT171 (pc : Nat) : sG l g D H0 mT 171 pc (tT171 g pc) := sG_cond (sG_cond (sG_cond (sG_cond (sG_leaf gT171_0) (sG_cond (sG_leaf gT171_1) (sG_leaf gT171_4))) (sG_cond (sG_cond (sG_leaf gT171_7) (sG_leaf gT171_8)) (sG_cond (sG_leaf gT171_9) (sG_leaf gT171_11)))) (sG_cond (sG_cond (sG_leaf gT171_13) (sG_cond (sG_leaf gT171_14) (sG_leaf gT171_17))) (sG_cond (sG_cond (sG_leaf gT171_18) (sG_leaf gT171_21)) (sG_cond (sG_leaf gT171_24) (sG_leaf gT171_27))))) (sG_cond (sG_cond (sG_cond (sG_leaf gT171_28) (sG_cond (sG_leaf gT171_31) (sG_leaf gT171_32))) (sG_cond (sG_cond (sG_leaf gT171_35) (sG_leaf gT171_38)) (sG_cond (sG_leaf gT171_41) (sG_leaf gT171_42)))) (sG_cond (sG_cond (sG_leaf gT171_45) (sG_cond (sG_leaf gT171_48) (sG_leaf gT171_49))) (sG_cond (sG_cond (sG_leaf gT171_52) (sG_leaf gT171_55)) (sG_cond (sG_leaf gT171_58) (sG_leaf gT171_59)))))
theorem gT172_0 : sG l g D H0 mT 172 0 (s_load vRf 172 1 0) := ⟨ok_load _ _ _ _, so_aload_n mT172 dX4_awayIn_0 rfl⟩
theorem gT172_1 : sG l g D H0 mT 172 1 (s_const 172 2 (.int 0)) := ⟨ok_const _ _ _, so_iconst mT172 dX4_awayIn_1 (by decide)⟩
theorem gT172_2 : sG l g D H0 mT 172 2 (s_putf g pI 172 5 3 0) := ⟨ok_putf _ _ _ _ _ _, so_putf mT172 cl3 (k := 0) (by decide) fI rfl dX4_awayIn_2 q1226 (fs_rf rfl)⟩
theorem gT172_5 : sG l g D H0 mT 172 5 (s_load vRf 172 6 0) := ⟨ok_load _ _ _ _, so_aload_n mT172 dX4_awayIn_5 rfl⟩
theorem gT172_6 : sG l g D H0 mT 172 6 (s_load vI 172 7 1) := ⟨ok_load _ _ _ _, so_iload_n mT172 dX4_awayIn_6 rfl⟩
theorem gT172_7 : sG l g D H0 mT 172 7 (s_callvk 172 10 143 3 [0] 2) := ⟨ok_callvk _ _ _ _ _ _, sk_callv (by decide) (so_callV mT172 mo143 (by decide) (t := 3) (C := "HyperVaneModel") (by decide) rfl rfl dX4_awayIn_7 q1416 q1418 qs32 q66)⟩
theorem gT172_10 : sG l g D H0 mT 172 10 (s_if 172 19 13 (fun a => a = 0)) := ⟨ok_if _ _ _ _, so_if_ne mT172 dX4_awayIn_10 (by decide)⟩
theorem gT172_13 : sG l g D H0 mT 172 13 (s_load vRf 172 14 0) := ⟨ok_load _ _ _ _, so_aload_n mT172 dX4_awayIn_13 rfl⟩
theorem gT172_14 : sG l g D H0 mT 172 14 (s_const 172 15 (.int 1)) := ⟨ok_const _ _ _, so_iconst mT172 dX4_awayIn_14 (by decide)⟩
theorem gT172_15 : sG l g D H0 mT 172 15 (s_callvk 172 18 141 3 [0] 2) := ⟨ok_callvk _ _ _ _ _ _, sk_callv (by decide) (so_callV mT172 mo141 (by decide) (t := 3) (C := "HyperVaneModel") (by decide) rfl rfl dX4_awayIn_15 q1247 q1249 qs31 q66)⟩
theorem gT172_18 : sG l g D H0 mT 172 18 (s_ret pI) := ⟨ok_ret _, so_iret mT172 dX4_awayIn_18⟩
theorem gT172_19 : sG l g D H0 mT 172 19 (s_load vI 172 20 2) := ⟨ok_load _ _ _ _, so_iload_n mT172 dX4_awayIn_19 rfl⟩
theorem gT172_20 : sG l g D H0 mT 172 20 (s_callk 172 23 151 [0] 1) := ⟨ok_callk _ _ _ _ _, sk_call (by decide) (so_callS mT172 mo151 (by decide) dX4_awayIn_20 q1468 q1469 q66)⟩
theorem gT172_23 : sG l g D H0 mT 172 23 (s_if 172 32 26 (fun a => a = 0)) := ⟨ok_if _ _ _ _, so_if_ne mT172 dX4_awayIn_23 (by decide)⟩
theorem gT172_26 : sG l g D H0 mT 172 26 (s_load vRf 172 27 0) := ⟨ok_load _ _ _ _, so_aload_n mT172 dX4_awayIn_26 rfl⟩
theorem gT172_27 : sG l g D H0 mT 172 27 (s_const 172 28 (.int 2)) := ⟨ok_const _ _ _, so_iconst mT172 dX4_awayIn_27 (by decide)⟩
theorem gT172_28 : sG l g D H0 mT 172 28 (s_callvk 172 31 141 3 [0] 2) := ⟨ok_callvk _ _ _ _ _ _, sk_callv (by decide) (so_callV mT172 mo141 (by decide) (t := 3) (C := "HyperVaneModel") (by decide) rfl rfl dX4_awayIn_28 q1247 q1249 qs31 q66)⟩
theorem gT172_31 : sG l g D H0 mT 172 31 (s_ret pI) := ⟨ok_ret _, so_iret mT172 dX4_awayIn_31⟩
theorem gT172_32 : sG l g D H0 mT 172 32 (s_load vRf 172 33 0) := ⟨ok_load _ _ _ _, so_aload_n mT172 dX4_awayIn_32 rfl⟩
theorem gT172_33 : sG l g D H0 mT 172 33 (s_load vI 172 34 1) := ⟨ok_load _ _ _ _, so_iload_n mT172 dX4_awayIn_33 rfl⟩
theorem gT172_34 : sG l g D H0 mT 172 34 (s_callvk 172 37 152 3 [0] 2) := ⟨ok_callvk _ _ _ _ _ _, sk_callv (by decide) (so_callV mT172 mo152 (by decide) (t := 3) (C := "HyperVaneModel") (by decide) rfl rfl dX4_awayIn_34 q1471 q1473 qs34 q66)⟩
theorem gT172_37 : sG l g D H0 mT 172 37 (s_if 172 40 49 (fun a => a = 0)) := ⟨ok_if _ _ _ _, so_if_eq mT172 dX4_awayIn_37 (by decide)⟩
theorem gT172_40 : sG l g D H0 mT 172 40 (s_load vRf 172 41 0) := ⟨ok_load _ _ _ _, so_aload_n mT172 dX4_awayIn_40 rfl⟩
theorem gT172_41 : sG l g D H0 mT 172 41 (s_load vI 172 42 1) := ⟨ok_load _ _ _ _, so_iload_n mT172 dX4_awayIn_41 rfl⟩
theorem gT172_42 : sG l g D H0 mT 172 42 (s_load vI 172 43 2) := ⟨ok_load _ _ _ _, so_iload_n mT172 dX4_awayIn_42 rfl⟩
theorem gT172_43 : sG l g D H0 mT 172 43 (s_callvk 172 46 173 3 [0, 0] 5) := ⟨ok_callvk _ _ _ _ _ _, sk_callv (by decide) (so_callV mT172 mo173 (by decide) (t := 3) (C := "HyperVaneModel") (by decide) rfl rfl dX4_awayIn_43 q1677 q1679 qs50 q66)⟩
theorem gT172_46 : sG l g D H0 mT 172 46 (s_goto 172 54) := ⟨ok_goto _ _, so_goto mT172 dX4_awayIn_46 (by decide)⟩
theorem gT172_49 : sG l g D H0 mT 172 49 (s_load vRf 172 50 0) := ⟨ok_load _ _ _ _, so_aload_n mT172 dX4_awayIn_49 rfl⟩
theorem gT172_50 : sG l g D H0 mT 172 50 (s_const 172 51 (.int 3)) := ⟨ok_const _ _ _, so_iconst mT172 dX4_awayIn_50 (by decide)⟩
theorem gT172_51 : sG l g D H0 mT 172 51 (s_callvk 172 54 141 3 [0] 2) := ⟨ok_callvk _ _ _ _ _ _, sk_callv (by decide) (so_callV mT172 mo141 (by decide) (t := 3) (C := "HyperVaneModel") (by decide) rfl rfl dX4_awayIn_51 q1247 q1249 qs31 q66)⟩
theorem gT172_54 : sG l g D H0 mT 172 54 (s_ret pI) := ⟨ok_ret _, so_iret mT172 dX4_awayIn_54⟩
theorem gT172 (pc : Nat) : sG l g D H0 mT 172 pc (tT172 g pc) := sG_cond (sG_cond (sG_cond (sG_cond (sG_leaf gT172_0) (sG_cond (sG_leaf gT172_1) (sG_leaf gT172_2))) (sG_cond (sG_cond (sG_leaf gT172_5) (sG_leaf gT172_6)) (sG_cond (sG_leaf gT172_7) (sG_leaf gT172_10)))) (sG_cond (sG_cond (sG_cond (sG_leaf gT172_13) (sG_leaf gT172_14)) (sG_cond (sG_leaf gT172_15) (sG_leaf gT172_18))) (sG_cond (sG_cond (sG_leaf gT172_19) (sG_leaf gT172_20)) (sG_cond (sG_leaf gT172_23) (sG_leaf gT172_26))))) (sG_cond (sG_cond (sG_cond (sG_cond (sG_leaf gT172_27) (sG_leaf gT172_28)) (sG_cond (sG_leaf gT172_31) (sG_leaf gT172_32))) (sG_cond (sG_cond (sG_leaf gT172_33) (sG_leaf gT172_34)) (sG_cond (sG_leaf gT172_37) (sG_leaf gT172_40)))) (sG_cond (sG_cond (sG_cond (sG_leaf gT172_41) (sG_leaf gT172_42)) (sG_cond (sG_leaf gT172_43) (sG_leaf gT172_46))) (sG_cond (sG_cond (sG_leaf gT172_49) (sG_leaf gT172_50)) (sG_cond (sG_leaf gT172_51) (sG_leaf gT172_54)))))
theorem gT173_0 : sG l g D H0 mT 173 0 (s_load vRf 173 1 0) := ⟨ok_load _ _ _ _, so_aload_n mT173 dX4_awayNow_0 rfl⟩
theorem gT173_1 : sG l g D H0 mT 173 1 (s_getf 173 4 3 1) := ⟨ok_getf _ _ _ _, so_getf mT173 cl3 (k := 1) (by decide) dX4_awayNow_1 q1227 (fs_rf rfl)⟩
theorem gT173_4 : sG l g D H0 mT 173 4 (s_callvk 173 7 192 4 [] 4) := ⟨ok_callvk _ _ _ _ _ _, sk_callv (by decide) (so_callV mT173 mo192 (by decide) (t := 4) (C := "HyperVaneModel$World") (by decide) rfl rfl dX4_awayNow_4 q1644 q1645 q1646 q67)⟩
theorem gT173_7 : sG l g D H0 mT 173 7 (s_store vRf 173 8 3) := ⟨ok_store _ _ _ _, so_astore_n mT173 dX4_awayNow_7 rfl⟩
theorem gT173_8 : sG l g D H0 mT 173 8 (s_load vRf 173 9 3) := ⟨ok_load _ _ _ _, so_aload_n mT173 dX4_awayNow_8 rfl⟩
theorem gT173_9 : sG l g D H0 mT 173 9 (s_load vI 173 10 1) := ⟨ok_load _ _ _ _, so_iload_n mT173 dX4_awayNow_9 rfl⟩
theorem gT173_10 : sG l g D H0 mT 173 10 (s_load vI 173 11 2) := ⟨ok_load _ _ _ _, so_iload_n mT173 dX4_awayNow_10 rfl⟩
theorem gT173_11 : sG l g D H0 mT 173 11 (s_callvk 173 14 181 4 [0, 0] 5) := ⟨ok_callvk _ _ _ _ _ _, sk_callv (by decide) (so_callV mT173 mo181 (by decide) (t := 4) (C := "HyperVaneModel$World") (by decide) rfl rfl dX4_awayNow_11 q1475 q1476 q1477 q67)⟩
theorem gT173_14 : sG l g D H0 mT 173 14 (s_pop 173 15) := ⟨ok_pop _ _, so_pop mT173 dX4_awayNow_14⟩
theorem gT173_15 : sG l g D H0 mT 173 15 (s_const 173 16 (.int 1)) := ⟨ok_const _ _ _, so_iconst mT173 dX4_awayNow_15 (by decide)⟩
theorem gT173_16 : sG l g D H0 mT 173 16 (s_store vI 173 18 4) := ⟨ok_store _ _ _ _, so_istore mT173 dX4_awayNow_16⟩
theorem gT173_18 : sG l g D H0 mT 173 18 (s_load vI 173 20 4) := ⟨ok_load _ _ _ _, so_iload mT173 dX4_awayNow_18⟩
theorem gT173_20 : sG l g D H0 mT 173 20 (s_const 173 22 (.int 40)) := ⟨ok_const _ _ _, so_bipush mT173 dX4_awayNow_20 (by decide)⟩
theorem gT173_22 : sG l g D H0 mT 173 22 (s_icmp 173 25 56 (fun a b => b < a)) := ⟨ok_icmp _ _ _ _, so_icmp_gt mT173 dX4_awayNow_22 (by decide)⟩
theorem gT173_25 : sG l g D H0 mT 173 25 (s_load vRf 173 26 3) := ⟨ok_load _ _ _ _, so_aload_n mT173 dX4_awayNow_25 rfl⟩
theorem gT173_26 : sG l g D H0 mT 173 26 (s_callvk 173 29 183 4 [] 3) := ⟨ok_callvk _ _ _ _ _ _, sk_callv (by decide) (so_callV mT173 mo183 (by decide) (t := 4) (C := "HyperVaneModel$World") (by decide) rfl rfl dX4_awayNow_26 q1508 q1509 q1510 q67)⟩
theorem gT173_29 : sG l g D H0 mT 173 29 (s_load vRf 173 30 3) := ⟨ok_load _ _ _ _, so_aload_n mT173 dX4_awayNow_29 rfl⟩
theorem gT173_30 : sG l g D H0 mT 173 30 (s_getf 173 33 4 0) := ⟨ok_getf _ _ _ _, so_getfN mT173 cl4 (k := 0) (by decide) dX4_awayNow_30 q1187 (fs_rf rfl)⟩
theorem gT173_33 : sG l g D H0 mT 173 33 (s_load vI 173 34 1) := ⟨ok_load _ _ _ _, so_iload_n mT173 dX4_awayNow_33 rfl⟩
theorem gT173_34 : sG l g D H0 mT 173 34 (s_callvk 173 37 25 10 [0] 2) := ⟨ok_callvk _ _ _ _ _ _, sk_callv (by decide) (so_callV mT173 mo25 (by decide) (t := 10) (C := "java/util/ArrayList") (by decide) rfl rfl dX4_awayNow_34 q1423 q439 q440 q58)⟩
theorem gT173_37 : sG l g D H0 mT 173 37 (s_cast 173 40 [7]) := ⟨ok_cast _ _ _, so_cast mT173 (T := "HyperVaneModel$Guest") (ts := [7]) (by intro u hu; rw [List.mem_singleton] at hu; subst hu; exact ⟨by decide, Or.inl rfl⟩) dX4_awayNow_37 q1252⟩
theorem gT173_40 : sG l g D H0 mT 173 40 (s_getf 173 43 7 6) := ⟨ok_getf _ _ _ _, so_getfN mT173 cl7 (k := 6) (by decide) dX4_awayNow_40 q1280 (fs_rf rfl)⟩
theorem gT173_43 : sG l g D H0 mT 173 43 (s_const 173 44 (.int 4)) := ⟨ok_const _ _ _, so_iconst mT173 dX4_awayNow_43 (by decide)⟩
theorem gT173_44 : sG l g D H0 mT 173 44 (s_icmp 173 50 47 (fun a b => a = b)) := ⟨ok_icmp _ _ _ _, so_icmp_ne mT173 dX4_awayNow_44 (by decide)⟩
theorem gT173_47 : sG l g D H0 mT 173 47 (s_load vI 173 49 4) := ⟨ok_load _ _ _ _, so_iload mT173 dX4_awayNow_47⟩
theorem gT173_49 : sG l g D H0 mT 173 49 (s_ret pI) := ⟨ok_ret _, so_iret mT173 dX4_awayNow_49⟩
theorem gT173_50 : sG l g D H0 mT 173 50 (s_iinc 173 53 4 1) := ⟨ok_iinc _ _ _ _, so_iinc mT173 dX4_awayNow_50 (by decide)⟩
theorem gT173_53 : sG l g D H0 mT 173 53 (s_goto 173 18) := ⟨ok_goto _ _, so_goto mT173 dX4_awayNow_53 (by decide)⟩
theorem gT173_56 : sG l g D H0 mT 173 56 (s_const 173 57 (.int (-1))) := ⟨ok_const _ _ _, so_iconst mT173 dX4_awayNow_56 (by decide)⟩
theorem gT173_57 : sG l g D H0 mT 173 57 (s_ret pI) := ⟨ok_ret _, so_iret mT173 dX4_awayNow_57⟩
theorem gT173 (pc : Nat) : sG l g D H0 mT 173 pc (tT173 g pc) := sG_cond (sG_cond (sG_cond (sG_cond (sG_leaf gT173_0) (sG_cond (sG_leaf gT173_1) (sG_leaf gT173_4))) (sG_cond (sG_cond (sG_leaf gT173_7) (sG_leaf gT173_8)) (sG_cond (sG_leaf gT173_9) (sG_leaf gT173_10)))) (sG_cond (sG_cond (sG_cond (sG_leaf gT173_11) (sG_leaf gT173_14)) (sG_cond (sG_leaf gT173_15) (sG_leaf gT173_16))) (sG_cond (sG_cond (sG_leaf gT173_18) (sG_leaf gT173_20)) (sG_cond (sG_leaf gT173_22) (sG_leaf gT173_25))))) (sG_cond (sG_cond (sG_cond (sG_leaf gT173_26) (sG_cond (sG_leaf gT173_29) (sG_leaf gT173_30))) (sG_cond (sG_cond (sG_leaf gT173_33) (sG_leaf gT173_34)) (sG_cond (sG_leaf gT173_37) (sG_leaf gT173_40)))) (sG_cond (sG_cond (sG_cond (sG_leaf gT173_43) (sG_leaf gT173_44)) (sG_cond (sG_leaf gT173_47) (sG_leaf gT173_49))) (sG_cond (sG_cond (sG_leaf gT173_50) (sG_leaf gT173_53)) (sG_cond (sG_leaf gT173_56) (sG_leaf gT173_57)))))
theorem gT174_0 : sG l g D H0 mT 174 0 (s_load vRf 174 1 0) := ⟨ok_load _ _ _ _, so_aload_n mT174 dX4_digest_0 rfl⟩
theorem gT174_1 : sG l g D H0 mT 174 1 (s_const 174 2 (.int 0)) := ⟨ok_const _ _ _, so_iconst mT174 dX4_digest_1 (by decide)⟩
theorem gT174_2 : sG l g D H0 mT 174 2 (s_putf g pI 174 5 3 0) := ⟨ok_putf _ _ _ _ _ _, so_putf mT174 cl3 (k := 0) (by decide) fI rfl dX4_digest_2 q1226 (fs_rf rfl)⟩
theorem gT174_5 : sG l g D H0 mT 174 5 (s_load vRf 174 6 0) := ⟨ok_load _ _ _ _, so_aload_n mT174 dX4_digest_5 rfl⟩
theorem gT174_6 : sG l g D H0 mT 174 6 (s_const 174 9 (.long 9609)) := ⟨ok_const _ _ _, so_ldc2 mT174 dX4_digest_6 q1685⟩
theorem gT174_9 : sG l g D H0 mT 174 9 (s_putf g pJ 174 12 3 2) := ⟨ok_putf _ _ _ _ _ _, so_putf mT174 cl3 (k := 2) (by decide) fJ rfl dX4_digest_9 q1228 (fs_rf rfl)⟩
theorem gT174_12 : sG l g D H0 mT 174 12 (s_const 174 13 (.int 0)) := ⟨ok_const _ _ _, so_iconst mT174 dX4_digest_12 (by decide)⟩
theorem gT174_13 : sG l g D H0 mT 174 13 (s_store vI 174 14 1) := ⟨ok_store _ _ _ _, so_istore_n mT174 dX4_digest_13 rfl⟩
theorem gT174_14 : sG l g D H0 mT 174 14 (s_load vI 174 15 1) := ⟨ok_load _ _ _ _, so_iload_n mT174 dX4_digest_14 rfl⟩
theorem gT174_15 : sG l g D H0 mT 174 15 (s_const 174 17 (.int 11)) := ⟨ok_const _ _ _, so_bipush mT174 dX4_digest_15 (by decide)⟩
theorem gT174_17 : sG l g D H0 mT 174 17 (s_icmp 174 20 35 (fun a b => b ≤ a)) := ⟨ok_icmp _ _ _ _, so_icmp_ge mT174 dX4_digest_17 (by decide)⟩
theorem gT174_20 : sG l g D H0 mT 174 20 (s_load vRf 174 21 0) := ⟨ok_load _ _ _ _, so_aload_n mT174 dX4_digest_20 rfl⟩
theorem gT174_21 : sG l g D H0 mT 174 21 (s_load vRf 174 22 0) := ⟨ok_load _ _ _ _, so_aload_n mT174 dX4_digest_21 rfl⟩
theorem gT174_22 : sG l g D H0 mT 174 22 (s_load vI 174 23 1) := ⟨ok_load _ _ _ _, so_iload_n mT174 dX4_digest_22 rfl⟩
theorem gT174_23 : sG l g D H0 mT 174 23 (s_callvk 174 26 167 3 [0] 10) := ⟨ok_callvk _ _ _ _ _ _, sk_callv (by decide) (so_callV mT174 mo167 (by decide) (t := 3) (C := "HyperVaneModel") (by decide) rfl rfl dX4_digest_23 q1607 q1609 qs48 q66)⟩
theorem gT174_26 : sG l g D H0 mT 174 26 (s_callvk 174 29 175 3 [0] 2) := ⟨ok_callvk _ _ _ _ _ _, sk_callv (by decide) (so_callV mT174 mo175 (by decide) (t := 3) (C := "HyperVaneModel") (by decide) rfl rfl dX4_digest_26 q1686 q1688 qs51 q66)⟩
theorem gT174_29 : sG l g D H0 mT 174 29 (s_iinc 174 32 1 1) := ⟨ok_iinc _ _ _ _, so_iinc mT174 dX4_digest_29 (by decide)⟩
theorem gT174_32 : sG l g D H0 mT 174 32 (s_goto 174 14) := ⟨ok_goto _ _, so_goto mT174 dX4_digest_32 (by decide)⟩
theorem gT174_35 : sG l g D H0 mT 174 35 (s_const 174 36 (.int 0)) := ⟨ok_const _ _ _, so_iconst mT174 dX4_digest_35 (by decide)⟩
theorem gT174_36 : sG l g D H0 mT 174 36 (s_store vI 174 37 1) := ⟨ok_store _ _ _ _, so_istore_n mT174 dX4_digest_36 rfl⟩
theorem gT174_37 : sG l g D H0 mT 174 37 (s_load vI 174 38 1) := ⟨ok_load _ _ _ _, so_iload_n mT174 dX4_digest_37 rfl⟩
theorem gT174_38 : sG l g D H0 mT 174 38 (s_load vRf 174 39 0) := ⟨ok_load _ _ _ _, so_aload_n mT174 dX4_digest_38 rfl⟩
theorem gT174_39 : sG l g D H0 mT 174 39 (s_getf 174 42 3 1) := ⟨ok_getf _ _ _ _, so_getf mT174 cl3 (k := 1) (by decide) dX4_digest_39 q1227 (fs_rf rfl)⟩
theorem gT174_42 : sG l g D H0 mT 174 42 (s_getf 174 45 4 0) := ⟨ok_getf _ _ _ _, so_getfN mT174 cl4 (k := 0) (by decide) dX4_digest_42 q1187 (fs_rf rfl)⟩
theorem gT174_45 : sG l g D H0 mT 174 45 (s_callvk 174 48 15 10 [] 1) := ⟨ok_callvk _ _ _ _ _ _, sk_callv (by decide) (so_callV mT174 mo15 (by decide) (t := 10) (C := "java/util/ArrayList") (by decide) rfl rfl dX4_digest_45 q1251 q173 q174 q58)⟩
theorem gT174_48 : sG l g D H0 mT 174 48 (s_icmp 174 51 62 (fun a b => b ≤ a)) := ⟨ok_icmp _ _ _ _, so_icmp_ge mT174 dX4_digest_48 (by decide)⟩
theorem gT174_51 : sG l g D H0 mT 174 51 (s_load vRf 174 52 0) := ⟨ok_load _ _ _ _, so_aload_n mT174 dX4_digest_51 rfl⟩
theorem gT174_52 : sG l g D H0 mT 174 52 (s_load vI 174 53 1) := ⟨ok_load _ _ _ _, so_iload_n mT174 dX4_digest_52 rfl⟩
theorem gT174_53 : sG l g D H0 mT 174 53 (s_callvk 174 56 176 3 [0] 8) := ⟨ok_callvk _ _ _ _ _ _, sk_callv (by decide) (so_callV mT174 mo176 (by decide) (t := 3) (C := "HyperVaneModel") (by decide) rfl rfl dX4_digest_53 q1691 q1693 qs52 q66)⟩
theorem gT174_56 : sG l g D H0 mT 174 56 (s_iinc 174 59 1 1) := ⟨ok_iinc _ _ _ _, so_iinc mT174 dX4_digest_56 (by decide)⟩
theorem gT174_59 : sG l g D H0 mT 174 59 (s_goto 174 37) := ⟨ok_goto _ _, so_goto mT174 dX4_digest_59 (by decide)⟩
theorem gT174_62 : sG l g D H0 mT 174 62 (s_const 174 63 (.int 0)) := ⟨ok_const _ _ _, so_iconst mT174 dX4_digest_62 (by decide)⟩
theorem gT174_63 : sG l g D H0 mT 174 63 (s_store vI 174 64 1) := ⟨ok_store _ _ _ _, so_istore_n mT174 dX4_digest_63 rfl⟩
theorem gT174_64 : sG l g D H0 mT 174 64 (s_load vI 174 65 1) := ⟨ok_load _ _ _ _, so_iload_n mT174 dX4_digest_64 rfl⟩
theorem gT174_65 : sG l g D H0 mT 174 65 (s_load vRf 174 66 0) := ⟨ok_load _ _ _ _, so_aload_n mT174 dX4_digest_65 rfl⟩
theorem gT174_66 : sG l g D H0 mT 174 66 (s_getf 174 69 3 1) := ⟨ok_getf _ _ _ _, so_getf mT174 cl3 (k := 1) (by decide) dX4_digest_66 q1227 (fs_rf rfl)⟩
theorem gT174_69 : sG l g D H0 mT 174 69 (s_getf 174 72 4 2) := ⟨ok_getf _ _ _ _, so_getfN mT174 cl4 (k := 2) (by decide) dX4_digest_69 q1191 (fs_rf rfl)⟩
theorem gT174_72 : sG l g D H0 mT 174 72 (s_icmp 174 75 104 (fun a b => b ≤ a)) := ⟨ok_icmp _ _ _ _, so_icmp_ge mT174 dX4_digest_72 (by decide)⟩
theorem gT174_75 : sG l g D H0 mT 174 75 (s_const 174 76 (.int 0)) := ⟨ok_const _ _ _, so_iconst mT174 dX4_digest_75 (by decide)⟩
theorem gT174_76 : sG l g D H0 mT 174 76 (s_store vI 174 77 2) := ⟨ok_store _ _ _ _, so_istore_n mT174 dX4_digest_76 rfl⟩
theorem gT174_77 : sG l g D H0 mT 174 77 (s_load vI 174 78 2) := ⟨ok_load _ _ _ _, so_iload_n mT174 dX4_digest_77 rfl⟩
theorem gT174_78 : sG l g D H0 mT 174 78 (s_const 174 79 (.int 3)) := ⟨ok_const _ _ _, so_iconst mT174 dX4_digest_78 (by decide)⟩
theorem gT174_79 : sG l g D H0 mT 174 79 (s_icmp 174 82 98 (fun a b => b ≤ a)) := ⟨ok_icmp _ _ _ _, so_icmp_ge mT174 dX4_digest_79 (by decide)⟩
theorem gT174_82 : sG l g D H0 mT 174 82 (s_load vRf 174 83 0) := ⟨ok_load _ _ _ _, so_aload_n mT174 dX4_digest_82 rfl⟩
theorem gT174_83 : sG l g D H0 mT 174 83 (s_load vRf 174 84 0) := ⟨ok_load _ _ _ _, so_aload_n mT174 dX4_digest_83 rfl⟩
theorem gT174_84 : sG l g D H0 mT 174 84 (s_load vI 174 85 1) := ⟨ok_load _ _ _ _, so_iload_n mT174 dX4_digest_84 rfl⟩
theorem gT174_85 : sG l g D H0 mT 174 85 (s_load vI 174 86 2) := ⟨ok_load _ _ _ _, so_iload_n mT174 dX4_digest_85 rfl⟩
theorem gT174_86 : sG l g D H0 mT 174 86 (s_callvk 174 89 163 3 [0, 0] 4) := ⟨ok_callvk _ _ _ _ _ _, sk_callv (by decide) (so_callV mT174 mo163 (by decide) (t := 3) (C := "HyperVaneModel") (by decide) rfl rfl dX4_digest_86 q1588 q1590 qs46 q66)⟩
theorem gT174_89 : sG l g D H0 mT 174 89 (s_callvk 174 92 175 3 [0] 2) := ⟨ok_callvk _ _ _ _ _ _, sk_callv (by decide) (so_callV mT174 mo175 (by decide) (t := 3) (C := "HyperVaneModel") (by decide) rfl rfl dX4_digest_89 q1686 q1688 qs51 q66)⟩
theorem gT174_92 : sG l g D H0 mT 174 92 (s_iinc 174 95 2 1) := ⟨ok_iinc _ _ _ _, so_iinc mT174 dX4_digest_92 (by decide)⟩
theorem gT174_95 : sG l g D H0 mT 174 95 (s_goto 174 77) := ⟨ok_goto _ _, so_goto mT174 dX4_digest_95 (by decide)⟩
theorem gT174_98 : sG l g D H0 mT 174 98 (s_iinc 174 101 1 1) := ⟨ok_iinc _ _ _ _, so_iinc mT174 dX4_digest_98 (by decide)⟩
theorem gT174_101 : sG l g D H0 mT 174 101 (s_goto 174 64) := ⟨ok_goto _ _, so_goto mT174 dX4_digest_101 (by decide)⟩
theorem gT174_104 : sG l g D H0 mT 174 104 (s_load vRf 174 105 0) := ⟨ok_load _ _ _ _, so_aload_n mT174 dX4_digest_104 rfl⟩
theorem gT174_105 : sG l g D H0 mT 174 105 (s_getf 174 108 3 2) := ⟨ok_getf _ _ _ _, so_getf mT174 cl3 (k := 2) (by decide) dX4_digest_105 q1228 (fs_rf rfl)⟩
theorem gT174_108 : sG l g D H0 mT 174 108 (s_ret pJ) := ⟨ok_ret _, so_lret mT174 dX4_digest_108⟩
theorem gT174 (pc : Nat) : sG l g D H0 mT 174 pc (tT174 g pc) := sG_cond (sG_cond (sG_cond (sG_cond (sG_cond (sG_leaf gT174_0) (sG_cond (sG_leaf gT174_1) (sG_leaf gT174_2))) (sG_cond (sG_cond (sG_leaf gT174_5) (sG_leaf gT174_6)) (sG_cond (sG_leaf gT174_9) (sG_leaf gT174_12)))) (sG_cond (sG_cond (sG_leaf gT174_13) (sG_cond (sG_leaf gT174_14) (sG_leaf gT174_15))) (sG_cond (sG_cond (sG_leaf gT174_17) (sG_leaf gT174_20)) (sG_cond (sG_leaf gT174_21) (sG_leaf gT174_22))))) (sG_cond (sG_cond (sG_cond (sG_leaf gT174_23) (sG_cond (sG_leaf gT174_26) (sG_leaf gT174_29))) (sG_cond (sG_cond (sG_leaf gT174_32) (sG_leaf gT174_35)) (sG_cond (sG_leaf gT174_36) (sG_leaf gT174_37)))) (sG_cond (sG_cond (sG_leaf gT174_38) (sG_cond (sG_leaf gT174_39) (sG_leaf gT174_42))) (sG_cond (sG_cond (sG_leaf gT174_45) (sG_leaf gT174_48)) (sG_cond (sG_leaf gT174_51) (sG_leaf gT174_52)))))) (sG_cond (sG_cond (sG_cond (sG_cond (sG_leaf gT174_53) (sG_cond (sG_leaf gT174_56) (sG_leaf gT174_59))) (sG_cond (sG_cond (sG_leaf gT174_62) (sG_leaf gT174_63)) (sG_cond (sG_leaf gT174_64) (sG_leaf gT174_65)))) (sG_cond (sG_cond (sG_leaf gT174_66) (sG_cond (sG_leaf gT174_69) (sG_leaf gT174_72))) (sG_cond (sG_cond (sG_leaf gT174_75) (sG_leaf gT174_76)) (sG_cond (sG_leaf gT174_77) (sG_leaf gT174_78))))) (sG_cond (sG_cond (sG_cond (sG_leaf gT174_79) (sG_cond (sG_leaf gT174_82) (sG_leaf gT174_83))) (sG_cond (sG_cond (sG_leaf gT174_84) (sG_leaf gT174_85)) (sG_cond (sG_leaf gT174_86) (sG_leaf gT174_89)))) (sG_cond (sG_cond (sG_leaf gT174_92) (sG_cond (sG_leaf gT174_95) (sG_leaf gT174_98))) (sG_cond (sG_cond (sG_leaf gT174_101) (sG_leaf gT174_104)) (sG_cond (sG_leaf gT174_105) (sG_leaf gT174_108))))))
theorem gT175_0 : sG l g D H0 mT 175 0 (s_load vRf 175 1 0) := ⟨ok_load _ _ _ _, so_aload_n mT175 dX4_add_0 rfl⟩
theorem gT175_1 : sG l g D H0 mT 175 1 (s_load vRf 175 2 0) := ⟨ok_load _ _ _ _, so_aload_n mT175 dX4_add_1 rfl⟩
theorem gT175_2 : sG l g D H0 mT 175 2 (s_getf 175 5 3 2) := ⟨ok_getf _ _ _ _, so_getf mT175 cl3 (k := 2) (by decide) dX4_add_2 q1228 (fs_rf rfl)⟩
theorem gT175_5 : sG l g D H0 mT 175 5 (s_const 175 8 (.long 31)) := ⟨ok_const _ _ _, so_ldc2 mT175 dX4_add_5 q1690⟩
theorem gT175_8 : sG l g D H0 mT 175 8 (s_lbin 175 9 (fun a b => .long (a * b))) := ⟨ok_lbin _ _ _, so_lmul mT175 dX4_add_8⟩
theorem gT175_9 : sG l g D H0 mT 175 9 (s_load vI 175 10 1) := ⟨ok_load _ _ _ _, so_iload_n mT175 dX4_add_9 rfl⟩
theorem gT175_10 : sG l g D H0 mT 175 10 (s_i2 175 11 (fun a => .long a.toInt64)) := ⟨ok_i2 _ _ _, so_i2l mT175 dX4_add_10⟩
theorem gT175_11 : sG l g D H0 mT 175 11 (s_lbin 175 12 (fun a b => .long (a + b))) := ⟨ok_lbin _ _ _, so_ladd mT175 dX4_add_11⟩
theorem gT175_12 : sG l g D H0 mT 175 12 (s_putf g pJ 175 15 3 2) := ⟨ok_putf _ _ _ _ _ _, so_putf mT175 cl3 (k := 2) (by decide) fJ rfl dX4_add_12 q1228 (fs_rf rfl)⟩
theorem gT175_15 : sG l g D H0 mT 175 15 (s_vret) := ⟨ok_vret, so_vret mT175 dX4_add_15⟩
theorem gT175 (pc : Nat) : sG l g D H0 mT 175 pc (tT175 g pc) := sG_cond (sG_cond (sG_cond (sG_leaf gT175_0) (sG_leaf gT175_1)) (sG_cond (sG_leaf gT175_2) (sG_cond (sG_leaf gT175_5) (sG_leaf gT175_8)))) (sG_cond (sG_cond (sG_leaf gT175_9) (sG_leaf gT175_10)) (sG_cond (sG_leaf gT175_11) (sG_cond (sG_leaf gT175_12) (sG_leaf gT175_15))))
theorem gT176_0 : sG l g D H0 mT 176 0 (s_const 176 1 (.int 0)) := ⟨ok_const _ _ _, so_iconst mT176 dX4_addGuest_0 (by decide)⟩
theorem gT176_1 : sG l g D H0 mT 176 1 (s_store vI 176 2 2) := ⟨ok_store _ _ _ _, so_istore_n mT176 dX4_addGuest_1 rfl⟩
theorem gT176_2 : sG l g D H0 mT 176 2 (s_load vI 176 3 2) := ⟨ok_load _ _ _ _, so_iload_n mT176 dX4_addGuest_2 rfl⟩
theorem gT176_3 : sG l g D H0 mT 176 3 (s_const 176 5 (.int 16)) := ⟨ok_const _ _ _, so_bipush mT176 dX4_addGuest_3 (by decide)⟩
theorem gT176_5 : sG l g D H0 mT 176 5 (s_icmp 176 8 24 (fun a b => b ≤ a)) := ⟨ok_icmp _ _ _ _, so_icmp_ge mT176 dX4_addGuest_5 (by decide)⟩
theorem gT176_8 : sG l g D H0 mT 176 8 (s_load vRf 176 9 0) := ⟨ok_load _ _ _ _, so_aload_n mT176 dX4_addGuest_8 rfl⟩
theorem gT176_9 : sG l g D H0 mT 176 9 (s_load vRf 176 10 0) := ⟨ok_load _ _ _ _, so_aload_n mT176 dX4_addGuest_9 rfl⟩
theorem gT176_10 : sG l g D H0 mT 176 10 (s_load vI 176 11 1) := ⟨ok_load _ _ _ _, so_iload_n mT176 dX4_addGuest_10 rfl⟩
theorem gT176_11 : sG l g D H0 mT 176 11 (s_load vI 176 12 2) := ⟨ok_load _ _ _ _, so_iload_n mT176 dX4_addGuest_11 rfl⟩
theorem gT176_12 : sG l g D H0 mT 176 12 (s_callvk 176 15 157 3 [0, 0] 5) := ⟨ok_callvk _ _ _ _ _ _, sk_callv (by decide) (so_callV mT176 mo157 (by decide) (t := 3) (C := "HyperVaneModel") (by decide) rfl rfl dX4_addGuest_12 q1564 q1566 qs44 q66)⟩
theorem gT176_15 : sG l g D H0 mT 176 15 (s_callvk 176 18 175 3 [0] 2) := ⟨ok_callvk _ _ _ _ _ _, sk_callv (by decide) (so_callV mT176 mo175 (by decide) (t := 3) (C := "HyperVaneModel") (by decide) rfl rfl dX4_addGuest_15 q1686 q1688 qs51 q66)⟩
theorem gT176_18 : sG l g D H0 mT 176 18 (s_iinc 176 21 2 1) := ⟨ok_iinc _ _ _ _, so_iinc mT176 dX4_addGuest_18 (by decide)⟩
theorem gT176_21 : sG l g D H0 mT 176 21 (s_goto 176 2) := ⟨ok_goto _ _, so_goto mT176 dX4_addGuest_21 (by decide)⟩
theorem gT176_24 : sG l g D H0 mT 176 24 (s_load vRf 176 25 0) := ⟨ok_load _ _ _ _, so_aload_n mT176 dX4_addGuest_24 rfl⟩
theorem gT176_25 : sG l g D H0 mT 176 25 (s_getf 176 28 3 1) := ⟨ok_getf _ _ _ _, so_getf mT176 cl3 (k := 1) (by decide) dX4_addGuest_25 q1227 (fs_rf rfl)⟩
theorem gT176_28 : sG l g D H0 mT 176 28 (s_getf 176 31 4 0) := ⟨ok_getf _ _ _ _, so_getfN mT176 cl4 (k := 0) (by decide) dX4_addGuest_28 q1187 (fs_rf rfl)⟩
theorem gT176_31 : sG l g D H0 mT 176 31 (s_load vI 176 32 1) := ⟨ok_load _ _ _ _, so_iload_n mT176 dX4_addGuest_31 rfl⟩
theorem gT176_32 : sG l g D H0 mT 176 32 (s_callvk 176 35 25 10 [0] 2) := ⟨ok_callvk _ _ _ _ _ _, sk_callv (by decide) (so_callV mT176 mo25 (by decide) (t := 10) (C := "java/util/ArrayList") (by decide) rfl rfl dX4_addGuest_32 q1423 q439 q440 q58)⟩
theorem gT176_35 : sG l g D H0 mT 176 35 (s_cast 176 38 [7]) := ⟨ok_cast _ _ _, so_cast mT176 (T := "HyperVaneModel$Guest") (ts := [7]) (by intro u hu; rw [List.mem_singleton] at hu; subst hu; exact ⟨by decide, Or.inl rfl⟩) dX4_addGuest_35 q1252⟩
theorem gT176_38 : sG l g D H0 mT 176 38 (s_store vRf 176 39 2) := ⟨ok_store _ _ _ _, so_astore_n mT176 dX4_addGuest_38 rfl⟩
theorem gT176_39 : sG l g D H0 mT 176 39 (s_load vRf 176 40 2) := ⟨ok_load _ _ _ _, so_aload_n mT176 dX4_addGuest_39 rfl⟩
theorem gT176_40 : sG l g D H0 mT 176 40 (s_getf 176 43 7 17) := ⟨ok_getf _ _ _ _, so_getfN mT176 cl7 (k := 17) (by decide) dX4_addGuest_40 q1313 (fs_rf rfl)⟩
theorem gT176_43 : sG l g D H0 mT 176 43 (s_store vRf 176 44 3) := ⟨ok_store _ _ _ _, so_astore_n mT176 dX4_addGuest_43 rfl⟩
theorem gT176_44 : sG l g D H0 mT 176 44 (s_load vRf 176 45 3) := ⟨ok_load _ _ _ _, so_aload_n mT176 dX4_addGuest_44 rfl⟩
theorem gT176_45 : sG l g D H0 mT 176 45 (s_alen 176 46 20) := ⟨ok_alen _ _ _, so_alen mT176 a20 dX4_addGuest_45⟩
theorem gT176_46 : sG l g D H0 mT 176 46 (s_store vI 176 48 4) := ⟨ok_store _ _ _ _, so_istore mT176 dX4_addGuest_46⟩
theorem gT176_48 : sG l g D H0 mT 176 48 (s_const 176 49 (.int 0)) := ⟨ok_const _ _ _, so_iconst mT176 dX4_addGuest_48 (by decide)⟩
theorem gT176_49 : sG l g D H0 mT 176 49 (s_store vI 176 51 5) := ⟨ok_store _ _ _ _, so_istore mT176 dX4_addGuest_49⟩
theorem gT176_51 : sG l g D H0 mT 176 51 (s_load vI 176 53 5) := ⟨ok_load _ _ _ _, so_iload mT176 dX4_addGuest_51⟩
theorem gT176_53 : sG l g D H0 mT 176 53 (s_load vI 176 55 4) := ⟨ok_load _ _ _ _, so_iload mT176 dX4_addGuest_53⟩
theorem gT176_55 : sG l g D H0 mT 176 55 (s_icmp 176 58 76 (fun a b => b ≤ a)) := ⟨ok_icmp _ _ _ _, so_icmp_ge mT176 dX4_addGuest_55 (by decide)⟩
theorem gT176_58 : sG l g D H0 mT 176 58 (s_load vRf 176 59 3) := ⟨ok_load _ _ _ _, so_aload_n mT176 dX4_addGuest_58 rfl⟩
theorem gT176_59 : sG l g D H0 mT 176 59 (s_load vI 176 61 5) := ⟨ok_load _ _ _ _, so_iload mT176 dX4_addGuest_59⟩
theorem gT176_61 : sG l g D H0 mT 176 61 (s_ald 176 62 20) := ⟨ok_ald _ _ _, so_iald mT176 a20 dX4_addGuest_61⟩
theorem gT176_62 : sG l g D H0 mT 176 62 (s_store vI 176 64 6) := ⟨ok_store _ _ _ _, so_istore mT176 dX4_addGuest_62⟩
theorem gT176_64 : sG l g D H0 mT 176 64 (s_load vRf 176 65 0) := ⟨ok_load _ _ _ _, so_aload_n mT176 dX4_addGuest_64 rfl⟩
theorem gT176_65 : sG l g D H0 mT 176 65 (s_load vI 176 67 6) := ⟨ok_load _ _ _ _, so_iload mT176 dX4_addGuest_65⟩
theorem gT176_67 : sG l g D H0 mT 176 67 (s_callvk 176 70 175 3 [0] 2) := ⟨ok_callvk _ _ _ _ _ _, sk_callv (by decide) (so_callV mT176 mo175 (by decide) (t := 3) (C := "HyperVaneModel") (by decide) rfl rfl dX4_addGuest_67 q1686 q1688 qs51 q66)⟩
theorem gT176_70 : sG l g D H0 mT 176 70 (s_iinc 176 73 5 1) := ⟨ok_iinc _ _ _ _, so_iinc mT176 dX4_addGuest_70 (by decide)⟩
theorem gT176_73 : sG l g D H0 mT 176 73 (s_goto 176 51) := ⟨ok_goto _ _, so_goto mT176 dX4_addGuest_73 (by decide)⟩
theorem gT176_76 : sG l g D H0 mT 176 76 (s_const 176 77 (.int 0)) := ⟨ok_const _ _ _, so_iconst mT176 dX4_addGuest_76 (by decide)⟩
theorem gT176_77 : sG l g D H0 mT 176 77 (s_store vI 176 78 3) := ⟨ok_store _ _ _ _, so_istore_n mT176 dX4_addGuest_77 rfl⟩
theorem gT176_78 : sG l g D H0 mT 176 78 (s_load vI 176 79 3) := ⟨ok_load _ _ _ _, so_iload_n mT176 dX4_addGuest_78 rfl⟩
theorem gT176_79 : sG l g D H0 mT 176 79 (s_const 176 81 (.int 6)) := ⟨ok_const _ _ _, so_bipush mT176 dX4_addGuest_79 (by decide)⟩
theorem gT176_81 : sG l g D H0 mT 176 81 (s_icmp 176 84 117 (fun a b => b ≤ a)) := ⟨ok_icmp _ _ _ _, so_icmp_ge mT176 dX4_addGuest_81 (by decide)⟩
theorem gT176_84 : sG l g D H0 mT 176 84 (s_const 176 85 (.int 0)) := ⟨ok_const _ _ _, so_iconst mT176 dX4_addGuest_84 (by decide)⟩
theorem gT176_85 : sG l g D H0 mT 176 85 (s_store vI 176 87 4) := ⟨ok_store _ _ _ _, so_istore mT176 dX4_addGuest_85⟩
theorem gT176_87 : sG l g D H0 mT 176 87 (s_load vI 176 89 4) := ⟨ok_load _ _ _ _, so_iload mT176 dX4_addGuest_87⟩
theorem gT176_89 : sG l g D H0 mT 176 89 (s_const 176 90 (.int 4)) := ⟨ok_const _ _ _, so_iconst mT176 dX4_addGuest_89 (by decide)⟩
theorem gT176_90 : sG l g D H0 mT 176 90 (s_icmp 176 93 111 (fun a b => b ≤ a)) := ⟨ok_icmp _ _ _ _, so_icmp_ge mT176 dX4_addGuest_90 (by decide)⟩
theorem gT176_93 : sG l g D H0 mT 176 93 (s_load vRf 176 94 0) := ⟨ok_load _ _ _ _, so_aload_n mT176 dX4_addGuest_93 rfl⟩
theorem gT176_94 : sG l g D H0 mT 176 94 (s_load vRf 176 95 0) := ⟨ok_load _ _ _ _, so_aload_n mT176 dX4_addGuest_94 rfl⟩
theorem gT176_95 : sG l g D H0 mT 176 95 (s_load vI 176 96 1) := ⟨ok_load _ _ _ _, so_iload_n mT176 dX4_addGuest_95 rfl⟩
theorem gT176_96 : sG l g D H0 mT 176 96 (s_load vI 176 97 3) := ⟨ok_load _ _ _ _, so_iload_n mT176 dX4_addGuest_96 rfl⟩
theorem gT176_97 : sG l g D H0 mT 176 97 (s_load vI 176 99 4) := ⟨ok_load _ _ _ _, so_iload mT176 dX4_addGuest_97⟩
theorem gT176_99 : sG l g D H0 mT 176 99 (s_callvk 176 102 160 3 [0, 0, 0] 7) := ⟨ok_callvk _ _ _ _ _ _, sk_callv (by decide) (so_callV mT176 mo160 (by decide) (t := 3) (C := "HyperVaneModel") (by decide) rfl rfl dX4_addGuest_99 q1577 q1579 qs45 q66)⟩
theorem gT176_102 : sG l g D H0 mT 176 102 (s_callvk 176 105 175 3 [0] 2) := ⟨ok_callvk _ _ _ _ _ _, sk_callv (by decide) (so_callV mT176 mo175 (by decide) (t := 3) (C := "HyperVaneModel") (by decide) rfl rfl dX4_addGuest_102 q1686 q1688 qs51 q66)⟩
theorem gT176_105 : sG l g D H0 mT 176 105 (s_iinc 176 108 4 1) := ⟨ok_iinc _ _ _ _, so_iinc mT176 dX4_addGuest_105 (by decide)⟩
theorem gT176_108 : sG l g D H0 mT 176 108 (s_goto 176 87) := ⟨ok_goto _ _, so_goto mT176 dX4_addGuest_108 (by decide)⟩
theorem gT176_111 : sG l g D H0 mT 176 111 (s_iinc 176 114 3 1) := ⟨ok_iinc _ _ _ _, so_iinc mT176 dX4_addGuest_111 (by decide)⟩
theorem gT176_114 : sG l g D H0 mT 176 114 (s_goto 176 78) := ⟨ok_goto _ _, so_goto mT176 dX4_addGuest_114 (by decide)⟩
theorem gT176_117 : sG l g D H0 mT 176 117 (s_const 176 118 (.int 0)) := ⟨ok_const _ _ _, so_iconst mT176 dX4_addGuest_117 (by decide)⟩
theorem gT176_118 : sG l g D H0 mT 176 118 (s_store vI 176 119 3) := ⟨ok_store _ _ _ _, so_istore_n mT176 dX4_addGuest_118 rfl⟩
theorem gT176_119 : sG l g D H0 mT 176 119 (s_load vRf 176 120 0) := ⟨ok_load _ _ _ _, so_aload_n mT176 dX4_addGuest_119 rfl⟩
theorem gT176_120 : sG l g D H0 mT 176 120 (s_load vI 176 121 1) := ⟨ok_load _ _ _ _, so_iload_n mT176 dX4_addGuest_120 rfl⟩
theorem gT176_121 : sG l g D H0 mT 176 121 (s_load vI 176 122 3) := ⟨ok_load _ _ _ _, so_iload_n mT176 dX4_addGuest_121 rfl⟩
theorem gT176_122 : sG l g D H0 mT 176 122 (s_callvk 176 125 165 3 [0, 0] 4) := ⟨ok_callvk _ _ _ _ _ _, sk_callv (by decide) (so_callV mT176 mo165 (by decide) (t := 3) (C := "HyperVaneModel") (by decide) rfl rfl dX4_addGuest_122 q1597 q1599 qs47 q66)⟩
theorem gT176_125 : sG l g D H0 mT 176 125 (s_const 176 126 (.int (-1))) := ⟨ok_const _ _ _, so_iconst mT176 dX4_addGuest_125 (by decide)⟩
theorem gT176_126 : sG l g D H0 mT 176 126 (s_icmp 176 129 145 (fun a b => a = b)) := ⟨ok_icmp _ _ _ _, so_icmp_eq mT176 dX4_addGuest_126 (by decide)⟩
theorem gT176_129 : sG l g D H0 mT 176 129 (s_load vRf 176 130 0) := ⟨ok_load _ _ _ _, so_aload_n mT176 dX4_addGuest_129 rfl⟩
theorem gT176_130 : sG l g D H0 mT 176 130 (s_load vRf 176 131 0) := ⟨ok_load _ _ _ _, so_aload_n mT176 dX4_addGuest_130 rfl⟩
theorem gT176_131 : sG l g D H0 mT 176 131 (s_load vI 176 132 1) := ⟨ok_load _ _ _ _, so_iload_n mT176 dX4_addGuest_131 rfl⟩
theorem gT176_132 : sG l g D H0 mT 176 132 (s_load vI 176 133 3) := ⟨ok_load _ _ _ _, so_iload_n mT176 dX4_addGuest_132 rfl⟩
theorem gT176_133 : sG l g D H0 mT 176 133 (s_callvk 176 136 165 3 [0, 0] 4) := ⟨ok_callvk _ _ _ _ _ _, sk_callv (by decide) (so_callV mT176 mo165 (by decide) (t := 3) (C := "HyperVaneModel") (by decide) rfl rfl dX4_addGuest_133 q1597 q1599 qs47 q66)⟩
theorem gT176_136 : sG l g D H0 mT 176 136 (s_callvk 176 139 175 3 [0] 2) := ⟨ok_callvk _ _ _ _ _ _, sk_callv (by decide) (so_callV mT176 mo175 (by decide) (t := 3) (C := "HyperVaneModel") (by decide) rfl rfl dX4_addGuest_136 q1686 q1688 qs51 q66)⟩
theorem gT176_139 : sG l g D H0 mT 176 139 (s_iinc 176 142 3 1) := ⟨ok_iinc _ _ _ _, so_iinc mT176 dX4_addGuest_139 (by decide)⟩
theorem gT176_142 : sG l g D H0 mT 176 142 (s_goto 176 119) := ⟨ok_goto _ _, so_goto mT176 dX4_addGuest_142 (by decide)⟩
theorem gT176_145 : sG l g D H0 mT 176 145 (s_const 176 146 (.int 3)) := ⟨ok_const _ _ _, so_iconst mT176 dX4_addGuest_145 (by decide)⟩
theorem gT176_146 : sG l g D H0 mT 176 146 (s_newa g 176 148 20 (.int 0)) := ⟨ok_newa _ _ _ _ _, so_newa mT176 (t := 20) (by decide) rfl rfl (by decide) dX4_addGuest_146 q486⟩
theorem gT176_148 : sG l g D H0 mT 176 148 (s_dup 176 149) := ⟨ok_dup _ _, so_dup mT176 dX4_addGuest_148⟩
theorem gT176_149 : sG l g D H0 mT 176 149 (s_const 176 150 (.int 0)) := ⟨ok_const _ _ _, so_iconst mT176 dX4_addGuest_149 (by decide)⟩
theorem gT176_150 : sG l g D H0 mT 176 150 (s_const 176 151 (.int 0)) := ⟨ok_const _ _ _, so_iconst mT176 dX4_addGuest_150 (by decide)⟩
theorem gT176_151 : sG l g D H0 mT 176 151 (s_ast g (fun _ v => vI v = true) 176 152 20) := ⟨ok_ast _ _ _ _ _, so_iast mT176 a20 dX4_addGuest_151⟩
theorem gT176_152 : sG l g D H0 mT 176 152 (s_dup 176 153) := ⟨ok_dup _ _, so_dup mT176 dX4_addGuest_152⟩
theorem gT176_153 : sG l g D H0 mT 176 153 (s_const 176 154 (.int 1)) := ⟨ok_const _ _ _, so_iconst mT176 dX4_addGuest_153 (by decide)⟩
theorem gT176_154 : sG l g D H0 mT 176 154 (s_const 176 155 (.int 5)) := ⟨ok_const _ _ _, so_iconst mT176 dX4_addGuest_154 (by decide)⟩
theorem gT176_155 : sG l g D H0 mT 176 155 (s_ast g (fun _ v => vI v = true) 176 156 20) := ⟨ok_ast _ _ _ _ _, so_iast mT176 a20 dX4_addGuest_155⟩
theorem gT176_156 : sG l g D H0 mT 176 156 (s_dup 176 157) := ⟨ok_dup _ _, so_dup mT176 dX4_addGuest_156⟩
theorem gT176_157 : sG l g D H0 mT 176 157 (s_const 176 158 (.int 2)) := ⟨ok_const _ _ _, so_iconst mT176 dX4_addGuest_157 (by decide)⟩
theorem gT176_158 : sG l g D H0 mT 176 158 (s_const 176 160 (.int 12)) := ⟨ok_const _ _ _, so_bipush mT176 dX4_addGuest_158 (by decide)⟩
theorem gT176_160 : sG l g D H0 mT 176 160 (s_ast g (fun _ v => vI v = true) 176 161 20) := ⟨ok_ast _ _ _ _ _, so_iast mT176 a20 dX4_addGuest_160⟩
theorem gT176_161 : sG l g D H0 mT 176 161 (s_store vRf 176 162 3) := ⟨ok_store _ _ _ _, so_astore_n mT176 dX4_addGuest_161 rfl⟩
theorem gT176_162 : sG l g D H0 mT 176 162 (s_load vRf 176 163 3) := ⟨ok_load _ _ _ _, so_aload_n mT176 dX4_addGuest_162 rfl⟩
theorem gT176_163 : sG l g D H0 mT 176 163 (s_store vRf 176 165 4) := ⟨ok_store _ _ _ _, so_astore mT176 dX4_addGuest_163⟩
theorem gT176_165 : sG l g D H0 mT 176 165 (s_load vRf 176 167 4) := ⟨ok_load _ _ _ _, so_aload mT176 dX4_addGuest_165⟩
theorem gT176_167 : sG l g D H0 mT 176 167 (s_alen 176 168 20) := ⟨ok_alen _ _ _, so_alen mT176 a20 dX4_addGuest_167⟩
theorem gT176_168 : sG l g D H0 mT 176 168 (s_store vI 176 170 5) := ⟨ok_store _ _ _ _, so_istore mT176 dX4_addGuest_168⟩
theorem gT176_170 : sG l g D H0 mT 176 170 (s_const 176 171 (.int 0)) := ⟨ok_const _ _ _, so_iconst mT176 dX4_addGuest_170 (by decide)⟩
theorem gT176_171 : sG l g D H0 mT 176 171 (s_store vI 176 173 6) := ⟨ok_store _ _ _ _, so_istore mT176 dX4_addGuest_171⟩
theorem gT176_173 : sG l g D H0 mT 176 173 (s_load vI 176 175 6) := ⟨ok_load _ _ _ _, so_iload mT176 dX4_addGuest_173⟩
theorem gT176_175 : sG l g D H0 mT 176 175 (s_load vI 176 177 5) := ⟨ok_load _ _ _ _, so_iload mT176 dX4_addGuest_175⟩
theorem gT176_177 : sG l g D H0 mT 176 177 (s_icmp 176 180 226 (fun a b => b ≤ a)) := ⟨ok_icmp _ _ _ _, so_icmp_ge mT176 dX4_addGuest_177 (by decide)⟩
theorem gT176_180 : sG l g D H0 mT 176 180 (s_load vRf 176 182 4) := ⟨ok_load _ _ _ _, so_aload mT176 dX4_addGuest_180⟩
theorem gT176_182 : sG l g D H0 mT 176 182 (s_load vI 176 184 6) := ⟨ok_load _ _ _ _, so_iload mT176 dX4_addGuest_182⟩
theorem gT176_184 : sG l g D H0 mT 176 184 (s_ald 176 185 20) := ⟨ok_ald _ _ _, so_iald mT176 a20 dX4_addGuest_184⟩
theorem gT176_185 : sG l g D H0 mT 176 185 (s_store vI 176 187 7) := ⟨ok_store _ _ _ _, so_istore mT176 dX4_addGuest_185⟩
theorem gT176_187 : sG l g D H0 mT 176 187 (s_load vRf 176 188 0) := ⟨ok_load _ _ _ _, so_aload_n mT176 dX4_addGuest_187 rfl⟩
theorem gT176_188 : sG l g D H0 mT 176 188 (s_load vRf 176 189 2) := ⟨ok_load _ _ _ _, so_aload_n mT176 dX4_addGuest_188 rfl⟩
theorem gT176_189 : sG l g D H0 mT 176 189 (s_load vI 176 191 7) := ⟨ok_load _ _ _ _, so_iload mT176 dX4_addGuest_189⟩
theorem gT176_191 : sG l g D H0 mT 176 191 (s_const 176 192 (.int 0)) := ⟨ok_const _ _ _, so_iconst mT176 dX4_addGuest_191 (by decide)⟩
theorem gT176_192 : sG l g D H0 mT 176 192 (s_callvk 176 195 209 7 [0, 0] 10) := ⟨ok_callvk _ _ _ _ _ _, sk_callv (by decide) (so_callV mT176 mo209 (by decide) (t := 7) (C := "HyperVaneModel$Guest") (by decide) rfl rfl dX4_addGuest_192 q1624 q1625 q1626 q75)⟩
theorem gT176_195 : sG l g D H0 mT 176 195 (s_callvk 176 198 175 3 [0] 2) := ⟨ok_callvk _ _ _ _ _ _, sk_callv (by decide) (so_callV mT176 mo175 (by decide) (t := 3) (C := "HyperVaneModel") (by decide) rfl rfl dX4_addGuest_195 q1686 q1688 qs51 q66)⟩
theorem gT176_198 : sG l g D H0 mT 176 198 (s_load vRf 176 199 0) := ⟨ok_load _ _ _ _, so_aload_n mT176 dX4_addGuest_198 rfl⟩
theorem gT176_199 : sG l g D H0 mT 176 199 (s_load vRf 176 200 2) := ⟨ok_load _ _ _ _, so_aload_n mT176 dX4_addGuest_199 rfl⟩
theorem gT176_200 : sG l g D H0 mT 176 200 (s_load vI 176 202 7) := ⟨ok_load _ _ _ _, so_iload mT176 dX4_addGuest_200⟩
theorem gT176_202 : sG l g D H0 mT 176 202 (s_const 176 203 (.int 1)) := ⟨ok_const _ _ _, so_iconst mT176 dX4_addGuest_202 (by decide)⟩
theorem gT176_203 : sG l g D H0 mT 176 203 (s_callvk 176 206 209 7 [0, 0] 10) := ⟨ok_callvk _ _ _ _ _ _, sk_callv (by decide) (so_callV mT176 mo209 (by decide) (t := 7) (C := "HyperVaneModel$Guest") (by decide) rfl rfl dX4_addGuest_203 q1624 q1625 q1626 q75)⟩
theorem gT176_206 : sG l g D H0 mT 176 206 (s_callvk 176 209 175 3 [0] 2) := ⟨ok_callvk _ _ _ _ _ _, sk_callv (by decide) (so_callV mT176 mo175 (by decide) (t := 3) (C := "HyperVaneModel") (by decide) rfl rfl dX4_addGuest_206 q1686 q1688 qs51 q66)⟩
theorem gT176_209 : sG l g D H0 mT 176 209 (s_load vRf 176 210 0) := ⟨ok_load _ _ _ _, so_aload_n mT176 dX4_addGuest_209 rfl⟩
theorem gT176_210 : sG l g D H0 mT 176 210 (s_load vRf 176 211 2) := ⟨ok_load _ _ _ _, so_aload_n mT176 dX4_addGuest_210 rfl⟩
theorem gT176_211 : sG l g D H0 mT 176 211 (s_load vI 176 213 7) := ⟨ok_load _ _ _ _, so_iload mT176 dX4_addGuest_211⟩
theorem gT176_213 : sG l g D H0 mT 176 213 (s_const 176 214 (.int (-1))) := ⟨ok_const _ _ _, so_iconst mT176 dX4_addGuest_213 (by decide)⟩
theorem gT176_214 : sG l g D H0 mT 176 214 (s_callvk 176 217 209 7 [0, 0] 10) := ⟨ok_callvk _ _ _ _ _ _, sk_callv (by decide) (so_callV mT176 mo209 (by decide) (t := 7) (C := "HyperVaneModel$Guest") (by decide) rfl rfl dX4_addGuest_214 q1624 q1625 q1626 q75)⟩
theorem gT176_217 : sG l g D H0 mT 176 217 (s_callvk 176 220 175 3 [0] 2) := ⟨ok_callvk _ _ _ _ _ _, sk_callv (by decide) (so_callV mT176 mo175 (by decide) (t := 3) (C := "HyperVaneModel") (by decide) rfl rfl dX4_addGuest_217 q1686 q1688 qs51 q66)⟩
theorem gT176_220 : sG l g D H0 mT 176 220 (s_iinc 176 223 6 1) := ⟨ok_iinc _ _ _ _, so_iinc mT176 dX4_addGuest_220 (by decide)⟩
theorem gT176_223 : sG l g D H0 mT 176 223 (s_goto 176 173) := ⟨ok_goto _ _, so_goto mT176 dX4_addGuest_223 (by decide)⟩
theorem gT176_226 : sG l g D H0 mT 176 226 (s_load vRf 176 227 0) := ⟨ok_load _ _ _ _, so_aload_n mT176 dX4_addGuest_226 rfl⟩
theorem gT176_227 : sG l g D H0 mT 176 227 (s_load vRf 176 228 0) := ⟨ok_load _ _ _ _, so_aload_n mT176 dX4_addGuest_227 rfl⟩
theorem gT176_228 : sG l g D H0 mT 176 228 (s_load vI 176 229 1) := ⟨ok_load _ _ _ _, so_iload_n mT176 dX4_addGuest_228 rfl⟩
theorem gT176_229 : sG l g D H0 mT 176 229 (s_const 176 231 (.int 10)) := ⟨ok_const _ _ _, so_bipush mT176 dX4_addGuest_229 (by decide)⟩
theorem gT176_231 : sG l g D H0 mT 176 231 (s_callvk 176 234 171 3 [0, 0] 5) := ⟨ok_callvk _ _ _ _ _ _, sk_callv (by decide) (so_callV mT176 mo171 (by decide) (t := 3) (C := "HyperVaneModel") (by decide) rfl rfl dX4_addGuest_231 q1640 q1642 qs49 q66)⟩
theorem gT176_234 : sG l g D H0 mT 176 234 (s_callvk 176 237 175 3 [0] 2) := ⟨ok_callvk _ _ _ _ _ _, sk_callv (by decide) (so_callV mT176 mo175 (by decide) (t := 3) (C := "HyperVaneModel") (by decide) rfl rfl dX4_addGuest_234 q1686 q1688 qs51 q66)⟩
theorem gT176_237 : sG l g D H0 mT 176 237 (s_load vRf 176 238 0) := ⟨ok_load _ _ _ _, so_aload_n mT176 dX4_addGuest_237 rfl⟩
theorem gT176_238 : sG l g D H0 mT 176 238 (s_load vI 176 239 1) := ⟨ok_load _ _ _ _, so_iload_n mT176 dX4_addGuest_238 rfl⟩
theorem gT176_239 : sG l g D H0 mT 176 239 (s_callvk 176 242 152 3 [0] 2) := ⟨ok_callvk _ _ _ _ _ _, sk_callv (by decide) (so_callV mT176 mo152 (by decide) (t := 3) (C := "HyperVaneModel") (by decide) rfl rfl dX4_addGuest_239 q1471 q1473 qs34 q66)⟩
theorem gT176_242 : sG l g D H0 mT 176 242 (s_if 176 245 255 (fun a => a = 0)) := ⟨ok_if _ _ _ _, so_if_eq mT176 dX4_addGuest_242 (by decide)⟩
theorem gT176_245 : sG l g D H0 mT 176 245 (s_load vRf 176 246 0) := ⟨ok_load _ _ _ _, so_aload_n mT176 dX4_addGuest_245 rfl⟩
theorem gT176_246 : sG l g D H0 mT 176 246 (s_load vRf 176 247 0) := ⟨ok_load _ _ _ _, so_aload_n mT176 dX4_addGuest_246 rfl⟩
theorem gT176_247 : sG l g D H0 mT 176 247 (s_load vI 176 248 1) := ⟨ok_load _ _ _ _, so_iload_n mT176 dX4_addGuest_247 rfl⟩
theorem gT176_248 : sG l g D H0 mT 176 248 (s_const 176 249 (.int 2)) := ⟨ok_const _ _ _, so_iconst mT176 dX4_addGuest_248 (by decide)⟩
theorem gT176_249 : sG l g D H0 mT 176 249 (s_callvk 176 252 173 3 [0, 0] 5) := ⟨ok_callvk _ _ _ _ _ _, sk_callv (by decide) (so_callV mT176 mo173 (by decide) (t := 3) (C := "HyperVaneModel") (by decide) rfl rfl dX4_addGuest_249 q1677 q1679 qs50 q66)⟩
theorem gT176_252 : sG l g D H0 mT 176 252 (s_callvk 176 255 175 3 [0] 2) := ⟨ok_callvk _ _ _ _ _ _, sk_callv (by decide) (so_callV mT176 mo175 (by decide) (t := 3) (C := "HyperVaneModel") (by decide) rfl rfl dX4_addGuest_252 q1686 q1688 qs51 q66)⟩
theorem gT176_255 : sG l g D H0 mT 176 255 (s_vret) := ⟨ok_vret, so_vret mT176 dX4_addGuest_255⟩
theorem gT176 (pc : Nat) : sG l g D H0 mT 176 pc (tT176 g pc) := sG_cond (sG_cond (sG_cond (sG_cond (sG_cond (sG_cond (sG_cond (sG_leaf gT176_0) (sG_leaf gT176_1)) (sG_cond (sG_leaf gT176_2) (sG_leaf gT176_3))) (sG_cond (sG_cond (sG_leaf gT176_5) (sG_leaf gT176_8)) (sG_cond (sG_leaf gT176_9) (sG_leaf gT176_10)))) (sG_cond (sG_cond (sG_cond (sG_leaf gT176_11) (sG_leaf gT176_12)) (sG_cond (sG_leaf gT176_15) (sG_leaf gT176_18))) (sG_cond (sG_cond (sG_leaf gT176_21) (sG_leaf gT176_24)) (sG_cond (sG_leaf gT176_25) (sG_cond (sG_leaf gT176_28) (sG_leaf gT176_31)))))) (sG_cond (sG_cond (sG_cond (sG_cond (sG_leaf gT176_32) (sG_leaf gT176_35)) (sG_cond (sG_leaf gT176_38) (sG_leaf gT176_39))) (sG_cond (sG_cond (sG_leaf gT176_40) (sG_leaf gT176_43)) (sG_cond (sG_leaf gT176_44) (sG_cond (sG_leaf gT176_45) (sG_leaf gT176_46))))) (sG_cond (sG_cond (sG_cond (sG_leaf gT176_48) (sG_leaf gT176_49)) (sG_cond (sG_leaf gT176_51) (sG_leaf gT176_53))) (sG_cond (sG_cond (sG_leaf gT176_55) (sG_leaf gT176_58)) (sG_cond (sG_leaf gT176_59) (sG_cond (sG_leaf gT176_61) (sG_leaf gT176_62))))))) (sG_cond (sG_cond (sG_cond (sG_cond (sG_cond (sG_leaf gT176_64) (sG_leaf gT176_65)) (sG_cond (sG_leaf gT176_67) (sG_leaf gT176_70))) (sG_cond (sG_cond (sG_leaf gT176_73) (sG_leaf gT176_76)) (sG_cond (sG_leaf gT176_77) (sG_cond (sG_leaf gT176_78) (sG_leaf gT176_79))))) (sG_cond (sG_cond (sG_cond (sG_leaf gT176_81) (sG_leaf gT176_84)) (sG_cond (sG_leaf gT176_85) (sG_leaf gT176_87))) (sG_cond (sG_cond (sG_leaf gT176_89) (sG_leaf gT176_90)) (sG_cond (sG_leaf gT176_93) (sG_cond (sG_leaf gT176_94) (sG_leaf gT176_95)))))) (sG_cond (sG_cond (sG_cond (sG_cond (sG_leaf gT176_96) (sG_leaf gT176_97)) (sG_cond (sG_leaf gT176_99) (sG_leaf gT176_102))) (sG_cond (sG_cond (sG_leaf gT176_105) (sG_leaf gT176_108)) (sG_cond (sG_leaf gT176_111) (sG_cond (sG_leaf gT176_114) (sG_leaf gT176_117))))) (sG_cond (sG_cond (sG_cond (sG_leaf gT176_118) (sG_leaf gT176_119)) (sG_cond (sG_leaf gT176_120) (sG_leaf gT176_121))) (sG_cond (sG_cond (sG_leaf gT176_122) (sG_leaf gT176_125)) (sG_cond (sG_leaf gT176_126) (sG_cond (sG_leaf gT176_129) (sG_leaf gT176_130)))))))) (sG_cond (sG_cond (sG_cond (sG_cond (sG_cond (sG_cond (sG_leaf gT176_131) (sG_leaf gT176_132)) (sG_cond (sG_leaf gT176_133) (sG_leaf gT176_136))) (sG_cond (sG_cond (sG_leaf gT176_139) (sG_leaf gT176_142)) (sG_cond (sG_leaf gT176_145) (sG_cond (sG_leaf gT176_146) (sG_leaf gT176_148))))) (sG_cond (sG_cond (sG_cond (sG_leaf gT176_149) (sG_leaf gT176_150)) (sG_cond (sG_leaf gT176_151) (sG_leaf gT176_152))) (sG_cond (sG_cond (sG_leaf gT176_153) (sG_leaf gT176_154)) (sG_cond (sG_leaf gT176_155) (sG_cond (sG_leaf gT176_156) (sG_leaf gT176_157)))))) (sG_cond (sG_cond (sG_cond (sG_cond (sG_leaf gT176_158) (sG_leaf gT176_160)) (sG_cond (sG_leaf gT176_161) (sG_leaf gT176_162))) (sG_cond (sG_cond (sG_leaf gT176_163) (sG_leaf gT176_165)) (sG_cond (sG_leaf gT176_167) (sG_cond (sG_leaf gT176_168) (sG_leaf gT176_170))))) (sG_cond (sG_cond (sG_cond (sG_leaf gT176_171) (sG_leaf gT176_173)) (sG_cond (sG_leaf gT176_175) (sG_leaf gT176_177))) (sG_cond (sG_cond (sG_leaf gT176_180) (sG_leaf gT176_182)) (sG_cond (sG_leaf gT176_184) (sG_cond (sG_leaf gT176_185) (sG_leaf gT176_187))))))) (sG_cond (sG_cond (sG_cond (sG_cond (sG_cond (sG_leaf gT176_188) (sG_leaf gT176_189)) (sG_cond (sG_leaf gT176_191) (sG_leaf gT176_192))) (sG_cond (sG_cond (sG_leaf gT176_195) (sG_leaf gT176_198)) (sG_cond (sG_leaf gT176_199) (sG_cond (sG_leaf gT176_200) (sG_leaf gT176_202))))) (sG_cond (sG_cond (sG_cond (sG_leaf gT176_203) (sG_leaf gT176_206)) (sG_cond (sG_leaf gT176_209) (sG_leaf gT176_210))) (sG_cond (sG_cond (sG_leaf gT176_211) (sG_leaf gT176_213)) (sG_cond (sG_leaf gT176_214) (sG_cond (sG_leaf gT176_217) (sG_leaf gT176_220)))))) (sG_cond (sG_cond (sG_cond (sG_cond (sG_leaf gT176_223) (sG_leaf gT176_226)) (sG_cond (sG_leaf gT176_227) (sG_leaf gT176_228))) (sG_cond (sG_cond (sG_leaf gT176_229) (sG_leaf gT176_231)) (sG_cond (sG_leaf gT176_234) (sG_cond (sG_leaf gT176_237) (sG_leaf gT176_238))))) (sG_cond (sG_cond (sG_cond (sG_leaf gT176_239) (sG_leaf gT176_242)) (sG_cond (sG_leaf gT176_245) (sG_leaf gT176_246))) (sG_cond (sG_cond (sG_leaf gT176_247) (sG_leaf gT176_248)) (sG_cond (sG_leaf gT176_249) (sG_cond (sG_leaf gT176_252) (sG_leaf gT176_255))))))))
end SND
