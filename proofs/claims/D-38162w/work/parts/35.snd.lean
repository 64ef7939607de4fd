/-! the tables are right over the machine: printed by gen.py -/
section SND
variable {l : Launch} {g : GC} {D : va_G} {H0 : Heap}
theorem gT177_0 : sG l g D H0 mT 177 0 (s_load vRf 177 1 0) := ⟨ok_load _ _ _ _, so_aload_n mT177 dX5_init_0 rfl⟩
theorem gT177_1 : sG l g D H0 mT 177 1 (s_oinit 177 4) := ⟨ok_oinit _ _, so_oinit mT177 (by decide) dX5_init_1 q1183 q91 q92⟩
theorem gT177_4 : sG l g D H0 mT 177 4 (s_load vRf 177 5 0) := ⟨ok_load _ _ _ _, so_aload_n mT177 dX5_init_4 rfl⟩
theorem gT177_5 : sG l g D H0 mT 177 5 (s_new g 177 8 10 3 (fun k => defaultValue (tyJ2 k))) := ⟨ok_new _ _ _ _ _ _, so_new mT177 cl10 (fun _ _ => rfl) dX5_init_5 q1184 q100 q58⟩
theorem gT177_8 : sG l g D H0 mT 177 8 (s_dup 177 9) := ⟨ok_dup _ _, so_dup mT177 dX5_init_8⟩
theorem gT177_9 : sG l g D H0 mT 177 9 (s_callik 177 12 14 [] 1) := ⟨ok_callik _ _ _ _ _, sk_calli (by decide) (so_callI mT177 mo14 (by decide) rfl dX5_init_9 q1185 q102 q58)⟩
theorem gT177_12 : sG l g D H0 mT 177 12 (s_putf g pR 177 15 4 0) := ⟨ok_putf _ _ _ _ _ _, so_putfF mT177 cl4 (k := 0) (by decide) fR rfl rfl rfl dX5_init_12 q1186 (fs_rf rfl)⟩
theorem gT177_15 : sG l g D H0 mT 177 15 (s_load vRf 177 16 0) := ⟨ok_load _ _ _ _, so_aload_n mT177 dX5_init_15 rfl⟩
theorem gT177_16 : sG l g D H0 mT 177 16 (s_const 177 17 (.int 4)) := ⟨ok_const _ _ _, so_iconst mT177 dX5_init_16 (by decide)⟩
theorem gT177_17 : sG l g D H0 mT 177 17 (s_putf g pI 177 20 4 2) := ⟨ok_putf _ _ _ _ _ _, so_putf mT177 cl4 (k := 2) (by decide) fI rfl dX5_init_17 q1190 (fs_rf rfl)⟩
theorem gT177_20 : sG l g D H0 mT 177 20 (s_load vRf 177 21 0) := ⟨ok_load _ _ _ _, so_aload_n mT177 dX5_init_20 rfl⟩
theorem gT177_21 : sG l g D H0 mT 177 21 (s_const 177 22 (.int (-1))) := ⟨ok_const _ _ _, so_iconst mT177 dX5_init_21 (by decide)⟩
theorem gT177_22 : sG l g D H0 mT 177 22 (s_putf g pI 177 25 4 3) := ⟨ok_putf _ _ _ _ _ _, so_putf mT177 cl4 (k := 3) (by decide) fI rfl dX5_init_22 q1192 (fs_rf rfl)⟩
theorem gT177_25 : sG l g D H0 mT 177 25 (s_load vRf 177 26 0) := ⟨ok_load _ _ _ _, so_aload_n mT177 dX5_init_25 rfl⟩
theorem gT177_26 : sG l g D H0 mT 177 26 (s_const 177 27 (.int (-1))) := ⟨ok_const _ _ _, so_iconst mT177 dX5_init_26 (by decide)⟩
theorem gT177_27 : sG l g D H0 mT 177 27 (s_putf g pI 177 30 4 4) := ⟨ok_putf _ _ _ _ _ _, so_putf mT177 cl4 (k := 4) (by decide) fI rfl dX5_init_27 q1194 (fs_rf rfl)⟩
theorem gT177_30 : sG l g D H0 mT 177 30 (s_load vRf 177 31 0) := ⟨ok_load _ _ _ _, so_aload_n mT177 dX5_init_30 rfl⟩
theorem gT177_31 : sG l g D H0 mT 177 31 (s_const 177 32 (.int 2)) := ⟨ok_const _ _ _, so_iconst mT177 dX5_init_31 (by decide)⟩
theorem gT177_32 : sG l g D H0 mT 177 32 (s_putf g pI 177 35 4 6) := ⟨ok_putf _ _ _ _ _ _, so_putf mT177 cl4 (k := 6) (by decide) fI rfl dX5_init_32 q1198 (fs_rf rfl)⟩
theorem gT177_35 : sG l g D H0 mT 177 35 (s_vret) := ⟨ok_vret, so_vret mT177 dX5_init_35⟩
theorem gT177 (pc : Nat) : sG l g D H0 mT 177 pc (tT177 g pc) := sG_cond (sG_cond (sG_cond (sG_cond (sG_leaf gT177_0) (sG_leaf gT177_1)) (sG_cond (sG_leaf gT177_4) (sG_cond (sG_leaf gT177_5) (sG_leaf gT177_8)))) (sG_cond (sG_cond (sG_leaf gT177_9) (sG_leaf gT177_12)) (sG_cond (sG_leaf gT177_15) (sG_cond (sG_leaf gT177_16) (sG_leaf gT177_17))))) (sG_cond (sG_cond (sG_cond (sG_leaf gT177_20) (sG_leaf gT177_21)) (sG_cond (sG_leaf gT177_22) (sG_cond (sG_leaf gT177_25) (sG_leaf gT177_26)))) (sG_cond (sG_cond (sG_leaf gT177_27) (sG_leaf gT177_30)) (sG_cond (sG_leaf gT177_31) (sG_cond (sG_leaf gT177_32) (sG_leaf gT177_35)))))
theorem gT178_0 : sG l g D H0 mT 178 0 (s_load vRf 178 1 1) := ⟨ok_load _ _ _ _, so_aload_n mT178 dX5_pause_0 rfl⟩
theorem gT178_1 : sG l g D H0 mT 178 1 (s_getf 178 4 7 6) := ⟨ok_getf _ _ _ _, so_getfN mT178 cl7 (k := 6) (by decide) dX5_pause_1 q1279 (fs_rf rfl)⟩
theorem gT178_4 : sG l g D H0 mT 178 4 (s_const 178 5 (.int 3)) := ⟨ok_const _ _ _, so_iconst mT178 dX5_pause_4 (by decide)⟩
theorem gT178_5 : sG l g D H0 mT 178 5 (s_icmp 178 9 8 (fun a b => a = b)) := ⟨ok_icmp _ _ _ _, so_icmp_ne mT178 dX5_pause_5 (by decide)⟩
theorem gT178_8 : sG l g D H0 mT 178 8 (s_vret) := ⟨ok_vret, so_vret mT178 dX5_pause_8⟩
theorem gT178_9 : sG l g D H0 mT 178 9 (s_load vRf 178 10 1) := ⟨ok_load _ _ _ _, so_aload_n mT178 dX5_pause_9 rfl⟩
theorem gT178_10 : sG l g D H0 mT 178 10 (s_load vRf 178 11 1) := ⟨ok_load _ _ _ _, so_aload_n mT178 dX5_pause_10 rfl⟩
theorem gT178_11 : sG l g D H0 mT 178 11 (s_getf 178 14 7 6) := ⟨ok_getf _ _ _ _, so_getfN mT178 cl7 (k := 6) (by decide) dX5_pause_11 q1279 (fs_rf rfl)⟩
theorem gT178_14 : sG l g D H0 mT 178 14 (s_putf g pI 178 17 7 7) := ⟨ok_putf _ _ _ _ _ _, so_putfN mT178 cl7 (k := 7) (by decide) fI rfl dX5_pause_14 q1283 (fs_rf rfl)⟩
theorem gT178_17 : sG l g D H0 mT 178 17 (s_load vRf 178 18 1) := ⟨ok_load _ _ _ _, so_aload_n mT178 dX5_pause_17 rfl⟩
theorem gT178_18 : sG l g D H0 mT 178 18 (s_const 178 19 (.int 3)) := ⟨ok_const _ _ _, so_iconst mT178 dX5_pause_18 (by decide)⟩
theorem gT178_19 : sG l g D H0 mT 178 19 (s_putf g pI 178 22 7 6) := ⟨ok_putf _ _ _ _ _ _, so_putfN mT178 cl7 (k := 6) (by decide) fI rfl dX5_pause_19 q1279 (fs_rf rfl)⟩
theorem gT178_22 : sG l g D H0 mT 178 22 (s_vret) := ⟨ok_vret, so_vret mT178 dX5_pause_22⟩
theorem gT178 (pc : Nat) : sG l g D H0 mT 178 pc (tT178 g pc) := sG_cond (sG_cond (sG_cond (sG_leaf gT178_0) (sG_cond (sG_leaf gT178_1) (sG_leaf gT178_4))) (sG_cond (sG_leaf gT178_5) (sG_cond (sG_leaf gT178_8) (sG_leaf gT178_9)))) (sG_cond (sG_cond (sG_leaf gT178_10) (sG_cond (sG_leaf gT178_11) (sG_leaf gT178_14))) (sG_cond (sG_cond (sG_leaf gT178_17) (sG_leaf gT178_18)) (sG_cond (sG_leaf gT178_19) (sG_leaf gT178_22))))
theorem gT179_0 : sG l g D H0 mT 179 0 (s_load vRf 179 1 0) := ⟨ok_load _ _ _ _, so_aload_n mT179 dX5_out_0 rfl⟩
theorem gT179_1 : sG l g D H0 mT 179 1 (s_load vI 179 2 1) := ⟨ok_load _ _ _ _, so_iload_n mT179 dX5_out_1 rfl⟩
theorem gT179_2 : sG l g D H0 mT 179 2 (s_callvk 179 5 180 4 [0] 4) := ⟨ok_callvk _ _ _ _ _ _, sk_callv (by decide) (so_callV mT179 mo180 (by decide) (t := 4) (C := "HyperVaneModel$World") (by decide) rfl rfl dX5_out_2 q1448 q1449 q1450 q67)⟩
theorem gT179_5 : sG l g D H0 mT 179 5 (s_store vI 179 6 2) := ⟨ok_store _ _ _ _, so_istore_n mT179 dX5_out_5 rfl⟩
theorem gT179_6 : sG l g D H0 mT 179 6 (s_load vI 179 7 2) := ⟨ok_load _ _ _ _, so_iload_n mT179 dX5_out_6 rfl⟩
theorem gT179_7 : sG l g D H0 mT 179 7 (s_const 179 8 (.int (-1))) := ⟨ok_const _ _ _, so_iconst mT179 dX5_out_7 (by decide)⟩
theorem gT179_8 : sG l g D H0 mT 179 8 (s_icmp 179 13 11 (fun a b => a = b)) := ⟨ok_icmp _ _ _ _, so_icmp_ne mT179 dX5_out_8 (by decide)⟩
theorem gT179_11 : sG l g D H0 mT 179 11 (s_const 179 12 (.int 0)) := ⟨ok_const _ _ _, so_iconst mT179 dX5_out_11 (by decide)⟩
theorem gT179_12 : sG l g D H0 mT 179 12 (s_ret vZ) := ⟨ok_ret _, so_zret mT179 dX5_out_12⟩
theorem gT179_13 : sG l g D H0 mT 179 13 (s_load vRf 179 14 0) := ⟨ok_load _ _ _ _, so_aload_n mT179 dX5_out_13 rfl⟩
theorem gT179_14 : sG l g D H0 mT 179 14 (s_getf 179 17 4 0) := ⟨ok_getf _ _ _ _, so_getf mT179 cl4 (k := 0) (by decide) dX5_out_14 q1186 (fs_rf rfl)⟩
theorem gT179_17 : sG l g D H0 mT 179 17 (s_load vI 179 18 2) := ⟨ok_load _ _ _ _, so_iload_n mT179 dX5_out_17 rfl⟩
theorem gT179_18 : sG l g D H0 mT 179 18 (s_const 179 20 (.int 8)) := ⟨ok_const _ _ _, so_bipush mT179 dX5_out_18 (by decide)⟩
theorem gT179_20 : sG l g D H0 mT 179 20 (s_div 179 21 (fun a b => a / b)) := ⟨ok_div _ _ _, so_idiv mT179 dX5_out_20⟩
theorem gT179_21 : sG l g D H0 mT 179 21 (s_callvk 179 24 25 10 [0] 2) := ⟨ok_callvk _ _ _ _ _ _, sk_callv (by decide) (so_callV mT179 mo25 (by decide) (t := 10) (C := "java/util/ArrayList") (by decide) rfl rfl dX5_out_21 q1453 q439 q440 q58)⟩
theorem gT179_24 : sG l g D H0 mT 179 24 (s_cast 179 27 [7]) := ⟨ok_cast _ _ _, so_cast mT179 (T := "HyperVaneModel$Guest") (ts := [7]) (by intro u hu; rw [List.mem_singleton] at hu; subst hu; exact ⟨by decide, Or.inl rfl⟩) dX5_out_24 q1454⟩
theorem gT179_27 : sG l g D H0 mT 179 27 (s_getf 179 30 7 14) := ⟨ok_getf _ _ _ _, so_getfN mT179 cl7 (k := 14) (by decide) dX5_out_27 q1303 (fs_rf rfl)⟩
theorem gT179_30 : sG l g D H0 mT 179 30 (s_load vI 179 31 2) := ⟨ok_load _ _ _ _, so_iload_n mT179 dX5_out_30 rfl⟩
theorem gT179_31 : sG l g D H0 mT 179 31 (s_const 179 33 (.int 8)) := ⟨ok_const _ _ _, so_bipush mT179 dX5_out_31 (by decide)⟩
theorem gT179_33 : sG l g D H0 mT 179 33 (s_div 179 34 (fun a b => a - a / b * b)) := ⟨ok_div _ _ _, so_irem mT179 dX5_out_33⟩
theorem gT179_34 : sG l g D H0 mT 179 34 (s_const 179 35 (.int 1)) := ⟨ok_const _ _ _, so_iconst mT179 dX5_out_34 (by decide)⟩
theorem gT179_35 : sG l g D H0 mT 179 35 (s_ast g (fun _ v => vI v = true) 179 36 20) := ⟨ok_ast _ _ _ _ _, so_iast mT179 a20 dX5_out_35⟩
theorem gT179_36 : sG l g D H0 mT 179 36 (s_load vRf 179 37 0) := ⟨ok_load _ _ _ _, so_aload_n mT179 dX5_out_36 rfl⟩
theorem gT179_37 : sG l g D H0 mT 179 37 (s_dup 179 38) := ⟨ok_dup _ _, so_dup mT179 dX5_out_37⟩
theorem gT179_38 : sG l g D H0 mT 179 38 (s_getf 179 41 4 8) := ⟨ok_getf _ _ _ _, so_getf mT179 cl4 (k := 8) (by decide) dX5_out_38 q1201 (fs_rf rfl)⟩
theorem gT179_41 : sG l g D H0 mT 179 41 (s_const 179 42 (.int 1)) := ⟨ok_const _ _ _, so_iconst mT179 dX5_out_41 (by decide)⟩
theorem gT179_42 : sG l g D H0 mT 179 42 (s_bin 179 43 (fun a b => a + b)) := ⟨ok_bin _ _ _, so_iadd mT179 dX5_out_42⟩
theorem gT179_43 : sG l g D H0 mT 179 43 (s_putf g pI 179 46 4 8) := ⟨ok_putf _ _ _ _ _ _, so_putf mT179 cl4 (k := 8) (by decide) fI rfl dX5_out_43 q1201 (fs_rf rfl)⟩
theorem gT179_46 : sG l g D H0 mT 179 46 (s_const 179 47 (.int 1)) := ⟨ok_const _ _ _, so_iconst mT179 dX5_out_46 (by decide)⟩
theorem gT179_47 : sG l g D H0 mT 179 47 (s_ret vZ) := ⟨ok_ret _, so_zret mT179 dX5_out_47⟩
theorem gT179 (pc : Nat) : sG l g D H0 mT 179 pc (tT179 g pc) := sG_cond (sG_cond (sG_cond (sG_cond (sG_leaf gT179_0) (sG_cond (sG_leaf gT179_1) (sG_leaf gT179_2))) (sG_cond (sG_cond (sG_leaf gT179_5) (sG_leaf gT179_6)) (sG_cond (sG_leaf gT179_7) (sG_leaf gT179_8)))) (sG_cond (sG_cond (sG_cond (sG_leaf gT179_11) (sG_leaf gT179_12)) (sG_cond (sG_leaf gT179_13) (sG_leaf gT179_14))) (sG_cond (sG_cond (sG_leaf gT179_17) (sG_leaf gT179_18)) (sG_cond (sG_leaf gT179_20) (sG_leaf gT179_21))))) (sG_cond (sG_cond (sG_cond (sG_leaf gT179_24) (sG_cond (sG_leaf gT179_27) (sG_leaf gT179_30))) (sG_cond (sG_cond (sG_leaf gT179_31) (sG_leaf gT179_33)) (sG_cond (sG_leaf gT179_34) (sG_leaf gT179_35)))) (sG_cond (sG_cond (sG_cond (sG_leaf gT179_36) (sG_leaf gT179_37)) (sG_cond (sG_leaf gT179_38) (sG_leaf gT179_41))) (sG_cond (sG_cond (sG_leaf gT179_42) (sG_leaf gT179_43)) (sG_cond (sG_leaf gT179_46) (sG_leaf gT179_47)))))
theorem gT180_0 : sG l g D H0 mT 180 0 (s_const 180 1 (.int 0)) := ⟨ok_const _ _ _, so_iconst mT180 dX5_in_0 (by decide)⟩
theorem gT180_1 : sG l g D H0 mT 180 1 (s_store vI 180 2 2) := ⟨ok_store _ _ _ _, so_istore_n mT180 dX5_in_1 rfl⟩
theorem gT180_2 : sG l g D H0 mT 180 2 (s_load vI 180 3 2) := ⟨ok_load _ _ _ _, so_iload_n mT180 dX5_in_2 rfl⟩
theorem gT180_3 : sG l g D H0 mT 180 3 (s_load vRf 180 4 0) := ⟨ok_load _ _ _ _, so_aload_n mT180 dX5_in_3 rfl⟩
theorem gT180_4 : sG l g D H0 mT 180 4 (s_getf 180 7 4 0) := ⟨ok_getf _ _ _ _, so_getf mT180 cl4 (k := 0) (by decide) dX5_in_4 q1186 (fs_rf rfl)⟩
theorem gT180_7 : sG l g D H0 mT 180 7 (s_callvk 180 10 15 10 [] 1) := ⟨ok_callvk _ _ _ _ _ _, sk_callv (by decide) (so_callV mT180 mo15 (by decide) (t := 10) (C := "java/util/ArrayList") (by decide) rfl rfl dX5_in_7 q1452 q173 q174 q58)⟩
theorem gT180_10 : sG l g D H0 mT 180 10 (s_icmp 180 13 79 (fun a b => b ≤ a)) := ⟨ok_icmp _ _ _ _, so_icmp_ge mT180 dX5_in_10 (by decide)⟩
theorem gT180_13 : sG l g D H0 mT 180 13 (s_const 180 14 (.int 0)) := ⟨ok_const _ _ _, so_iconst mT180 dX5_in_13 (by decide)⟩
theorem gT180_14 : sG l g D H0 mT 180 14 (s_store vI 180 15 3) := ⟨ok_store _ _ _ _, so_istore_n mT180 dX5_in_14 rfl⟩
theorem gT180_15 : sG l g D H0 mT 180 15 (s_load vI 180 16 3) := ⟨ok_load _ _ _ _, so_iload_n mT180 dX5_in_15 rfl⟩
theorem gT180_16 : sG l g D H0 mT 180 16 (s_const 180 18 (.int 6)) := ⟨ok_const _ _ _, so_bipush mT180 dX5_in_16 (by decide)⟩
theorem gT180_18 : sG l g D H0 mT 180 18 (s_icmp 180 21 73 (fun a b => b ≤ a)) := ⟨ok_icmp _ _ _ _, so_icmp_ge mT180 dX5_in_18 (by decide)⟩
theorem gT180_21 : sG l g D H0 mT 180 21 (s_load vRf 180 22 0) := ⟨ok_load _ _ _ _, so_aload_n mT180 dX5_in_21 rfl⟩
theorem gT180_22 : sG l g D H0 mT 180 22 (s_getf 180 25 4 0) := ⟨ok_getf _ _ _ _, so_getf mT180 cl4 (k := 0) (by decide) dX5_in_22 q1186 (fs_rf rfl)⟩
theorem gT180_25 : sG l g D H0 mT 180 25 (s_load vI 180 26 2) := ⟨ok_load _ _ _ _, so_iload_n mT180 dX5_in_25 rfl⟩
theorem gT180_26 : sG l g D H0 mT 180 26 (s_callvk 180 29 25 10 [0] 2) := ⟨ok_callvk _ _ _ _ _ _, sk_callv (by decide) (so_callV mT180 mo25 (by decide) (t := 10) (C := "java/util/ArrayList") (by decide) rfl rfl dX5_in_26 q1453 q439 q440 q58)⟩
theorem gT180_29 : sG l g D H0 mT 180 29 (s_cast 180 32 [7]) := ⟨ok_cast _ _ _, so_cast mT180 (T := "HyperVaneModel$Guest") (ts := [7]) (by intro u hu; rw [List.mem_singleton] at hu; subst hu; exact ⟨by decide, Or.inl rfl⟩) dX5_in_29 q1454⟩
theorem gT180_32 : sG l g D H0 mT 180 32 (s_getf 180 35 7 14) := ⟨ok_getf _ _ _ _, so_getfN mT180 cl7 (k := 14) (by decide) dX5_in_32 q1303 (fs_rf rfl)⟩
theorem gT180_35 : sG l g D H0 mT 180 35 (s_load vI 180 36 3) := ⟨ok_load _ _ _ _, so_iload_n mT180 dX5_in_35 rfl⟩
theorem gT180_36 : sG l g D H0 mT 180 36 (s_ald 180 37 20) := ⟨ok_ald _ _ _, so_iald mT180 a20 dX5_in_36⟩
theorem gT180_37 : sG l g D H0 mT 180 37 (s_if 180 67 40 (fun a => a = 0)) := ⟨ok_if _ _ _ _, so_if_ne mT180 dX5_in_37 (by decide)⟩
theorem gT180_40 : sG l g D H0 mT 180 40 (s_load vRf 180 41 0) := ⟨ok_load _ _ _ _, so_aload_n mT180 dX5_in_40 rfl⟩
theorem gT180_41 : sG l g D H0 mT 180 41 (s_getf 180 44 4 0) := ⟨ok_getf _ _ _ _, so_getf mT180 cl4 (k := 0) (by decide) dX5_in_41 q1186 (fs_rf rfl)⟩
theorem gT180_44 : sG l g D H0 mT 180 44 (s_load vI 180 45 2) := ⟨ok_load _ _ _ _, so_iload_n mT180 dX5_in_44 rfl⟩
theorem gT180_45 : sG l g D H0 mT 180 45 (s_callvk 180 48 25 10 [0] 2) := ⟨ok_callvk _ _ _ _ _ _, sk_callv (by decide) (so_callV mT180 mo25 (by decide) (t := 10) (C := "java/util/ArrayList") (by decide) rfl rfl dX5_in_45 q1453 q439 q440 q58)⟩
theorem gT180_48 : sG l g D H0 mT 180 48 (s_cast 180 51 [7]) := ⟨ok_cast _ _ _, so_cast mT180 (T := "HyperVaneModel$Guest") (ts := [7]) (by intro u hu; rw [List.mem_singleton] at hu; subst hu; exact ⟨by decide, Or.inl rfl⟩) dX5_in_48 q1454⟩
theorem gT180_51 : sG l g D H0 mT 180 51 (s_getf 180 54 7 15) := ⟨ok_getf _ _ _ _, so_getfN mT180 cl7 (k := 15) (by decide) dX5_in_51 q1306 (fs_rf rfl)⟩
theorem gT180_54 : sG l g D H0 mT 180 54 (s_load vI 180 55 3) := ⟨ok_load _ _ _ _, so_iload_n mT180 dX5_in_54 rfl⟩
theorem gT180_55 : sG l g D H0 mT 180 55 (s_ald 180 56 20) := ⟨ok_ald _ _ _, so_iald mT180 a20 dX5_in_55⟩
theorem gT180_56 : sG l g D H0 mT 180 56 (s_load vI 180 57 1) := ⟨ok_load _ _ _ _, so_iload_n mT180 dX5_in_56 rfl⟩
theorem gT180_57 : sG l g D H0 mT 180 57 (s_icmp 180 67 60 (fun a b => a = b)) := ⟨ok_icmp _ _ _ _, so_icmp_ne mT180 dX5_in_57 (by decide)⟩
theorem gT180_60 : sG l g D H0 mT 180 60 (s_const 180 62 (.int 8)) := ⟨ok_const _ _ _, so_bipush mT180 dX5_in_60 (by decide)⟩
theorem gT180_62 : sG l g D H0 mT 180 62 (s_load vI 180 63 2) := ⟨ok_load _ _ _ _, so_iload_n mT180 dX5_in_62 rfl⟩
theorem gT180_63 : sG l g D H0 mT 180 63 (s_bin 180 64 (fun a b => a * b)) := ⟨ok_bin _ _ _, so_imul mT180 dX5_in_63⟩
theorem gT180_64 : sG l g D H0 mT 180 64 (s_load vI 180 65 3) := ⟨ok_load _ _ _ _, so_iload_n mT180 dX5_in_64 rfl⟩
theorem gT180_65 : sG l g D H0 mT 180 65 (s_bin 180 66 (fun a b => a + b)) := ⟨ok_bin _ _ _, so_iadd mT180 dX5_in_65⟩
theorem gT180_66 : sG l g D H0 mT 180 66 (s_ret pI) := ⟨ok_ret _, so_iret mT180 dX5_in_66⟩
theorem gT180_67 : sG l g D H0 mT 180 67 (s_iinc 180 70 3 1) := ⟨ok_iinc _ _ _ _, so_iinc mT180 dX5_in_67 (by decide)⟩
theorem gT180_70 : sG l g D H0 mT 180 70 (s_goto 180 15) := ⟨ok_goto _ _, so_goto mT180 dX5_in_70 (by decide)⟩
theorem gT180_73 : sG l g D H0 mT 180 73 (s_iinc 180 76 2 1) := ⟨ok_iinc _ _ _ _, so_iinc mT180 dX5_in_73 (by decide)⟩
theorem gT180_76 : sG l g D H0 mT 180 76 (s_goto 180 2) := ⟨ok_goto _ _, so_goto mT180 dX5_in_76 (by decide)⟩
theorem gT180_79 : sG l g D H0 mT 180 79 (s_const 180 80 (.int (-1))) := ⟨ok_const _ _ _, so_iconst mT180 dX5_in_79 (by decide)⟩
theorem gT180_80 : sG l g D H0 mT 180 80 (s_ret pI) := ⟨ok_ret _, so_iret mT180 dX5_in_80⟩
theorem gT180 (pc : Nat) : sG l g D H0 mT 180 pc (tT180 g pc) := sG_cond (sG_cond (sG_cond (sG_cond (sG_cond (sG_leaf gT180_0) (sG_leaf gT180_1)) (sG_cond (sG_leaf gT180_2) (sG_cond (sG_leaf gT180_3) (sG_leaf gT180_4)))) (sG_cond (sG_cond (sG_leaf gT180_7) (sG_leaf gT180_10)) (sG_cond (sG_leaf gT180_13) (sG_cond (sG_leaf gT180_14) (sG_leaf gT180_15))))) (sG_cond (sG_cond (sG_cond (sG_leaf gT180_16) (sG_leaf gT180_18)) (sG_cond (sG_leaf gT180_21) (sG_cond (sG_leaf gT180_22) (sG_leaf gT180_25)))) (sG_cond (sG_cond (sG_leaf gT180_26) (sG_cond (sG_leaf gT180_29) (sG_leaf gT180_32))) (sG_cond (sG_leaf gT180_35) (sG_cond (sG_leaf gT180_36) (sG_leaf gT180_37)))))) (sG_cond (sG_cond (sG_cond (sG_cond (sG_leaf gT180_40) (sG_leaf gT180_41)) (sG_cond (sG_leaf gT180_44) (sG_cond (sG_leaf gT180_45) (sG_leaf gT180_48)))) (sG_cond (sG_cond (sG_leaf gT180_51) (sG_cond (sG_leaf gT180_54) (sG_leaf gT180_55))) (sG_cond (sG_leaf gT180_56) (sG_cond (sG_leaf gT180_57) (sG_leaf gT180_60))))) (sG_cond (sG_cond (sG_cond (sG_leaf gT180_62) (sG_leaf gT180_63)) (sG_cond (sG_leaf gT180_64) (sG_cond (sG_leaf gT180_65) (sG_leaf gT180_66)))) (sG_cond (sG_cond (sG_leaf gT180_67) (sG_cond (sG_leaf gT180_70) (sG_leaf gT180_73))) (sG_cond (sG_leaf gT180_76) (sG_cond (sG_leaf gT180_79) (sG_leaf gT180_80))))))
theorem gT181_0 : sG l g D H0 mT 181 0 (s_load vRf 181 1 0) := ⟨ok_load _ _ _ _, so_aload_n mT181 dX5_begin_0 rfl⟩
theorem gT181_1 : sG l g D H0 mT 181 1 (s_getf 181 4 4 0) := ⟨ok_getf _ _ _ _, so_getf mT181 cl4 (k := 0) (by decide) dX5_begin_1 q1186 (fs_rf rfl)⟩
theorem gT181_4 : sG l g D H0 mT 181 4 (s_load vI 181 5 1) := ⟨ok_load _ _ _ _, so_iload_n mT181 dX5_begin_4 rfl⟩
theorem gT181_5 : sG l g D H0 mT 181 5 (s_callvk 181 8 25 10 [0] 2) := ⟨ok_callvk _ _ _ _ _ _, sk_callv (by decide) (so_callV mT181 mo25 (by decide) (t := 10) (C := "java/util/ArrayList") (by decide) rfl rfl dX5_begin_5 q1453 q439 q440 q58)⟩
theorem gT181_8 : sG l g D H0 mT 181 8 (s_cast 181 11 [7]) := ⟨ok_cast _ _ _, so_cast mT181 (T := "HyperVaneModel$Guest") (ts := [7]) (by intro u hu; rw [List.mem_singleton] at hu; subst hu; exact ⟨by decide, Or.inl rfl⟩) dX5_begin_8 q1454⟩
theorem gT181_11 : sG l g D H0 mT 181 11 (s_store vRf 181 12 3) := ⟨ok_store _ _ _ _, so_astore_n mT181 dX5_begin_11 rfl⟩
theorem gT181_12 : sG l g D H0 mT 181 12 (s_load vRf 181 13 3) := ⟨ok_load _ _ _ _, so_aload_n mT181 dX5_begin_12 rfl⟩
theorem gT181_13 : sG l g D H0 mT 181 13 (s_const 181 14 (.int 1)) := ⟨ok_const _ _ _, so_iconst mT181 dX5_begin_13 (by decide)⟩
theorem gT181_14 : sG l g D H0 mT 181 14 (s_putf g vZ 181 17 7 18) := ⟨ok_putf _ _ _ _ _ _, so_putfN mT181 cl7 (k := 18) (by decide) fZ rfl dX5_begin_14 q1315 (fs_rf rfl)⟩
theorem gT181_17 : sG l g D H0 mT 181 17 (s_load vRf 181 18 3) := ⟨ok_load _ _ _ _, so_aload_n mT181 dX5_begin_17 rfl⟩
theorem gT181_18 : sG l g D H0 mT 181 18 (s_load vI 181 19 2) := ⟨ok_load _ _ _ _, so_iload_n mT181 dX5_begin_18 rfl⟩
theorem gT181_19 : sG l g D H0 mT 181 19 (s_putf g pI 181 22 7 21) := ⟨ok_putf _ _ _ _ _ _, so_putfN mT181 cl7 (k := 21) (by decide) fI rfl dX5_begin_19 q1323 (fs_rf rfl)⟩
theorem gT181_22 : sG l g D H0 mT 181 22 (s_load vRf 181 23 3) := ⟨ok_load _ _ _ _, so_aload_n mT181 dX5_begin_22 rfl⟩
theorem gT181_23 : sG l g D H0 mT 181 23 (s_load vRf 181 24 0) := ⟨ok_load _ _ _ _, so_aload_n mT181 dX5_begin_23 rfl⟩
theorem gT181_24 : sG l g D H0 mT 181 24 (s_getf 181 27 4 1) := ⟨ok_getf _ _ _ _, so_getf mT181 cl4 (k := 1) (by decide) dX5_begin_24 q1188 (fs_rf rfl)⟩
theorem gT181_27 : sG l g D H0 mT 181 27 (s_putf g pI 181 30 7 23) := ⟨ok_putf _ _ _ _ _ _, so_putfN mT181 cl7 (k := 23) (by decide) fI rfl dX5_begin_27 q1328 (fs_rf rfl)⟩
theorem gT181_30 : sG l g D H0 mT 181 30 (s_load vRf 181 31 3) := ⟨ok_load _ _ _ _, so_aload_n mT181 dX5_begin_30 rfl⟩
theorem gT181_31 : sG l g D H0 mT 181 31 (s_const 181 32 (.int 0)) := ⟨ok_const _ _ _, so_iconst mT181 dX5_begin_31 (by decide)⟩
theorem gT181_32 : sG l g D H0 mT 181 32 (s_putf g pI 181 35 7 22) := ⟨ok_putf _ _ _ _ _ _, so_putfN mT181 cl7 (k := 22) (by decide) fI rfl dX5_begin_32 q1325 (fs_rf rfl)⟩
theorem gT181_35 : sG l g D H0 mT 181 35 (s_const 181 36 (.int 0)) := ⟨ok_const _ _ _, so_iconst mT181 dX5_begin_35 (by decide)⟩
theorem gT181_36 : sG l g D H0 mT 181 36 (s_store vI 181 38 4) := ⟨ok_store _ _ _ _, so_istore mT181 dX5_begin_36⟩
theorem gT181_38 : sG l g D H0 mT 181 38 (s_load vI 181 40 4) := ⟨ok_load _ _ _ _, so_iload mT181 dX5_begin_38⟩
theorem gT181_40 : sG l g D H0 mT 181 40 (s_const 181 42 (.int 6)) := ⟨ok_const _ _ _, so_bipush mT181 dX5_begin_40 (by decide)⟩
theorem gT181_42 : sG l g D H0 mT 181 42 (s_icmp 181 45 89 (fun a b => b ≤ a)) := ⟨ok_icmp _ _ _ _, so_icmp_ge mT181 dX5_begin_42 (by decide)⟩
theorem gT181_45 : sG l g D H0 mT 181 45 (s_load vRf 181 46 3) := ⟨ok_load _ _ _ _, so_aload_n mT181 dX5_begin_45 rfl⟩
theorem gT181_46 : sG l g D H0 mT 181 46 (s_dup 181 47) := ⟨ok_dup _ _, so_dup mT181 dX5_begin_46⟩
theorem gT181_47 : sG l g D H0 mT 181 47 (s_getf 181 50 7 22) := ⟨ok_getf _ _ _ _, so_getfN mT181 cl7 (k := 22) (by decide) dX5_begin_47 q1325 (fs_rf rfl)⟩
theorem gT181_50 : sG l g D H0 mT 181 50 (s_load vRf 181 51 3) := ⟨ok_load _ _ _ _, so_aload_n mT181 dX5_begin_50 rfl⟩
theorem gT181_51 : sG l g D H0 mT 181 51 (s_getf 181 54 7 14) := ⟨ok_getf _ _ _ _, so_getfN mT181 cl7 (k := 14) (by decide) dX5_begin_51 q1303 (fs_rf rfl)⟩
theorem gT181_54 : sG l g D H0 mT 181 54 (s_load vI 181 56 4) := ⟨ok_load _ _ _ _, so_iload mT181 dX5_begin_54⟩
theorem gT181_56 : sG l g D H0 mT 181 56 (s_ald 181 57 20) := ⟨ok_ald _ _ _, so_iald mT181 a20 dX5_begin_56⟩
theorem gT181_57 : sG l g D H0 mT 181 57 (s_if 181 60 71 (fun a => a = 0)) := ⟨ok_if _ _ _ _, so_if_eq mT181 dX5_begin_57 (by decide)⟩
theorem gT181_60 : sG l g D H0 mT 181 60 (s_load vRf 181 61 3) := ⟨ok_load _ _ _ _, so_aload_n mT181 dX5_begin_60 rfl⟩
theorem gT181_61 : sG l g D H0 mT 181 61 (s_getf 181 64 7 14) := ⟨ok_getf _ _ _ _, so_getfN mT181 cl7 (k := 14) (by decide) dX5_begin_61 q1303 (fs_rf rfl)⟩
theorem gT181_64 : sG l g D H0 mT 181 64 (s_load vI 181 66 4) := ⟨ok_load _ _ _ _, so_iload mT181 dX5_begin_64⟩
theorem gT181_66 : sG l g D H0 mT 181 66 (s_ald 181 67 20) := ⟨ok_ald _ _ _, so_iald mT181 a20 dX5_begin_66⟩
theorem gT181_67 : sG l g D H0 mT 181 67 (s_const 181 68 (.int 1)) := ⟨ok_const _ _ _, so_iconst mT181 dX5_begin_67 (by decide)⟩
theorem gT181_68 : sG l g D H0 mT 181 68 (s_icmp 181 78 71 (fun a b => a = b)) := ⟨ok_icmp _ _ _ _, so_icmp_ne mT181 dX5_begin_68 (by decide)⟩
theorem gT181_71 : sG l g D H0 mT 181 71 (s_const 181 72 (.int 1)) := ⟨ok_const _ _ _, so_iconst mT181 dX5_begin_71 (by decide)⟩
theorem gT181_72 : sG l g D H0 mT 181 72 (s_load vI 181 74 4) := ⟨ok_load _ _ _ _, so_iload mT181 dX5_begin_72⟩
theorem gT181_74 : sG l g D H0 mT 181 74 (s_bin 181 75 (fun a b => a <<< (b &&& 31))) := ⟨ok_bin _ _ _, so_ishl mT181 dX5_begin_74⟩
theorem gT181_75 : sG l g D H0 mT 181 75 (s_goto 181 79) := ⟨ok_goto _ _, so_goto mT181 dX5_begin_75 (by decide)⟩
theorem gT181_78 : sG l g D H0 mT 181 78 (s_const 181 79 (.int 0)) := ⟨ok_const _ _ _, so_iconst mT181 dX5_begin_78 (by decide)⟩
theorem gT181_79 : sG l g D H0 mT 181 79 (s_bin 181 80 (fun a b => a ||| b)) := ⟨ok_bin _ _ _, so_ior mT181 dX5_begin_79⟩
theorem gT181_80 : sG l g D H0 mT 181 80 (s_putf g pI 181 83 7 22) := ⟨ok_putf _ _ _ _ _ _, so_putfN mT181 cl7 (k := 22) (by decide) fI rfl dX5_begin_80 q1325 (fs_rf rfl)⟩
theorem gT181_83 : sG l g D H0 mT 181 83 (s_iinc 181 86 4 1) := ⟨ok_iinc _ _ _ _, so_iinc mT181 dX5_begin_83 (by decide)⟩
theorem gT181_86 : sG l g D H0 mT 181 86 (s_goto 181 38) := ⟨ok_goto _ _, so_goto mT181 dX5_begin_86 (by decide)⟩
theorem gT181_89 : sG l g D H0 mT 181 89 (s_load vRf 181 90 3) := ⟨ok_load _ _ _ _, so_aload_n mT181 dX5_begin_89 rfl⟩
theorem gT181_90 : sG l g D H0 mT 181 90 (s_getf 181 93 7 22) := ⟨ok_getf _ _ _ _, so_getfN mT181 cl7 (k := 22) (by decide) dX5_begin_90 q1325 (fs_rf rfl)⟩
theorem gT181_93 : sG l g D H0 mT 181 93 (s_callk 181 96 11 [0] 1) := ⟨ok_callk _ _ _ _ _, sk_call (by decide) (so_callS mT181 mo11 (by decide) dX5_begin_93 q1479 q1480 q82)⟩
theorem gT181_96 : sG l g D H0 mT 181 96 (s_ret pI) := ⟨ok_ret _, so_iret mT181 dX5_begin_96⟩
theorem gT181 (pc : Nat) : sG l g D H0 mT 181 pc (tT181 g pc) := sG_cond (sG_cond (sG_cond (sG_cond (sG_cond (sG_leaf gT181_0) (sG_cond (sG_leaf gT181_1) (sG_leaf gT181_4))) (sG_cond (sG_leaf gT181_5) (sG_cond (sG_leaf gT181_8) (sG_leaf gT181_11)))) (sG_cond (sG_cond (sG_leaf gT181_12) (sG_cond (sG_leaf gT181_13) (sG_leaf gT181_14))) (sG_cond (sG_leaf gT181_17) (sG_cond (sG_leaf gT181_18) (sG_leaf gT181_19))))) (sG_cond (sG_cond (sG_cond (sG_leaf gT181_22) (sG_cond (sG_leaf gT181_23) (sG_leaf gT181_24))) (sG_cond (sG_leaf gT181_27) (sG_cond (sG_leaf gT181_30) (sG_leaf gT181_31)))) (sG_cond (sG_cond (sG_leaf gT181_32) (sG_cond (sG_leaf gT181_35) (sG_leaf gT181_36))) (sG_cond (sG_cond (sG_leaf gT181_38) (sG_leaf gT181_40)) (sG_cond (sG_leaf gT181_42) (sG_leaf gT181_45)))))) (sG_cond (sG_cond (sG_cond (sG_cond (sG_leaf gT181_46) (sG_cond (sG_leaf gT181_47) (sG_leaf gT181_50))) (sG_cond (sG_leaf gT181_51) (sG_cond (sG_leaf gT181_54) (sG_leaf gT181_56)))) (sG_cond (sG_cond (sG_leaf gT181_57) (sG_cond (sG_leaf gT181_60) (sG_leaf gT181_61))) (sG_cond (sG_cond (sG_leaf gT181_64) (sG_leaf gT181_66)) (sG_cond (sG_leaf gT181_67) (sG_leaf gT181_68))))) (sG_cond (sG_cond (sG_cond (sG_leaf gT181_71) (sG_cond (sG_leaf gT181_72) (sG_leaf gT181_74))) (sG_cond (sG_leaf gT181_75) (sG_cond (sG_leaf gT181_78) (sG_leaf gT181_79)))) (sG_cond (sG_cond (sG_leaf gT181_80) (sG_cond (sG_leaf gT181_83) (sG_leaf gT181_86))) (sG_cond (sG_cond (sG_leaf gT181_89) (sG_leaf gT181_90)) (sG_cond (sG_leaf gT181_93) (sG_leaf gT181_96))))))
theorem gT182_0 : sG l g D H0 mT 182 0 (s_const 182 1 (.int 0)) := ⟨ok_const _ _ _, so_iconst mT182 dX5_done_0 (by decide)⟩
theorem gT182_1 : sG l g D H0 mT 182 1 (s_store vI 182 2 1) := ⟨ok_store _ _ _ _, so_istore_n mT182 dX5_done_1 rfl⟩
theorem gT182_2 : sG l g D H0 mT 182 2 (s_load vRf 182 3 0) := ⟨ok_load _ _ _ _, so_aload_n mT182 dX5_done_2 rfl⟩
theorem gT182_3 : sG l g D H0 mT 182 3 (s_getf 182 6 4 0) := ⟨ok_getf _ _ _ _, so_getf mT182 cl4 (k := 0) (by decide) dX5_done_3 q1186 (fs_rf rfl)⟩
theorem gT182_6 : sG l g D H0 mT 182 6 (s_callvk 182 9 22 10 [] 1) := ⟨ok_callvk _ _ _ _ _ _, sk_callv (by decide) (so_callV mT182 mo22 (by decide) (t := 10) (C := "java/util/ArrayList") (by decide) rfl rfl dX5_done_6 q1503 q303 q304 q58)⟩
theorem gT182_9 : sG l g D H0 mT 182 9 (s_store vRf 182 10 2) := ⟨ok_store _ _ _ _, so_astore_n mT182 dX5_done_9 rfl⟩
theorem gT182_10 : sG l g D H0 mT 182 10 (s_load vRf 182 11 2) := ⟨ok_load _ _ _ _, so_aload_n mT182 dX5_done_10 rfl⟩
theorem gT182_11 : sG l g D H0 mT 182 11 (s_callvk 182 16 3 11 [] 1) := ⟨ok_callvk _ _ _ _ _ _, sk_callv (by decide) (so_callF mT182 mo3 (by decide) (t := 11) (C := "java/util/ArrayList$Itr") (by decide) rfl (by decide +kernel) ⟨by decide, by decide, by decide +kernel⟩ dX5_done_11 q1505 q332 q330 q80)⟩
theorem gT182_16 : sG l g D H0 mT 182 16 (s_if 182 19 39 (fun a => a = 0)) := ⟨ok_if _ _ _ _, so_if_eq mT182 dX5_done_16 (by decide)⟩
theorem gT182_19 : sG l g D H0 mT 182 19 (s_load vRf 182 20 2) := ⟨ok_load _ _ _ _, so_aload_n mT182 dX5_done_19 rfl⟩
theorem gT182_20 : sG l g D H0 mT 182 20 (s_callvk 182 25 4 11 [] 3) := ⟨ok_callvk _ _ _ _ _ _, sk_callv (by decide) (so_callF mT182 mo4 (by decide) (t := 11) (C := "java/util/ArrayList$Itr") (by decide) rfl (by decide +kernel) ⟨by decide, by decide, by decide +kernel⟩ dX5_done_20 q1507 q341 q339 q80)⟩
theorem gT182_25 : sG l g D H0 mT 182 25 (s_cast 182 28 [7]) := ⟨ok_cast _ _ _, so_cast mT182 (T := "HyperVaneModel$Guest") (ts := [7]) (by intro u hu; rw [List.mem_singleton] at hu; subst hu; exact ⟨by decide, Or.inl rfl⟩) dX5_done_25 q1454⟩
theorem gT182_28 : sG l g D H0 mT 182 28 (s_store vRf 182 29 3) := ⟨ok_store _ _ _ _, so_astore_n mT182 dX5_done_28 rfl⟩
theorem gT182_29 : sG l g D H0 mT 182 29 (s_load vI 182 30 1) := ⟨ok_load _ _ _ _, so_iload_n mT182 dX5_done_29 rfl⟩
theorem gT182_30 : sG l g D H0 mT 182 30 (s_load vRf 182 31 3) := ⟨ok_load _ _ _ _, so_aload_n mT182 dX5_done_30 rfl⟩
theorem gT182_31 : sG l g D H0 mT 182 31 (s_getf 182 34 7 10) := ⟨ok_getf _ _ _ _, so_getfN mT182 cl7 (k := 10) (by decide) dX5_done_31 q1291 (fs_rf rfl)⟩
theorem gT182_34 : sG l g D H0 mT 182 34 (s_bin 182 35 (fun a b => a + b)) := ⟨ok_bin _ _ _, so_iadd mT182 dX5_done_34⟩
theorem gT182_35 : sG l g D H0 mT 182 35 (s_store vI 182 36 1) := ⟨ok_store _ _ _ _, so_istore_n mT182 dX5_done_35 rfl⟩
theorem gT182_36 : sG l g D H0 mT 182 36 (s_goto 182 10) := ⟨ok_goto _ _, so_goto mT182 dX5_done_36 (by decide)⟩
theorem gT182_39 : sG l g D H0 mT 182 39 (s_load vI 182 40 1) := ⟨ok_load _ _ _ _, so_iload_n mT182 dX5_done_39 rfl⟩
theorem gT182_40 : sG l g D H0 mT 182 40 (s_ret pI) := ⟨ok_ret _, so_iret mT182 dX5_done_40⟩
theorem gT182 (pc : Nat) : sG l g D H0 mT 182 pc (tT182 g pc) := sG_cond (sG_cond (sG_cond (sG_cond (sG_leaf gT182_0) (sG_leaf gT182_1)) (sG_cond (sG_leaf gT182_2) (sG_cond (sG_leaf gT182_3) (sG_leaf gT182_6)))) (sG_cond (sG_cond (sG_leaf gT182_9) (sG_leaf gT182_10)) (sG_cond (sG_leaf gT182_11) (sG_cond (sG_leaf gT182_16) (sG_leaf gT182_19))))) (sG_cond (sG_cond (sG_cond (sG_leaf gT182_20) (sG_leaf gT182_25)) (sG_cond (sG_leaf gT182_28) (sG_cond (sG_leaf gT182_29) (sG_leaf gT182_30)))) (sG_cond (sG_cond (sG_leaf gT182_31) (sG_cond (sG_leaf gT182_34) (sG_leaf gT182_35))) (sG_cond (sG_leaf gT182_36) (sG_cond (sG_leaf gT182_39) (sG_leaf gT182_40)))))
theorem gT183_0 : sG l g D H0 mT 183 0 (s_load vRf 183 1 0) := ⟨ok_load _ _ _ _, so_aload_n mT183 dX5_tick_0 rfl⟩
theorem gT183_1 : sG l g D H0 mT 183 1 (s_dup 183 2) := ⟨ok_dup _ _, so_dup mT183 dX5_tick_1⟩
theorem gT183_2 : sG l g D H0 mT 183 2 (s_getf 183 5 4 1) := ⟨ok_getf _ _ _ _, so_getf mT183 cl4 (k := 1) (by decide) dX5_tick_2 q1188 (fs_rf rfl)⟩
theorem gT183_5 : sG l g D H0 mT 183 5 (s_const 183 6 (.int 1)) := ⟨ok_const _ _ _, so_iconst mT183 dX5_tick_5 (by decide)⟩
theorem gT183_6 : sG l g D H0 mT 183 6 (s_bin 183 7 (fun a b => a + b)) := ⟨ok_bin _ _ _, so_iadd mT183 dX5_tick_6⟩
theorem gT183_7 : sG l g D H0 mT 183 7 (s_putf g pI 183 10 4 1) := ⟨ok_putf _ _ _ _ _ _, so_putf mT183 cl4 (k := 1) (by decide) fI rfl dX5_tick_7 q1188 (fs_rf rfl)⟩
theorem gT183_10 : sG l g D H0 mT 183 10 (s_load vRf 183 11 0) := ⟨ok_load _ _ _ _, so_aload_n mT183 dX5_tick_10 rfl⟩
theorem gT183_11 : sG l g D H0 mT 183 11 (s_getf 183 14 4 0) := ⟨ok_getf _ _ _ _, so_getf mT183 cl4 (k := 0) (by decide) dX5_tick_11 q1186 (fs_rf rfl)⟩
theorem gT183_14 : sG l g D H0 mT 183 14 (s_callvk 183 17 22 10 [] 1) := ⟨ok_callvk _ _ _ _ _ _, sk_callv (by decide) (so_callV mT183 mo22 (by decide) (t := 10) (C := "java/util/ArrayList") (by decide) rfl rfl dX5_tick_14 q1503 q303 q304 q58)⟩
theorem gT183_17 : sG l g D H0 mT 183 17 (s_store vRf 183 18 1) := ⟨ok_store _ _ _ _, so_astore_n mT183 dX5_tick_17 rfl⟩
theorem gT183_18 : sG l g D H0 mT 183 18 (s_load vRf 183 19 1) := ⟨ok_load _ _ _ _, so_aload_n mT183 dX5_tick_18 rfl⟩
theorem gT183_19 : sG l g D H0 mT 183 19 (s_callvk 183 24 3 11 [] 1) := ⟨ok_callvk _ _ _ _ _ _, sk_callv (by decide) (so_callF mT183 mo3 (by decide) (t := 11) (C := "java/util/ArrayList$Itr") (by decide) rfl (by decide +kernel) ⟨by decide, by decide, by decide +kernel⟩ dX5_tick_19 q1505 q332 q330 q80)⟩
theorem gT183_24 : sG l g D H0 mT 183 24 (s_if 183 27 90 (fun a => a = 0)) := ⟨ok_if _ _ _ _, so_if_eq mT183 dX5_tick_24 (by decide)⟩
theorem gT183_27 : sG l g D H0 mT 183 27 (s_load vRf 183 28 1) := ⟨ok_load _ _ _ _, so_aload_n mT183 dX5_tick_27 rfl⟩
theorem gT183_28 : sG l g D H0 mT 183 28 (s_callvk 183 33 4 11 [] 3) := ⟨ok_callvk _ _ _ _ _ _, sk_callv (by decide) (so_callF mT183 mo4 (by decide) (t := 11) (C := "java/util/ArrayList$Itr") (by decide) rfl (by decide +kernel) ⟨by decide, by decide, by decide +kernel⟩ dX5_tick_28 q1507 q341 q339 q80)⟩
theorem gT183_33 : sG l g D H0 mT 183 33 (s_cast 183 36 [7]) := ⟨ok_cast _ _ _, so_cast mT183 (T := "HyperVaneModel$Guest") (ts := [7]) (by intro u hu; rw [List.mem_singleton] at hu; subst hu; exact ⟨by decide, Or.inl rfl⟩) dX5_tick_33 q1454⟩
theorem gT183_36 : sG l g D H0 mT 183 36 (s_store vRf 183 37 2) := ⟨ok_store _ _ _ _, so_astore_n mT183 dX5_tick_36 rfl⟩
theorem gT183_37 : sG l g D H0 mT 183 37 (s_load vRf 183 38 2) := ⟨ok_load _ _ _ _, so_aload_n mT183 dX5_tick_37 rfl⟩
theorem gT183_38 : sG l g D H0 mT 183 38 (s_getf 183 41 7 6) := ⟨ok_getf _ _ _ _, so_getfN mT183 cl7 (k := 6) (by decide) dX5_tick_38 q1279 (fs_rf rfl)⟩
theorem gT183_41 : sG l g D H0 mT 183 41 (s_const 183 42 (.int 3)) := ⟨ok_const _ _ _, so_iconst mT183 dX5_tick_41 (by decide)⟩
theorem gT183_42 : sG l g D H0 mT 183 42 (s_icmp 183 45 63 (fun a b => a = b)) := ⟨ok_icmp _ _ _ _, so_icmp_eq mT183 dX5_tick_42 (by decide)⟩
theorem gT183_45 : sG l g D H0 mT 183 45 (s_load vRf 183 46 2) := ⟨ok_load _ _ _ _, so_aload_n mT183 dX5_tick_45 rfl⟩
theorem gT183_46 : sG l g D H0 mT 183 46 (s_getf 183 49 7 6) := ⟨ok_getf _ _ _ _, so_getfN mT183 cl7 (k := 6) (by decide) dX5_tick_46 q1279 (fs_rf rfl)⟩
theorem gT183_49 : sG l g D H0 mT 183 49 (s_const 183 50 (.int 4)) := ⟨ok_const _ _ _, so_iconst mT183 dX5_tick_49 (by decide)⟩
theorem gT183_50 : sG l g D H0 mT 183 50 (s_icmp 183 53 63 (fun a b => a = b)) := ⟨ok_icmp _ _ _ _, so_icmp_eq mT183 dX5_tick_50 (by decide)⟩
theorem gT183_53 : sG l g D H0 mT 183 53 (s_load vRf 183 54 2) := ⟨ok_load _ _ _ _, so_aload_n mT183 dX5_tick_53 rfl⟩
theorem gT183_54 : sG l g D H0 mT 183 54 (s_dup 183 55) := ⟨ok_dup _ _, so_dup mT183 dX5_tick_54⟩
theorem gT183_55 : sG l g D H0 mT 183 55 (s_getf 183 58 7 4) := ⟨ok_getf _ _ _ _, so_getfN mT183 cl7 (k := 4) (by decide) dX5_tick_55 q1273 (fs_rf rfl)⟩
theorem gT183_58 : sG l g D H0 mT 183 58 (s_const 183 59 (.int 1)) := ⟨ok_const _ _ _, so_iconst mT183 dX5_tick_58 (by decide)⟩
theorem gT183_59 : sG l g D H0 mT 183 59 (s_bin 183 60 (fun a b => a + b)) := ⟨ok_bin _ _ _, so_iadd mT183 dX5_tick_59⟩
theorem gT183_60 : sG l g D H0 mT 183 60 (s_putf g pI 183 63 7 4) := ⟨ok_putf _ _ _ _ _ _, so_putfN mT183 cl7 (k := 4) (by decide) fI rfl dX5_tick_60 q1273 (fs_rf rfl)⟩
theorem gT183_63 : sG l g D H0 mT 183 63 (s_load vRf 183 64 2) := ⟨ok_load _ _ _ _, so_aload_n mT183 dX5_tick_63 rfl⟩
theorem gT183_64 : sG l g D H0 mT 183 64 (s_getf 183 67 7 6) := ⟨ok_getf _ _ _ _, so_getfN mT183 cl7 (k := 6) (by decide) dX5_tick_64 q1279 (fs_rf rfl)⟩
theorem gT183_67 : sG l g D H0 mT 183 67 (s_const 183 68 (.int 2)) := ⟨ok_const _ _ _, so_iconst mT183 dX5_tick_67 (by decide)⟩
theorem gT183_68 : sG l g D H0 mT 183 68 (s_icmp 183 87 71 (fun a b => a = b)) := ⟨ok_icmp _ _ _ _, so_icmp_ne mT183 dX5_tick_68 (by decide)⟩
theorem gT183_71 : sG l g D H0 mT 183 71 (s_load vRf 183 72 2) := ⟨ok_load _ _ _ _, so_aload_n mT183 dX5_tick_71 rfl⟩
theorem gT183_72 : sG l g D H0 mT 183 72 (s_getf 183 75 7 8) := ⟨ok_getf _ _ _ _, so_getfN mT183 cl7 (k := 8) (by decide) dX5_tick_72 q1285 (fs_rf rfl)⟩
theorem gT183_75 : sG l g D H0 mT 183 75 (s_load vRf 183 76 0) := ⟨ok_load _ _ _ _, so_aload_n mT183 dX5_tick_75 rfl⟩
theorem gT183_76 : sG l g D H0 mT 183 76 (s_getf 183 79 4 1) := ⟨ok_getf _ _ _ _, so_getf mT183 cl4 (k := 1) (by decide) dX5_tick_76 q1188 (fs_rf rfl)⟩
theorem gT183_79 : sG l g D H0 mT 183 79 (s_icmp 183 82 87 (fun a b => b < a)) := ⟨ok_icmp _ _ _ _, so_icmp_gt mT183 dX5_tick_79 (by decide)⟩
theorem gT183_82 : sG l g D H0 mT 183 82 (s_load vRf 183 83 2) := ⟨ok_load _ _ _ _, so_aload_n mT183 dX5_tick_82 rfl⟩
theorem gT183_83 : sG l g D H0 mT 183 83 (s_const 183 84 (.int 0)) := ⟨ok_const _ _ _, so_iconst mT183 dX5_tick_83 (by decide)⟩
theorem gT183_84 : sG l g D H0 mT 183 84 (s_putf g pI 183 87 7 6) := ⟨ok_putf _ _ _ _ _ _, so_putfN mT183 cl7 (k := 6) (by decide) fI rfl dX5_tick_84 q1279 (fs_rf rfl)⟩
theorem gT183_87 : sG l g D H0 mT 183 87 (s_goto 183 18) := ⟨ok_goto _ _, so_goto mT183 dX5_tick_87 (by decide)⟩
theorem gT183_90 : sG l g D H0 mT 183 90 (s_load vRf 183 91 0) := ⟨ok_load _ _ _ _, so_aload_n mT183 dX5_tick_90 rfl⟩
theorem gT183_91 : sG l g D H0 mT 183 91 (s_callvk 183 94 184 4 [] 4) := ⟨ok_callvk _ _ _ _ _ _, sk_callv (by decide) (so_callV mT183 mo184 (by decide) (t := 4) (C := "HyperVaneModel$World") (by decide) rfl rfl dX5_tick_91 q1512 q1514 qs35 q67)⟩
theorem gT183_94 : sG l g D H0 mT 183 94 (s_if 183 97 168 (fun a => 0 < a)) := ⟨ok_if _ _ _ _, so_if_gt mT183 dX5_tick_94 (by decide)⟩
theorem gT183_97 : sG l g D H0 mT 183 97 (s_load vRf 183 98 0) := ⟨ok_load _ _ _ _, so_aload_n mT183 dX5_tick_97 rfl⟩
theorem gT183_98 : sG l g D H0 mT 183 98 (s_callvk 183 101 184 4 [] 4) := ⟨ok_callvk _ _ _ _ _ _, sk_callv (by decide) (so_callV mT183 mo184 (by decide) (t := 4) (C := "HyperVaneModel$World") (by decide) rfl rfl dX5_tick_98 q1512 q1514 qs35 q67)⟩
theorem gT183_101 : sG l g D H0 mT 183 101 (s_const 183 102 (.int (-1))) := ⟨ok_const _ _ _, so_iconst mT183 dX5_tick_101 (by decide)⟩
theorem gT183_102 : sG l g D H0 mT 183 102 (s_icmp 183 105 168 (fun a b => a = b)) := ⟨ok_icmp _ _ _ _, so_icmp_eq mT183 dX5_tick_102 (by decide)⟩
theorem gT183_105 : sG l g D H0 mT 183 105 (s_load vRf 183 106 0) := ⟨ok_load _ _ _ _, so_aload_n mT183 dX5_tick_105 rfl⟩
theorem gT183_106 : sG l g D H0 mT 183 106 (s_getf 183 109 4 0) := ⟨ok_getf _ _ _ _, so_getf mT183 cl4 (k := 0) (by decide) dX5_tick_106 q1186 (fs_rf rfl)⟩
theorem gT183_109 : sG l g D H0 mT 183 109 (s_callvk 183 112 22 10 [] 1) := ⟨ok_callvk _ _ _ _ _ _, sk_callv (by decide) (so_callV mT183 mo22 (by decide) (t := 10) (C := "java/util/ArrayList") (by decide) rfl rfl dX5_tick_109 q1503 q303 q304 q58)⟩
theorem gT183_112 : sG l g D H0 mT 183 112 (s_store vRf 183 113 1) := ⟨ok_store _ _ _ _, so_astore_n mT183 dX5_tick_112 rfl⟩
theorem gT183_113 : sG l g D H0 mT 183 113 (s_load vRf 183 114 1) := ⟨ok_load _ _ _ _, so_aload_n mT183 dX5_tick_113 rfl⟩
theorem gT183_114 : sG l g D H0 mT 183 114 (s_callvk 183 119 3 11 [] 1) := ⟨ok_callvk _ _ _ _ _ _, sk_callv (by decide) (so_callF mT183 mo3 (by decide) (t := 11) (C := "java/util/ArrayList$Itr") (by decide) rfl (by decide +kernel) ⟨by decide, by decide, by decide +kernel⟩ dX5_tick_114 q1505 q332 q330 q80)⟩
theorem gT183_119 : sG l g D H0 mT 183 119 (s_if 183 122 168 (fun a => a = 0)) := ⟨ok_if _ _ _ _, so_if_eq mT183 dX5_tick_119 (by decide)⟩
theorem gT183_122 : sG l g D H0 mT 183 122 (s_load vRf 183 123 1) := ⟨ok_load _ _ _ _, so_aload_n mT183 dX5_tick_122 rfl⟩
theorem gT183_123 : sG l g D H0 mT 183 123 (s_callvk 183 128 4 11 [] 3) := ⟨ok_callvk _ _ _ _ _ _, sk_callv (by decide) (so_callF mT183 mo4 (by decide) (t := 11) (C := "java/util/ArrayList$Itr") (by decide) rfl (by decide +kernel) ⟨by decide, by decide, by decide +kernel⟩ dX5_tick_123 q1507 q341 q339 q80)⟩
theorem gT183_128 : sG l g D H0 mT 183 128 (s_cast 183 131 [7]) := ⟨ok_cast _ _ _, so_cast mT183 (T := "HyperVaneModel$Guest") (ts := [7]) (by intro u hu; rw [List.mem_singleton] at hu; subst hu; exact ⟨by decide, Or.inl rfl⟩) dX5_tick_128 q1454⟩
theorem gT183_131 : sG l g D H0 mT 183 131 (s_store vRf 183 132 2) := ⟨ok_store _ _ _ _, so_astore_n mT183 dX5_tick_131 rfl⟩
theorem gT183_132 : sG l g D H0 mT 183 132 (s_load vRf 183 133 2) := ⟨ok_load _ _ _ _, so_aload_n mT183 dX5_tick_132 rfl⟩
theorem gT183_133 : sG l g D H0 mT 183 133 (s_getf 183 136 7 6) := ⟨ok_getf _ _ _ _, so_getfN mT183 cl7 (k := 6) (by decide) dX5_tick_133 q1279 (fs_rf rfl)⟩
theorem gT183_136 : sG l g D H0 mT 183 136 (s_const 183 137 (.int 4)) := ⟨ok_const _ _ _, so_iconst mT183 dX5_tick_136 (by decide)⟩
theorem gT183_137 : sG l g D H0 mT 183 137 (s_icmp 183 140 165 (fun a b => a = b)) := ⟨ok_icmp _ _ _ _, so_icmp_eq mT183 dX5_tick_137 (by decide)⟩
theorem gT183_140 : sG l g D H0 mT 183 140 (s_load vRf 183 141 2) := ⟨ok_load _ _ _ _, so_aload_n mT183 dX5_tick_140 rfl⟩
theorem gT183_141 : sG l g D H0 mT 183 141 (s_const 183 143 (.int 8)) := ⟨ok_const _ _ _, so_bipush mT183 dX5_tick_141 (by decide)⟩
theorem gT183_143 : sG l g D H0 mT 183 143 (s_load vRf 183 144 2) := ⟨ok_load _ _ _ _, so_aload_n mT183 dX5_tick_143 rfl⟩
theorem gT183_144 : sG l g D H0 mT 183 144 (s_getf 183 147 7 0) := ⟨ok_getf _ _ _ _, so_getfN mT183 cl7 (k := 0) (by decide) dX5_tick_144 q1261 (fs_rf rfl)⟩
theorem gT183_147 : sG l g D H0 mT 183 147 (s_bin 183 148 (fun a b => a * b)) := ⟨ok_bin _ _ _, so_imul mT183 dX5_tick_147⟩
theorem gT183_148 : sG l g D H0 mT 183 148 (s_load vRf 183 149 2) := ⟨ok_load _ _ _ _, so_aload_n mT183 dX5_tick_148 rfl⟩
theorem gT183_149 : sG l g D H0 mT 183 149 (s_getf 183 152 7 9) := ⟨ok_getf _ _ _ _, so_getfN mT183 cl7 (k := 9) (by decide) dX5_tick_149 q1288 (fs_rf rfl)⟩
theorem gT183_152 : sG l g D H0 mT 183 152 (s_const 183 153 (.int 4)) := ⟨ok_const _ _ _, so_iconst mT183 dX5_tick_152 (by decide)⟩
theorem gT183_153 : sG l g D H0 mT 183 153 (s_load vRf 183 154 2) := ⟨ok_load _ _ _ _, so_aload_n mT183 dX5_tick_153 rfl⟩
theorem gT183_154 : sG l g D H0 mT 183 154 (s_getf 183 157 7 0) := ⟨ok_getf _ _ _ _, so_getfN mT183 cl7 (k := 0) (by decide) dX5_tick_154 q1261 (fs_rf rfl)⟩
theorem gT183_157 : sG l g D H0 mT 183 157 (s_bin 183 158 (fun a b => a * b)) := ⟨ok_bin _ _ _, so_imul mT183 dX5_tick_157⟩
theorem gT183_158 : sG l g D H0 mT 183 158 (s_bin 183 159 (fun a b => a + b)) := ⟨ok_bin _ _ _, so_iadd mT183 dX5_tick_158⟩
theorem gT183_159 : sG l g D H0 mT 183 159 (s_callk 183 162 35 [0, 0] 2) := ⟨ok_callk _ _ _ _ _, sk_call (by decide) (so_callS mT183 mo35 (by decide) dX5_tick_159 q1517 q284 q64)⟩
theorem gT183_162 : sG l g D H0 mT 183 162 (s_putf g pI 183 165 7 9) := ⟨ok_putf _ _ _ _ _ _, so_putfN mT183 cl7 (k := 9) (by decide) fI rfl dX5_tick_162 q1288 (fs_rf rfl)⟩
theorem gT183_165 : sG l g D H0 mT 183 165 (s_goto 183 113) := ⟨ok_goto _ _, so_goto mT183 dX5_tick_165 (by decide)⟩
theorem gT183_168 : sG l g D H0 mT 183 168 (s_load vRf 183 169 0) := ⟨ok_load _ _ _ _, so_aload_n mT183 dX5_tick_168 rfl⟩
theorem gT183_169 : sG l g D H0 mT 183 169 (s_load vRf 183 170 0) := ⟨ok_load _ _ _ _, so_aload_n mT183 dX5_tick_169 rfl⟩
theorem gT183_170 : sG l g D H0 mT 183 170 (s_callvk 183 173 185 4 [] 3) := ⟨ok_callvk _ _ _ _ _ _, sk_callv (by decide) (so_callV mT183 mo185 (by decide) (t := 4) (C := "HyperVaneModel$World") (by decide) rfl rfl dX5_tick_170 q1518 q1520 qs36 q67)⟩
theorem gT183_173 : sG l g D H0 mT 183 173 (s_putf g pI 183 176 4 3) := ⟨ok_putf _ _ _ _ _ _, so_putf mT183 cl4 (k := 3) (by decide) fI rfl dX5_tick_173 q1192 (fs_rf rfl)⟩
theorem gT183_176 : sG l g D H0 mT 183 176 (s_load vRf 183 177 0) := ⟨ok_load _ _ _ _, so_aload_n mT183 dX5_tick_176 rfl⟩
theorem gT183_177 : sG l g D H0 mT 183 177 (s_getf 183 180 4 3) := ⟨ok_getf _ _ _ _, so_getf mT183 cl4 (k := 3) (by decide) dX5_tick_177 q1192 (fs_rf rfl)⟩
theorem gT183_180 : sG l g D H0 mT 183 180 (s_const 183 181 (.int (-1))) := ⟨ok_const _ _ _, so_iconst mT183 dX5_tick_180 (by decide)⟩
theorem gT183_181 : sG l g D H0 mT 183 181 (s_icmp 183 197 184 (fun a b => a = b)) := ⟨ok_icmp _ _ _ _, so_icmp_ne mT183 dX5_tick_181 (by decide)⟩
theorem gT183_184 : sG l g D H0 mT 183 184 (s_load vRf 183 185 0) := ⟨ok_load _ _ _ _, so_aload_n mT183 dX5_tick_184 rfl⟩
theorem gT183_185 : sG l g D H0 mT 183 185 (s_dup 183 186) := ⟨ok_dup _ _, so_dup mT183 dX5_tick_185⟩
theorem gT183_186 : sG l g D H0 mT 183 186 (s_getf 183 189 4 7) := ⟨ok_getf _ _ _ _, so_getf mT183 cl4 (k := 7) (by decide) dX5_tick_186 q1199 (fs_rf rfl)⟩
theorem gT183_189 : sG l g D H0 mT 183 189 (s_const 183 190 (.int 1)) := ⟨ok_const _ _ _, so_iconst mT183 dX5_tick_189 (by decide)⟩
theorem gT183_190 : sG l g D H0 mT 183 190 (s_bin 183 191 (fun a b => a + b)) := ⟨ok_bin _ _ _, so_iadd mT183 dX5_tick_190⟩
theorem gT183_191 : sG l g D H0 mT 183 191 (s_putf g pI 183 194 4 7) := ⟨ok_putf _ _ _ _ _ _, so_putf mT183 cl4 (k := 7) (by decide) fI rfl dX5_tick_191 q1199 (fs_rf rfl)⟩
theorem gT183_194 : sG l g D H0 mT 183 194 (s_goto 183 309) := ⟨ok_goto _ _, so_goto mT183 dX5_tick_194 (by decide)⟩
theorem gT183_197 : sG l g D H0 mT 183 197 (s_const 183 198 (.int 0)) := ⟨ok_const _ _ _, so_iconst mT183 dX5_tick_197 (by decide)⟩
theorem gT183_198 : sG l g D H0 mT 183 198 (s_store vI 183 199 1) := ⟨ok_store _ _ _ _, so_istore_n mT183 dX5_tick_198 rfl⟩
theorem gT183_199 : sG l g D H0 mT 183 199 (s_load vI 183 200 1) := ⟨ok_load _ _ _ _, so_iload_n mT183 dX5_tick_199 rfl⟩
theorem gT183_200 : sG l g D H0 mT 183 200 (s_load vRf 183 201 0) := ⟨ok_load _ _ _ _, so_aload_n mT183 dX5_tick_200 rfl⟩
theorem gT183_201 : sG l g D H0 mT 183 201 (s_getf 183 204 4 0) := ⟨ok_getf _ _ _ _, so_getf mT183 cl4 (k := 0) (by decide) dX5_tick_201 q1186 (fs_rf rfl)⟩
theorem gT183_204 : sG l g D H0 mT 183 204 (s_callvk 183 207 15 10 [] 1) := ⟨ok_callvk _ _ _ _ _ _, sk_callv (by decide) (so_callV mT183 mo15 (by decide) (t := 10) (C := "java/util/ArrayList") (by decide) rfl rfl dX5_tick_204 q1452 q173 q174 q58)⟩
theorem gT183_207 : sG l g D H0 mT 183 207 (s_icmp 183 210 265 (fun a b => b ≤ a)) := ⟨ok_icmp _ _ _ _, so_icmp_ge mT183 dX5_tick_207 (by decide)⟩
theorem gT183_210 : sG l g D H0 mT 183 210 (s_load vRf 183 211 0) := ⟨ok_load _ _ _ _, so_aload_n mT183 dX5_tick_210 rfl⟩
theorem gT183_211 : sG l g D H0 mT 183 211 (s_getf 183 214 4 0) := ⟨ok_getf _ _ _ _, so_getf mT183 cl4 (k := 0) (by decide) dX5_tick_211 q1186 (fs_rf rfl)⟩
theorem gT183_214 : sG l g D H0 mT 183 214 (s_load vI 183 215 1) := ⟨ok_load _ _ _ _, so_iload_n mT183 dX5_tick_214 rfl⟩
theorem gT183_215 : sG l g D H0 mT 183 215 (s_callvk 183 218 25 10 [0] 2) := ⟨ok_callvk _ _ _ _ _ _, sk_callv (by decide) (so_callV mT183 mo25 (by decide) (t := 10) (C := "java/util/ArrayList") (by decide) rfl rfl dX5_tick_215 q1453 q439 q440 q58)⟩
theorem gT183_218 : sG l g D H0 mT 183 218 (s_cast 183 221 [7]) := ⟨ok_cast _ _ _, so_cast mT183 (T := "HyperVaneModel$Guest") (ts := [7]) (by intro u hu; rw [List.mem_singleton] at hu; subst hu; exact ⟨by decide, Or.inl rfl⟩) dX5_tick_218 q1454⟩
theorem gT183_221 : sG l g D H0 mT 183 221 (s_dup 183 222) := ⟨ok_dup _ _, so_dup mT183 dX5_tick_221⟩
theorem gT183_222 : sG l g D H0 mT 183 222 (s_getf 183 225 7 11) := ⟨ok_getf _ _ _ _, so_getfN mT183 cl7 (k := 11) (by decide) dX5_tick_222 q1294 (fs_rf rfl)⟩
theorem gT183_225 : sG l g D H0 mT 183 225 (s_load vI 183 226 1) := ⟨ok_load _ _ _ _, so_iload_n mT183 dX5_tick_225 rfl⟩
theorem gT183_226 : sG l g D H0 mT 183 226 (s_load vRf 183 227 0) := ⟨ok_load _ _ _ _, so_aload_n mT183 dX5_tick_226 rfl⟩
theorem gT183_227 : sG l g D H0 mT 183 227 (s_getf 183 230 4 3) := ⟨ok_getf _ _ _ _, so_getf mT183 cl4 (k := 3) (by decide) dX5_tick_227 q1192 (fs_rf rfl)⟩
theorem gT183_230 : sG l g D H0 mT 183 230 (s_icmp 183 233 254 (fun a b => a = b)) := ⟨ok_icmp _ _ _ _, so_icmp_eq mT183 dX5_tick_230 (by decide)⟩
theorem gT183_233 : sG l g D H0 mT 183 233 (s_load vRf 183 234 0) := ⟨ok_load _ _ _ _, so_aload_n mT183 dX5_tick_233 rfl⟩
theorem gT183_234 : sG l g D H0 mT 183 234 (s_getf 183 237 4 0) := ⟨ok_getf _ _ _ _, so_getf mT183 cl4 (k := 0) (by decide) dX5_tick_234 q1186 (fs_rf rfl)⟩
theorem gT183_237 : sG l g D H0 mT 183 237 (s_load vI 183 238 1) := ⟨ok_load _ _ _ _, so_iload_n mT183 dX5_tick_237 rfl⟩
theorem gT183_238 : sG l g D H0 mT 183 238 (s_callvk 183 241 25 10 [0] 2) := ⟨ok_callvk _ _ _ _ _ _, sk_callv (by decide) (so_callV mT183 mo25 (by decide) (t := 10) (C := "java/util/ArrayList") (by decide) rfl rfl dX5_tick_238 q1453 q439 q440 q58)⟩
theorem gT183_241 : sG l g D H0 mT 183 241 (s_cast 183 244 [7]) := ⟨ok_cast _ _ _, so_cast mT183 (T := "HyperVaneModel$Guest") (ts := [7]) (by intro u hu; rw [List.mem_singleton] at hu; subst hu; exact ⟨by decide, Or.inl rfl⟩) dX5_tick_241 q1454⟩
theorem gT183_244 : sG l g D H0 mT 183 244 (s_getf 183 247 7 6) := ⟨ok_getf _ _ _ _, so_getfN mT183 cl7 (k := 6) (by decide) dX5_tick_244 q1279 (fs_rf rfl)⟩
theorem gT183_247 : sG l g D H0 mT 183 247 (s_if 183 254 250 (fun a => a = 0)) := ⟨ok_if _ _ _ _, so_if_ne mT183 dX5_tick_247 (by decide)⟩
theorem gT183_250 : sG l g D H0 mT 183 250 (s_const 183 251 (.int 1)) := ⟨ok_const _ _ _, so_iconst mT183 dX5_tick_250 (by decide)⟩
theorem gT183_251 : sG l g D H0 mT 183 251 (s_goto 183 255) := ⟨ok_goto _ _, so_goto mT183 dX5_tick_251 (by decide)⟩
theorem gT183_254 : sG l g D H0 mT 183 254 (s_const 183 255 (.int 0)) := ⟨ok_const _ _ _, so_iconst mT183 dX5_tick_254 (by decide)⟩
theorem gT183_255 : sG l g D H0 mT 183 255 (s_bin 183 256 (fun a b => a + b)) := ⟨ok_bin _ _ _, so_iadd mT183 dX5_tick_255⟩
theorem gT183_256 : sG l g D H0 mT 183 256 (s_putf g pI 183 259 7 11) := ⟨ok_putf _ _ _ _ _ _, so_putfN mT183 cl7 (k := 11) (by decide) fI rfl dX5_tick_256 q1294 (fs_rf rfl)⟩
theorem gT183_259 : sG l g D H0 mT 183 259 (s_iinc 183 262 1 1) := ⟨ok_iinc _ _ _ _, so_iinc mT183 dX5_tick_259 (by decide)⟩
theorem gT183_262 : sG l g D H0 mT 183 262 (s_goto 183 199) := ⟨ok_goto _ _, so_goto mT183 dX5_tick_262 (by decide)⟩
theorem gT183_265 : sG l g D H0 mT 183 265 (s_load vRf 183 266 0) := ⟨ok_load _ _ _ _, so_aload_n mT183 dX5_tick_265 rfl⟩
theorem gT183_266 : sG l g D H0 mT 183 266 (s_getf 183 269 4 0) := ⟨ok_getf _ _ _ _, so_getf mT183 cl4 (k := 0) (by decide) dX5_tick_266 q1186 (fs_rf rfl)⟩
theorem gT183_269 : sG l g D H0 mT 183 269 (s_load vRf 183 270 0) := ⟨ok_load _ _ _ _, so_aload_n mT183 dX5_tick_269 rfl⟩
theorem gT183_270 : sG l g D H0 mT 183 270 (s_getf 183 273 4 3) := ⟨ok_getf _ _ _ _, so_getf mT183 cl4 (k := 3) (by decide) dX5_tick_270 q1192 (fs_rf rfl)⟩
theorem gT183_273 : sG l g D H0 mT 183 273 (s_callvk 183 276 25 10 [0] 2) := ⟨ok_callvk _ _ _ _ _ _, sk_callv (by decide) (so_callV mT183 mo25 (by decide) (t := 10) (C := "java/util/ArrayList") (by decide) rfl rfl dX5_tick_273 q1453 q439 q440 q58)⟩
theorem gT183_276 : sG l g D H0 mT 183 276 (s_cast 183 279 [7]) := ⟨ok_cast _ _ _, so_cast mT183 (T := "HyperVaneModel$Guest") (ts := [7]) (by intro u hu; rw [List.mem_singleton] at hu; subst hu; exact ⟨by decide, Or.inl rfl⟩) dX5_tick_276 q1454⟩
theorem gT183_279 : sG l g D H0 mT 183 279 (s_store vRf 183 280 1) := ⟨ok_store _ _ _ _, so_astore_n mT183 dX5_tick_279 rfl⟩
theorem gT183_280 : sG l g D H0 mT 183 280 (s_load vRf 183 281 1) := ⟨ok_load _ _ _ _, so_aload_n mT183 dX5_tick_280 rfl⟩
theorem gT183_281 : sG l g D H0 mT 183 281 (s_dup 183 282) := ⟨ok_dup _ _, so_dup mT183 dX5_tick_281⟩
theorem gT183_282 : sG l g D H0 mT 183 282 (s_getf 183 285 7 9) := ⟨ok_getf _ _ _ _, so_getfN mT183 cl7 (k := 9) (by decide) dX5_tick_282 q1288 (fs_rf rfl)⟩
theorem gT183_285 : sG l g D H0 mT 183 285 (s_const 183 286 (.int 1)) := ⟨ok_const _ _ _, so_iconst mT183 dX5_tick_285 (by decide)⟩
theorem gT183_286 : sG l g D H0 mT 183 286 (s_bin 183 287 (fun a b => a - b)) := ⟨ok_bin _ _ _, so_isub mT183 dX5_tick_286⟩
theorem gT183_287 : sG l g D H0 mT 183 287 (s_putf g pI 183 290 7 9) := ⟨ok_putf _ _ _ _ _ _, so_putfN mT183 cl7 (k := 9) (by decide) fI rfl dX5_tick_287 q1288 (fs_rf rfl)⟩
theorem gT183_290 : sG l g D H0 mT 183 290 (s_load vRf 183 291 0) := ⟨ok_load _ _ _ _, so_aload_n mT183 dX5_tick_290 rfl⟩
theorem gT183_291 : sG l g D H0 mT 183 291 (s_load vRf 183 292 1) := ⟨ok_load _ _ _ _, so_aload_n mT183 dX5_tick_291 rfl⟩
theorem gT183_292 : sG l g D H0 mT 183 292 (s_load vRf 183 293 1) := ⟨ok_load _ _ _ _, so_aload_n mT183 dX5_tick_292 rfl⟩
theorem gT183_293 : sG l g D H0 mT 183 293 (s_getf 183 296 7 1) := ⟨ok_getf _ _ _ _, so_getfN mT183 cl7 (k := 1) (by decide) dX5_tick_293 q1264 (fs_rf rfl)⟩
theorem gT183_296 : sG l g D H0 mT 183 296 (s_load vRf 183 297 1) := ⟨ok_load _ _ _ _, so_aload_n mT183 dX5_tick_296 rfl⟩
theorem gT183_297 : sG l g D H0 mT 183 297 (s_getf 183 300 7 2) := ⟨ok_getf _ _ _ _, so_getfN mT183 cl7 (k := 2) (by decide) dX5_tick_297 q1267 (fs_rf rfl)⟩
theorem gT183_300 : sG l g D H0 mT 183 300 (s_callvk 183 303 25 10 [0] 2) := ⟨ok_callvk _ _ _ _ _ _, sk_callv (by decide) (so_callV mT183 mo25 (by decide) (t := 10) (C := "java/util/ArrayList") (by decide) rfl rfl dX5_tick_300 q1453 q439 q440 q58)⟩
theorem gT183_303 : sG l g D H0 mT 183 303 (s_cast 183 306 [20]) := ⟨ok_cast _ _ _, so_cast mT183 (T := "[I") (ts := [20]) (by intro u hu; rw [List.mem_singleton] at hu; subst hu; exact ⟨by decide, Or.inl rfl⟩) dX5_tick_303 q1522⟩
theorem gT183_306 : sG l g D H0 mT 183 306 (s_callvk 183 309 186 4 [1, 1] 3) := ⟨ok_callvk _ _ _ _ _ _, sk_callv (by decide) (so_callV mT183 mo186 (by decide) (t := 4) (C := "HyperVaneModel$World") (by decide) rfl rfl dX5_tick_306 q1523 q1525 qs37 q67)⟩
theorem gT183_309 : sG l g D H0 mT 183 309 (s_load vRf 183 310 0) := ⟨ok_load _ _ _ _, so_aload_n mT183 dX5_tick_309 rfl⟩
theorem gT183_310 : sG l g D H0 mT 183 310 (s_callvk 183 313 190 4 [] 3) := ⟨ok_callvk _ _ _ _ _ _, sk_callv (by decide) (so_callV mT183 mo190 (by decide) (t := 4) (C := "HyperVaneModel$World") (by decide) rfl rfl dX5_tick_310 q1551 q1553 qs42 q67)⟩
theorem gT183_313 : sG l g D H0 mT 183 313 (s_const 183 314 (.int 0)) := ⟨ok_const _ _ _, so_iconst mT183 dX5_tick_313 (by decide)⟩
theorem gT183_314 : sG l g D H0 mT 183 314 (s_store vI 183 315 1) := ⟨ok_store _ _ _ _, so_istore_n mT183 dX5_tick_314 rfl⟩
theorem gT183_315 : sG l g D H0 mT 183 315 (s_load vI 183 316 1) := ⟨ok_load _ _ _ _, so_iload_n mT183 dX5_tick_315 rfl⟩
theorem gT183_316 : sG l g D H0 mT 183 316 (s_load vRf 183 317 0) := ⟨ok_load _ _ _ _, so_aload_n mT183 dX5_tick_316 rfl⟩
theorem gT183_317 : sG l g D H0 mT 183 317 (s_getf 183 320 4 0) := ⟨ok_getf _ _ _ _, so_getf mT183 cl4 (k := 0) (by decide) dX5_tick_317 q1186 (fs_rf rfl)⟩
theorem gT183_320 : sG l g D H0 mT 183 320 (s_callvk 183 323 15 10 [] 1) := ⟨ok_callvk _ _ _ _ _ _, sk_callv (by decide) (so_callV mT183 mo15 (by decide) (t := 10) (C := "java/util/ArrayList") (by decide) rfl rfl dX5_tick_320 q1452 q173 q174 q58)⟩
theorem gT183_323 : sG l g D H0 mT 183 323 (s_icmp 183 326 354 (fun a b => b ≤ a)) := ⟨ok_icmp _ _ _ _, so_icmp_ge mT183 dX5_tick_323 (by decide)⟩
theorem gT183_326 : sG l g D H0 mT 183 326 (s_load vRf 183 327 0) := ⟨ok_load _ _ _ _, so_aload_n mT183 dX5_tick_326 rfl⟩
theorem gT183_327 : sG l g D H0 mT 183 327 (s_getf 183 330 4 0) := ⟨ok_getf _ _ _ _, so_getf mT183 cl4 (k := 0) (by decide) dX5_tick_327 q1186 (fs_rf rfl)⟩
theorem gT183_330 : sG l g D H0 mT 183 330 (s_load vI 183 331 1) := ⟨ok_load _ _ _ _, so_iload_n mT183 dX5_tick_330 rfl⟩
theorem gT183_331 : sG l g D H0 mT 183 331 (s_callvk 183 334 25 10 [0] 2) := ⟨ok_callvk _ _ _ _ _ _, sk_callv (by decide) (so_callV mT183 mo25 (by decide) (t := 10) (C := "java/util/ArrayList") (by decide) rfl rfl dX5_tick_331 q1453 q439 q440 q58)⟩
theorem gT183_334 : sG l g D H0 mT 183 334 (s_cast 183 337 [7]) := ⟨ok_cast _ _ _, so_cast mT183 (T := "HyperVaneModel$Guest") (ts := [7]) (by intro u hu; rw [List.mem_singleton] at hu; subst hu; exact ⟨by decide, Or.inl rfl⟩) dX5_tick_334 q1454⟩
theorem gT183_337 : sG l g D H0 mT 183 337 (s_getf 183 340 7 18) := ⟨ok_getf _ _ _ _, so_getfN mT183 cl7 (k := 18) (by decide) dX5_tick_337 q1315 (fs_rf rfl)⟩
theorem gT183_340 : sG l g D H0 mT 183 340 (s_if 183 343 348 (fun a => a = 0)) := ⟨ok_if _ _ _ _, so_if_eq mT183 dX5_tick_340 (by decide)⟩
theorem gT183_343 : sG l g D H0 mT 183 343 (s_load vRf 183 344 0) := ⟨ok_load _ _ _ _, so_aload_n mT183 dX5_tick_343 rfl⟩
theorem gT183_344 : sG l g D H0 mT 183 344 (s_load vI 183 345 1) := ⟨ok_load _ _ _ _, so_iload_n mT183 dX5_tick_344 rfl⟩
theorem gT183_345 : sG l g D H0 mT 183 345 (s_callvk 183 348 191 4 [0] 5) := ⟨ok_callvk _ _ _ _ _ _, sk_callv (by decide) (so_callV mT183 mo191 (by decide) (t := 4) (C := "HyperVaneModel$World") (by decide) rfl rfl dX5_tick_345 q1555 q1557 qs43 q67)⟩
theorem gT183_348 : sG l g D H0 mT 183 348 (s_iinc 183 351 1 1) := ⟨ok_iinc _ _ _ _, so_iinc mT183 dX5_tick_348 (by decide)⟩
theorem gT183_351 : sG l g D H0 mT 183 351 (s_goto 183 315) := ⟨ok_goto _ _, so_goto mT183 dX5_tick_351 (by decide)⟩
theorem gT183_354 : sG l g D H0 mT 183 354 (s_vret) := ⟨ok_vret, so_vret mT183 dX5_tick_354⟩
theorem gT183 (pc : Nat) : sG l g D H0 mT 183 pc (tT183 g pc) := sG_cond (sG_cond (sG_cond (sG_cond (sG_cond (sG_cond (sG_cond (sG_leaf gT183_0) (sG_leaf gT183_1)) (sG_cond (sG_leaf gT183_2) (sG_cond (sG_leaf gT183_5) (sG_leaf gT183_6)))) (sG_cond (sG_cond (sG_leaf gT183_7) (sG_leaf gT183_10)) (sG_cond (sG_leaf gT183_11) (sG_cond (sG_leaf gT183_14) (sG_leaf gT183_17))))) (sG_cond (sG_cond (sG_cond (sG_leaf gT183_18) (sG_leaf gT183_19)) (sG_cond (sG_leaf gT183_24) (sG_cond (sG_leaf gT183_27) (sG_leaf gT183_28)))) (sG_cond (sG_cond (sG_leaf gT183_33) (sG_cond (sG_leaf gT183_36) (sG_leaf gT183_37))) (sG_cond (sG_leaf gT183_38) (sG_cond (sG_leaf gT183_41) (sG_leaf gT183_42)))))) (sG_cond (sG_cond (sG_cond (sG_cond (sG_leaf gT183_45) (sG_leaf gT183_46)) (sG_cond (sG_leaf gT183_49) (sG_cond (sG_leaf gT183_50) (sG_leaf gT183_53)))) (sG_cond (sG_cond (sG_leaf gT183_54) (sG_cond (sG_leaf gT183_55) (sG_leaf gT183_58))) (sG_cond (sG_leaf gT183_59) (sG_cond (sG_leaf gT183_60) (sG_leaf gT183_63))))) (sG_cond (sG_cond (sG_cond (sG_leaf gT183_64) (sG_leaf gT183_67)) (sG_cond (sG_leaf gT183_68) (sG_cond (sG_leaf gT183_71) (sG_leaf gT183_72)))) (sG_cond (sG_cond (sG_leaf gT183_75) (sG_cond (sG_leaf gT183_76) (sG_leaf gT183_79))) (sG_cond (sG_leaf gT183_82) (sG_cond (sG_leaf gT183_83) (sG_leaf gT183_84))))))) (sG_cond (sG_cond (sG_cond (sG_cond (sG_cond (sG_leaf gT183_87) (sG_leaf gT183_90)) (sG_cond (sG_leaf gT183_91) (sG_cond (sG_leaf gT183_94) (sG_leaf gT183_97)))) (sG_cond (sG_cond (sG_leaf gT183_98) (sG_leaf gT183_101)) (sG_cond (sG_leaf gT183_102) (sG_cond (sG_leaf gT183_105) (sG_leaf gT183_106))))) (sG_cond (sG_cond (sG_cond (sG_leaf gT183_109) (sG_leaf gT183_112)) (sG_cond (sG_leaf gT183_113) (sG_cond (sG_leaf gT183_114) (sG_leaf gT183_119)))) (sG_cond (sG_cond (sG_leaf gT183_122) (sG_cond (sG_leaf gT183_123) (sG_leaf gT183_128))) (sG_cond (sG_leaf gT183_131) (sG_cond (sG_leaf gT183_132) (sG_leaf gT183_133)))))) (sG_cond (sG_cond (sG_cond (sG_cond (sG_leaf gT183_136) (sG_leaf gT183_137)) (sG_cond (sG_leaf gT183_140) (sG_cond (sG_leaf gT183_141) (sG_leaf gT183_143)))) (sG_cond (sG_cond (sG_leaf gT183_144) (sG_cond (sG_leaf gT183_147) (sG_leaf gT183_148))) (sG_cond (sG_leaf gT183_149) (sG_cond (sG_leaf gT183_152) (sG_leaf gT183_153))))) (sG_cond (sG_cond (sG_cond (sG_leaf gT183_154) (sG_leaf gT183_157)) (sG_cond (sG_leaf gT183_158) (sG_cond (sG_leaf gT183_159) (sG_leaf gT183_162)))) (sG_cond (sG_cond (sG_leaf gT183_165) (sG_cond (sG_leaf gT183_168) (sG_leaf gT183_169))) (sG_cond (sG_leaf gT183_170) (sG_cond (sG_leaf gT183_173) (sG_leaf gT183_176)))))))) (sG_cond (sG_cond (sG_cond (sG_cond (sG_cond (sG_cond (sG_leaf gT183_177) (sG_leaf gT183_180)) (sG_cond (sG_leaf gT183_181) (sG_cond (sG_leaf gT183_184) (sG_leaf gT183_185)))) (sG_cond (sG_cond (sG_leaf gT183_186) (sG_leaf gT183_189)) (sG_cond (sG_leaf gT183_190) (sG_cond (sG_leaf gT183_191) (sG_leaf gT183_194))))) (sG_cond (sG_cond (sG_cond (sG_leaf gT183_197) (sG_leaf gT183_198)) (sG_cond (sG_leaf gT183_199) (sG_cond (sG_leaf gT183_200) (sG_leaf gT183_201)))) (sG_cond (sG_cond (sG_leaf gT183_204) (sG_cond (sG_leaf gT183_207) (sG_leaf gT183_210))) (sG_cond (sG_leaf gT183_211) (sG_cond (sG_leaf gT183_214) (sG_leaf gT183_215)))))) (sG_cond (sG_cond (sG_cond (sG_cond (sG_leaf gT183_218) (sG_leaf gT183_221)) (sG_cond (sG_leaf gT183_222) (sG_cond (sG_leaf gT183_225) (sG_leaf gT183_226)))) (sG_cond (sG_cond (sG_leaf gT183_227) (sG_cond (sG_leaf gT183_230) (sG_leaf gT183_233))) (sG_cond (sG_leaf gT183_234) (sG_cond (sG_leaf gT183_237) (sG_leaf gT183_238))))) (sG_cond (sG_cond (sG_cond (sG_leaf gT183_241) (sG_leaf gT183_244)) (sG_cond (sG_leaf gT183_247) (sG_cond (sG_leaf gT183_250) (sG_leaf gT183_251)))) (sG_cond (sG_cond (sG_leaf gT183_254) (sG_cond (sG_leaf gT183_255) (sG_leaf gT183_256))) (sG_cond (sG_leaf gT183_259) (sG_cond (sG_leaf gT183_262) (sG_leaf gT183_265))))))) (sG_cond (sG_cond (sG_cond (sG_cond (sG_cond (sG_leaf gT183_266) (sG_leaf gT183_269)) (sG_cond (sG_leaf gT183_270) (sG_cond (sG_leaf gT183_273) (sG_leaf gT183_276)))) (sG_cond (sG_cond (sG_leaf gT183_279) (sG_leaf gT183_280)) (sG_cond (sG_leaf gT183_281) (sG_cond (sG_leaf gT183_282) (sG_leaf gT183_285))))) (sG_cond (sG_cond (sG_cond (sG_leaf gT183_286) (sG_leaf gT183_287)) (sG_cond (sG_leaf gT183_290) (sG_cond (sG_leaf gT183_291) (sG_leaf gT183_292)))) (sG_cond (sG_cond (sG_leaf gT183_293) (sG_cond (sG_leaf gT183_296) (sG_leaf gT183_297))) (sG_cond (sG_leaf gT183_300) (sG_cond (sG_leaf gT183_303) (sG_leaf gT183_306)))))) (sG_cond (sG_cond (sG_cond (sG_cond (sG_leaf gT183_309) (sG_leaf gT183_310)) (sG_cond (sG_leaf gT183_313) (sG_cond (sG_leaf gT183_314) (sG_leaf gT183_315)))) (sG_cond (sG_cond (sG_leaf gT183_316) (sG_cond (sG_leaf gT183_317) (sG_leaf gT183_320))) (sG_cond (sG_leaf gT183_323) (sG_cond (sG_leaf gT183_326) (sG_leaf gT183_327))))) (sG_cond (sG_cond (sG_cond (sG_leaf gT183_330) (sG_leaf gT183_331)) (sG_cond (sG_leaf gT183_334) (sG_cond (sG_leaf gT183_337) (sG_leaf gT183_340)))) (sG_cond (sG_cond (sG_leaf gT183_343) (sG_cond (sG_leaf gT183_344) (sG_leaf gT183_345))) (sG_cond (sG_leaf gT183_348) (sG_cond (sG_leaf gT183_351) (sG_leaf gT183_354))))))))
theorem gT184_0 : sG l g D H0 mT 184 0 (s_const 184 1 (.int (-1))) := ⟨ok_const _ _ _, so_iconst mT184 dX5_mostOf_0 (by decide)⟩
theorem gT184_1 : sG l g D H0 mT 184 1 (s_store vI 184 2 1) := ⟨ok_store _ _ _ _, so_istore_n mT184 dX5_mostOf_1 rfl⟩
theorem gT184_2 : sG l g D H0 mT 184 2 (s_load vRf 184 3 0) := ⟨ok_load _ _ _ _, so_aload_n mT184 dX5_mostOf_2 rfl⟩
theorem gT184_3 : sG l g D H0 mT 184 3 (s_getf 184 6 4 0) := ⟨ok_getf _ _ _ _, so_getf mT184 cl4 (k := 0) (by decide) dX5_mostOf_3 q1186 (fs_rf rfl)⟩
theorem gT184_6 : sG l g D H0 mT 184 6 (s_callvk 184 9 22 10 [] 1) := ⟨ok_callvk _ _ _ _ _ _, sk_callv (by decide) (so_callV mT184 mo22 (by decide) (t := 10) (C := "java/util/ArrayList") (by decide) rfl rfl dX5_mostOf_6 q1503 q303 q304 q58)⟩
theorem gT184_9 : sG l g D H0 mT 184 9 (s_store vRf 184 10 2) := ⟨ok_store _ _ _ _, so_astore_n mT184 dX5_mostOf_9 rfl⟩
theorem gT184_10 : sG l g D H0 mT 184 10 (s_load vRf 184 11 2) := ⟨ok_load _ _ _ _, so_aload_n mT184 dX5_mostOf_10 rfl⟩
theorem gT184_11 : sG l g D H0 mT 184 11 (s_callvk 184 16 3 11 [] 1) := ⟨ok_callvk _ _ _ _ _ _, sk_callv (by decide) (so_callF mT184 mo3 (by decide) (t := 11) (C := "java/util/ArrayList$Itr") (by decide) rfl (by decide +kernel) ⟨by decide, by decide, by decide +kernel⟩ dX5_mostOf_11 q1505 q332 q330 q80)⟩
theorem gT184_16 : sG l g D H0 mT 184 16 (s_if 184 19 48 (fun a => a = 0)) := ⟨ok_if _ _ _ _, so_if_eq mT184 dX5_mostOf_16 (by decide)⟩
theorem gT184_19 : sG l g D H0 mT 184 19 (s_load vRf 184 20 2) := ⟨ok_load _ _ _ _, so_aload_n mT184 dX5_mostOf_19 rfl⟩
theorem gT184_20 : sG l g D H0 mT 184 20 (s_callvk 184 25 4 11 [] 3) := ⟨ok_callvk _ _ _ _ _ _, sk_callv (by decide) (so_callF mT184 mo4 (by decide) (t := 11) (C := "java/util/ArrayList$Itr") (by decide) rfl (by decide +kernel) ⟨by decide, by decide, by decide +kernel⟩ dX5_mostOf_20 q1507 q341 q339 q80)⟩
theorem gT184_25 : sG l g D H0 mT 184 25 (s_cast 184 28 [7]) := ⟨ok_cast _ _ _, so_cast mT184 (T := "HyperVaneModel$Guest") (ts := [7]) (by intro u hu; rw [List.mem_singleton] at hu; subst hu; exact ⟨by decide, Or.inl rfl⟩) dX5_mostOf_25 q1454⟩
theorem gT184_28 : sG l g D H0 mT 184 28 (s_store vRf 184 29 3) := ⟨ok_store _ _ _ _, so_astore_n mT184 dX5_mostOf_28 rfl⟩
theorem gT184_29 : sG l g D H0 mT 184 29 (s_load vRf 184 30 3) := ⟨ok_load _ _ _ _, so_aload_n mT184 dX5_mostOf_29 rfl⟩
theorem gT184_30 : sG l g D H0 mT 184 30 (s_getf 184 33 7 6) := ⟨ok_getf _ _ _ _, so_getfN mT184 cl7 (k := 6) (by decide) dX5_mostOf_30 q1279 (fs_rf rfl)⟩
theorem gT184_33 : sG l g D H0 mT 184 33 (s_if 184 45 36 (fun a => a = 0)) := ⟨ok_if _ _ _ _, so_if_ne mT184 dX5_mostOf_33 (by decide)⟩
theorem gT184_36 : sG l g D H0 mT 184 36 (s_load vI 184 37 1) := ⟨ok_load _ _ _ _, so_iload_n mT184 dX5_mostOf_36 rfl⟩
theorem gT184_37 : sG l g D H0 mT 184 37 (s_load vRf 184 38 3) := ⟨ok_load _ _ _ _, so_aload_n mT184 dX5_mostOf_37 rfl⟩
theorem gT184_38 : sG l g D H0 mT 184 38 (s_getf 184 41 7 9) := ⟨ok_getf _ _ _ _, so_getfN mT184 cl7 (k := 9) (by decide) dX5_mostOf_38 q1288 (fs_rf rfl)⟩
theorem gT184_41 : sG l g D H0 mT 184 41 (s_callk 184 44 34 [0, 0] 2) := ⟨ok_callk _ _ _ _ _, sk_call (by decide) (so_callS mT184 mo34 (by decide) dX5_mostOf_41 q1516 q247 q64)⟩
theorem gT184_44 : sG l g D H0 mT 184 44 (s_store vI 184 45 1) := ⟨ok_store _ _ _ _, so_istore_n mT184 dX5_mostOf_44 rfl⟩
theorem gT184_45 : sG l g D H0 mT 184 45 (s_goto 184 10) := ⟨ok_goto _ _, so_goto mT184 dX5_mostOf_45 (by decide)⟩
theorem gT184_48 : sG l g D H0 mT 184 48 (s_load vI 184 49 1) := ⟨ok_load _ _ _ _, so_iload_n mT184 dX5_mostOf_48 rfl⟩
theorem gT184_49 : sG l g D H0 mT 184 49 (s_ret pI) := ⟨ok_ret _, so_iret mT184 dX5_mostOf_49⟩
theorem gT184 (pc : Nat) : sG l g D H0 mT 184 pc (tT184 g pc) := sG_cond (sG_cond (sG_cond (sG_cond (sG_leaf gT184_0) (sG_cond (sG_leaf gT184_1) (sG_leaf gT184_2))) (sG_cond (sG_leaf gT184_3) (sG_cond (sG_leaf gT184_6) (sG_leaf gT184_9)))) (sG_cond (sG_cond (sG_leaf gT184_10) (sG_cond (sG_leaf gT184_11) (sG_leaf gT184_16))) (sG_cond (sG_leaf gT184_19) (sG_cond (sG_leaf gT184_20) (sG_leaf gT184_25))))) (sG_cond (sG_cond (sG_cond (sG_leaf gT184_28) (sG_cond (sG_leaf gT184_29) (sG_leaf gT184_30))) (sG_cond (sG_leaf gT184_33) (sG_cond (sG_leaf gT184_36) (sG_leaf gT184_37)))) (sG_cond (sG_cond (sG_leaf gT184_38) (sG_cond (sG_leaf gT184_41) (sG_leaf gT184_44))) (sG_cond (sG_leaf gT184_45) (sG_cond (sG_leaf gT184_48) (sG_leaf gT184_49)))))
theorem gT185_0 : sG l g D H0 mT 185 0 (s_load vRf 185 1 0) := ⟨ok_load _ _ _ _, so_aload_n mT185 dX5_next_0 rfl⟩
theorem gT185_1 : sG l g D H0 mT 185 1 (s_callvk 185 4 184 4 [] 4) := ⟨ok_callvk _ _ _ _ _ _, sk_callv (by decide) (so_callV mT185 mo184 (by decide) (t := 4) (C := "HyperVaneModel$World") (by decide) rfl rfl dX5_next_1 q1512 q1514 qs35 q67)⟩
theorem gT185_4 : sG l g D H0 mT 185 4 (s_store vI 185 5 1) := ⟨ok_store _ _ _ _, so_istore_n mT185 dX5_next_4 rfl⟩
theorem gT185_5 : sG l g D H0 mT 185 5 (s_const 185 6 (.int 0)) := ⟨ok_const _ _ _, so_iconst mT185 dX5_next_5 (by decide)⟩
theorem gT185_6 : sG l g D H0 mT 185 6 (s_store vI 185 7 2) := ⟨ok_store _ _ _ _, so_istore_n mT185 dX5_next_6 rfl⟩
theorem gT185_7 : sG l g D H0 mT 185 7 (s_load vI 185 8 2) := ⟨ok_load _ _ _ _, so_iload_n mT185 dX5_next_7 rfl⟩
theorem gT185_8 : sG l g D H0 mT 185 8 (s_load vRf 185 9 0) := ⟨ok_load _ _ _ _, so_aload_n mT185 dX5_next_8 rfl⟩
theorem gT185_9 : sG l g D H0 mT 185 9 (s_getf 185 12 4 0) := ⟨ok_getf _ _ _ _, so_getf mT185 cl4 (k := 0) (by decide) dX5_next_9 q1186 (fs_rf rfl)⟩
theorem gT185_12 : sG l g D H0 mT 185 12 (s_callvk 185 15 15 10 [] 1) := ⟨ok_callvk _ _ _ _ _ _, sk_callv (by decide) (so_callV mT185 mo15 (by decide) (t := 10) (C := "java/util/ArrayList") (by decide) rfl rfl dX5_next_12 q1452 q173 q174 q58)⟩
theorem gT185_15 : sG l g D H0 mT 185 15 (s_icmp 185 18 61 (fun a b => b ≤ a)) := ⟨ok_icmp _ _ _ _, so_icmp_ge mT185 dX5_next_15 (by decide)⟩
theorem gT185_18 : sG l g D H0 mT 185 18 (s_load vRf 185 19 0) := ⟨ok_load _ _ _ _, so_aload_n mT185 dX5_next_18 rfl⟩
theorem gT185_19 : sG l g D H0 mT 185 19 (s_getf 185 22 4 0) := ⟨ok_getf _ _ _ _, so_getf mT185 cl4 (k := 0) (by decide) dX5_next_19 q1186 (fs_rf rfl)⟩
theorem gT185_22 : sG l g D H0 mT 185 22 (s_load vI 185 23 2) := ⟨ok_load _ _ _ _, so_iload_n mT185 dX5_next_22 rfl⟩
theorem gT185_23 : sG l g D H0 mT 185 23 (s_callvk 185 26 25 10 [0] 2) := ⟨ok_callvk _ _ _ _ _ _, sk_callv (by decide) (so_callV mT185 mo25 (by decide) (t := 10) (C := "java/util/ArrayList") (by decide) rfl rfl dX5_next_23 q1453 q439 q440 q58)⟩
theorem gT185_26 : sG l g D H0 mT 185 26 (s_cast 185 29 [7]) := ⟨ok_cast _ _ _, so_cast mT185 (T := "HyperVaneModel$Guest") (ts := [7]) (by intro u hu; rw [List.mem_singleton] at hu; subst hu; exact ⟨by decide, Or.inl rfl⟩) dX5_next_26 q1454⟩
theorem gT185_29 : sG l g D H0 mT 185 29 (s_getf 185 32 7 6) := ⟨ok_getf _ _ _ _, so_getfN mT185 cl7 (k := 6) (by decide) dX5_next_29 q1279 (fs_rf rfl)⟩
theorem gT185_32 : sG l g D H0 mT 185 32 (s_if 185 55 35 (fun a => a = 0)) := ⟨ok_if _ _ _ _, so_if_ne mT185 dX5_next_32 (by decide)⟩
theorem gT185_35 : sG l g D H0 mT 185 35 (s_load vRf 185 36 0) := ⟨ok_load _ _ _ _, so_aload_n mT185 dX5_next_35 rfl⟩
theorem gT185_36 : sG l g D H0 mT 185 36 (s_getf 185 39 4 0) := ⟨ok_getf _ _ _ _, so_getf mT185 cl4 (k := 0) (by decide) dX5_next_36 q1186 (fs_rf rfl)⟩
theorem gT185_39 : sG l g D H0 mT 185 39 (s_load vI 185 40 2) := ⟨ok_load _ _ _ _, so_iload_n mT185 dX5_next_39 rfl⟩
theorem gT185_40 : sG l g D H0 mT 185 40 (s_callvk 185 43 25 10 [0] 2) := ⟨ok_callvk _ _ _ _ _ _, sk_callv (by decide) (so_callV mT185 mo25 (by decide) (t := 10) (C := "java/util/ArrayList") (by decide) rfl rfl dX5_next_40 q1453 q439 q440 q58)⟩
theorem gT185_43 : sG l g D H0 mT 185 43 (s_cast 185 46 [7]) := ⟨ok_cast _ _ _, so_cast mT185 (T := "HyperVaneModel$Guest") (ts := [7]) (by intro u hu; rw [List.mem_singleton] at hu; subst hu; exact ⟨by decide, Or.inl rfl⟩) dX5_next_43 q1454⟩
theorem gT185_46 : sG l g D H0 mT 185 46 (s_getf 185 49 7 9) := ⟨ok_getf _ _ _ _, so_getfN mT185 cl7 (k := 9) (by decide) dX5_next_46 q1288 (fs_rf rfl)⟩
theorem gT185_49 : sG l g D H0 mT 185 49 (s_load vI 185 50 1) := ⟨ok_load _ _ _ _, so_iload_n mT185 dX5_next_49 rfl⟩
theorem gT185_50 : sG l g D H0 mT 185 50 (s_icmp 185 55 53 (fun a b => a = b)) := ⟨ok_icmp _ _ _ _, so_icmp_ne mT185 dX5_next_50 (by decide)⟩
theorem gT185_53 : sG l g D H0 mT 185 53 (s_load vI 185 54 2) := ⟨ok_load _ _ _ _, so_iload_n mT185 dX5_next_53 rfl⟩
theorem gT185_54 : sG l g D H0 mT 185 54 (s_ret pI) := ⟨ok_ret _, so_iret mT185 dX5_next_54⟩
theorem gT185_55 : sG l g D H0 mT 185 55 (s_iinc 185 58 2 1) := ⟨ok_iinc _ _ _ _, so_iinc mT185 dX5_next_55 (by decide)⟩
theorem gT185_58 : sG l g D H0 mT 185 58 (s_goto 185 7) := ⟨ok_goto _ _, so_goto mT185 dX5_next_58 (by decide)⟩
theorem gT185_61 : sG l g D H0 mT 185 61 (s_const 185 62 (.int (-1))) := ⟨ok_const _ _ _, so_iconst mT185 dX5_next_61 (by decide)⟩
theorem gT185_62 : sG l g D H0 mT 185 62 (s_ret pI) := ⟨ok_ret _, so_iret mT185 dX5_next_62⟩
theorem gT185 (pc : Nat) : sG l g D H0 mT 185 pc (tT185 g pc) := sG_cond (sG_cond (sG_cond (sG_cond (sG_leaf gT185_0) (sG_cond (sG_leaf gT185_1) (sG_leaf gT185_4))) (sG_cond (sG_cond (sG_leaf gT185_5) (sG_leaf gT185_6)) (sG_cond (sG_leaf gT185_7) (sG_leaf gT185_8)))) (sG_cond (sG_cond (sG_cond (sG_leaf gT185_9) (sG_leaf gT185_12)) (sG_cond (sG_leaf gT185_15) (sG_leaf gT185_18))) (sG_cond (sG_cond (sG_leaf gT185_19) (sG_leaf gT185_22)) (sG_cond (sG_leaf gT185_23) (sG_leaf gT185_26))))) (sG_cond (sG_cond (sG_cond (sG_cond (sG_leaf gT185_29) (sG_leaf gT185_32)) (sG_cond (sG_leaf gT185_35) (sG_leaf gT185_36))) (sG_cond (sG_cond (sG_leaf gT185_39) (sG_leaf gT185_40)) (sG_cond (sG_leaf gT185_43) (sG_leaf gT185_46)))) (sG_cond (sG_cond (sG_cond (sG_leaf gT185_49) (sG_leaf gT185_50)) (sG_cond (sG_leaf gT185_53) (sG_leaf gT185_54))) (sG_cond (sG_cond (sG_leaf gT185_55) (sG_leaf gT185_58)) (sG_cond (sG_leaf gT185_61) (sG_leaf gT185_62)))))
theorem gT186_0 : sG l g D H0 mT 186 0 (s_load vRf 186 1 2) := ⟨ok_load _ _ _ _, so_aload_n mT186 dX5_does_0 rfl⟩
theorem gT186_1 : sG l g D H0 mT 186 1 (s_const 186 2 (.int 0)) := ⟨ok_const _ _ _, so_iconst mT186 dX5_does_1 (by decide)⟩
theorem gT186_2 : sG l g D H0 mT 186 2 (s_ald 186 3 20) := ⟨ok_ald _ _ _, so_iald mT186 a20 dX5_does_2⟩
theorem gT186_3 : sG l g D H0 mT 186 3 (s_tsw 186 (tswf 1 147 [40, 40, 47, 53, 109, 132])) := ⟨ok_tsw _ _, so_tsw mT186 dX5_does_3 (by decide) (by decide) (by decide)⟩
theorem gT186_40 : sG l g D H0 mT 186 40 (s_load vRf 186 41 0) := ⟨ok_load _ _ _ _, so_aload_n mT186 dX5_does_40 rfl⟩
theorem gT186_41 : sG l g D H0 mT 186 41 (s_load vRf 186 42 1) := ⟨ok_load _ _ _ _, so_aload_n mT186 dX5_does_41 rfl⟩
theorem gT186_42 : sG l g D H0 mT 186 42 (s_load vRf 186 43 2) := ⟨ok_load _ _ _ _, so_aload_n mT186 dX5_does_42 rfl⟩
theorem gT186_43 : sG l g D H0 mT 186 43 (s_callvk 186 46 187 4 [1, 1] 6) := ⟨ok_callvk _ _ _ _ _ _, sk_callv (by decide) (so_callV mT186 mo187 (by decide) (t := 4) (C := "HyperVaneModel$World") (by decide) rfl rfl dX5_does_43 q1527 q1529 qs38 q67)⟩
theorem gT186_46 : sG l g D H0 mT 186 46 (s_vret) := ⟨ok_vret, so_vret mT186 dX5_does_46⟩
theorem gT186_47 : sG l g D H0 mT 186 47 (s_load vRf 186 48 0) := ⟨ok_load _ _ _ _, so_aload_n mT186 dX5_does_47 rfl⟩
theorem gT186_48 : sG l g D H0 mT 186 48 (s_load vRf 186 49 1) := ⟨ok_load _ _ _ _, so_aload_n mT186 dX5_does_48 rfl⟩
theorem gT186_49 : sG l g D H0 mT 186 49 (s_callvk 186 52 189 4 [1] 2) := ⟨ok_callvk _ _ _ _ _ _, sk_callv (by decide) (so_callV mT186 mo189 (by decide) (t := 4) (C := "HyperVaneModel$World") (by decide) rfl rfl dX5_does_49 q1541 q1543 qs40 q67)⟩
theorem gT186_52 : sG l g D H0 mT 186 52 (s_vret) := ⟨ok_vret, so_vret mT186 dX5_does_52⟩
theorem gT186_53 : sG l g D H0 mT 186 53 (s_load vRf 186 54 1) := ⟨ok_load _ _ _ _, so_aload_n mT186 dX5_does_53 rfl⟩
theorem gT186_54 : sG l g D H0 mT 186 54 (s_getf 186 57 7 5) := ⟨ok_getf _ _ _ _, so_getfN mT186 cl7 (k := 5) (by decide) dX5_does_54 q1276 (fs_rf rfl)⟩
theorem gT186_57 : sG l g D H0 mT 186 57 (s_if 186 76 60 (fun a => a = 0)) := ⟨ok_if _ _ _ _, so_if_ne mT186 dX5_does_57 (by decide)⟩
theorem gT186_60 : sG l g D H0 mT 186 60 (s_load vRf 186 61 1) := ⟨ok_load _ _ _ _, so_aload_n mT186 dX5_does_60 rfl⟩
theorem gT186_61 : sG l g D H0 mT 186 61 (s_getf 186 64 7 17) := ⟨ok_getf _ _ _ _, so_getfN mT186 cl7 (k := 17) (by decide) dX5_does_61 q1312 (fs_rf rfl)⟩
theorem gT186_64 : sG l g D H0 mT 186 64 (s_const 186 65 (.int 2)) := ⟨ok_const _ _ _, so_iconst mT186 dX5_does_64 (by decide)⟩
theorem gT186_65 : sG l g D H0 mT 186 65 (s_dup2 186 66) := ⟨ok_dup2 _ _, so_dup2 mT186 dX5_does_65⟩
theorem gT186_66 : sG l g D H0 mT 186 66 (s_ald 186 67 20) := ⟨ok_ald _ _ _, so_iald mT186 a20 dX5_does_66⟩
theorem gT186_67 : sG l g D H0 mT 186 67 (s_const 186 68 (.int 1)) := ⟨ok_const _ _ _, so_iconst mT186 dX5_does_67 (by decide)⟩
theorem gT186_68 : sG l g D H0 mT 186 68 (s_bin 186 69 (fun a b => a + b)) := ⟨ok_bin _ _ _, so_iadd mT186 dX5_does_68⟩
theorem gT186_69 : sG l g D H0 mT 186 69 (s_ast g (fun _ v => vI v = true) 186 70 20) := ⟨ok_ast _ _ _ _ _, so_iast mT186 a20 dX5_does_69⟩
theorem gT186_70 : sG l g D H0 mT 186 70 (s_load vRf 186 71 1) := ⟨ok_load _ _ _ _, so_aload_n mT186 dX5_does_70 rfl⟩
theorem gT186_71 : sG l g D H0 mT 186 71 (s_const 186 72 (.int 1)) := ⟨ok_const _ _ _, so_iconst mT186 dX5_does_71 (by decide)⟩
theorem gT186_72 : sG l g D H0 mT 186 72 (s_putf g pI 186 75 7 6) := ⟨ok_putf _ _ _ _ _ _, so_putfN mT186 cl7 (k := 6) (by decide) fI rfl dX5_does_72 q1279 (fs_rf rfl)⟩
theorem gT186_75 : sG l g D H0 mT 186 75 (s_vret) := ⟨ok_vret, so_vret mT186 dX5_does_75⟩
theorem gT186_76 : sG l g D H0 mT 186 76 (s_load vRf 186 77 1) := ⟨ok_load _ _ _ _, so_aload_n mT186 dX5_does_76 rfl⟩
theorem gT186_77 : sG l g D H0 mT 186 77 (s_load vRf 186 78 1) := ⟨ok_load _ _ _ _, so_aload_n mT186 dX5_does_77 rfl⟩
theorem gT186_78 : sG l g D H0 mT 186 78 (s_getf 186 81 7 5) := ⟨ok_getf _ _ _ _, so_getfN mT186 cl7 (k := 5) (by decide) dX5_does_78 q1276 (fs_rf rfl)⟩
theorem gT186_81 : sG l g D H0 mT 186 81 (s_callvk 186 84 208 7 [0] 2) := ⟨ok_callvk _ _ _ _ _ _, sk_callv (by decide) (so_callVN mT186 mo208 (by decide) (t := 7) (C := "HyperVaneModel$Guest") (by decide) rfl rfl dX5_does_81 q1545 q1547 qs41 q75)⟩
theorem gT186_84 : sG l g D H0 mT 186 84 (s_load vRf 186 85 1) := ⟨ok_load _ _ _ _, so_aload_n mT186 dX5_does_84 rfl⟩
theorem gT186_85 : sG l g D H0 mT 186 85 (s_load vRf 186 86 1) := ⟨ok_load _ _ _ _, so_aload_n mT186 dX5_does_85 rfl⟩
theorem gT186_86 : sG l g D H0 mT 186 86 (s_getf 186 89 7 3) := ⟨ok_getf _ _ _ _, so_getfN mT186 cl7 (k := 3) (by decide) dX5_does_86 q1270 (fs_rf rfl)⟩
theorem gT186_89 : sG l g D H0 mT 186 89 (s_load vRf 186 90 1) := ⟨ok_load _ _ _ _, so_aload_n mT186 dX5_does_89 rfl⟩
theorem gT186_90 : sG l g D H0 mT 186 90 (s_getf 186 93 7 5) := ⟨ok_getf _ _ _ _, so_getfN mT186 cl7 (k := 5) (by decide) dX5_does_90 q1276 (fs_rf rfl)⟩
theorem gT186_93 : sG l g D H0 mT 186 93 (s_bin 186 94 (fun a b => a + b)) := ⟨ok_bin _ _ _, so_iadd mT186 dX5_does_93⟩
theorem gT186_94 : sG l g D H0 mT 186 94 (s_const 186 97 (.int 1000)) := ⟨ok_const _ _ _, so_sipush mT186 dX5_does_94 (by decide)⟩
theorem gT186_97 : sG l g D H0 mT 186 97 (s_div 186 98 (fun a b => a - a / b * b)) := ⟨ok_div _ _ _, so_irem mT186 dX5_does_97⟩
theorem gT186_98 : sG l g D H0 mT 186 98 (s_putf g pI 186 101 7 3) := ⟨ok_putf _ _ _ _ _ _, so_putfN mT186 cl7 (k := 3) (by decide) fI rfl dX5_does_98 q1270 (fs_rf rfl)⟩
theorem gT186_101 : sG l g D H0 mT 186 101 (s_load vRf 186 102 1) := ⟨ok_load _ _ _ _, so_aload_n mT186 dX5_does_101 rfl⟩
theorem gT186_102 : sG l g D H0 mT 186 102 (s_const 186 103 (.int 0)) := ⟨ok_const _ _ _, so_iconst mT186 dX5_does_102 (by decide)⟩
theorem gT186_103 : sG l g D H0 mT 186 103 (s_putf g pI 186 106 7 5) := ⟨ok_putf _ _ _ _ _ _, so_putfN mT186 cl7 (k := 5) (by decide) fI rfl dX5_does_103 q1276 (fs_rf rfl)⟩
theorem gT186_106 : sG l g D H0 mT 186 106 (s_goto 186 147) := ⟨ok_goto _ _, so_goto mT186 dX5_does_106 (by decide)⟩
theorem gT186_109 : sG l g D H0 mT 186 109 (s_load vRf 186 110 1) := ⟨ok_load _ _ _ _, so_aload_n mT186 dX5_does_109 rfl⟩
theorem gT186_110 : sG l g D H0 mT 186 110 (s_load vRf 186 111 1) := ⟨ok_load _ _ _ _, so_aload_n mT186 dX5_does_110 rfl⟩
theorem gT186_111 : sG l g D H0 mT 186 111 (s_getf 186 114 7 4) := ⟨ok_getf _ _ _ _, so_getfN mT186 cl7 (k := 4) (by decide) dX5_does_111 q1273 (fs_rf rfl)⟩
theorem gT186_114 : sG l g D H0 mT 186 114 (s_const 186 117 (.int 1000)) := ⟨ok_const _ _ _, so_sipush mT186 dX5_does_114 (by decide)⟩
theorem gT186_117 : sG l g D H0 mT 186 117 (s_div 186 118 (fun a b => a - a / b * b)) := ⟨ok_div _ _ _, so_irem mT186 dX5_does_117⟩
theorem gT186_118 : sG l g D H0 mT 186 118 (s_putf g pI 186 121 7 3) := ⟨ok_putf _ _ _ _ _ _, so_putfN mT186 cl7 (k := 3) (by decide) fI rfl dX5_does_118 q1270 (fs_rf rfl)⟩
theorem gT186_121 : sG l g D H0 mT 186 121 (s_load vRf 186 122 1) := ⟨ok_load _ _ _ _, so_aload_n mT186 dX5_does_121 rfl⟩
theorem gT186_122 : sG l g D H0 mT 186 122 (s_load vRf 186 123 1) := ⟨ok_load _ _ _ _, so_aload_n mT186 dX5_does_122 rfl⟩
theorem gT186_123 : sG l g D H0 mT 186 123 (s_getf 186 126 7 3) := ⟨ok_getf _ _ _ _, so_getfN mT186 cl7 (k := 3) (by decide) dX5_does_123 q1270 (fs_rf rfl)⟩
theorem gT186_126 : sG l g D H0 mT 186 126 (s_callvk 186 129 208 7 [0] 2) := ⟨ok_callvk _ _ _ _ _ _, sk_callv (by decide) (so_callVN mT186 mo208 (by decide) (t := 7) (C := "HyperVaneModel$Guest") (by decide) rfl rfl dX5_does_126 q1545 q1547 qs41 q75)⟩
theorem gT186_129 : sG l g D H0 mT 186 129 (s_goto 186 147) := ⟨ok_goto _ _, so_goto mT186 dX5_does_129 (by decide)⟩
theorem gT186_132 : sG l g D H0 mT 186 132 (s_load vRf 186 133 1) := ⟨ok_load _ _ _ _, so_aload_n mT186 dX5_does_132 rfl⟩
theorem gT186_133 : sG l g D H0 mT 186 133 (s_const 186 134 (.int 0)) := ⟨ok_const _ _ _, so_iconst mT186 dX5_does_133 (by decide)⟩
theorem gT186_134 : sG l g D H0 mT 186 134 (s_load vRf 186 135 1) := ⟨ok_load _ _ _ _, so_aload_n mT186 dX5_does_134 rfl⟩
theorem gT186_135 : sG l g D H0 mT 186 135 (s_getf 186 138 7 9) := ⟨ok_getf _ _ _ _, so_getfN mT186 cl7 (k := 9) (by decide) dX5_does_135 q1288 (fs_rf rfl)⟩
theorem gT186_138 : sG l g D H0 mT 186 138 (s_callk 186 141 35 [0, 0] 2) := ⟨ok_callk _ _ _ _ _, sk_call (by decide) (so_callS mT186 mo35 (by decide) dX5_does_138 q1517 q284 q64)⟩
theorem gT186_141 : sG l g D H0 mT 186 141 (s_putf g pI 186 144 7 9) := ⟨ok_putf _ _ _ _ _ _, so_putfN mT186 cl7 (k := 9) (by decide) fI rfl dX5_does_141 q1288 (fs_rf rfl)⟩
theorem gT186_144 : sG l g D H0 mT 186 144 (s_goto 186 147) := ⟨ok_goto _ _, so_goto mT186 dX5_does_144 (by decide)⟩
theorem gT186_147 : sG l g D H0 mT 186 147 (s_load vRf 186 148 1) := ⟨ok_load _ _ _ _, so_aload_n mT186 dX5_does_147 rfl⟩
theorem gT186_148 : sG l g D H0 mT 186 148 (s_callvk 186 151 207 7 [] 1) := ⟨ok_callvk _ _ _ _ _ _, sk_callv (by decide) (so_callV mT186 mo207 (by decide) (t := 7) (C := "HyperVaneModel$Guest") (by decide) rfl rfl dX5_does_148 q1536 q1537 q1538 q75)⟩
theorem gT186_151 : sG l g D H0 mT 186 151 (s_vret) := ⟨ok_vret, so_vret mT186 dX5_does_151⟩
theorem gT186 (pc : Nat) : sG l g D H0 mT 186 pc (tT186 g pc) := sG_cond (sG_cond (sG_cond (sG_cond (sG_cond (sG_cond (sG_leaf gT186_0) (sG_leaf gT186_1)) (sG_cond (sG_leaf gT186_2) (sG_leaf gT186_3))) (sG_cond (sG_cond (sG_leaf gT186_40) (sG_leaf gT186_41)) (sG_cond (sG_leaf gT186_42) (sG_leaf gT186_43)))) (sG_cond (sG_cond (sG_cond (sG_leaf gT186_46) (sG_leaf gT186_47)) (sG_cond (sG_leaf gT186_48) (sG_leaf gT186_49))) (sG_cond (sG_cond (sG_leaf gT186_52) (sG_leaf gT186_53)) (sG_cond (sG_leaf gT186_54) (sG_leaf gT186_57))))) (sG_cond (sG_cond (sG_cond (sG_cond (sG_leaf gT186_60) (sG_leaf gT186_61)) (sG_cond (sG_leaf gT186_64) (sG_leaf gT186_65))) (sG_cond (sG_cond (sG_leaf gT186_66) (sG_leaf gT186_67)) (sG_cond (sG_leaf gT186_68) (sG_leaf gT186_69)))) (sG_cond (sG_cond (sG_cond (sG_leaf gT186_70) (sG_leaf gT186_71)) (sG_cond (sG_leaf gT186_72) (sG_leaf gT186_75))) (sG_cond (sG_cond (sG_leaf gT186_76) (sG_leaf gT186_77)) (sG_cond (sG_leaf gT186_78) (sG_cond (sG_leaf gT186_81) (sG_leaf gT186_84))))))) (sG_cond (sG_cond (sG_cond (sG_cond (sG_cond (sG_leaf gT186_85) (sG_leaf gT186_86)) (sG_cond (sG_leaf gT186_89) (sG_leaf gT186_90))) (sG_cond (sG_cond (sG_leaf gT186_93) (sG_leaf gT186_94)) (sG_cond (sG_leaf gT186_97) (sG_leaf gT186_98)))) (sG_cond (sG_cond (sG_cond (sG_leaf gT186_101) (sG_leaf gT186_102)) (sG_cond (sG_leaf gT186_103) (sG_leaf gT186_106))) (sG_cond (sG_cond (sG_leaf gT186_109) (sG_leaf gT186_110)) (sG_cond (sG_leaf gT186_111) (sG_leaf gT186_114))))) (sG_cond (sG_cond (sG_cond (sG_cond (sG_leaf gT186_117) (sG_leaf gT186_118)) (sG_cond (sG_leaf gT186_121) (sG_leaf gT186_122))) (sG_cond (sG_cond (sG_leaf gT186_123) (sG_leaf gT186_126)) (sG_cond (sG_leaf gT186_129) (sG_leaf gT186_132)))) (sG_cond (sG_cond (sG_cond (sG_leaf gT186_133) (sG_leaf gT186_134)) (sG_cond (sG_leaf gT186_135) (sG_leaf gT186_138))) (sG_cond (sG_cond (sG_leaf gT186_141) (sG_leaf gT186_144)) (sG_cond (sG_leaf gT186_147) (sG_cond (sG_leaf gT186_148) (sG_leaf gT186_151)))))))
theorem gT187_0 : sG l g D H0 mT 187 0 (s_load vRf 187 1 2) := ⟨ok_load _ _ _ _, so_aload_n mT187 dX5_touch_0 rfl⟩
theorem gT187_1 : sG l g D H0 mT 187 1 (s_const 187 2 (.int 1)) := ⟨ok_const _ _ _, so_iconst mT187 dX5_touch_1 (by decide)⟩
theorem gT187_2 : sG l g D H0 mT 187 2 (s_ald 187 3 20) := ⟨ok_ald _ _ _, so_iald mT187 a20 dX5_touch_2⟩
theorem gT187_3 : sG l g D H0 mT 187 3 (s_store vI 187 4 3) := ⟨ok_store _ _ _ _, so_istore_n mT187 dX5_touch_3 rfl⟩
theorem gT187_4 : sG l g D H0 mT 187 4 (s_load vRf 187 5 1) := ⟨ok_load _ _ _ _, so_aload_n mT187 dX5_touch_4 rfl⟩
theorem gT187_5 : sG l g D H0 mT 187 5 (s_getf 187 8 7 14) := ⟨ok_getf _ _ _ _, so_getfN mT187 cl7 (k := 14) (by decide) dX5_touch_5 q1303 (fs_rf rfl)⟩
theorem gT187_8 : sG l g D H0 mT 187 8 (s_load vI 187 9 3) := ⟨ok_load _ _ _ _, so_iload_n mT187 dX5_touch_8 rfl⟩
theorem gT187_9 : sG l g D H0 mT 187 9 (s_ald 187 10 20) := ⟨ok_ald _ _ _, so_iald mT187 a20 dX5_touch_9⟩
theorem gT187_10 : sG l g D H0 mT 187 10 (s_const 187 11 (.int 2)) := ⟨ok_const _ _ _, so_iconst mT187 dX5_touch_10 (by decide)⟩
theorem gT187_11 : sG l g D H0 mT 187 11 (s_icmp 187 32 14 (fun a b => a = b)) := ⟨ok_icmp _ _ _ _, so_icmp_ne mT187 dX5_touch_11 (by decide)⟩
theorem gT187_14 : sG l g D H0 mT 187 14 (s_load vRf 187 15 1) := ⟨ok_load _ _ _ _, so_aload_n mT187 dX5_touch_14 rfl⟩
theorem gT187_15 : sG l g D H0 mT 187 15 (s_getf 187 18 7 17) := ⟨ok_getf _ _ _ _, so_getfN mT187 cl7 (k := 17) (by decide) dX5_touch_15 q1312 (fs_rf rfl)⟩
theorem gT187_18 : sG l g D H0 mT 187 18 (s_const 187 19 (.int 3)) := ⟨ok_const _ _ _, so_iconst mT187 dX5_touch_18 (by decide)⟩
theorem gT187_19 : sG l g D H0 mT 187 19 (s_dup2 187 20) := ⟨ok_dup2 _ _, so_dup2 mT187 dX5_touch_19⟩
theorem gT187_20 : sG l g D H0 mT 187 20 (s_ald 187 21 20) := ⟨ok_ald _ _ _, so_iald mT187 a20 dX5_touch_20⟩
theorem gT187_21 : sG l g D H0 mT 187 21 (s_const 187 22 (.int 1)) := ⟨ok_const _ _ _, so_iconst mT187 dX5_touch_21 (by decide)⟩
theorem gT187_22 : sG l g D H0 mT 187 22 (s_bin 187 23 (fun a b => a + b)) := ⟨ok_bin _ _ _, so_iadd mT187 dX5_touch_22⟩
theorem gT187_23 : sG l g D H0 mT 187 23 (s_ast g (fun _ v => vI v = true) 187 24 20) := ⟨ok_ast _ _ _ _ _, so_iast mT187 a20 dX5_touch_23⟩
theorem gT187_24 : sG l g D H0 mT 187 24 (s_load vRf 187 25 1) := ⟨ok_load _ _ _ _, so_aload_n mT187 dX5_touch_24 rfl⟩
theorem gT187_25 : sG l g D H0 mT 187 25 (s_getf 187 28 7 14) := ⟨ok_getf _ _ _ _, so_getfN mT187 cl7 (k := 14) (by decide) dX5_touch_25 q1303 (fs_rf rfl)⟩
theorem gT187_28 : sG l g D H0 mT 187 28 (s_load vI 187 29 3) := ⟨ok_load _ _ _ _, so_iload_n mT187 dX5_touch_28 rfl⟩
theorem gT187_29 : sG l g D H0 mT 187 29 (s_const 187 30 (.int 3)) := ⟨ok_const _ _ _, so_iconst mT187 dX5_touch_29 (by decide)⟩
theorem gT187_30 : sG l g D H0 mT 187 30 (s_ast g (fun _ v => vI v = true) 187 31 20) := ⟨ok_ast _ _ _ _ _, so_iast mT187 a20 dX5_touch_30⟩
theorem gT187_31 : sG l g D H0 mT 187 31 (s_vret) := ⟨ok_vret, so_vret mT187 dX5_touch_31⟩
theorem gT187_32 : sG l g D H0 mT 187 32 (s_load vRf 187 33 1) := ⟨ok_load _ _ _ _, so_aload_n mT187 dX5_touch_32 rfl⟩
theorem gT187_33 : sG l g D H0 mT 187 33 (s_getf 187 36 7 14) := ⟨ok_getf _ _ _ _, so_getfN mT187 cl7 (k := 14) (by decide) dX5_touch_33 q1303 (fs_rf rfl)⟩
theorem gT187_36 : sG l g D H0 mT 187 36 (s_load vI 187 37 3) := ⟨ok_load _ _ _ _, so_iload_n mT187 dX5_touch_36 rfl⟩
theorem gT187_37 : sG l g D H0 mT 187 37 (s_ald 187 38 20) := ⟨ok_ald _ _ _, so_iald mT187 a20 dX5_touch_37⟩
theorem gT187_38 : sG l g D H0 mT 187 38 (s_if 187 41 128 (fun a => a = 0)) := ⟨ok_if _ _ _ _, so_if_eq mT187 dX5_touch_38 (by decide)⟩
theorem gT187_41 : sG l g D H0 mT 187 41 (s_load vRf 187 42 1) := ⟨ok_load _ _ _ _, so_aload_n mT187 dX5_touch_41 rfl⟩
theorem gT187_42 : sG l g D H0 mT 187 42 (s_getf 187 45 7 17) := ⟨ok_getf _ _ _ _, so_getfN mT187 cl7 (k := 17) (by decide) dX5_touch_42 q1312 (fs_rf rfl)⟩
theorem gT187_45 : sG l g D H0 mT 187 45 (s_const 187 46 (.int 0)) := ⟨ok_const _ _ _, so_iconst mT187 dX5_touch_45 (by decide)⟩
theorem gT187_46 : sG l g D H0 mT 187 46 (s_dup2 187 47) := ⟨ok_dup2 _ _, so_dup2 mT187 dX5_touch_46⟩
theorem gT187_47 : sG l g D H0 mT 187 47 (s_ald 187 48 20) := ⟨ok_ald _ _ _, so_iald mT187 a20 dX5_touch_47⟩
theorem gT187_48 : sG l g D H0 mT 187 48 (s_const 187 49 (.int 1)) := ⟨ok_const _ _ _, so_iconst mT187 dX5_touch_48 (by decide)⟩
theorem gT187_49 : sG l g D H0 mT 187 49 (s_bin 187 50 (fun a b => a + b)) := ⟨ok_bin _ _ _, so_iadd mT187 dX5_touch_49⟩
theorem gT187_50 : sG l g D H0 mT 187 50 (s_ast g (fun _ v => vI v = true) 187 51 20) := ⟨ok_ast _ _ _ _ _, so_iast mT187 a20 dX5_touch_50⟩
theorem gT187_51 : sG l g D H0 mT 187 51 (s_load vRf 187 52 1) := ⟨ok_load _ _ _ _, so_aload_n mT187 dX5_touch_51 rfl⟩
theorem gT187_52 : sG l g D H0 mT 187 52 (s_getf 187 55 7 14) := ⟨ok_getf _ _ _ _, so_getfN mT187 cl7 (k := 14) (by decide) dX5_touch_52 q1303 (fs_rf rfl)⟩
theorem gT187_55 : sG l g D H0 mT 187 55 (s_load vI 187 56 3) := ⟨ok_load _ _ _ _, so_iload_n mT187 dX5_touch_55 rfl⟩
theorem gT187_56 : sG l g D H0 mT 187 56 (s_ald 187 57 20) := ⟨ok_ald _ _ _, so_iald mT187 a20 dX5_touch_56⟩
theorem gT187_57 : sG l g D H0 mT 187 57 (s_const 187 58 (.int 1)) := ⟨ok_const _ _ _, so_iconst mT187 dX5_touch_57 (by decide)⟩
theorem gT187_58 : sG l g D H0 mT 187 58 (s_icmp 187 65 61 (fun a b => a = b)) := ⟨ok_icmp _ _ _ _, so_icmp_ne mT187 dX5_touch_58 (by decide)⟩
theorem gT187_61 : sG l g D H0 mT 187 61 (s_const 187 62 (.int 1)) := ⟨ok_const _ _ _, so_iconst mT187 dX5_touch_61 (by decide)⟩
theorem gT187_62 : sG l g D H0 mT 187 62 (s_goto 187 66) := ⟨ok_goto _ _, so_goto mT187 dX5_touch_62 (by decide)⟩
theorem gT187_65 : sG l g D H0 mT 187 65 (s_const 187 66 (.int 0)) := ⟨ok_const _ _ _, so_iconst mT187 dX5_touch_65 (by decide)⟩
theorem gT187_66 : sG l g D H0 mT 187 66 (s_store vI 187 68 4) := ⟨ok_store _ _ _ _, so_istore mT187 dX5_touch_66⟩
theorem gT187_68 : sG l g D H0 mT 187 68 (s_load vRf 187 69 0) := ⟨ok_load _ _ _ _, so_aload_n mT187 dX5_touch_68 rfl⟩
theorem gT187_69 : sG l g D H0 mT 187 69 (s_callvk 187 72 188 4 [] 6) := ⟨ok_callvk _ _ _ _ _ _, sk_callv (by decide) (so_callV mT187 mo188 (by decide) (t := 4) (C := "HyperVaneModel$World") (by decide) rfl rfl dX5_touch_69 q1531 q1533 qs39 q67)⟩
theorem gT187_72 : sG l g D H0 mT 187 72 (s_store vI 187 74 5) := ⟨ok_store _ _ _ _, so_istore mT187 dX5_touch_72⟩
theorem gT187_74 : sG l g D H0 mT 187 74 (s_load vRf 187 75 0) := ⟨ok_load _ _ _ _, so_aload_n mT187 dX5_touch_74 rfl⟩
theorem gT187_75 : sG l g D H0 mT 187 75 (s_load vI 187 77 5) := ⟨ok_load _ _ _ _, so_iload mT187 dX5_touch_75⟩
theorem gT187_77 : sG l g D H0 mT 187 77 (s_callvk 187 80 179 4 [0] 3) := ⟨ok_callvk _ _ _ _ _ _, sk_callv (by decide) (so_callV mT187 mo179 (by decide) (t := 4) (C := "HyperVaneModel$World") (by decide) rfl rfl dX5_touch_77 q1535 q1445 q1446 q67)⟩
theorem gT187_80 : sG l g D H0 mT 187 80 (s_pop 187 81) := ⟨ok_pop _ _, so_pop mT187 dX5_touch_80⟩
theorem gT187_81 : sG l g D H0 mT 187 81 (s_load vRf 187 82 1) := ⟨ok_load _ _ _ _, so_aload_n mT187 dX5_touch_81 rfl⟩
theorem gT187_82 : sG l g D H0 mT 187 82 (s_getf 187 85 7 14) := ⟨ok_getf _ _ _ _, so_getfN mT187 cl7 (k := 14) (by decide) dX5_touch_82 q1303 (fs_rf rfl)⟩
theorem gT187_85 : sG l g D H0 mT 187 85 (s_load vI 187 86 3) := ⟨ok_load _ _ _ _, so_iload_n mT187 dX5_touch_85 rfl⟩
theorem gT187_86 : sG l g D H0 mT 187 86 (s_const 187 87 (.int 0)) := ⟨ok_const _ _ _, so_iconst mT187 dX5_touch_86 (by decide)⟩
theorem gT187_87 : sG l g D H0 mT 187 87 (s_ast g (fun _ v => vI v = true) 187 88 20) := ⟨ok_ast _ _ _ _ _, so_iast mT187 a20 dX5_touch_87⟩
theorem gT187_88 : sG l g D H0 mT 187 88 (s_load vRf 187 89 1) := ⟨ok_load _ _ _ _, so_aload_n mT187 dX5_touch_88 rfl⟩
theorem gT187_89 : sG l g D H0 mT 187 89 (s_getf 187 92 7 15) := ⟨ok_getf _ _ _ _, so_getfN mT187 cl7 (k := 15) (by decide) dX5_touch_89 q1306 (fs_rf rfl)⟩
theorem gT187_92 : sG l g D H0 mT 187 92 (s_load vI 187 93 3) := ⟨ok_load _ _ _ _, so_iload_n mT187 dX5_touch_92 rfl⟩
theorem gT187_93 : sG l g D H0 mT 187 93 (s_load vI 187 95 5) := ⟨ok_load _ _ _ _, so_iload mT187 dX5_touch_93⟩
theorem gT187_95 : sG l g D H0 mT 187 95 (s_ast g (fun _ v => vI v = true) 187 96 20) := ⟨ok_ast _ _ _ _ _, so_iast mT187 a20 dX5_touch_95⟩
theorem gT187_96 : sG l g D H0 mT 187 96 (s_load vRf 187 97 1) := ⟨ok_load _ _ _ _, so_aload_n mT187 dX5_touch_96 rfl⟩
theorem gT187_97 : sG l g D H0 mT 187 97 (s_getf 187 100 7 16) := ⟨ok_getf _ _ _ _, so_getfN mT187 cl7 (k := 16) (by decide) dX5_touch_97 q1309 (fs_rf rfl)⟩
theorem gT187_100 : sG l g D H0 mT 187 100 (s_load vI 187 101 3) := ⟨ok_load _ _ _ _, so_iload_n mT187 dX5_touch_100 rfl⟩
theorem gT187_101 : sG l g D H0 mT 187 101 (s_load vRf 187 102 0) := ⟨ok_load _ _ _ _, so_aload_n mT187 dX5_touch_101 rfl⟩
theorem gT187_102 : sG l g D H0 mT 187 102 (s_getf 187 105 4 1) := ⟨ok_getf _ _ _ _, so_getf mT187 cl4 (k := 1) (by decide) dX5_touch_102 q1188 (fs_rf rfl)⟩
theorem gT187_105 : sG l g D H0 mT 187 105 (s_ast g (fun _ v => vI v = true) 187 106 20) := ⟨ok_ast _ _ _ _ _, so_iast mT187 a20 dX5_touch_105⟩
theorem gT187_106 : sG l g D H0 mT 187 106 (s_load vI 187 108 4) := ⟨ok_load _ _ _ _, so_iload mT187 dX5_touch_106⟩
theorem gT187_108 : sG l g D H0 mT 187 108 (s_if 187 112 111 (fun a => a = 0)) := ⟨ok_if _ _ _ _, so_if_ne mT187 dX5_touch_108 (by decide)⟩
theorem gT187_111 : sG l g D H0 mT 187 111 (s_vret) := ⟨ok_vret, so_vret mT187 dX5_touch_111⟩
theorem gT187_112 : sG l g D H0 mT 187 112 (s_load vRf 187 113 1) := ⟨ok_load _ _ _ _, so_aload_n mT187 dX5_touch_112 rfl⟩
theorem gT187_113 : sG l g D H0 mT 187 113 (s_const 187 114 (.int 2)) := ⟨ok_const _ _ _, so_iconst mT187 dX5_touch_113 (by decide)⟩
theorem gT187_114 : sG l g D H0 mT 187 114 (s_putf g pI 187 117 7 6) := ⟨ok_putf _ _ _ _ _ _, so_putfN mT187 cl7 (k := 6) (by decide) fI rfl dX5_touch_114 q1279 (fs_rf rfl)⟩
theorem gT187_117 : sG l g D H0 mT 187 117 (s_load vRf 187 118 1) := ⟨ok_load _ _ _ _, so_aload_n mT187 dX5_touch_117 rfl⟩
theorem gT187_118 : sG l g D H0 mT 187 118 (s_load vRf 187 119 0) := ⟨ok_load _ _ _ _, so_aload_n mT187 dX5_touch_118 rfl⟩
theorem gT187_119 : sG l g D H0 mT 187 119 (s_getf 187 122 4 1) := ⟨ok_getf _ _ _ _, so_getf mT187 cl4 (k := 1) (by decide) dX5_touch_119 q1188 (fs_rf rfl)⟩
theorem gT187_122 : sG l g D H0 mT 187 122 (s_const 187 123 (.int 2)) := ⟨ok_const _ _ _, so_iconst mT187 dX5_touch_122 (by decide)⟩
theorem gT187_123 : sG l g D H0 mT 187 123 (s_bin 187 124 (fun a b => a + b)) := ⟨ok_bin _ _ _, so_iadd mT187 dX5_touch_123⟩
theorem gT187_124 : sG l g D H0 mT 187 124 (s_putf g pI 187 127 7 8) := ⟨ok_putf _ _ _ _ _ _, so_putfN mT187 cl7 (k := 8) (by decide) fI rfl dX5_touch_124 q1285 (fs_rf rfl)⟩
theorem gT187_127 : sG l g D H0 mT 187 127 (s_vret) := ⟨ok_vret, so_vret mT187 dX5_touch_127⟩
theorem gT187_128 : sG l g D H0 mT 187 128 (s_load vRf 187 129 1) := ⟨ok_load _ _ _ _, so_aload_n mT187 dX5_touch_128 rfl⟩
theorem gT187_129 : sG l g D H0 mT 187 129 (s_getf 187 132 7 16) := ⟨ok_getf _ _ _ _, so_getfN mT187 cl7 (k := 16) (by decide) dX5_touch_129 q1309 (fs_rf rfl)⟩
theorem gT187_132 : sG l g D H0 mT 187 132 (s_load vI 187 133 3) := ⟨ok_load _ _ _ _, so_iload_n mT187 dX5_touch_132 rfl⟩
theorem gT187_133 : sG l g D H0 mT 187 133 (s_load vRf 187 134 0) := ⟨ok_load _ _ _ _, so_aload_n mT187 dX5_touch_133 rfl⟩
theorem gT187_134 : sG l g D H0 mT 187 134 (s_getf 187 137 4 1) := ⟨ok_getf _ _ _ _, so_getf mT187 cl4 (k := 1) (by decide) dX5_touch_134 q1188 (fs_rf rfl)⟩
theorem gT187_137 : sG l g D H0 mT 187 137 (s_ast g (fun _ v => vI v = true) 187 138 20) := ⟨ok_ast _ _ _ _ _, so_iast mT187 a20 dX5_touch_137⟩
theorem gT187_138 : sG l g D H0 mT 187 138 (s_load vRf 187 139 2) := ⟨ok_load _ _ _ _, so_aload_n mT187 dX5_touch_138 rfl⟩
theorem gT187_139 : sG l g D H0 mT 187 139 (s_const 187 140 (.int 0)) := ⟨ok_const _ _ _, so_iconst mT187 dX5_touch_139 (by decide)⟩
theorem gT187_140 : sG l g D H0 mT 187 140 (s_ald 187 141 20) := ⟨ok_ald _ _ _, so_iald mT187 a20 dX5_touch_140⟩
theorem gT187_141 : sG l g D H0 mT 187 141 (s_const 187 142 (.int 1)) := ⟨ok_const _ _ _, so_iconst mT187 dX5_touch_141 (by decide)⟩
theorem gT187_142 : sG l g D H0 mT 187 142 (s_icmp 187 169 145 (fun a b => a = b)) := ⟨ok_icmp _ _ _ _, so_icmp_ne mT187 dX5_touch_142 (by decide)⟩
theorem gT187_145 : sG l g D H0 mT 187 145 (s_load vRf 187 146 1) := ⟨ok_load _ _ _ _, so_aload_n mT187 dX5_touch_145 rfl⟩
theorem gT187_146 : sG l g D H0 mT 187 146 (s_load vRf 187 147 1) := ⟨ok_load _ _ _ _, so_aload_n mT187 dX5_touch_146 rfl⟩
theorem gT187_147 : sG l g D H0 mT 187 147 (s_getf 187 150 7 3) := ⟨ok_getf _ _ _ _, so_getfN mT187 cl7 (k := 3) (by decide) dX5_touch_147 q1270 (fs_rf rfl)⟩
theorem gT187_150 : sG l g D H0 mT 187 150 (s_load vRf 187 151 1) := ⟨ok_load _ _ _ _, so_aload_n mT187 dX5_touch_150 rfl⟩
theorem gT187_151 : sG l g D H0 mT 187 151 (s_getf 187 154 7 13) := ⟨ok_getf _ _ _ _, so_getfN mT187 cl7 (k := 13) (by decide) dX5_touch_151 q1300 (fs_rf rfl)⟩
theorem gT187_154 : sG l g D H0 mT 187 154 (s_load vI 187 155 3) := ⟨ok_load _ _ _ _, so_iload_n mT187 dX5_touch_154 rfl⟩
theorem gT187_155 : sG l g D H0 mT 187 155 (s_ald 187 156 20) := ⟨ok_ald _ _ _, so_iald mT187 a20 dX5_touch_155⟩
theorem gT187_156 : sG l g D H0 mT 187 156 (s_bin 187 157 (fun a b => a + b)) := ⟨ok_bin _ _ _, so_iadd mT187 dX5_touch_156⟩
theorem gT187_157 : sG l g D H0 mT 187 157 (s_const 187 158 (.int 1)) := ⟨ok_const _ _ _, so_iconst mT187 dX5_touch_157 (by decide)⟩
theorem gT187_158 : sG l g D H0 mT 187 158 (s_bin 187 159 (fun a b => a + b)) := ⟨ok_bin _ _ _, so_iadd mT187 dX5_touch_158⟩
theorem gT187_159 : sG l g D H0 mT 187 159 (s_const 187 162 (.int 1000)) := ⟨ok_const _ _ _, so_sipush mT187 dX5_touch_159 (by decide)⟩
theorem gT187_162 : sG l g D H0 mT 187 162 (s_div 187 163 (fun a b => a - a / b * b)) := ⟨ok_div _ _ _, so_irem mT187 dX5_touch_162⟩
theorem gT187_163 : sG l g D H0 mT 187 163 (s_putf g pI 187 166 7 3) := ⟨ok_putf _ _ _ _ _ _, so_putfN mT187 cl7 (k := 3) (by decide) fI rfl dX5_touch_163 q1270 (fs_rf rfl)⟩
theorem gT187_166 : sG l g D H0 mT 187 166 (s_goto 187 213) := ⟨ok_goto _ _, so_goto mT187 dX5_touch_166 (by decide)⟩
theorem gT187_169 : sG l g D H0 mT 187 169 (s_load vRf 187 170 1) := ⟨ok_load _ _ _ _, so_aload_n mT187 dX5_touch_169 rfl⟩
theorem gT187_170 : sG l g D H0 mT 187 170 (s_getf 187 173 7 13) := ⟨ok_getf _ _ _ _, so_getfN mT187 cl7 (k := 13) (by decide) dX5_touch_170 q1300 (fs_rf rfl)⟩
theorem gT187_173 : sG l g D H0 mT 187 173 (s_load vI 187 174 3) := ⟨ok_load _ _ _ _, so_iload_n mT187 dX5_touch_173 rfl⟩
theorem gT187_174 : sG l g D H0 mT 187 174 (s_const 187 175 (.int 3)) := ⟨ok_const _ _ _, so_iconst mT187 dX5_touch_174 (by decide)⟩
theorem gT187_175 : sG l g D H0 mT 187 175 (s_load vRf 187 176 1) := ⟨ok_load _ _ _ _, so_aload_n mT187 dX5_touch_175 rfl⟩
theorem gT187_176 : sG l g D H0 mT 187 176 (s_getf 187 179 7 13) := ⟨ok_getf _ _ _ _, so_getfN mT187 cl7 (k := 13) (by decide) dX5_touch_176 q1300 (fs_rf rfl)⟩
theorem gT187_179 : sG l g D H0 mT 187 179 (s_load vI 187 180 3) := ⟨ok_load _ _ _ _, so_iload_n mT187 dX5_touch_179 rfl⟩
theorem gT187_180 : sG l g D H0 mT 187 180 (s_ald 187 181 20) := ⟨ok_ald _ _ _, so_iald mT187 a20 dX5_touch_180⟩
theorem gT187_181 : sG l g D H0 mT 187 181 (s_bin 187 182 (fun a b => a * b)) := ⟨ok_bin _ _ _, so_imul mT187 dX5_touch_181⟩
theorem gT187_182 : sG l g D H0 mT 187 182 (s_load vRf 187 183 1) := ⟨ok_load _ _ _ _, so_aload_n mT187 dX5_touch_182 rfl⟩
theorem gT187_183 : sG l g D H0 mT 187 183 (s_getf 187 186 7 3) := ⟨ok_getf _ _ _ _, so_getfN mT187 cl7 (k := 3) (by decide) dX5_touch_183 q1270 (fs_rf rfl)⟩
theorem gT187_186 : sG l g D H0 mT 187 186 (s_bin 187 187 (fun a b => a + b)) := ⟨ok_bin _ _ _, so_iadd mT187 dX5_touch_186⟩
theorem gT187_187 : sG l g D H0 mT 187 187 (s_const 187 188 (.int 1)) := ⟨ok_const _ _ _, so_iconst mT187 dX5_touch_187 (by decide)⟩
theorem gT187_188 : sG l g D H0 mT 187 188 (s_bin 187 189 (fun a b => a + b)) := ⟨ok_bin _ _ _, so_iadd mT187 dX5_touch_188⟩
theorem gT187_189 : sG l g D H0 mT 187 189 (s_const 187 192 (.int 1000)) := ⟨ok_const _ _ _, so_sipush mT187 dX5_touch_189 (by decide)⟩
theorem gT187_192 : sG l g D H0 mT 187 192 (s_div 187 193 (fun a b => a - a / b * b)) := ⟨ok_div _ _ _, so_irem mT187 dX5_touch_192⟩
theorem gT187_193 : sG l g D H0 mT 187 193 (s_ast g (fun _ v => vI v = true) 187 194 20) := ⟨ok_ast _ _ _ _ _, so_iast mT187 a20 dX5_touch_193⟩
theorem gT187_194 : sG l g D H0 mT 187 194 (s_load vRf 187 195 1) := ⟨ok_load _ _ _ _, so_aload_n mT187 dX5_touch_194 rfl⟩
theorem gT187_195 : sG l g D H0 mT 187 195 (s_getf 187 198 7 18) := ⟨ok_getf _ _ _ _, so_getfN mT187 cl7 (k := 18) (by decide) dX5_touch_195 q1315 (fs_rf rfl)⟩
theorem gT187_198 : sG l g D H0 mT 187 198 (s_if 187 201 213 (fun a => a = 0)) := ⟨ok_if _ _ _ _, so_if_eq mT187 dX5_touch_198 (by decide)⟩
theorem gT187_201 : sG l g D H0 mT 187 201 (s_load vRf 187 202 1) := ⟨ok_load _ _ _ _, so_aload_n mT187 dX5_touch_201 rfl⟩
theorem gT187_202 : sG l g D H0 mT 187 202 (s_dup 187 203) := ⟨ok_dup _ _, so_dup mT187 dX5_touch_202⟩
theorem gT187_203 : sG l g D H0 mT 187 203 (s_getf 187 206 7 22) := ⟨ok_getf _ _ _ _, so_getfN mT187 cl7 (k := 22) (by decide) dX5_touch_203 q1325 (fs_rf rfl)⟩
theorem gT187_206 : sG l g D H0 mT 187 206 (s_const 187 207 (.int 1)) := ⟨ok_const _ _ _, so_iconst mT187 dX5_touch_206 (by decide)⟩
theorem gT187_207 : sG l g D H0 mT 187 207 (s_load vI 187 208 3) := ⟨ok_load _ _ _ _, so_iload_n mT187 dX5_touch_207 rfl⟩
theorem gT187_208 : sG l g D H0 mT 187 208 (s_bin 187 209 (fun a b => a <<< (b &&& 31))) := ⟨ok_bin _ _ _, so_ishl mT187 dX5_touch_208⟩
theorem gT187_209 : sG l g D H0 mT 187 209 (s_bin 187 210 (fun a b => a ||| b)) := ⟨ok_bin _ _ _, so_ior mT187 dX5_touch_209⟩
theorem gT187_210 : sG l g D H0 mT 187 210 (s_putf g pI 187 213 7 22) := ⟨ok_putf _ _ _ _ _ _, so_putfN mT187 cl7 (k := 22) (by decide) fI rfl dX5_touch_210 q1325 (fs_rf rfl)⟩
theorem gT187_213 : sG l g D H0 mT 187 213 (s_load vRf 187 214 1) := ⟨ok_load _ _ _ _, so_aload_n mT187 dX5_touch_213 rfl⟩
theorem gT187_214 : sG l g D H0 mT 187 214 (s_callvk 187 217 207 7 [] 1) := ⟨ok_callvk _ _ _ _ _ _, sk_callv (by decide) (so_callV mT187 mo207 (by decide) (t := 7) (C := "HyperVaneModel$Guest") (by decide) rfl rfl dX5_touch_214 q1536 q1537 q1538 q75)⟩
theorem gT187_217 : sG l g D H0 mT 187 217 (s_vret) := ⟨ok_vret, so_vret mT187 dX5_touch_217⟩
theorem gT187 (pc : Nat) : sG l g D H0 mT 187 pc (tT187 g pc) := sG_cond (sG_cond (sG_cond (sG_cond (sG_cond (sG_cond (sG_cond (sG_leaf gT187_0) (sG_leaf gT187_1)) (sG_cond (sG_leaf gT187_2) (sG_leaf gT187_3))) (sG_cond (sG_cond (sG_leaf gT187_4) (sG_leaf gT187_5)) (sG_cond (sG_leaf gT187_8) (sG_leaf gT187_9)))) (sG_cond (sG_cond (sG_cond (sG_leaf gT187_10) (sG_leaf gT187_11)) (sG_cond (sG_leaf gT187_14) (sG_leaf gT187_15))) (sG_cond (sG_cond (sG_leaf gT187_18) (sG_leaf gT187_19)) (sG_cond (sG_leaf gT187_20) (sG_cond (sG_leaf gT187_21) (sG_leaf gT187_22)))))) (sG_cond (sG_cond (sG_cond (sG_cond (sG_leaf gT187_23) (sG_leaf gT187_24)) (sG_cond (sG_leaf gT187_25) (sG_leaf gT187_28))) (sG_cond (sG_cond (sG_leaf gT187_29) (sG_leaf gT187_30)) (sG_cond (sG_leaf gT187_31) (sG_leaf gT187_32)))) (sG_cond (sG_cond (sG_cond (sG_leaf gT187_33) (sG_leaf gT187_36)) (sG_cond (sG_leaf gT187_37) (sG_leaf gT187_38))) (sG_cond (sG_cond (sG_leaf gT187_41) (sG_leaf gT187_42)) (sG_cond (sG_leaf gT187_45) (sG_cond (sG_leaf gT187_46) (sG_leaf gT187_47))))))) (sG_cond (sG_cond (sG_cond (sG_cond (sG_cond (sG_leaf gT187_48) (sG_leaf gT187_49)) (sG_cond (sG_leaf gT187_50) (sG_leaf gT187_51))) (sG_cond (sG_cond (sG_leaf gT187_52) (sG_leaf gT187_55)) (sG_cond (sG_leaf gT187_56) (sG_leaf gT187_57)))) (sG_cond (sG_cond (sG_cond (sG_leaf gT187_58) (sG_leaf gT187_61)) (sG_cond (sG_leaf gT187_62) (sG_leaf gT187_65))) (sG_cond (sG_cond (sG_leaf gT187_66) (sG_leaf gT187_68)) (sG_cond (sG_leaf gT187_69) (sG_cond (sG_leaf gT187_72) (sG_leaf gT187_74)))))) (sG_cond (sG_cond (sG_cond (sG_cond (sG_leaf gT187_75) (sG_leaf gT187_77)) (sG_cond (sG_leaf gT187_80) (sG_leaf gT187_81))) (sG_cond (sG_cond (sG_leaf gT187_82) (sG_leaf gT187_85)) (sG_cond (sG_leaf gT187_86) (sG_cond (sG_leaf gT187_87) (sG_leaf gT187_88))))) (sG_cond (sG_cond (sG_cond (sG_leaf gT187_89) (sG_leaf gT187_92)) (sG_cond (sG_leaf gT187_93) (sG_leaf gT187_95))) (sG_cond (sG_cond (sG_leaf gT187_96) (sG_leaf gT187_97)) (sG_cond (sG_leaf gT187_100) (sG_cond (sG_leaf gT187_101) (sG_leaf gT187_102)))))))) (sG_cond (sG_cond (sG_cond (sG_cond (sG_cond (sG_cond (sG_leaf gT187_105) (sG_leaf gT187_106)) (sG_cond (sG_leaf gT187_108) (sG_leaf gT187_111))) (sG_cond (sG_cond (sG_leaf gT187_112) (sG_leaf gT187_113)) (sG_cond (sG_leaf gT187_114) (sG_leaf gT187_117)))) (sG_cond (sG_cond (sG_cond (sG_leaf gT187_118) (sG_leaf gT187_119)) (sG_cond (sG_leaf gT187_122) (sG_leaf gT187_123))) (sG_cond (sG_cond (sG_leaf gT187_124) (sG_leaf gT187_127)) (sG_cond (sG_leaf gT187_128) (sG_cond (sG_leaf gT187_129) (sG_leaf gT187_132)))))) (sG_cond (sG_cond (sG_cond (sG_cond (sG_leaf gT187_133) (sG_leaf gT187_134)) (sG_cond (sG_leaf gT187_137) (sG_leaf gT187_138))) (sG_cond (sG_cond (sG_leaf gT187_139) (sG_leaf gT187_140)) (sG_cond (sG_leaf gT187_141) (sG_cond (sG_leaf gT187_142) (sG_leaf gT187_145))))) (sG_cond (sG_cond (sG_cond (sG_leaf gT187_146) (sG_leaf gT187_147)) (sG_cond (sG_leaf gT187_150) (sG_leaf gT187_151))) (sG_cond (sG_cond (sG_leaf gT187_154) (sG_leaf gT187_155)) (sG_cond (sG_leaf gT187_156) (sG_cond (sG_leaf gT187_157) (sG_leaf gT187_158))))))) (sG_cond (sG_cond (sG_cond (sG_cond (sG_cond (sG_leaf gT187_159) (sG_leaf gT187_162)) (sG_cond (sG_leaf gT187_163) (sG_leaf gT187_166))) (sG_cond (sG_cond (sG_leaf gT187_169) (sG_leaf gT187_170)) (sG_cond (sG_leaf gT187_173) (sG_leaf gT187_174)))) (sG_cond (sG_cond (sG_cond (sG_leaf gT187_175) (sG_leaf gT187_176)) (sG_cond (sG_leaf gT187_179) (sG_leaf gT187_180))) (sG_cond (sG_cond (sG_leaf gT187_181) (sG_leaf gT187_182)) (sG_cond (sG_leaf gT187_183) (sG_cond (sG_leaf gT187_186) (sG_leaf gT187_187)))))) (sG_cond (sG_cond (sG_cond (sG_cond (sG_leaf gT187_188) (sG_leaf gT187_189)) (sG_cond (sG_leaf gT187_192) (sG_leaf gT187_193))) (sG_cond (sG_cond (sG_leaf gT187_194) (sG_leaf gT187_195)) (sG_cond (sG_leaf gT187_198) (sG_cond (sG_leaf gT187_201) (sG_leaf gT187_202))))) (sG_cond (sG_cond (sG_cond (sG_leaf gT187_203) (sG_leaf gT187_206)) (sG_cond (sG_leaf gT187_207) (sG_leaf gT187_208))) (sG_cond (sG_cond (sG_leaf gT187_209) (sG_leaf gT187_210)) (sG_cond (sG_leaf gT187_213) (sG_cond (sG_leaf gT187_214) (sG_leaf gT187_217))))))))
theorem gT188_0 : sG l g D H0 mT 188 0 (s_const 188 1 (.int (-1))) := ⟨ok_const _ _ _, so_iconst mT188 dX5_frame_0 (by decide)⟩
theorem gT188_1 : sG l g D H0 mT 188 1 (s_store vI 188 2 1) := ⟨ok_store _ _ _ _, so_istore_n mT188 dX5_frame_1 rfl⟩
theorem gT188_2 : sG l g D H0 mT 188 2 (s_const 188 3 (.int 0)) := ⟨ok_const _ _ _, so_iconst mT188 dX5_frame_2 (by decide)⟩
theorem gT188_3 : sG l g D H0 mT 188 3 (s_store vI 188 4 2) := ⟨ok_store _ _ _ _, so_istore_n mT188 dX5_frame_3 rfl⟩
theorem gT188_4 : sG l g D H0 mT 188 4 (s_const 188 5 (.int 0)) := ⟨ok_const _ _ _, so_iconst mT188 dX5_frame_4 (by decide)⟩
theorem gT188_5 : sG l g D H0 mT 188 5 (s_store vI 188 6 3) := ⟨ok_store _ _ _ _, so_istore_n mT188 dX5_frame_5 rfl⟩
theorem gT188_6 : sG l g D H0 mT 188 6 (s_load vI 188 7 3) := ⟨ok_load _ _ _ _, so_iload_n mT188 dX5_frame_6 rfl⟩
theorem gT188_7 : sG l g D H0 mT 188 7 (s_load vRf 188 8 0) := ⟨ok_load _ _ _ _, so_aload_n mT188 dX5_frame_7 rfl⟩
theorem gT188_8 : sG l g D H0 mT 188 8 (s_getf 188 11 4 2) := ⟨ok_getf _ _ _ _, so_getf mT188 cl4 (k := 2) (by decide) dX5_frame_8 q1190 (fs_rf rfl)⟩
theorem gT188_11 : sG l g D H0 mT 188 11 (s_icmp 188 14 80 (fun a b => b ≤ a)) := ⟨ok_icmp _ _ _ _, so_icmp_ge mT188 dX5_frame_11 (by decide)⟩
theorem gT188_14 : sG l g D H0 mT 188 14 (s_load vRf 188 15 0) := ⟨ok_load _ _ _ _, so_aload_n mT188 dX5_frame_14 rfl⟩
theorem gT188_15 : sG l g D H0 mT 188 15 (s_load vI 188 16 3) := ⟨ok_load _ _ _ _, so_iload_n mT188 dX5_frame_15 rfl⟩
theorem gT188_16 : sG l g D H0 mT 188 16 (s_callvk 188 19 180 4 [0] 4) := ⟨ok_callvk _ _ _ _ _ _, sk_callv (by decide) (so_callV mT188 mo180 (by decide) (t := 4) (C := "HyperVaneModel$World") (by decide) rfl rfl dX5_frame_16 q1448 q1449 q1450 q67)⟩
theorem gT188_19 : sG l g D H0 mT 188 19 (s_store vI 188 21 4) := ⟨ok_store _ _ _ _, so_istore mT188 dX5_frame_19⟩
theorem gT188_21 : sG l g D H0 mT 188 21 (s_load vI 188 23 4) := ⟨ok_load _ _ _ _, so_iload mT188 dX5_frame_21⟩
theorem gT188_23 : sG l g D H0 mT 188 23 (s_const 188 24 (.int (-1))) := ⟨ok_const _ _ _, so_iconst mT188 dX5_frame_23 (by decide)⟩
theorem gT188_24 : sG l g D H0 mT 188 24 (s_icmp 188 29 27 (fun a b => a = b)) := ⟨ok_icmp _ _ _ _, so_icmp_ne mT188 dX5_frame_24 (by decide)⟩
theorem gT188_27 : sG l g D H0 mT 188 27 (s_load vI 188 28 3) := ⟨ok_load _ _ _ _, so_iload_n mT188 dX5_frame_27 rfl⟩
theorem gT188_28 : sG l g D H0 mT 188 28 (s_ret pI) := ⟨ok_ret _, so_iret mT188 dX5_frame_28⟩
theorem gT188_29 : sG l g D H0 mT 188 29 (s_load vRf 188 30 0) := ⟨ok_load _ _ _ _, so_aload_n mT188 dX5_frame_29 rfl⟩
theorem gT188_30 : sG l g D H0 mT 188 30 (s_getf 188 33 4 0) := ⟨ok_getf _ _ _ _, so_getf mT188 cl4 (k := 0) (by decide) dX5_frame_30 q1186 (fs_rf rfl)⟩
theorem gT188_33 : sG l g D H0 mT 188 33 (s_load vI 188 35 4) := ⟨ok_load _ _ _ _, so_iload mT188 dX5_frame_33⟩
theorem gT188_35 : sG l g D H0 mT 188 35 (s_const 188 37 (.int 8)) := ⟨ok_const _ _ _, so_bipush mT188 dX5_frame_35 (by decide)⟩
theorem gT188_37 : sG l g D H0 mT 188 37 (s_div 188 38 (fun a b => a / b)) := ⟨ok_div _ _ _, so_idiv mT188 dX5_frame_37⟩
theorem gT188_38 : sG l g D H0 mT 188 38 (s_callvk 188 41 25 10 [0] 2) := ⟨ok_callvk _ _ _ _ _ _, sk_callv (by decide) (so_callV mT188 mo25 (by decide) (t := 10) (C := "java/util/ArrayList") (by decide) rfl rfl dX5_frame_38 q1453 q439 q440 q58)⟩
theorem gT188_41 : sG l g D H0 mT 188 41 (s_cast 188 44 [7]) := ⟨ok_cast _ _ _, so_cast mT188 (T := "HyperVaneModel$Guest") (ts := [7]) (by intro u hu; rw [List.mem_singleton] at hu; subst hu; exact ⟨by decide, Or.inl rfl⟩) dX5_frame_41 q1454⟩
theorem gT188_44 : sG l g D H0 mT 188 44 (s_getf 188 47 7 16) := ⟨ok_getf _ _ _ _, so_getfN mT188 cl7 (k := 16) (by decide) dX5_frame_44 q1309 (fs_rf rfl)⟩
theorem gT188_47 : sG l g D H0 mT 188 47 (s_load vI 188 49 4) := ⟨ok_load _ _ _ _, so_iload mT188 dX5_frame_47⟩
theorem gT188_49 : sG l g D H0 mT 188 49 (s_const 188 51 (.int 8)) := ⟨ok_const _ _ _, so_bipush mT188 dX5_frame_49 (by decide)⟩
theorem gT188_51 : sG l g D H0 mT 188 51 (s_div 188 52 (fun a b => a - a / b * b)) := ⟨ok_div _ _ _, so_irem mT188 dX5_frame_51⟩
theorem gT188_52 : sG l g D H0 mT 188 52 (s_ald 188 53 20) := ⟨ok_ald _ _ _, so_iald mT188 a20 dX5_frame_52⟩
theorem gT188_53 : sG l g D H0 mT 188 53 (s_store vI 188 55 5) := ⟨ok_store _ _ _ _, so_istore mT188 dX5_frame_53⟩
theorem gT188_55 : sG l g D H0 mT 188 55 (s_load vI 188 56 1) := ⟨ok_load _ _ _ _, so_iload_n mT188 dX5_frame_55 rfl⟩
theorem gT188_56 : sG l g D H0 mT 188 56 (s_const 188 57 (.int (-1))) := ⟨ok_const _ _ _, so_iconst mT188 dX5_frame_56 (by decide)⟩
theorem gT188_57 : sG l g D H0 mT 188 57 (s_icmp 188 60 69 (fun a b => a = b)) := ⟨ok_icmp _ _ _ _, so_icmp_eq mT188 dX5_frame_57 (by decide)⟩
theorem gT188_60 : sG l g D H0 mT 188 60 (s_load vI 188 62 5) := ⟨ok_load _ _ _ _, so_iload mT188 dX5_frame_60⟩
theorem gT188_62 : sG l g D H0 mT 188 62 (s_load vI 188 63 2) := ⟨ok_load _ _ _ _, so_iload_n mT188 dX5_frame_62 rfl⟩
theorem gT188_63 : sG l g D H0 mT 188 63 (s_icmp 188 66 69 (fun a b => a < b)) := ⟨ok_icmp _ _ _ _, so_icmp_lt mT188 dX5_frame_63 (by decide)⟩
theorem gT188_66 : sG l g D H0 mT 188 66 (s_goto 188 74) := ⟨ok_goto _ _, so_goto mT188 dX5_frame_66 (by decide)⟩
theorem gT188_69 : sG l g D H0 mT 188 69 (s_load vI 188 70 3) := ⟨ok_load _ _ _ _, so_iload_n mT188 dX5_frame_69 rfl⟩
theorem gT188_70 : sG l g D H0 mT 188 70 (s_store vI 188 71 1) := ⟨ok_store _ _ _ _, so_istore_n mT188 dX5_frame_70 rfl⟩
theorem gT188_71 : sG l g D H0 mT 188 71 (s_load vI 188 73 5) := ⟨ok_load _ _ _ _, so_iload mT188 dX5_frame_71⟩
theorem gT188_73 : sG l g D H0 mT 188 73 (s_store vI 188 74 2) := ⟨ok_store _ _ _ _, so_istore_n mT188 dX5_frame_73 rfl⟩
theorem gT188_74 : sG l g D H0 mT 188 74 (s_iinc 188 77 3 1) := ⟨ok_iinc _ _ _ _, so_iinc mT188 dX5_frame_74 (by decide)⟩
theorem gT188_77 : sG l g D H0 mT 188 77 (s_goto 188 6) := ⟨ok_goto _ _, so_goto mT188 dX5_frame_77 (by decide)⟩
theorem gT188_80 : sG l g D H0 mT 188 80 (s_load vI 188 81 1) := ⟨ok_load _ _ _ _, so_iload_n mT188 dX5_frame_80 rfl⟩
theorem gT188_81 : sG l g D H0 mT 188 81 (s_ret pI) := ⟨ok_ret _, so_iret mT188 dX5_frame_81⟩
theorem gT188 (pc : Nat) : sG l g D H0 mT 188 pc (tT188 g pc) := sG_cond (sG_cond (sG_cond (sG_cond (sG_cond (sG_leaf gT188_0) (sG_leaf gT188_1)) (sG_cond (sG_leaf gT188_2) (sG_cond (sG_leaf gT188_3) (sG_leaf gT188_4)))) (sG_cond (sG_cond (sG_leaf gT188_5) (sG_cond (sG_leaf gT188_6) (sG_leaf gT188_7))) (sG_cond (sG_leaf gT188_8) (sG_cond (sG_leaf gT188_11) (sG_leaf gT188_14))))) (sG_cond (sG_cond (sG_cond (sG_leaf gT188_15) (sG_cond (sG_leaf gT188_16) (sG_leaf gT188_19))) (sG_cond (sG_leaf gT188_21) (sG_cond (sG_leaf gT188_23) (sG_leaf gT188_24)))) (sG_cond (sG_cond (sG_leaf gT188_27) (sG_cond (sG_leaf gT188_28) (sG_leaf gT188_29))) (sG_cond (sG_leaf gT188_30) (sG_cond (sG_leaf gT188_33) (sG_leaf gT188_35)))))) (sG_cond (sG_cond (sG_cond (sG_cond (sG_leaf gT188_37) (sG_cond (sG_leaf gT188_38) (sG_leaf gT188_41))) (sG_cond (sG_leaf gT188_44) (sG_cond (sG_leaf gT188_47) (sG_leaf gT188_49)))) (sG_cond (sG_cond (sG_leaf gT188_51) (sG_cond (sG_leaf gT188_52) (sG_leaf gT188_53))) (sG_cond (sG_leaf gT188_55) (sG_cond (sG_leaf gT188_56) (sG_leaf gT188_57))))) (sG_cond (sG_cond (sG_cond (sG_leaf gT188_60) (sG_cond (sG_leaf gT188_62) (sG_leaf gT188_63))) (sG_cond (sG_leaf gT188_66) (sG_cond (sG_leaf gT188_69) (sG_leaf gT188_70)))) (sG_cond (sG_cond (sG_leaf gT188_71) (sG_cond (sG_leaf gT188_73) (sG_leaf gT188_74))) (sG_cond (sG_leaf gT188_77) (sG_cond (sG_leaf gT188_80) (sG_leaf gT188_81))))))
theorem gT189_0 : sG l g D H0 mT 189 0 (s_load vRf 189 1 1) := ⟨ok_load _ _ _ _, so_aload_n mT189 dX5_send_0 rfl⟩
theorem gT189_1 : sG l g D H0 mT 189 1 (s_getf 189 4 7 12) := ⟨ok_getf _ _ _ _, so_getfN mT189 cl7 (k := 12) (by decide) dX5_send_1 q1297 (fs_rf rfl)⟩
theorem gT189_4 : sG l g D H0 mT 189 4 (s_const 189 5 (.int 4)) := ⟨ok_const _ _ _, so_iconst mT189 dX5_send_4 (by decide)⟩
theorem gT189_5 : sG l g D H0 mT 189 5 (s_icmp 189 31 8 (fun a b => a = b)) := ⟨ok_icmp _ _ _ _, so_icmp_ne mT189 dX5_send_5 (by decide)⟩
theorem gT189_8 : sG l g D H0 mT 189 8 (s_load vRf 189 9 1) := ⟨ok_load _ _ _ _, so_aload_n mT189 dX5_send_8 rfl⟩
theorem gT189_9 : sG l g D H0 mT 189 9 (s_getf 189 12 7 17) := ⟨ok_getf _ _ _ _, so_getfN mT189 cl7 (k := 17) (by decide) dX5_send_9 q1312 (fs_rf rfl)⟩
theorem gT189_12 : sG l g D H0 mT 189 12 (s_const 189 13 (.int 4)) := ⟨ok_const _ _ _, so_iconst mT189 dX5_send_12 (by decide)⟩
theorem gT189_13 : sG l g D H0 mT 189 13 (s_dup2 189 14) := ⟨ok_dup2 _ _, so_dup2 mT189 dX5_send_13⟩
theorem gT189_14 : sG l g D H0 mT 189 14 (s_ald 189 15 20) := ⟨ok_ald _ _ _, so_iald mT189 a20 dX5_send_14⟩
theorem gT189_15 : sG l g D H0 mT 189 15 (s_const 189 16 (.int 1)) := ⟨ok_const _ _ _, so_iconst mT189 dX5_send_15 (by decide)⟩
theorem gT189_16 : sG l g D H0 mT 189 16 (s_bin 189 17 (fun a b => a + b)) := ⟨ok_bin _ _ _, so_iadd mT189 dX5_send_16⟩
theorem gT189_17 : sG l g D H0 mT 189 17 (s_ast g (fun _ v => vI v = true) 189 18 20) := ⟨ok_ast _ _ _ _ _, so_iast mT189 a20 dX5_send_17⟩
theorem gT189_18 : sG l g D H0 mT 189 18 (s_load vRf 189 19 1) := ⟨ok_load _ _ _ _, so_aload_n mT189 dX5_send_18 rfl⟩
theorem gT189_19 : sG l g D H0 mT 189 19 (s_const 189 20 (.int 0)) := ⟨ok_const _ _ _, so_iconst mT189 dX5_send_19 (by decide)⟩
theorem gT189_20 : sG l g D H0 mT 189 20 (s_load vRf 189 21 1) := ⟨ok_load _ _ _ _, so_aload_n mT189 dX5_send_20 rfl⟩
theorem gT189_21 : sG l g D H0 mT 189 21 (s_getf 189 24 7 9) := ⟨ok_getf _ _ _ _, so_getfN mT189 cl7 (k := 9) (by decide) dX5_send_21 q1288 (fs_rf rfl)⟩
theorem gT189_24 : sG l g D H0 mT 189 24 (s_callk 189 27 35 [0, 0] 2) := ⟨ok_callk _ _ _ _ _, sk_call (by decide) (so_callS mT189 mo35 (by decide) dX5_send_24 q1517 q284 q64)⟩
theorem gT189_27 : sG l g D H0 mT 189 27 (s_putf g pI 189 30 7 9) := ⟨ok_putf _ _ _ _ _ _, so_putfN mT189 cl7 (k := 9) (by decide) fI rfl dX5_send_27 q1288 (fs_rf rfl)⟩
theorem gT189_30 : sG l g D H0 mT 189 30 (s_vret) := ⟨ok_vret, so_vret mT189 dX5_send_30⟩
theorem gT189_31 : sG l g D H0 mT 189 31 (s_load vRf 189 32 1) := ⟨ok_load _ _ _ _, so_aload_n mT189 dX5_send_31 rfl⟩
theorem gT189_32 : sG l g D H0 mT 189 32 (s_getf 189 35 7 12) := ⟨ok_getf _ _ _ _, so_getfN mT189 cl7 (k := 12) (by decide) dX5_send_32 q1297 (fs_rf rfl)⟩
theorem gT189_35 : sG l g D H0 mT 189 35 (s_if 189 71 38 (fun a => a = 0)) := ⟨ok_if _ _ _ _, so_if_ne mT189 dX5_send_35 (by decide)⟩
theorem gT189_38 : sG l g D H0 mT 189 38 (s_load vRf 189 39 0) := ⟨ok_load _ _ _ _, so_aload_n mT189 dX5_send_38 rfl⟩
theorem gT189_39 : sG l g D H0 mT 189 39 (s_getf 189 42 4 4) := ⟨ok_getf _ _ _ _, so_getf mT189 cl4 (k := 4) (by decide) dX5_send_39 q1194 (fs_rf rfl)⟩
theorem gT189_42 : sG l g D H0 mT 189 42 (s_const 189 43 (.int (-1))) := ⟨ok_const _ _ _, so_iconst mT189 dX5_send_42 (by decide)⟩
theorem gT189_43 : sG l g D H0 mT 189 43 (s_icmp 189 46 61 (fun a b => a = b)) := ⟨ok_icmp _ _ _ _, so_icmp_eq mT189 dX5_send_43 (by decide)⟩
theorem gT189_46 : sG l g D H0 mT 189 46 (s_load vRf 189 47 0) := ⟨ok_load _ _ _ _, so_aload_n mT189 dX5_send_46 rfl⟩
theorem gT189_47 : sG l g D H0 mT 189 47 (s_getf 189 50 4 0) := ⟨ok_getf _ _ _ _, so_getf mT189 cl4 (k := 0) (by decide) dX5_send_47 q1186 (fs_rf rfl)⟩
theorem gT189_50 : sG l g D H0 mT 189 50 (s_load vRf 189 51 0) := ⟨ok_load _ _ _ _, so_aload_n mT189 dX5_send_50 rfl⟩
theorem gT189_51 : sG l g D H0 mT 189 51 (s_getf 189 54 4 4) := ⟨ok_getf _ _ _ _, so_getf mT189 cl4 (k := 4) (by decide) dX5_send_51 q1194 (fs_rf rfl)⟩
theorem gT189_54 : sG l g D H0 mT 189 54 (s_callvk 189 57 25 10 [0] 2) := ⟨ok_callvk _ _ _ _ _ _, sk_callv (by decide) (so_callV mT189 mo25 (by decide) (t := 10) (C := "java/util/ArrayList") (by decide) rfl rfl dX5_send_54 q1453 q439 q440 q58)⟩
theorem gT189_57 : sG l g D H0 mT 189 57 (s_load vRf 189 58 1) := ⟨ok_load _ _ _ _, so_aload_n mT189 dX5_send_57 rfl⟩
theorem gT189_58 : sG l g D H0 mT 189 58 (s_acmp 189 61 71) := ⟨ok_acmp _ _ _, so_acmp_eq mT189 dX5_send_58 (by decide)⟩
theorem gT189_61 : sG l g D H0 mT 189 61 (s_load vRf 189 62 1) := ⟨ok_load _ _ _ _, so_aload_n mT189 dX5_send_61 rfl⟩
theorem gT189_62 : sG l g D H0 mT 189 62 (s_getf 189 65 7 17) := ⟨ok_getf _ _ _ _, so_getfN mT189 cl7 (k := 17) (by decide) dX5_send_62 q1312 (fs_rf rfl)⟩
theorem gT189_65 : sG l g D H0 mT 189 65 (s_const 189 66 (.int 1)) := ⟨ok_const _ _ _, so_iconst mT189 dX5_send_65 (by decide)⟩
theorem gT189_66 : sG l g D H0 mT 189 66 (s_dup2 189 67) := ⟨ok_dup2 _ _, so_dup2 mT189 dX5_send_66⟩
theorem gT189_67 : sG l g D H0 mT 189 67 (s_ald 189 68 20) := ⟨ok_ald _ _ _, so_iald mT189 a20 dX5_send_67⟩
theorem gT189_68 : sG l g D H0 mT 189 68 (s_const 189 69 (.int 1)) := ⟨ok_const _ _ _, so_iconst mT189 dX5_send_68 (by decide)⟩
theorem gT189_69 : sG l g D H0 mT 189 69 (s_bin 189 70 (fun a b => a + b)) := ⟨ok_bin _ _ _, so_iadd mT189 dX5_send_69⟩
theorem gT189_70 : sG l g D H0 mT 189 70 (s_ast g (fun _ v => vI v = true) 189 71 20) := ⟨ok_ast _ _ _ _ _, so_iast mT189 a20 dX5_send_70⟩
theorem gT189_71 : sG l g D H0 mT 189 71 (s_load vRf 189 72 1) := ⟨ok_load _ _ _ _, so_aload_n mT189 dX5_send_71 rfl⟩
theorem gT189_72 : sG l g D H0 mT 189 72 (s_dup 189 73) := ⟨ok_dup _ _, so_dup mT189 dX5_send_72⟩
theorem gT189_73 : sG l g D H0 mT 189 73 (s_getf 189 76 7 12) := ⟨ok_getf _ _ _ _, so_getfN mT189 cl7 (k := 12) (by decide) dX5_send_73 q1297 (fs_rf rfl)⟩
theorem gT189_76 : sG l g D H0 mT 189 76 (s_const 189 77 (.int 1)) := ⟨ok_const _ _ _, so_iconst mT189 dX5_send_76 (by decide)⟩
theorem gT189_77 : sG l g D H0 mT 189 77 (s_bin 189 78 (fun a b => a + b)) := ⟨ok_bin _ _ _, so_iadd mT189 dX5_send_77⟩
theorem gT189_78 : sG l g D H0 mT 189 78 (s_putf g pI 189 81 7 12) := ⟨ok_putf _ _ _ _ _ _, so_putfN mT189 cl7 (k := 12) (by decide) fI rfl dX5_send_78 q1297 (fs_rf rfl)⟩
theorem gT189_81 : sG l g D H0 mT 189 81 (s_load vRf 189 82 1) := ⟨ok_load _ _ _ _, so_aload_n mT189 dX5_send_81 rfl⟩
theorem gT189_82 : sG l g D H0 mT 189 82 (s_callvk 189 85 207 7 [] 1) := ⟨ok_callvk _ _ _ _ _ _, sk_callv (by decide) (so_callV mT189 mo207 (by decide) (t := 7) (C := "HyperVaneModel$Guest") (by decide) rfl rfl dX5_send_82 q1536 q1537 q1538 q75)⟩
theorem gT189_85 : sG l g D H0 mT 189 85 (s_vret) := ⟨ok_vret, so_vret mT189 dX5_send_85⟩
theorem gT189 (pc : Nat) : sG l g D H0 mT 189 pc (tT189 g pc) := sG_cond (sG_cond (sG_cond (sG_cond (sG_cond (sG_leaf gT189_0) (sG_cond (sG_leaf gT189_1) (sG_leaf gT189_4))) (sG_cond (sG_leaf gT189_5) (sG_cond (sG_leaf gT189_8) (sG_leaf gT189_9)))) (sG_cond (sG_cond (sG_leaf gT189_12) (sG_cond (sG_leaf gT189_13) (sG_leaf gT189_14))) (sG_cond (sG_leaf gT189_15) (sG_cond (sG_leaf gT189_16) (sG_leaf gT189_17))))) (sG_cond (sG_cond (sG_cond (sG_leaf gT189_18) (sG_cond (sG_leaf gT189_19) (sG_leaf gT189_20))) (sG_cond (sG_leaf gT189_21) (sG_cond (sG_leaf gT189_24) (sG_leaf gT189_27)))) (sG_cond (sG_cond (sG_leaf gT189_30) (sG_cond (sG_leaf gT189_31) (sG_leaf gT189_32))) (sG_cond (sG_cond (sG_leaf gT189_35) (sG_leaf gT189_38)) (sG_cond (sG_leaf gT189_39) (sG_leaf gT189_42)))))) (sG_cond (sG_cond (sG_cond (sG_cond (sG_leaf gT189_43) (sG_cond (sG_leaf gT189_46) (sG_leaf gT189_47))) (sG_cond (sG_leaf gT189_50) (sG_cond (sG_leaf gT189_51) (sG_leaf gT189_54)))) (sG_cond (sG_cond (sG_leaf gT189_57) (sG_cond (sG_leaf gT189_58) (sG_leaf gT189_61))) (sG_cond (sG_leaf gT189_62) (sG_cond (sG_leaf gT189_65) (sG_leaf gT189_66))))) (sG_cond (sG_cond (sG_cond (sG_leaf gT189_67) (sG_cond (sG_leaf gT189_68) (sG_leaf gT189_69))) (sG_cond (sG_leaf gT189_70) (sG_cond (sG_leaf gT189_71) (sG_leaf gT189_72)))) (sG_cond (sG_cond (sG_leaf gT189_73) (sG_cond (sG_leaf gT189_76) (sG_leaf gT189_77))) (sG_cond (sG_cond (sG_leaf gT189_78) (sG_leaf gT189_81)) (sG_cond (sG_leaf gT189_82) (sG_leaf gT189_85))))))
theorem gT190_0 : sG l g D H0 mT 190 0 (s_load vRf 190 1 0) := ⟨ok_load _ _ _ _, so_aload_n mT190 dX5_device_0 rfl⟩
theorem gT190_1 : sG l g D H0 mT 190 1 (s_getf 190 4 4 4) := ⟨ok_getf _ _ _ _, so_getf mT190 cl4 (k := 4) (by decide) dX5_device_1 q1194 (fs_rf rfl)⟩
theorem gT190_4 : sG l g D H0 mT 190 4 (s_const 190 5 (.int (-1))) := ⟨ok_const _ _ _, so_iconst mT190 dX5_device_4 (by decide)⟩
theorem gT190_5 : sG l g D H0 mT 190 5 (s_icmp 190 8 74 (fun a b => a = b)) := ⟨ok_icmp _ _ _ _, so_icmp_eq mT190 dX5_device_5 (by decide)⟩
theorem gT190_8 : sG l g D H0 mT 190 8 (s_load vRf 190 9 0) := ⟨ok_load _ _ _ _, so_aload_n mT190 dX5_device_8 rfl⟩
theorem gT190_9 : sG l g D H0 mT 190 9 (s_getf 190 12 4 1) := ⟨ok_getf _ _ _ _, so_getf mT190 cl4 (k := 1) (by decide) dX5_device_9 q1188 (fs_rf rfl)⟩
theorem gT190_12 : sG l g D H0 mT 190 12 (s_load vRf 190 13 0) := ⟨ok_load _ _ _ _, so_aload_n mT190 dX5_device_12 rfl⟩
theorem gT190_13 : sG l g D H0 mT 190 13 (s_getf 190 16 4 5) := ⟨ok_getf _ _ _ _, so_getf mT190 cl4 (k := 5) (by decide) dX5_device_13 q1196 (fs_rf rfl)⟩
theorem gT190_16 : sG l g D H0 mT 190 16 (s_bin 190 17 (fun a b => a - b)) := ⟨ok_bin _ _ _, so_isub mT190 dX5_device_16⟩
theorem gT190_17 : sG l g D H0 mT 190 17 (s_const 190 18 (.int 3)) := ⟨ok_const _ _ _, so_iconst mT190 dX5_device_17 (by decide)⟩
theorem gT190_18 : sG l g D H0 mT 190 18 (s_icmp 190 21 74 (fun a b => a < b)) := ⟨ok_icmp _ _ _ _, so_icmp_lt mT190 dX5_device_18 (by decide)⟩
theorem gT190_21 : sG l g D H0 mT 190 21 (s_load vRf 190 22 0) := ⟨ok_load _ _ _ _, so_aload_n mT190 dX5_device_21 rfl⟩
theorem gT190_22 : sG l g D H0 mT 190 22 (s_getf 190 25 4 0) := ⟨ok_getf _ _ _ _, so_getf mT190 cl4 (k := 0) (by decide) dX5_device_22 q1186 (fs_rf rfl)⟩
theorem gT190_25 : sG l g D H0 mT 190 25 (s_load vRf 190 26 0) := ⟨ok_load _ _ _ _, so_aload_n mT190 dX5_device_25 rfl⟩
theorem gT190_26 : sG l g D H0 mT 190 26 (s_getf 190 29 4 4) := ⟨ok_getf _ _ _ _, so_getf mT190 cl4 (k := 4) (by decide) dX5_device_26 q1194 (fs_rf rfl)⟩
theorem gT190_29 : sG l g D H0 mT 190 29 (s_callvk 190 32 25 10 [0] 2) := ⟨ok_callvk _ _ _ _ _ _, sk_callv (by decide) (so_callV mT190 mo25 (by decide) (t := 10) (C := "java/util/ArrayList") (by decide) rfl rfl dX5_device_29 q1453 q439 q440 q58)⟩
theorem gT190_32 : sG l g D H0 mT 190 32 (s_cast 190 35 [7]) := ⟨ok_cast _ _ _, so_cast mT190 (T := "HyperVaneModel$Guest") (ts := [7]) (by intro u hu; rw [List.mem_singleton] at hu; subst hu; exact ⟨by decide, Or.inl rfl⟩) dX5_device_32 q1454⟩
theorem gT190_35 : sG l g D H0 mT 190 35 (s_store vRf 190 36 1) := ⟨ok_store _ _ _ _, so_astore_n mT190 dX5_device_35 rfl⟩
theorem gT190_36 : sG l g D H0 mT 190 36 (s_load vRf 190 37 1) := ⟨ok_load _ _ _ _, so_aload_n mT190 dX5_device_36 rfl⟩
theorem gT190_37 : sG l g D H0 mT 190 37 (s_dup 190 38) := ⟨ok_dup _ _, so_dup mT190 dX5_device_37⟩
theorem gT190_38 : sG l g D H0 mT 190 38 (s_getf 190 41 7 5) := ⟨ok_getf _ _ _ _, so_getfN mT190 cl7 (k := 5) (by decide) dX5_device_38 q1276 (fs_rf rfl)⟩
theorem gT190_41 : sG l g D H0 mT 190 41 (s_const 190 42 (.int 1)) := ⟨ok_const _ _ _, so_iconst mT190 dX5_device_41 (by decide)⟩
theorem gT190_42 : sG l g D H0 mT 190 42 (s_bin 190 43 (fun a b => a + b)) := ⟨ok_bin _ _ _, so_iadd mT190 dX5_device_42⟩
theorem gT190_43 : sG l g D H0 mT 190 43 (s_putf g pI 190 46 7 5) := ⟨ok_putf _ _ _ _ _ _, so_putfN mT190 cl7 (k := 5) (by decide) fI rfl dX5_device_43 q1276 (fs_rf rfl)⟩
theorem gT190_46 : sG l g D H0 mT 190 46 (s_load vRf 190 47 0) := ⟨ok_load _ _ _ _, so_aload_n mT190 dX5_device_46 rfl⟩
theorem gT190_47 : sG l g D H0 mT 190 47 (s_dup 190 48) := ⟨ok_dup _ _, so_dup mT190 dX5_device_47⟩
theorem gT190_48 : sG l g D H0 mT 190 48 (s_getf 190 51 4 9) := ⟨ok_getf _ _ _ _, so_getf mT190 cl4 (k := 9) (by decide) dX5_device_48 q1203 (fs_rf rfl)⟩
theorem gT190_51 : sG l g D H0 mT 190 51 (s_const 190 52 (.int 1)) := ⟨ok_const _ _ _, so_iconst mT190 dX5_device_51 (by decide)⟩
theorem gT190_52 : sG l g D H0 mT 190 52 (s_bin 190 53 (fun a b => a + b)) := ⟨ok_bin _ _ _, so_iadd mT190 dX5_device_52⟩
theorem gT190_53 : sG l g D H0 mT 190 53 (s_putf g pI 190 56 4 9) := ⟨ok_putf _ _ _ _ _ _, so_putf mT190 cl4 (k := 9) (by decide) fI rfl dX5_device_53 q1203 (fs_rf rfl)⟩
theorem gT190_56 : sG l g D H0 mT 190 56 (s_load vRf 190 57 1) := ⟨ok_load _ _ _ _, so_aload_n mT190 dX5_device_56 rfl⟩
theorem gT190_57 : sG l g D H0 mT 190 57 (s_getf 190 60 7 6) := ⟨ok_getf _ _ _ _, so_getfN mT190 cl7 (k := 6) (by decide) dX5_device_57 q1279 (fs_rf rfl)⟩
theorem gT190_60 : sG l g D H0 mT 190 60 (s_const 190 61 (.int 1)) := ⟨ok_const _ _ _, so_iconst mT190 dX5_device_60 (by decide)⟩
theorem gT190_61 : sG l g D H0 mT 190 61 (s_icmp 190 69 64 (fun a b => a = b)) := ⟨ok_icmp _ _ _ _, so_icmp_ne mT190 dX5_device_61 (by decide)⟩
theorem gT190_64 : sG l g D H0 mT 190 64 (s_load vRf 190 65 1) := ⟨ok_load _ _ _ _, so_aload_n mT190 dX5_device_64 rfl⟩
theorem gT190_65 : sG l g D H0 mT 190 65 (s_const 190 66 (.int 0)) := ⟨ok_const _ _ _, so_iconst mT190 dX5_device_65 (by decide)⟩
theorem gT190_66 : sG l g D H0 mT 190 66 (s_putf g pI 190 69 7 6) := ⟨ok_putf _ _ _ _ _ _, so_putfN mT190 cl7 (k := 6) (by decide) fI rfl dX5_device_66 q1279 (fs_rf rfl)⟩
theorem gT190_69 : sG l g D H0 mT 190 69 (s_load vRf 190 70 0) := ⟨ok_load _ _ _ _, so_aload_n mT190 dX5_device_69 rfl⟩
theorem gT190_70 : sG l g D H0 mT 190 70 (s_const 190 71 (.int (-1))) := ⟨ok_const _ _ _, so_iconst mT190 dX5_device_70 (by decide)⟩
theorem gT190_71 : sG l g D H0 mT 190 71 (s_putf g pI 190 74 4 4) := ⟨ok_putf _ _ _ _ _ _, so_putf mT190 cl4 (k := 4) (by decide) fI rfl dX5_device_71 q1194 (fs_rf rfl)⟩
theorem gT190_74 : sG l g D H0 mT 190 74 (s_const 190 75 (.int 1)) := ⟨ok_const _ _ _, so_iconst mT190 dX5_device_74 (by decide)⟩
theorem gT190_75 : sG l g D H0 mT 190 75 (s_store vI 190 76 1) := ⟨ok_store _ _ _ _, so_istore_n mT190 dX5_device_75 rfl⟩
theorem gT190_76 : sG l g D H0 mT 190 76 (s_load vI 190 77 1) := ⟨ok_load _ _ _ _, so_iload_n mT190 dX5_device_76 rfl⟩
theorem gT190_77 : sG l g D H0 mT 190 77 (s_const 190 78 (.int 3)) := ⟨ok_const _ _ _, so_iconst mT190 dX5_device_77 (by decide)⟩
theorem gT190_78 : sG l g D H0 mT 190 78 (s_icmp 190 81 173 (fun a b => b < a)) := ⟨ok_icmp _ _ _ _, so_icmp_gt mT190 dX5_device_78 (by decide)⟩
theorem gT190_81 : sG l g D H0 mT 190 81 (s_load vRf 190 82 0) := ⟨ok_load _ _ _ _, so_aload_n mT190 dX5_device_81 rfl⟩
theorem gT190_82 : sG l g D H0 mT 190 82 (s_getf 190 85 4 4) := ⟨ok_getf _ _ _ _, so_getf mT190 cl4 (k := 4) (by decide) dX5_device_82 q1194 (fs_rf rfl)⟩
theorem gT190_85 : sG l g D H0 mT 190 85 (s_const 190 86 (.int (-1))) := ⟨ok_const _ _ _, so_iconst mT190 dX5_device_85 (by decide)⟩
theorem gT190_86 : sG l g D H0 mT 190 86 (s_icmp 190 173 89 (fun a b => a = b)) := ⟨ok_icmp _ _ _ _, so_icmp_ne mT190 dX5_device_86 (by decide)⟩
theorem gT190_89 : sG l g D H0 mT 190 89 (s_load vRf 190 90 0) := ⟨ok_load _ _ _ _, so_aload_n mT190 dX5_device_89 rfl⟩
theorem gT190_90 : sG l g D H0 mT 190 90 (s_getf 190 93 4 6) := ⟨ok_getf _ _ _ _, so_getf mT190 cl4 (k := 6) (by decide) dX5_device_90 q1198 (fs_rf rfl)⟩
theorem gT190_93 : sG l g D H0 mT 190 93 (s_load vI 190 94 1) := ⟨ok_load _ _ _ _, so_iload_n mT190 dX5_device_93 rfl⟩
theorem gT190_94 : sG l g D H0 mT 190 94 (s_bin 190 95 (fun a b => a + b)) := ⟨ok_bin _ _ _, so_iadd mT190 dX5_device_94⟩
theorem gT190_95 : sG l g D H0 mT 190 95 (s_const 190 96 (.int 3)) := ⟨ok_const _ _ _, so_iconst mT190 dX5_device_95 (by decide)⟩
theorem gT190_96 : sG l g D H0 mT 190 96 (s_div 190 97 (fun a b => a - a / b * b)) := ⟨ok_div _ _ _, so_irem mT190 dX5_device_96⟩
theorem gT190_97 : sG l g D H0 mT 190 97 (s_store vI 190 98 2) := ⟨ok_store _ _ _ _, so_istore_n mT190 dX5_device_97 rfl⟩
theorem gT190_98 : sG l g D H0 mT 190 98 (s_load vI 190 99 2) := ⟨ok_load _ _ _ _, so_iload_n mT190 dX5_device_98 rfl⟩
theorem gT190_99 : sG l g D H0 mT 190 99 (s_load vRf 190 100 0) := ⟨ok_load _ _ _ _, so_aload_n mT190 dX5_device_99 rfl⟩
theorem gT190_100 : sG l g D H0 mT 190 100 (s_getf 190 103 4 0) := ⟨ok_getf _ _ _ _, so_getf mT190 cl4 (k := 0) (by decide) dX5_device_100 q1186 (fs_rf rfl)⟩
theorem gT190_103 : sG l g D H0 mT 190 103 (s_callvk 190 106 15 10 [] 1) := ⟨ok_callvk _ _ _ _ _ _, sk_callv (by decide) (so_callV mT190 mo15 (by decide) (t := 10) (C := "java/util/ArrayList") (by decide) rfl rfl dX5_device_103 q1452 q173 q174 q58)⟩
theorem gT190_106 : sG l g D H0 mT 190 106 (s_icmp 190 109 167 (fun a b => b ≤ a)) := ⟨ok_icmp _ _ _ _, so_icmp_ge mT190 dX5_device_106 (by decide)⟩
theorem gT190_109 : sG l g D H0 mT 190 109 (s_load vRf 190 110 0) := ⟨ok_load _ _ _ _, so_aload_n mT190 dX5_device_109 rfl⟩
theorem gT190_110 : sG l g D H0 mT 190 110 (s_getf 190 113 4 0) := ⟨ok_getf _ _ _ _, so_getf mT190 cl4 (k := 0) (by decide) dX5_device_110 q1186 (fs_rf rfl)⟩
theorem gT190_113 : sG l g D H0 mT 190 113 (s_load vI 190 114 2) := ⟨ok_load _ _ _ _, so_iload_n mT190 dX5_device_113 rfl⟩
theorem gT190_114 : sG l g D H0 mT 190 114 (s_callvk 190 117 25 10 [0] 2) := ⟨ok_callvk _ _ _ _ _ _, sk_callv (by decide) (so_callV mT190 mo25 (by decide) (t := 10) (C := "java/util/ArrayList") (by decide) rfl rfl dX5_device_114 q1453 q439 q440 q58)⟩
theorem gT190_117 : sG l g D H0 mT 190 117 (s_cast 190 120 [7]) := ⟨ok_cast _ _ _, so_cast mT190 (T := "HyperVaneModel$Guest") (ts := [7]) (by intro u hu; rw [List.mem_singleton] at hu; subst hu; exact ⟨by decide, Or.inl rfl⟩) dX5_device_117 q1454⟩
theorem gT190_120 : sG l g D H0 mT 190 120 (s_getf 190 123 7 12) := ⟨ok_getf _ _ _ _, so_getfN mT190 cl7 (k := 12) (by decide) dX5_device_120 q1297 (fs_rf rfl)⟩
theorem gT190_123 : sG l g D H0 mT 190 123 (s_if 190 129 126 (fun a => a = 0)) := ⟨ok_if _ _ _ _, so_if_ne mT190 dX5_device_123 (by decide)⟩
theorem gT190_126 : sG l g D H0 mT 190 126 (s_goto 190 167) := ⟨ok_goto _ _, so_goto mT190 dX5_device_126 (by decide)⟩
theorem gT190_129 : sG l g D H0 mT 190 129 (s_load vRf 190 130 0) := ⟨ok_load _ _ _ _, so_aload_n mT190 dX5_device_129 rfl⟩
theorem gT190_130 : sG l g D H0 mT 190 130 (s_getf 190 133 4 0) := ⟨ok_getf _ _ _ _, so_getf mT190 cl4 (k := 0) (by decide) dX5_device_130 q1186 (fs_rf rfl)⟩
theorem gT190_133 : sG l g D H0 mT 190 133 (s_load vI 190 134 2) := ⟨ok_load _ _ _ _, so_iload_n mT190 dX5_device_133 rfl⟩
theorem gT190_134 : sG l g D H0 mT 190 134 (s_callvk 190 137 25 10 [0] 2) := ⟨ok_callvk _ _ _ _ _ _, sk_callv (by decide) (so_callV mT190 mo25 (by decide) (t := 10) (C := "java/util/ArrayList") (by decide) rfl rfl dX5_device_134 q1453 q439 q440 q58)⟩
theorem gT190_137 : sG l g D H0 mT 190 137 (s_cast 190 140 [7]) := ⟨ok_cast _ _ _, so_cast mT190 (T := "HyperVaneModel$Guest") (ts := [7]) (by intro u hu; rw [List.mem_singleton] at hu; subst hu; exact ⟨by decide, Or.inl rfl⟩) dX5_device_137 q1454⟩
theorem gT190_140 : sG l g D H0 mT 190 140 (s_dup 190 141) := ⟨ok_dup _ _, so_dup mT190 dX5_device_140⟩
theorem gT190_141 : sG l g D H0 mT 190 141 (s_getf 190 144 7 12) := ⟨ok_getf _ _ _ _, so_getfN mT190 cl7 (k := 12) (by decide) dX5_device_141 q1297 (fs_rf rfl)⟩
theorem gT190_144 : sG l g D H0 mT 190 144 (s_const 190 145 (.int 1)) := ⟨ok_const _ _ _, so_iconst mT190 dX5_device_144 (by decide)⟩
theorem gT190_145 : sG l g D H0 mT 190 145 (s_bin 190 146 (fun a b => a - b)) := ⟨ok_bin _ _ _, so_isub mT190 dX5_device_145⟩
theorem gT190_146 : sG l g D H0 mT 190 146 (s_putf g pI 190 149 7 12) := ⟨ok_putf _ _ _ _ _ _, so_putfN mT190 cl7 (k := 12) (by decide) fI rfl dX5_device_146 q1297 (fs_rf rfl)⟩
theorem gT190_149 : sG l g D H0 mT 190 149 (s_load vRf 190 150 0) := ⟨ok_load _ _ _ _, so_aload_n mT190 dX5_device_149 rfl⟩
theorem gT190_150 : sG l g D H0 mT 190 150 (s_load vI 190 151 2) := ⟨ok_load _ _ _ _, so_iload_n mT190 dX5_device_150 rfl⟩
theorem gT190_151 : sG l g D H0 mT 190 151 (s_putf g pI 190 154 4 4) := ⟨ok_putf _ _ _ _ _ _, so_putf mT190 cl4 (k := 4) (by decide) fI rfl dX5_device_151 q1194 (fs_rf rfl)⟩
theorem gT190_154 : sG l g D H0 mT 190 154 (s_load vRf 190 155 0) := ⟨ok_load _ _ _ _, so_aload_n mT190 dX5_device_154 rfl⟩
theorem gT190_155 : sG l g D H0 mT 190 155 (s_load vRf 190 156 0) := ⟨ok_load _ _ _ _, so_aload_n mT190 dX5_device_155 rfl⟩
theorem gT190_156 : sG l g D H0 mT 190 156 (s_getf 190 159 4 1) := ⟨ok_getf _ _ _ _, so_getf mT190 cl4 (k := 1) (by decide) dX5_device_156 q1188 (fs_rf rfl)⟩
theorem gT190_159 : sG l g D H0 mT 190 159 (s_putf g pI 190 162 4 5) := ⟨ok_putf _ _ _ _ _ _, so_putf mT190 cl4 (k := 5) (by decide) fI rfl dX5_device_159 q1196 (fs_rf rfl)⟩
theorem gT190_162 : sG l g D H0 mT 190 162 (s_load vRf 190 163 0) := ⟨ok_load _ _ _ _, so_aload_n mT190 dX5_device_162 rfl⟩
theorem gT190_163 : sG l g D H0 mT 190 163 (s_load vI 190 164 2) := ⟨ok_load _ _ _ _, so_iload_n mT190 dX5_device_163 rfl⟩
theorem gT190_164 : sG l g D H0 mT 190 164 (s_putf g pI 190 167 4 6) := ⟨ok_putf _ _ _ _ _ _, so_putf mT190 cl4 (k := 6) (by decide) fI rfl dX5_device_164 q1198 (fs_rf rfl)⟩
theorem gT190_167 : sG l g D H0 mT 190 167 (s_iinc 190 170 1 1) := ⟨ok_iinc _ _ _ _, so_iinc mT190 dX5_device_167 (by decide)⟩
theorem gT190_170 : sG l g D H0 mT 190 170 (s_goto 190 76) := ⟨ok_goto _ _, so_goto mT190 dX5_device_170 (by decide)⟩
theorem gT190_173 : sG l g D H0 mT 190 173 (s_vret) := ⟨ok_vret, so_vret mT190 dX5_device_173⟩
theorem gT190 (pc : Nat) : sG l g D H0 mT 190 pc (tT190 g pc) := sG_cond (sG_cond (sG_cond (sG_cond (sG_cond (sG_cond (sG_leaf gT190_0) (sG_leaf gT190_1)) (sG_cond (sG_leaf gT190_4) (sG_cond (sG_leaf gT190_5) (sG_leaf gT190_8)))) (sG_cond (sG_cond (sG_leaf gT190_9) (sG_cond (sG_leaf gT190_12) (sG_leaf gT190_13))) (sG_cond (sG_leaf gT190_16) (sG_cond (sG_leaf gT190_17) (sG_leaf gT190_18))))) (sG_cond (sG_cond (sG_cond (sG_leaf gT190_21) (sG_cond (sG_leaf gT190_22) (sG_leaf gT190_25))) (sG_cond (sG_leaf gT190_26) (sG_cond (sG_leaf gT190_29) (sG_leaf gT190_32)))) (sG_cond (sG_cond (sG_leaf gT190_35) (sG_cond (sG_leaf gT190_36) (sG_leaf gT190_37))) (sG_cond (sG_leaf gT190_38) (sG_cond (sG_leaf gT190_41) (sG_leaf gT190_42)))))) (sG_cond (sG_cond (sG_cond (sG_cond (sG_leaf gT190_43) (sG_leaf gT190_46)) (sG_cond (sG_leaf gT190_47) (sG_cond (sG_leaf gT190_48) (sG_leaf gT190_51)))) (sG_cond (sG_cond (sG_leaf gT190_52) (sG_cond (sG_leaf gT190_53) (sG_leaf gT190_56))) (sG_cond (sG_leaf gT190_57) (sG_cond (sG_leaf gT190_60) (sG_leaf gT190_61))))) (sG_cond (sG_cond (sG_cond (sG_leaf gT190_64) (sG_cond (sG_leaf gT190_65) (sG_leaf gT190_66))) (sG_cond (sG_leaf gT190_69) (sG_cond (sG_leaf gT190_70) (sG_leaf gT190_71)))) (sG_cond (sG_cond (sG_leaf gT190_74) (sG_cond (sG_leaf gT190_75) (sG_leaf gT190_76))) (sG_cond (sG_leaf gT190_77) (sG_cond (sG_leaf gT190_78) (sG_leaf gT190_81))))))) (sG_cond (sG_cond (sG_cond (sG_cond (sG_cond (sG_leaf gT190_82) (sG_leaf gT190_85)) (sG_cond (sG_leaf gT190_86) (sG_cond (sG_leaf gT190_89) (sG_leaf gT190_90)))) (sG_cond (sG_cond (sG_leaf gT190_93) (sG_cond (sG_leaf gT190_94) (sG_leaf gT190_95))) (sG_cond (sG_leaf gT190_96) (sG_cond (sG_leaf gT190_97) (sG_leaf gT190_98))))) (sG_cond (sG_cond (sG_cond (sG_leaf gT190_99) (sG_cond (sG_leaf gT190_100) (sG_leaf gT190_103))) (sG_cond (sG_leaf gT190_106) (sG_cond (sG_leaf gT190_109) (sG_leaf gT190_110)))) (sG_cond (sG_cond (sG_leaf gT190_113) (sG_cond (sG_leaf gT190_114) (sG_leaf gT190_117))) (sG_cond (sG_leaf gT190_120) (sG_cond (sG_leaf gT190_123) (sG_leaf gT190_126)))))) (sG_cond (sG_cond (sG_cond (sG_cond (sG_leaf gT190_129) (sG_leaf gT190_130)) (sG_cond (sG_leaf gT190_133) (sG_cond (sG_leaf gT190_134) (sG_leaf gT190_137)))) (sG_cond (sG_cond (sG_leaf gT190_140) (sG_cond (sG_leaf gT190_141) (sG_leaf gT190_144))) (sG_cond (sG_leaf gT190_145) (sG_cond (sG_leaf gT190_146) (sG_leaf gT190_149))))) (sG_cond (sG_cond (sG_cond (sG_leaf gT190_150) (sG_cond (sG_leaf gT190_151) (sG_leaf gT190_154))) (sG_cond (sG_leaf gT190_155) (sG_cond (sG_leaf gT190_156) (sG_leaf gT190_159)))) (sG_cond (sG_cond (sG_leaf gT190_162) (sG_cond (sG_leaf gT190_163) (sG_leaf gT190_164))) (sG_cond (sG_leaf gT190_167) (sG_cond (sG_leaf gT190_170) (sG_leaf gT190_173)))))))
theorem gT191_0 : sG l g D H0 mT 191 0 (s_load vRf 191 1 0) := ⟨ok_load _ _ _ _, so_aload_n mT191 dX5_move_0 rfl⟩
theorem gT191_1 : sG l g D H0 mT 191 1 (s_getf 191 4 4 0) := ⟨ok_getf _ _ _ _, so_getf mT191 cl4 (k := 0) (by decide) dX5_move_1 q1186 (fs_rf rfl)⟩
theorem gT191_4 : sG l g D H0 mT 191 4 (s_load vI 191 5 1) := ⟨ok_load _ _ _ _, so_iload_n mT191 dX5_move_4 rfl⟩
theorem gT191_5 : sG l g D H0 mT 191 5 (s_callvk 191 8 25 10 [0] 2) := ⟨ok_callvk _ _ _ _ _ _, sk_callv (by decide) (so_callV mT191 mo25 (by decide) (t := 10) (C := "java/util/ArrayList") (by decide) rfl rfl dX5_move_5 q1453 q439 q440 q58)⟩
theorem gT191_8 : sG l g D H0 mT 191 8 (s_cast 191 11 [7]) := ⟨ok_cast _ _ _, so_cast mT191 (T := "HyperVaneModel$Guest") (ts := [7]) (by intro u hu; rw [List.mem_singleton] at hu; subst hu; exact ⟨by decide, Or.inl rfl⟩) dX5_move_8 q1454⟩
theorem gT191_11 : sG l g D H0 mT 191 11 (s_store vRf 191 12 2) := ⟨ok_store _ _ _ _, so_astore_n mT191 dX5_move_11 rfl⟩
theorem gT191_12 : sG l g D H0 mT 191 12 (s_load vRf 191 13 2) := ⟨ok_load _ _ _ _, so_aload_n mT191 dX5_move_12 rfl⟩
theorem gT191_13 : sG l g D H0 mT 191 13 (s_getf 191 16 7 19) := ⟨ok_getf _ _ _ _, so_getfN mT191 cl7 (k := 19) (by decide) dX5_move_13 q1318 (fs_rf rfl)⟩
theorem gT191_16 : sG l g D H0 mT 191 16 (s_if 191 19 79 (fun a => a = 0)) := ⟨ok_if _ _ _ _, so_if_eq mT191 dX5_move_16 (by decide)⟩
theorem gT191_19 : sG l g D H0 mT 191 19 (s_load vRf 191 20 2) := ⟨ok_load _ _ _ _, so_aload_n mT191 dX5_move_19 rfl⟩
theorem gT191_20 : sG l g D H0 mT 191 20 (s_const 191 21 (.int 4)) := ⟨ok_const _ _ _, so_iconst mT191 dX5_move_20 (by decide)⟩
theorem gT191_21 : sG l g D H0 mT 191 21 (s_putf g pI 191 24 7 6) := ⟨ok_putf _ _ _ _ _ _, so_putfN mT191 cl7 (k := 6) (by decide) fI rfl dX5_move_21 q1279 (fs_rf rfl)⟩
theorem gT191_24 : sG l g D H0 mT 191 24 (s_load vRf 191 25 2) := ⟨ok_load _ _ _ _, so_aload_n mT191 dX5_move_24 rfl⟩
theorem gT191_25 : sG l g D H0 mT 191 25 (s_const 191 26 (.int 0)) := ⟨ok_const _ _ _, so_iconst mT191 dX5_move_25 (by decide)⟩
theorem gT191_26 : sG l g D H0 mT 191 26 (s_putf g vZ 191 29 7 18) := ⟨ok_putf _ _ _ _ _ _, so_putfN mT191 cl7 (k := 18) (by decide) fZ rfl dX5_move_26 q1315 (fs_rf rfl)⟩
theorem gT191_29 : sG l g D H0 mT 191 29 (s_load vRf 191 30 2) := ⟨ok_load _ _ _ _, so_aload_n mT191 dX5_move_29 rfl⟩
theorem gT191_30 : sG l g D H0 mT 191 30 (s_const 191 31 (.int 0)) := ⟨ok_const _ _ _, so_iconst mT191 dX5_move_30 (by decide)⟩
theorem gT191_31 : sG l g D H0 mT 191 31 (s_putf g pI 191 34 7 12) := ⟨ok_putf _ _ _ _ _ _, so_putfN mT191 cl7 (k := 12) (by decide) fI rfl dX5_move_31 q1297 (fs_rf rfl)⟩
theorem gT191_34 : sG l g D H0 mT 191 34 (s_const 191 35 (.int 0)) := ⟨ok_const _ _ _, so_iconst mT191 dX5_move_34 (by decide)⟩
theorem gT191_35 : sG l g D H0 mT 191 35 (s_store vI 191 36 3) := ⟨ok_store _ _ _ _, so_istore_n mT191 dX5_move_35 rfl⟩
theorem gT191_36 : sG l g D H0 mT 191 36 (s_load vI 191 37 3) := ⟨ok_load _ _ _ _, so_iload_n mT191 dX5_move_36 rfl⟩
theorem gT191_37 : sG l g D H0 mT 191 37 (s_const 191 39 (.int 6)) := ⟨ok_const _ _ _, so_bipush mT191 dX5_move_37 (by decide)⟩
theorem gT191_39 : sG l g D H0 mT 191 39 (s_icmp 191 42 65 (fun a b => b ≤ a)) := ⟨ok_icmp _ _ _ _, so_icmp_ge mT191 dX5_move_39 (by decide)⟩
theorem gT191_42 : sG l g D H0 mT 191 42 (s_load vRf 191 43 2) := ⟨ok_load _ _ _ _, so_aload_n mT191 dX5_move_42 rfl⟩
theorem gT191_43 : sG l g D H0 mT 191 43 (s_getf 191 46 7 14) := ⟨ok_getf _ _ _ _, so_getfN mT191 cl7 (k := 14) (by decide) dX5_move_43 q1303 (fs_rf rfl)⟩
theorem gT191_46 : sG l g D H0 mT 191 46 (s_load vI 191 47 3) := ⟨ok_load _ _ _ _, so_iload_n mT191 dX5_move_46 rfl⟩
theorem gT191_47 : sG l g D H0 mT 191 47 (s_ald 191 48 20) := ⟨ok_ald _ _ _, so_iald mT191 a20 dX5_move_47⟩
theorem gT191_48 : sG l g D H0 mT 191 48 (s_const 191 49 (.int 2)) := ⟨ok_const _ _ _, so_iconst mT191 dX5_move_48 (by decide)⟩
theorem gT191_49 : sG l g D H0 mT 191 49 (s_icmp 191 52 59 (fun a b => a = b)) := ⟨ok_icmp _ _ _ _, so_icmp_eq mT191 dX5_move_49 (by decide)⟩
theorem gT191_52 : sG l g D H0 mT 191 52 (s_load vRf 191 53 2) := ⟨ok_load _ _ _ _, so_aload_n mT191 dX5_move_52 rfl⟩
theorem gT191_53 : sG l g D H0 mT 191 53 (s_getf 191 56 7 14) := ⟨ok_getf _ _ _ _, so_getfN mT191 cl7 (k := 14) (by decide) dX5_move_53 q1303 (fs_rf rfl)⟩
theorem gT191_56 : sG l g D H0 mT 191 56 (s_load vI 191 57 3) := ⟨ok_load _ _ _ _, so_iload_n mT191 dX5_move_56 rfl⟩
theorem gT191_57 : sG l g D H0 mT 191 57 (s_const 191 58 (.int 3)) := ⟨ok_const _ _ _, so_iconst mT191 dX5_move_57 (by decide)⟩
theorem gT191_58 : sG l g D H0 mT 191 58 (s_ast g (fun _ v => vI v = true) 191 59 20) := ⟨ok_ast _ _ _ _ _, so_iast mT191 a20 dX5_move_58⟩
theorem gT191_59 : sG l g D H0 mT 191 59 (s_iinc 191 62 3 1) := ⟨ok_iinc _ _ _ _, so_iinc mT191 dX5_move_59 (by decide)⟩
theorem gT191_62 : sG l g D H0 mT 191 62 (s_goto 191 36) := ⟨ok_goto _ _, so_goto mT191 dX5_move_62 (by decide)⟩
theorem gT191_65 : sG l g D H0 mT 191 65 (s_load vRf 191 66 0) := ⟨ok_load _ _ _ _, so_aload_n mT191 dX5_move_65 rfl⟩
theorem gT191_66 : sG l g D H0 mT 191 66 (s_getf 191 69 4 4) := ⟨ok_getf _ _ _ _, so_getf mT191 cl4 (k := 4) (by decide) dX5_move_66 q1194 (fs_rf rfl)⟩
theorem gT191_69 : sG l g D H0 mT 191 69 (s_load vI 191 70 1) := ⟨ok_load _ _ _ _, so_iload_n mT191 dX5_move_69 rfl⟩
theorem gT191_70 : sG l g D H0 mT 191 70 (s_icmp 191 78 73 (fun a b => a = b)) := ⟨ok_icmp _ _ _ _, so_icmp_ne mT191 dX5_move_70 (by decide)⟩
theorem gT191_73 : sG l g D H0 mT 191 73 (s_load vRf 191 74 0) := ⟨ok_load _ _ _ _, so_aload_n mT191 dX5_move_73 rfl⟩
theorem gT191_74 : sG l g D H0 mT 191 74 (s_const 191 75 (.int (-1))) := ⟨ok_const _ _ _, so_iconst mT191 dX5_move_74 (by decide)⟩
theorem gT191_75 : sG l g D H0 mT 191 75 (s_putf g pI 191 78 4 4) := ⟨ok_putf _ _ _ _ _ _, so_putf mT191 cl4 (k := 4) (by decide) fI rfl dX5_move_75 q1194 (fs_rf rfl)⟩
theorem gT191_78 : sG l g D H0 mT 191 78 (s_vret) := ⟨ok_vret, so_vret mT191 dX5_move_78⟩
theorem gT191_79 : sG l g D H0 mT 191 79 (s_load vRf 191 80 2) := ⟨ok_load _ _ _ _, so_aload_n mT191 dX5_move_79 rfl⟩
theorem gT191_80 : sG l g D H0 mT 191 80 (s_getf 191 83 7 22) := ⟨ok_getf _ _ _ _, so_getfN mT191 cl7 (k := 22) (by decide) dX5_move_80 q1325 (fs_rf rfl)⟩
theorem gT191_83 : sG l g D H0 mT 191 83 (s_callk 191 86 11 [0] 1) := ⟨ok_callk _ _ _ _ _, sk_call (by decide) (so_callS mT191 mo11 (by decide) dX5_move_83 q1479 q1480 q82)⟩
theorem gT191_86 : sG l g D H0 mT 191 86 (s_load vRf 191 87 2) := ⟨ok_load _ _ _ _, so_aload_n mT191 dX5_move_86 rfl⟩
theorem gT191_87 : sG l g D H0 mT 191 87 (s_getf 191 90 7 21) := ⟨ok_getf _ _ _ _, so_getfN mT191 cl7 (k := 21) (by decide) dX5_move_87 q1323 (fs_rf rfl)⟩
theorem gT191_90 : sG l g D H0 mT 191 90 (s_icmp 191 93 97 (fun a b => b < a)) := ⟨ok_icmp _ _ _ _, so_icmp_gt mT191 dX5_move_90 (by decide)⟩
theorem gT191_93 : sG l g D H0 mT 191 93 (s_const 191 94 (.int 1)) := ⟨ok_const _ _ _, so_iconst mT191 dX5_move_93 (by decide)⟩
theorem gT191_94 : sG l g D H0 mT 191 94 (s_goto 191 98) := ⟨ok_goto _ _, so_goto mT191 dX5_move_94 (by decide)⟩
theorem gT191_97 : sG l g D H0 mT 191 97 (s_const 191 98 (.int 0)) := ⟨ok_const _ _ _, so_iconst mT191 dX5_move_97 (by decide)⟩
theorem gT191_98 : sG l g D H0 mT 191 98 (s_store vI 191 99 3) := ⟨ok_store _ _ _ _, so_istore_n mT191 dX5_move_98 rfl⟩
theorem gT191_99 : sG l g D H0 mT 191 99 (s_load vI 191 100 3) := ⟨ok_load _ _ _ _, so_iload_n mT191 dX5_move_99 rfl⟩
theorem gT191_100 : sG l g D H0 mT 191 100 (s_if 191 117 103 (fun a => a = 0)) := ⟨ok_if _ _ _ _, so_if_ne mT191 dX5_move_100 (by decide)⟩
theorem gT191_103 : sG l g D H0 mT 191 103 (s_load vRf 191 104 0) := ⟨ok_load _ _ _ _, so_aload_n mT191 dX5_move_103 rfl⟩
theorem gT191_104 : sG l g D H0 mT 191 104 (s_getf 191 107 4 1) := ⟨ok_getf _ _ _ _, so_getf mT191 cl4 (k := 1) (by decide) dX5_move_104 q1188 (fs_rf rfl)⟩
theorem gT191_107 : sG l g D H0 mT 191 107 (s_load vRf 191 108 2) := ⟨ok_load _ _ _ _, so_aload_n mT191 dX5_move_107 rfl⟩
theorem gT191_108 : sG l g D H0 mT 191 108 (s_getf 191 111 7 23) := ⟨ok_getf _ _ _ _, so_getfN mT191 cl7 (k := 23) (by decide) dX5_move_108 q1328 (fs_rf rfl)⟩
theorem gT191_111 : sG l g D H0 mT 191 111 (s_bin 191 112 (fun a b => a - b)) := ⟨ok_bin _ _ _, so_isub mT191 dX5_move_111⟩
theorem gT191_112 : sG l g D H0 mT 191 112 (s_const 191 114 (.int 12)) := ⟨ok_const _ _ _, so_bipush mT191 dX5_move_112 (by decide)⟩
theorem gT191_114 : sG l g D H0 mT 191 114 (s_icmp 191 117 142 (fun a b => a < b)) := ⟨ok_icmp _ _ _ _, so_icmp_lt mT191 dX5_move_114 (by decide)⟩
theorem gT191_117 : sG l g D H0 mT 191 117 (s_load vRf 191 118 0) := ⟨ok_load _ _ _ _, so_aload_n mT191 dX5_move_117 rfl⟩
theorem gT191_118 : sG l g D H0 mT 191 118 (s_load vRf 191 119 2) := ⟨ok_load _ _ _ _, so_aload_n mT191 dX5_move_118 rfl⟩
theorem gT191_119 : sG l g D H0 mT 191 119 (s_callvk 191 122 178 4 [1] 2) := ⟨ok_callvk _ _ _ _ _ _, sk_callv (by decide) (so_callV mT191 mo178 (by decide) (t := 4) (C := "HyperVaneModel$World") (by decide) rfl rfl dX5_move_119 q1559 q1433 q1434 q67)⟩
theorem gT191_122 : sG l g D H0 mT 191 122 (s_load vRf 191 123 2) := ⟨ok_load _ _ _ _, so_aload_n mT191 dX5_move_122 rfl⟩
theorem gT191_123 : sG l g D H0 mT 191 123 (s_const 191 124 (.int 1)) := ⟨ok_const _ _ _, so_iconst mT191 dX5_move_123 (by decide)⟩
theorem gT191_124 : sG l g D H0 mT 191 124 (s_putf g vZ 191 127 7 20) := ⟨ok_putf _ _ _ _ _ _, so_putfN mT191 cl7 (k := 20) (by decide) fZ rfl dX5_move_124 q1321 (fs_rf rfl)⟩
theorem gT191_127 : sG l g D H0 mT 191 127 (s_load vRf 191 128 2) := ⟨ok_load _ _ _ _, so_aload_n mT191 dX5_move_127 rfl⟩
theorem gT191_128 : sG l g D H0 mT 191 128 (s_dup 191 129) := ⟨ok_dup _ _, so_dup mT191 dX5_move_128⟩
theorem gT191_129 : sG l g D H0 mT 191 129 (s_getf 191 132 7 24) := ⟨ok_getf _ _ _ _, so_getfN mT191 cl7 (k := 24) (by decide) dX5_move_129 q1330 (fs_rf rfl)⟩
theorem gT191_132 : sG l g D H0 mT 191 132 (s_const 191 133 (.int 1)) := ⟨ok_const _ _ _, so_iconst mT191 dX5_move_132 (by decide)⟩
theorem gT191_133 : sG l g D H0 mT 191 133 (s_bin 191 134 (fun a b => a + b)) := ⟨ok_bin _ _ _, so_iadd mT191 dX5_move_133⟩
theorem gT191_134 : sG l g D H0 mT 191 134 (s_putf g pI 191 137 7 24) := ⟨ok_putf _ _ _ _ _ _, so_putfN mT191 cl7 (k := 24) (by decide) fI rfl dX5_move_134 q1330 (fs_rf rfl)⟩
theorem gT191_137 : sG l g D H0 mT 191 137 (s_load vRf 191 138 2) := ⟨ok_load _ _ _ _, so_aload_n mT191 dX5_move_137 rfl⟩
theorem gT191_138 : sG l g D H0 mT 191 138 (s_load vI 191 139 3) := ⟨ok_load _ _ _ _, so_iload_n mT191 dX5_move_138 rfl⟩
theorem gT191_139 : sG l g D H0 mT 191 139 (s_putf g vZ 191 142 7 19) := ⟨ok_putf _ _ _ _ _ _, so_putfN mT191 cl7 (k := 19) (by decide) fZ rfl dX5_move_139 q1318 (fs_rf rfl)⟩
theorem gT191_142 : sG l g D H0 mT 191 142 (s_const 191 143 (.int 0)) := ⟨ok_const _ _ _, so_iconst mT191 dX5_move_142 (by decide)⟩
theorem gT191_143 : sG l g D H0 mT 191 143 (s_store vI 191 145 4) := ⟨ok_store _ _ _ _, so_istore mT191 dX5_move_143⟩
theorem gT191_145 : sG l g D H0 mT 191 145 (s_load vI 191 147 4) := ⟨ok_load _ _ _ _, so_iload mT191 dX5_move_145⟩
theorem gT191_147 : sG l g D H0 mT 191 147 (s_load vRf 191 148 2) := ⟨ok_load _ _ _ _, so_aload_n mT191 dX5_move_147 rfl⟩
theorem gT191_148 : sG l g D H0 mT 191 148 (s_getf 191 151 7 21) := ⟨ok_getf _ _ _ _, so_getfN mT191 cl7 (k := 21) (by decide) dX5_move_148 q1323 (fs_rf rfl)⟩
theorem gT191_151 : sG l g D H0 mT 191 151 (s_icmp 191 154 175 (fun a b => b ≤ a)) := ⟨ok_icmp _ _ _ _, so_icmp_ge mT191 dX5_move_151 (by decide)⟩
theorem gT191_154 : sG l g D H0 mT 191 154 (s_load vRf 191 155 2) := ⟨ok_load _ _ _ _, so_aload_n mT191 dX5_move_154 rfl⟩
theorem gT191_155 : sG l g D H0 mT 191 155 (s_dup 191 156) := ⟨ok_dup _ _, so_dup mT191 dX5_move_155⟩
theorem gT191_156 : sG l g D H0 mT 191 156 (s_getf 191 159 7 22) := ⟨ok_getf _ _ _ _, so_getfN mT191 cl7 (k := 22) (by decide) dX5_move_156 q1325 (fs_rf rfl)⟩
theorem gT191_159 : sG l g D H0 mT 191 159 (s_load vRf 191 160 2) := ⟨ok_load _ _ _ _, so_aload_n mT191 dX5_move_159 rfl⟩
theorem gT191_160 : sG l g D H0 mT 191 160 (s_getf 191 163 7 22) := ⟨ok_getf _ _ _ _, so_getfN mT191 cl7 (k := 22) (by decide) dX5_move_160 q1325 (fs_rf rfl)⟩
theorem gT191_163 : sG l g D H0 mT 191 163 (s_const 191 164 (.int 1)) := ⟨ok_const _ _ _, so_iconst mT191 dX5_move_163 (by decide)⟩
theorem gT191_164 : sG l g D H0 mT 191 164 (s_bin 191 165 (fun a b => a - b)) := ⟨ok_bin _ _ _, so_isub mT191 dX5_move_164⟩
theorem gT191_165 : sG l g D H0 mT 191 165 (s_bin 191 166 (fun a b => a &&& b)) := ⟨ok_bin _ _ _, so_iand mT191 dX5_move_165⟩
theorem gT191_166 : sG l g D H0 mT 191 166 (s_putf g pI 191 169 7 22) := ⟨ok_putf _ _ _ _ _ _, so_putfN mT191 cl7 (k := 22) (by decide) fI rfl dX5_move_166 q1325 (fs_rf rfl)⟩
theorem gT191_169 : sG l g D H0 mT 191 169 (s_iinc 191 172 4 1) := ⟨ok_iinc _ _ _ _, so_iinc mT191 dX5_move_169 (by decide)⟩
theorem gT191_172 : sG l g D H0 mT 191 172 (s_goto 191 145) := ⟨ok_goto _ _, so_goto mT191 dX5_move_172 (by decide)⟩
theorem gT191_175 : sG l g D H0 mT 191 175 (s_vret) := ⟨ok_vret, so_vret mT191 dX5_move_175⟩
theorem gT191 (pc : Nat) : sG l g D H0 mT 191 pc (tT191 g pc) := sG_cond (sG_cond (sG_cond (sG_cond (sG_cond (sG_cond (sG_leaf gT191_0) (sG_cond (sG_leaf gT191_1) (sG_leaf gT191_4))) (sG_cond (sG_leaf gT191_5) (sG_cond (sG_leaf gT191_8) (sG_leaf gT191_11)))) (sG_cond (sG_cond (sG_leaf gT191_12) (sG_cond (sG_leaf gT191_13) (sG_leaf gT191_16))) (sG_cond (sG_leaf gT191_19) (sG_cond (sG_leaf gT191_20) (sG_leaf gT191_21))))) (sG_cond (sG_cond (sG_cond (sG_leaf gT191_24) (sG_cond (sG_leaf gT191_25) (sG_leaf gT191_26))) (sG_cond (sG_leaf gT191_29) (sG_cond (sG_leaf gT191_30) (sG_leaf gT191_31)))) (sG_cond (sG_cond (sG_leaf gT191_34) (sG_cond (sG_leaf gT191_35) (sG_leaf gT191_36))) (sG_cond (sG_leaf gT191_37) (sG_cond (sG_leaf gT191_39) (sG_leaf gT191_42)))))) (sG_cond (sG_cond (sG_cond (sG_cond (sG_leaf gT191_43) (sG_cond (sG_leaf gT191_46) (sG_leaf gT191_47))) (sG_cond (sG_leaf gT191_48) (sG_cond (sG_leaf gT191_49) (sG_leaf gT191_52)))) (sG_cond (sG_cond (sG_leaf gT191_53) (sG_cond (sG_leaf gT191_56) (sG_leaf gT191_57))) (sG_cond (sG_leaf gT191_58) (sG_cond (sG_leaf gT191_59) (sG_leaf gT191_62))))) (sG_cond (sG_cond (sG_cond (sG_leaf gT191_65) (sG_cond (sG_leaf gT191_66) (sG_leaf gT191_69))) (sG_cond (sG_leaf gT191_70) (sG_cond (sG_leaf gT191_73) (sG_leaf gT191_74)))) (sG_cond (sG_cond (sG_leaf gT191_75) (sG_cond (sG_leaf gT191_78) (sG_leaf gT191_79))) (sG_cond (sG_leaf gT191_80) (sG_cond (sG_leaf gT191_83) (sG_leaf gT191_86))))))) (sG_cond (sG_cond (sG_cond (sG_cond (sG_cond (sG_leaf gT191_87) (sG_cond (sG_leaf gT191_90) (sG_leaf gT191_93))) (sG_cond (sG_leaf gT191_94) (sG_cond (sG_leaf gT191_97) (sG_leaf gT191_98)))) (sG_cond (sG_cond (sG_leaf gT191_99) (sG_cond (sG_leaf gT191_100) (sG_leaf gT191_103))) (sG_cond (sG_leaf gT191_104) (sG_cond (sG_leaf gT191_107) (sG_leaf gT191_108))))) (sG_cond (sG_cond (sG_cond (sG_leaf gT191_111) (sG_cond (sG_leaf gT191_112) (sG_leaf gT191_114))) (sG_cond (sG_leaf gT191_117) (sG_cond (sG_leaf gT191_118) (sG_leaf gT191_119)))) (sG_cond (sG_cond (sG_leaf gT191_122) (sG_cond (sG_leaf gT191_123) (sG_leaf gT191_124))) (sG_cond (sG_leaf gT191_127) (sG_cond (sG_leaf gT191_128) (sG_leaf gT191_129)))))) (sG_cond (sG_cond (sG_cond (sG_cond (sG_leaf gT191_132) (sG_cond (sG_leaf gT191_133) (sG_leaf gT191_134))) (sG_cond (sG_leaf gT191_137) (sG_cond (sG_leaf gT191_138) (sG_leaf gT191_139)))) (sG_cond (sG_cond (sG_leaf gT191_142) (sG_cond (sG_leaf gT191_143) (sG_leaf gT191_145))) (sG_cond (sG_leaf gT191_147) (sG_cond (sG_leaf gT191_148) (sG_leaf gT191_151))))) (sG_cond (sG_cond (sG_cond (sG_leaf gT191_154) (sG_cond (sG_leaf gT191_155) (sG_leaf gT191_156))) (sG_cond (sG_leaf gT191_159) (sG_cond (sG_leaf gT191_160) (sG_leaf gT191_163)))) (sG_cond (sG_cond (sG_leaf gT191_164) (sG_cond (sG_leaf gT191_165) (sG_leaf gT191_166))) (sG_cond (sG_leaf gT191_169) (sG_cond (sG_leaf gT191_172) (sG_leaf gT191_175)))))))
theorem gT192_0 : sG l g D H0 mT 192 0 (s_new g 192 3 4 10 (fun k => defaultValue (tyX5 k))) := ⟨ok_new _ _ _ _ _ _, so_new mT192 cl4 (fun _ _ => rfl) dX5_copy_0 q1648 q1179 q67⟩
theorem gT192_3 : sG l g D H0 mT 192 3 (s_dup 192 4) := ⟨ok_dup _ _, so_dup mT192 dX5_copy_3⟩
theorem gT192_4 : sG l g D H0 mT 192 4 (s_callik 192 7 177 [] 1) := ⟨ok_callik _ _ _ _ _, sk_calli (by decide) (so_callI mT192 mo177 (by decide) rfl dX5_copy_4 q1649 q1181 q67)⟩
theorem gT192_7 : sG l g D H0 mT 192 7 (s_store vRf 192 8 1) := ⟨ok_store _ _ _ _, so_astore_n mT192 dX5_copy_7 rfl⟩
theorem gT192_8 : sG l g D H0 mT 192 8 (s_load vRf 192 9 0) := ⟨ok_load _ _ _ _, so_aload_n mT192 dX5_copy_8 rfl⟩
theorem gT192_9 : sG l g D H0 mT 192 9 (s_getf 192 12 4 0) := ⟨ok_getf _ _ _ _, so_getf mT192 cl4 (k := 0) (by decide) dX5_copy_9 q1186 (fs_rf rfl)⟩
theorem gT192_12 : sG l g D H0 mT 192 12 (s_callvk 192 15 22 10 [] 1) := ⟨ok_callvk _ _ _ _ _ _, sk_callv (by decide) (so_callV mT192 mo22 (by decide) (t := 10) (C := "java/util/ArrayList") (by decide) rfl rfl dX5_copy_12 q1503 q303 q304 q58)⟩
theorem gT192_15 : sG l g D H0 mT 192 15 (s_store vRf 192 16 2) := ⟨ok_store _ _ _ _, so_astore_n mT192 dX5_copy_15 rfl⟩
theorem gT192_16 : sG l g D H0 mT 192 16 (s_load vRf 192 17 2) := ⟨ok_load _ _ _ _, so_aload_n mT192 dX5_copy_16 rfl⟩
theorem gT192_17 : sG l g D H0 mT 192 17 (s_callvk 192 22 3 11 [] 1) := ⟨ok_callvk _ _ _ _ _ _, sk_callv (by decide) (so_callF mT192 mo3 (by decide) (t := 11) (C := "java/util/ArrayList$Itr") (by decide) rfl (by decide +kernel) ⟨by decide, by decide, by decide +kernel⟩ dX5_copy_17 q1505 q332 q330 q80)⟩
theorem gT192_22 : sG l g D H0 mT 192 22 (s_if 192 25 50 (fun a => a = 0)) := ⟨ok_if _ _ _ _, so_if_eq mT192 dX5_copy_22 (by decide)⟩
theorem gT192_25 : sG l g D H0 mT 192 25 (s_load vRf 192 26 2) := ⟨ok_load _ _ _ _, so_aload_n mT192 dX5_copy_25 rfl⟩
theorem gT192_26 : sG l g D H0 mT 192 26 (s_callvk 192 31 4 11 [] 3) := ⟨ok_callvk _ _ _ _ _ _, sk_callv (by decide) (so_callF mT192 mo4 (by decide) (t := 11) (C := "java/util/ArrayList$Itr") (by decide) rfl (by decide +kernel) ⟨by decide, by decide, by decide +kernel⟩ dX5_copy_26 q1507 q341 q339 q80)⟩
theorem gT192_31 : sG l g D H0 mT 192 31 (s_cast 192 34 [7]) := ⟨ok_cast _ _ _, so_cast mT192 (T := "HyperVaneModel$Guest") (ts := [7]) (by intro u hu; rw [List.mem_singleton] at hu; subst hu; exact ⟨by decide, Or.inl rfl⟩) dX5_copy_31 q1454⟩
theorem gT192_34 : sG l g D H0 mT 192 34 (s_store vRf 192 35 3) := ⟨ok_store _ _ _ _, so_astore_n mT192 dX5_copy_34 rfl⟩
theorem gT192_35 : sG l g D H0 mT 192 35 (s_load vRf 192 36 1) := ⟨ok_load _ _ _ _, so_aload_n mT192 dX5_copy_35 rfl⟩
theorem gT192_36 : sG l g D H0 mT 192 36 (s_getf 192 39 4 0) := ⟨ok_getf _ _ _ _, so_getf mT192 cl4 (k := 0) (by decide) dX5_copy_36 q1186 (fs_rf rfl)⟩
theorem gT192_39 : sG l g D H0 mT 192 39 (s_load vRf 192 40 3) := ⟨ok_load _ _ _ _, so_aload_n mT192 dX5_copy_39 rfl⟩
theorem gT192_40 : sG l g D H0 mT 192 40 (s_callvk 192 43 210 7 [] 5) := ⟨ok_callvk _ _ _ _ _ _, sk_callv (by decide) (so_callV mT192 mo210 (by decide) (t := 7) (C := "HyperVaneModel$Guest") (by decide) rfl rfl dX5_copy_40 q1650 q1651 q1652 q75)⟩
theorem gT192_43 : sG l g D H0 mT 192 43 (s_callvk 192 46 18 10 [1] 2) := ⟨ok_callvk _ _ _ _ _ _, sk_callv (by decide) (so_callV mT192 mo18 (by decide) (t := 10) (C := "java/util/ArrayList") (by decide) rfl rfl dX5_copy_43 q1672 q228 q229 q58)⟩
theorem gT192_46 : sG l g D H0 mT 192 46 (s_pop 192 47) := ⟨ok_pop _ _, so_pop mT192 dX5_copy_46⟩
theorem gT192_47 : sG l g D H0 mT 192 47 (s_goto 192 16) := ⟨ok_goto _ _, so_goto mT192 dX5_copy_47 (by decide)⟩
theorem gT192_50 : sG l g D H0 mT 192 50 (s_load vRf 192 51 1) := ⟨ok_load _ _ _ _, so_aload_n mT192 dX5_copy_50 rfl⟩
theorem gT192_51 : sG l g D H0 mT 192 51 (s_load vRf 192 52 0) := ⟨ok_load _ _ _ _, so_aload_n mT192 dX5_copy_51 rfl⟩
theorem gT192_52 : sG l g D H0 mT 192 52 (s_getf 192 55 4 1) := ⟨ok_getf _ _ _ _, so_getf mT192 cl4 (k := 1) (by decide) dX5_copy_52 q1188 (fs_rf rfl)⟩
theorem gT192_55 : sG l g D H0 mT 192 55 (s_putf g pI 192 58 4 1) := ⟨ok_putf _ _ _ _ _ _, so_putf mT192 cl4 (k := 1) (by decide) fI rfl dX5_copy_55 q1188 (fs_rf rfl)⟩
theorem gT192_58 : sG l g D H0 mT 192 58 (s_load vRf 192 59 1) := ⟨ok_load _ _ _ _, so_aload_n mT192 dX5_copy_58 rfl⟩
theorem gT192_59 : sG l g D H0 mT 192 59 (s_load vRf 192 60 0) := ⟨ok_load _ _ _ _, so_aload_n mT192 dX5_copy_59 rfl⟩
theorem gT192_60 : sG l g D H0 mT 192 60 (s_getf 192 63 4 2) := ⟨ok_getf _ _ _ _, so_getf mT192 cl4 (k := 2) (by decide) dX5_copy_60 q1190 (fs_rf rfl)⟩
theorem gT192_63 : sG l g D H0 mT 192 63 (s_putf g pI 192 66 4 2) := ⟨ok_putf _ _ _ _ _ _, so_putf mT192 cl4 (k := 2) (by decide) fI rfl dX5_copy_63 q1190 (fs_rf rfl)⟩
theorem gT192_66 : sG l g D H0 mT 192 66 (s_load vRf 192 67 1) := ⟨ok_load _ _ _ _, so_aload_n mT192 dX5_copy_66 rfl⟩
theorem gT192_67 : sG l g D H0 mT 192 67 (s_load vRf 192 68 0) := ⟨ok_load _ _ _ _, so_aload_n mT192 dX5_copy_67 rfl⟩
theorem gT192_68 : sG l g D H0 mT 192 68 (s_getf 192 71 4 3) := ⟨ok_getf _ _ _ _, so_getf mT192 cl4 (k := 3) (by decide) dX5_copy_68 q1192 (fs_rf rfl)⟩
theorem gT192_71 : sG l g D H0 mT 192 71 (s_putf g pI 192 74 4 3) := ⟨ok_putf _ _ _ _ _ _, so_putf mT192 cl4 (k := 3) (by decide) fI rfl dX5_copy_71 q1192 (fs_rf rfl)⟩
theorem gT192_74 : sG l g D H0 mT 192 74 (s_load vRf 192 75 1) := ⟨ok_load _ _ _ _, so_aload_n mT192 dX5_copy_74 rfl⟩
theorem gT192_75 : sG l g D H0 mT 192 75 (s_load vRf 192 76 0) := ⟨ok_load _ _ _ _, so_aload_n mT192 dX5_copy_75 rfl⟩
theorem gT192_76 : sG l g D H0 mT 192 76 (s_getf 192 79 4 4) := ⟨ok_getf _ _ _ _, so_getf mT192 cl4 (k := 4) (by decide) dX5_copy_76 q1194 (fs_rf rfl)⟩
theorem gT192_79 : sG l g D H0 mT 192 79 (s_putf g pI 192 82 4 4) := ⟨ok_putf _ _ _ _ _ _, so_putf mT192 cl4 (k := 4) (by decide) fI rfl dX5_copy_79 q1194 (fs_rf rfl)⟩
theorem gT192_82 : sG l g D H0 mT 192 82 (s_load vRf 192 83 1) := ⟨ok_load _ _ _ _, so_aload_n mT192 dX5_copy_82 rfl⟩
theorem gT192_83 : sG l g D H0 mT 192 83 (s_load vRf 192 84 0) := ⟨ok_load _ _ _ _, so_aload_n mT192 dX5_copy_83 rfl⟩
theorem gT192_84 : sG l g D H0 mT 192 84 (s_getf 192 87 4 5) := ⟨ok_getf _ _ _ _, so_getf mT192 cl4 (k := 5) (by decide) dX5_copy_84 q1196 (fs_rf rfl)⟩
theorem gT192_87 : sG l g D H0 mT 192 87 (s_putf g pI 192 90 4 5) := ⟨ok_putf _ _ _ _ _ _, so_putf mT192 cl4 (k := 5) (by decide) fI rfl dX5_copy_87 q1196 (fs_rf rfl)⟩
theorem gT192_90 : sG l g D H0 mT 192 90 (s_load vRf 192 91 1) := ⟨ok_load _ _ _ _, so_aload_n mT192 dX5_copy_90 rfl⟩
theorem gT192_91 : sG l g D H0 mT 192 91 (s_load vRf 192 92 0) := ⟨ok_load _ _ _ _, so_aload_n mT192 dX5_copy_91 rfl⟩
theorem gT192_92 : sG l g D H0 mT 192 92 (s_getf 192 95 4 6) := ⟨ok_getf _ _ _ _, so_getf mT192 cl4 (k := 6) (by decide) dX5_copy_92 q1198 (fs_rf rfl)⟩
theorem gT192_95 : sG l g D H0 mT 192 95 (s_putf g pI 192 98 4 6) := ⟨ok_putf _ _ _ _ _ _, so_putf mT192 cl4 (k := 6) (by decide) fI rfl dX5_copy_95 q1198 (fs_rf rfl)⟩
theorem gT192_98 : sG l g D H0 mT 192 98 (s_load vRf 192 99 1) := ⟨ok_load _ _ _ _, so_aload_n mT192 dX5_copy_98 rfl⟩
theorem gT192_99 : sG l g D H0 mT 192 99 (s_load vRf 192 100 0) := ⟨ok_load _ _ _ _, so_aload_n mT192 dX5_copy_99 rfl⟩
theorem gT192_100 : sG l g D H0 mT 192 100 (s_getf 192 103 4 7) := ⟨ok_getf _ _ _ _, so_getf mT192 cl4 (k := 7) (by decide) dX5_copy_100 q1199 (fs_rf rfl)⟩
theorem gT192_103 : sG l g D H0 mT 192 103 (s_putf g pI 192 106 4 7) := ⟨ok_putf _ _ _ _ _ _, so_putf mT192 cl4 (k := 7) (by decide) fI rfl dX5_copy_103 q1199 (fs_rf rfl)⟩
theorem gT192_106 : sG l g D H0 mT 192 106 (s_load vRf 192 107 1) := ⟨ok_load _ _ _ _, so_aload_n mT192 dX5_copy_106 rfl⟩
theorem gT192_107 : sG l g D H0 mT 192 107 (s_load vRf 192 108 0) := ⟨ok_load _ _ _ _, so_aload_n mT192 dX5_copy_107 rfl⟩
theorem gT192_108 : sG l g D H0 mT 192 108 (s_getf 192 111 4 8) := ⟨ok_getf _ _ _ _, so_getf mT192 cl4 (k := 8) (by decide) dX5_copy_108 q1201 (fs_rf rfl)⟩
theorem gT192_111 : sG l g D H0 mT 192 111 (s_putf g pI 192 114 4 8) := ⟨ok_putf _ _ _ _ _ _, so_putf mT192 cl4 (k := 8) (by decide) fI rfl dX5_copy_111 q1201 (fs_rf rfl)⟩
theorem gT192_114 : sG l g D H0 mT 192 114 (s_load vRf 192 115 1) := ⟨ok_load _ _ _ _, so_aload_n mT192 dX5_copy_114 rfl⟩
theorem gT192_115 : sG l g D H0 mT 192 115 (s_load vRf 192 116 0) := ⟨ok_load _ _ _ _, so_aload_n mT192 dX5_copy_115 rfl⟩
theorem gT192_116 : sG l g D H0 mT 192 116 (s_getf 192 119 4 9) := ⟨ok_getf _ _ _ _, so_getf mT192 cl4 (k := 9) (by decide) dX5_copy_116 q1203 (fs_rf rfl)⟩
theorem gT192_119 : sG l g D H0 mT 192 119 (s_putf g pI 192 122 4 9) := ⟨ok_putf _ _ _ _ _ _, so_putf mT192 cl4 (k := 9) (by decide) fI rfl dX5_copy_119 q1203 (fs_rf rfl)⟩
theorem gT192_122 : sG l g D H0 mT 192 122 (s_load vRf 192 123 1) := ⟨ok_load _ _ _ _, so_aload_n mT192 dX5_copy_122 rfl⟩
theorem gT192_123 : sG l g D H0 mT 192 123 (s_ret pR) := ⟨ok_ret _, so_aret mT192 dX5_copy_123 (Or.inl ⟨_, rfl⟩)⟩
theorem gT192 (pc : Nat) : sG l g D H0 mT 192 pc (tT192 g pc) := sG_cond (sG_cond (sG_cond (sG_cond (sG_cond (sG_leaf gT192_0) (sG_cond (sG_leaf gT192_3) (sG_leaf gT192_4))) (sG_cond (sG_cond (sG_leaf gT192_7) (sG_leaf gT192_8)) (sG_cond (sG_leaf gT192_9) (sG_leaf gT192_12)))) (sG_cond (sG_cond (sG_cond (sG_leaf gT192_15) (sG_leaf gT192_16)) (sG_cond (sG_leaf gT192_17) (sG_leaf gT192_22))) (sG_cond (sG_cond (sG_leaf gT192_25) (sG_leaf gT192_26)) (sG_cond (sG_leaf gT192_31) (sG_leaf gT192_34))))) (sG_cond (sG_cond (sG_cond (sG_leaf gT192_35) (sG_cond (sG_leaf gT192_36) (sG_leaf gT192_39))) (sG_cond (sG_cond (sG_leaf gT192_40) (sG_leaf gT192_43)) (sG_cond (sG_leaf gT192_46) (sG_leaf gT192_47)))) (sG_cond (sG_cond (sG_cond (sG_leaf gT192_50) (sG_leaf gT192_51)) (sG_cond (sG_leaf gT192_52) (sG_leaf gT192_55))) (sG_cond (sG_cond (sG_leaf gT192_58) (sG_leaf gT192_59)) (sG_cond (sG_leaf gT192_60) (sG_leaf gT192_63)))))) (sG_cond (sG_cond (sG_cond (sG_cond (sG_leaf gT192_66) (sG_cond (sG_leaf gT192_67) (sG_leaf gT192_68))) (sG_cond (sG_cond (sG_leaf gT192_71) (sG_leaf gT192_74)) (sG_cond (sG_leaf gT192_75) (sG_leaf gT192_76)))) (sG_cond (sG_cond (sG_cond (sG_leaf gT192_79) (sG_leaf gT192_82)) (sG_cond (sG_leaf gT192_83) (sG_leaf gT192_84))) (sG_cond (sG_cond (sG_leaf gT192_87) (sG_leaf gT192_90)) (sG_cond (sG_leaf gT192_91) (sG_leaf gT192_92))))) (sG_cond (sG_cond (sG_cond (sG_leaf gT192_95) (sG_cond (sG_leaf gT192_98) (sG_leaf gT192_99))) (sG_cond (sG_cond (sG_leaf gT192_100) (sG_leaf gT192_103)) (sG_cond (sG_leaf gT192_106) (sG_leaf gT192_107)))) (sG_cond (sG_cond (sG_cond (sG_leaf gT192_108) (sG_leaf gT192_111)) (sG_cond (sG_leaf gT192_114) (sG_leaf gT192_115))) (sG_cond (sG_cond (sG_leaf gT192_116) (sG_leaf gT192_119)) (sG_cond (sG_leaf gT192_122) (sG_leaf gT192_123))))))
theorem gT205_0 : sG l g D H0 mT 205 0 (s_load vRf 205 1 0) := ⟨ok_load _ _ _ _, so_aload_n mT205 dX8_init_0 rfl⟩
theorem gT205_1 : sG l g D H0 mT 205 1 (s_oinit 205 4) := ⟨ok_oinit _ _, so_oinit mT205 (by decide) dX8_init_1 q1257 q91 q92⟩
theorem gT205_4 : sG l g D H0 mT 205 4 (s_load vRf 205 5 0) := ⟨ok_load _ _ _ _, so_aload_n mT205 dX8_init_4 rfl⟩
theorem gT205_5 : sG l g D H0 mT 205 5 (s_new g 205 8 10 3 (fun k => defaultValue (tyJ2 k))) := ⟨ok_new _ _ _ _ _ _, so_new mT205 cl10 (fun _ _ => rfl) dX8_init_5 q1258 q100 q58⟩
theorem gT205_8 : sG l g D H0 mT 205 8 (s_dup 205 9) := ⟨ok_dup _ _, so_dup mT205 dX8_init_8⟩
theorem gT205_9 : sG l g D H0 mT 205 9 (s_callik 205 12 14 [] 1) := ⟨ok_callik _ _ _ _ _, sk_calli (by decide) (so_callI mT205 mo14 (by decide) rfl dX8_init_9 q1259 q102 q58)⟩
theorem gT205_12 : sG l g D H0 mT 205 12 (s_putf g pR 205 15 7 1) := ⟨ok_putf _ _ _ _ _ _, so_putf mT205 cl7 (k := 1) (by decide) fR rfl dX8_init_12 q1263 (fs_rf rfl)⟩
theorem gT205_15 : sG l g D H0 mT 205 15 (s_load vRf 205 16 0) := ⟨ok_load _ _ _ _, so_aload_n mT205 dX8_init_15 rfl⟩
theorem gT205_16 : sG l g D H0 mT 205 16 (s_const 205 17 (.int 5)) := ⟨ok_const _ _ _, so_iconst mT205 dX8_init_16 (by decide)⟩
theorem gT205_17 : sG l g D H0 mT 205 17 (s_putf g pI 205 20 7 6) := ⟨ok_putf _ _ _ _ _ _, so_putf mT205 cl7 (k := 6) (by decide) fI rfl dX8_init_17 q1278 (fs_rf rfl)⟩
theorem gT205_20 : sG l g D H0 mT 205 20 (s_load vRf 205 21 0) := ⟨ok_load _ _ _ _, so_aload_n mT205 dX8_init_20 rfl⟩
theorem gT205_21 : sG l g D H0 mT 205 21 (s_const 205 23 (.int 6)) := ⟨ok_const _ _ _, so_bipush mT205 dX8_init_21 (by decide)⟩
theorem gT205_23 : sG l g D H0 mT 205 23 (s_newa g 205 25 20 (.int 0)) := ⟨ok_newa _ _ _ _ _, so_newa mT205 (t := 20) (by decide) rfl rfl (by decide) dX8_init_23 q486⟩
theorem gT205_25 : sG l g D H0 mT 205 25 (s_putf g pR 205 28 7 13) := ⟨ok_putf _ _ _ _ _ _, so_putfF mT205 cl7 (k := 13) (by decide) fA rfl rfl rfl dX8_init_25 q1299 (fs_rf rfl)⟩
theorem gT205_28 : sG l g D H0 mT 205 28 (s_load vRf 205 29 0) := ⟨ok_load _ _ _ _, so_aload_n mT205 dX8_init_28 rfl⟩
theorem gT205_29 : sG l g D H0 mT 205 29 (s_const 205 31 (.int 6)) := ⟨ok_const _ _ _, so_bipush mT205 dX8_init_29 (by decide)⟩
theorem gT205_31 : sG l g D H0 mT 205 31 (s_newa g 205 33 20 (.int 0)) := ⟨ok_newa _ _ _ _ _, so_newa mT205 (t := 20) (by decide) rfl rfl (by decide) dX8_init_31 q486⟩
theorem gT205_33 : sG l g D H0 mT 205 33 (s_dup 205 34) := ⟨ok_dup _ _, so_dup mT205 dX8_init_33⟩
theorem gT205_34 : sG l g D H0 mT 205 34 (s_const 205 35 (.int 0)) := ⟨ok_const _ _ _, so_iconst mT205 dX8_init_34 (by decide)⟩
theorem gT205_35 : sG l g D H0 mT 205 35 (s_const 205 36 (.int 3)) := ⟨ok_const _ _ _, so_iconst mT205 dX8_init_35 (by decide)⟩
theorem gT205_36 : sG l g D H0 mT 205 36 (s_ast g (fun _ v => vI v = true) 205 37 20) := ⟨ok_ast _ _ _ _ _, so_iast mT205 a20 dX8_init_36⟩
theorem gT205_37 : sG l g D H0 mT 205 37 (s_dup 205 38) := ⟨ok_dup _ _, so_dup mT205 dX8_init_37⟩
theorem gT205_38 : sG l g D H0 mT 205 38 (s_const 205 39 (.int 1)) := ⟨ok_const _ _ _, so_iconst mT205 dX8_init_38 (by decide)⟩
theorem gT205_39 : sG l g D H0 mT 205 39 (s_const 205 40 (.int 3)) := ⟨ok_const _ _ _, so_iconst mT205 dX8_init_39 (by decide)⟩
theorem gT205_40 : sG l g D H0 mT 205 40 (s_ast g (fun _ v => vI v = true) 205 41 20) := ⟨ok_ast _ _ _ _ _, so_iast mT205 a20 dX8_init_40⟩
theorem gT205_41 : sG l g D H0 mT 205 41 (s_dup 205 42) := ⟨ok_dup _ _, so_dup mT205 dX8_init_41⟩
theorem gT205_42 : sG l g D H0 mT 205 42 (s_const 205 43 (.int 2)) := ⟨ok_const _ _ _, so_iconst mT205 dX8_init_42 (by decide)⟩
theorem gT205_43 : sG l g D H0 mT 205 43 (s_const 205 44 (.int 3)) := ⟨ok_const _ _ _, so_iconst mT205 dX8_init_43 (by decide)⟩
theorem gT205_44 : sG l g D H0 mT 205 44 (s_ast g (fun _ v => vI v = true) 205 45 20) := ⟨ok_ast _ _ _ _ _, so_iast mT205 a20 dX8_init_44⟩
theorem gT205_45 : sG l g D H0 mT 205 45 (s_dup 205 46) := ⟨ok_dup _ _, so_dup mT205 dX8_init_45⟩
theorem gT205_46 : sG l g D H0 mT 205 46 (s_const 205 47 (.int 3)) := ⟨ok_const _ _ _, so_iconst mT205 dX8_init_46 (by decide)⟩
theorem gT205_47 : sG l g D H0 mT 205 47 (s_const 205 48 (.int 3)) := ⟨ok_const _ _ _, so_iconst mT205 dX8_init_47 (by decide)⟩
theorem gT205_48 : sG l g D H0 mT 205 48 (s_ast g (fun _ v => vI v = true) 205 49 20) := ⟨ok_ast _ _ _ _ _, so_iast mT205 a20 dX8_init_48⟩
theorem gT205_49 : sG l g D H0 mT 205 49 (s_dup 205 50) := ⟨ok_dup _ _, so_dup mT205 dX8_init_49⟩
theorem gT205_50 : sG l g D H0 mT 205 50 (s_const 205 51 (.int 4)) := ⟨ok_const _ _ _, so_iconst mT205 dX8_init_50 (by decide)⟩
theorem gT205_51 : sG l g D H0 mT 205 51 (s_const 205 52 (.int 3)) := ⟨ok_const _ _ _, so_iconst mT205 dX8_init_51 (by decide)⟩
theorem gT205_52 : sG l g D H0 mT 205 52 (s_ast g (fun _ v => vI v = true) 205 53 20) := ⟨ok_ast _ _ _ _ _, so_iast mT205 a20 dX8_init_52⟩
theorem gT205_53 : sG l g D H0 mT 205 53 (s_dup 205 54) := ⟨ok_dup _ _, so_dup mT205 dX8_init_53⟩
theorem gT205_54 : sG l g D H0 mT 205 54 (s_const 205 55 (.int 5)) := ⟨ok_const _ _ _, so_iconst mT205 dX8_init_54 (by decide)⟩
theorem gT205_55 : sG l g D H0 mT 205 55 (s_const 205 56 (.int 3)) := ⟨ok_const _ _ _, so_iconst mT205 dX8_init_55 (by decide)⟩
theorem gT205_56 : sG l g D H0 mT 205 56 (s_ast g (fun _ v => vI v = true) 205 57 20) := ⟨ok_ast _ _ _ _ _, so_iast mT205 a20 dX8_init_56⟩
theorem gT205_57 : sG l g D H0 mT 205 57 (s_putf g pR 205 60 7 14) := ⟨ok_putf _ _ _ _ _ _, so_putfF mT205 cl7 (k := 14) (by decide) fA rfl rfl rfl dX8_init_57 q1302 (fs_rf rfl)⟩
theorem gT205_60 : sG l g D H0 mT 205 60 (s_load vRf 205 61 0) := ⟨ok_load _ _ _ _, so_aload_n mT205 dX8_init_60 rfl⟩
theorem gT205_61 : sG l g D H0 mT 205 61 (s_const 205 63 (.int 6)) := ⟨ok_const _ _ _, so_bipush mT205 dX8_init_61 (by decide)⟩
theorem gT205_63 : sG l g D H0 mT 205 63 (s_newa g 205 65 20 (.int 0)) := ⟨ok_newa _ _ _ _ _, so_newa mT205 (t := 20) (by decide) rfl rfl (by decide) dX8_init_63 q486⟩
theorem gT205_65 : sG l g D H0 mT 205 65 (s_putf g pR 205 68 7 15) := ⟨ok_putf _ _ _ _ _ _, so_putfF mT205 cl7 (k := 15) (by decide) fA rfl rfl rfl dX8_init_65 q1305 (fs_rf rfl)⟩
theorem gT205_68 : sG l g D H0 mT 205 68 (s_load vRf 205 69 0) := ⟨ok_load _ _ _ _, so_aload_n mT205 dX8_init_68 rfl⟩
theorem gT205_69 : sG l g D H0 mT 205 69 (s_const 205 71 (.int 6)) := ⟨ok_const _ _ _, so_bipush mT205 dX8_init_69 (by decide)⟩
theorem gT205_71 : sG l g D H0 mT 205 71 (s_newa g 205 73 20 (.int 0)) := ⟨ok_newa _ _ _ _ _, so_newa mT205 (t := 20) (by decide) rfl rfl (by decide) dX8_init_71 q486⟩
theorem gT205_73 : sG l g D H0 mT 205 73 (s_putf g pR 205 76 7 16) := ⟨ok_putf _ _ _ _ _ _, so_putfF mT205 cl7 (k := 16) (by decide) fA rfl rfl rfl dX8_init_73 q1308 (fs_rf rfl)⟩
theorem gT205_76 : sG l g D H0 mT 205 76 (s_load vRf 205 77 0) := ⟨ok_load _ _ _ _, so_aload_n mT205 dX8_init_76 rfl⟩
theorem gT205_77 : sG l g D H0 mT 205 77 (s_const 205 78 (.int 5)) := ⟨ok_const _ _ _, so_iconst mT205 dX8_init_77 (by decide)⟩
theorem gT205_78 : sG l g D H0 mT 205 78 (s_newa g 205 80 20 (.int 0)) := ⟨ok_newa _ _ _ _ _, so_newa mT205 (t := 20) (by decide) rfl rfl (by decide) dX8_init_78 q486⟩
theorem gT205_80 : sG l g D H0 mT 205 80 (s_putf g pR 205 83 7 17) := ⟨ok_putf _ _ _ _ _ _, so_putfF mT205 cl7 (k := 17) (by decide) fA rfl rfl rfl dX8_init_80 q1311 (fs_rf rfl)⟩
theorem gT205_83 : sG l g D H0 mT 205 83 (s_load vRf 205 84 0) := ⟨ok_load _ _ _ _, so_aload_n mT205 dX8_init_83 rfl⟩
theorem gT205_84 : sG l g D H0 mT 205 84 (s_const 205 86 (.int 6)) := ⟨ok_const _ _ _, so_bipush mT205 dX8_init_84 (by decide)⟩
theorem gT205_86 : sG l g D H0 mT 205 86 (s_newa g 205 88 20 (.int 0)) := ⟨ok_newa _ _ _ _ _, so_newa mT205 (t := 20) (by decide) rfl rfl (by decide) dX8_init_86 q486⟩
theorem gT205_88 : sG l g D H0 mT 205 88 (s_putf g pR 205 91 7 28) := ⟨ok_putf _ _ _ _ _ _, so_putfF mT205 cl7 (k := 28) (by decide) fA rfl rfl rfl dX8_init_88 q1338 (fs_rf rfl)⟩
theorem gT205_91 : sG l g D H0 mT 205 91 (s_load vRf 205 92 0) := ⟨ok_load _ _ _ _, so_aload_n mT205 dX8_init_91 rfl⟩
theorem gT205_92 : sG l g D H0 mT 205 92 (s_new g 205 95 10 3 (fun k => defaultValue (tyJ2 k))) := ⟨ok_new _ _ _ _ _ _, so_new mT205 cl10 (fun _ _ => rfl) dX8_init_92 q1258 q100 q58⟩
theorem gT205_95 : sG l g D H0 mT 205 95 (s_dup 205 96) := ⟨ok_dup _ _, so_dup mT205 dX8_init_95⟩
theorem gT205_96 : sG l g D H0 mT 205 96 (s_callik 205 99 14 [] 1) := ⟨ok_callik _ _ _ _ _, sk_calli (by decide) (so_callI mT205 mo14 (by decide) rfl dX8_init_96 q1259 q102 q58)⟩
theorem gT205_99 : sG l g D H0 mT 205 99 (s_putf g pR 205 102 7 30) := ⟨ok_putf _ _ _ _ _ _, so_putf mT205 cl7 (k := 30) (by decide) fR rfl dX8_init_99 q1342 (fs_rf rfl)⟩
theorem gT205_102 : sG l g D H0 mT 205 102 (s_load vRf 205 103 0) := ⟨ok_load _ _ _ _, so_aload_n mT205 dX8_init_102 rfl⟩
theorem gT205_103 : sG l g D H0 mT 205 103 (s_new g 205 106 10 3 (fun k => defaultValue (tyJ2 k))) := ⟨ok_new _ _ _ _ _ _, so_new mT205 cl10 (fun _ _ => rfl) dX8_init_103 q1258 q100 q58⟩
theorem gT205_106 : sG l g D H0 mT 205 106 (s_dup 205 107) := ⟨ok_dup _ _, so_dup mT205 dX8_init_106⟩
theorem gT205_107 : sG l g D H0 mT 205 107 (s_callik 205 110 14 [] 1) := ⟨ok_callik _ _ _ _ _, sk_calli (by decide) (so_callI mT205 mo14 (by decide) rfl dX8_init_107 q1259 q102 q58)⟩
theorem gT205_110 : sG l g D H0 mT 205 110 (s_putf g pR 205 113 7 31) := ⟨ok_putf _ _ _ _ _ _, so_putf mT205 cl7 (k := 31) (by decide) fR rfl dX8_init_110 q1344 (fs_rf rfl)⟩
theorem gT205_113 : sG l g D H0 mT 205 113 (s_vret) := ⟨ok_vret, so_vret mT205 dX8_init_113⟩
theorem gT205 (pc : Nat) : sG l g D H0 mT 205 pc (tT205 g pc) := sG_cond (sG_cond (sG_cond (sG_cond (sG_cond (sG_cond (sG_leaf gT205_0) (sG_leaf gT205_1)) (sG_cond (sG_leaf gT205_4) (sG_leaf gT205_5))) (sG_cond (sG_cond (sG_leaf gT205_8) (sG_leaf gT205_9)) (sG_cond (sG_leaf gT205_12) (sG_leaf gT205_15)))) (sG_cond (sG_cond (sG_cond (sG_leaf gT205_16) (sG_leaf gT205_17)) (sG_cond (sG_leaf gT205_20) (sG_leaf gT205_21))) (sG_cond (sG_cond (sG_leaf gT205_23) (sG_leaf gT205_25)) (sG_cond (sG_leaf gT205_28) (sG_cond (sG_leaf gT205_29) (sG_leaf gT205_31)))))) (sG_cond (sG_cond (sG_cond (sG_cond (sG_leaf gT205_33) (sG_leaf gT205_34)) (sG_cond (sG_leaf gT205_35) (sG_leaf gT205_36))) (sG_cond (sG_cond (sG_leaf gT205_37) (sG_leaf gT205_38)) (sG_cond (sG_leaf gT205_39) (sG_leaf gT205_40)))) (sG_cond (sG_cond (sG_cond (sG_leaf gT205_41) (sG_leaf gT205_42)) (sG_cond (sG_leaf gT205_43) (sG_leaf gT205_44))) (sG_cond (sG_cond (sG_leaf gT205_45) (sG_leaf gT205_46)) (sG_cond (sG_leaf gT205_47) (sG_cond (sG_leaf gT205_48) (sG_leaf gT205_49))))))) (sG_cond (sG_cond (sG_cond (sG_cond (sG_cond (sG_leaf gT205_50) (sG_leaf gT205_51)) (sG_cond (sG_leaf gT205_52) (sG_leaf gT205_53))) (sG_cond (sG_cond (sG_leaf gT205_54) (sG_leaf gT205_55)) (sG_cond (sG_leaf gT205_56) (sG_leaf gT205_57)))) (sG_cond (sG_cond (sG_cond (sG_leaf gT205_60) (sG_leaf gT205_61)) (sG_cond (sG_leaf gT205_63) (sG_leaf gT205_65))) (sG_cond (sG_cond (sG_leaf gT205_68) (sG_leaf gT205_69)) (sG_cond (sG_leaf gT205_71) (sG_cond (sG_leaf gT205_73) (sG_leaf gT205_76)))))) (sG_cond (sG_cond (sG_cond (sG_cond (sG_leaf gT205_77) (sG_leaf gT205_78)) (sG_cond (sG_leaf gT205_80) (sG_leaf gT205_83))) (sG_cond (sG_cond (sG_leaf gT205_84) (sG_leaf gT205_86)) (sG_cond (sG_leaf gT205_88) (sG_cond (sG_leaf gT205_91) (sG_leaf gT205_92))))) (sG_cond (sG_cond (sG_cond (sG_leaf gT205_95) (sG_leaf gT205_96)) (sG_cond (sG_leaf gT205_99) (sG_leaf gT205_102))) (sG_cond (sG_cond (sG_leaf gT205_103) (sG_leaf gT205_106)) (sG_cond (sG_leaf gT205_107) (sG_cond (sG_leaf gT205_110) (sG_leaf gT205_113)))))))
theorem gT206_0 : sG l g D H0 mT 206 0 (s_const 206 1 (.int 0)) := ⟨ok_const _ _ _, so_iconst mT206 dX8_many_0 (by decide)⟩
theorem gT206_1 : sG l g D H0 mT 206 1 (s_store vI 206 2 2) := ⟨ok_store _ _ _ _, so_istore_n mT206 dX8_many_1 rfl⟩
theorem gT206_2 : sG l g D H0 mT 206 2 (s_const 206 3 (.int 0)) := ⟨ok_const _ _ _, so_iconst mT206 dX8_many_2 (by decide)⟩
theorem gT206_3 : sG l g D H0 mT 206 3 (s_store vI 206 4 3) := ⟨ok_store _ _ _ _, so_istore_n mT206 dX8_many_3 rfl⟩
theorem gT206_4 : sG l g D H0 mT 206 4 (s_load vI 206 5 3) := ⟨ok_load _ _ _ _, so_iload_n mT206 dX8_many_4 rfl⟩
theorem gT206_5 : sG l g D H0 mT 206 5 (s_const 206 7 (.int 6)) := ⟨ok_const _ _ _, so_bipush mT206 dX8_many_5 (by decide)⟩
theorem gT206_7 : sG l g D H0 mT 206 7 (s_icmp 206 10 34 (fun a b => b ≤ a)) := ⟨ok_icmp _ _ _ _, so_icmp_ge mT206 dX8_many_7 (by decide)⟩
theorem gT206_10 : sG l g D H0 mT 206 10 (s_load vI 206 11 2) := ⟨ok_load _ _ _ _, so_iload_n mT206 dX8_many_10 rfl⟩
theorem gT206_11 : sG l g D H0 mT 206 11 (s_load vRf 206 12 0) := ⟨ok_load _ _ _ _, so_aload_n mT206 dX8_many_11 rfl⟩
theorem gT206_12 : sG l g D H0 mT 206 12 (s_getf 206 15 7 14) := ⟨ok_getf _ _ _ _, so_getf mT206 cl7 (k := 14) (by decide) dX8_many_12 q1302 (fs_rf rfl)⟩
theorem gT206_15 : sG l g D H0 mT 206 15 (s_load vI 206 16 3) := ⟨ok_load _ _ _ _, so_iload_n mT206 dX8_many_15 rfl⟩
theorem gT206_16 : sG l g D H0 mT 206 16 (s_ald 206 17 20) := ⟨ok_ald _ _ _, so_iald mT206 a20 dX8_many_16⟩
theorem gT206_17 : sG l g D H0 mT 206 17 (s_load vI 206 18 1) := ⟨ok_load _ _ _ _, so_iload_n mT206 dX8_many_17 rfl⟩
theorem gT206_18 : sG l g D H0 mT 206 18 (s_icmp 206 25 21 (fun a b => a = b)) := ⟨ok_icmp _ _ _ _, so_icmp_ne mT206 dX8_many_18 (by decide)⟩
theorem gT206_21 : sG l g D H0 mT 206 21 (s_const 206 22 (.int 1)) := ⟨ok_const _ _ _, so_iconst mT206 dX8_many_21 (by decide)⟩
theorem gT206_22 : sG l g D H0 mT 206 22 (s_goto 206 26) := ⟨ok_goto _ _, so_goto mT206 dX8_many_22 (by decide)⟩
theorem gT206_25 : sG l g D H0 mT 206 25 (s_const 206 26 (.int 0)) := ⟨ok_const _ _ _, so_iconst mT206 dX8_many_25 (by decide)⟩
theorem gT206_26 : sG l g D H0 mT 206 26 (s_bin 206 27 (fun a b => a + b)) := ⟨ok_bin _ _ _, so_iadd mT206 dX8_many_26⟩
theorem gT206_27 : sG l g D H0 mT 206 27 (s_store vI 206 28 2) := ⟨ok_store _ _ _ _, so_istore_n mT206 dX8_many_27 rfl⟩
theorem gT206_28 : sG l g D H0 mT 206 28 (s_iinc 206 31 3 1) := ⟨ok_iinc _ _ _ _, so_iinc mT206 dX8_many_28 (by decide)⟩
theorem gT206_31 : sG l g D H0 mT 206 31 (s_goto 206 4) := ⟨ok_goto _ _, so_goto mT206 dX8_many_31 (by decide)⟩
theorem gT206_34 : sG l g D H0 mT 206 34 (s_load vI 206 35 2) := ⟨ok_load _ _ _ _, so_iload_n mT206 dX8_many_34 rfl⟩
theorem gT206_35 : sG l g D H0 mT 206 35 (s_ret pI) := ⟨ok_ret _, so_iret mT206 dX8_many_35⟩
theorem gT206 (pc : Nat) : sG l g D H0 mT 206 pc (tT206 g pc) := sG_cond (sG_cond (sG_cond (sG_cond (sG_leaf gT206_0) (sG_leaf gT206_1)) (sG_cond (sG_leaf gT206_2) (sG_cond (sG_leaf gT206_3) (sG_leaf gT206_4)))) (sG_cond (sG_cond (sG_leaf gT206_5) (sG_cond (sG_leaf gT206_7) (sG_leaf gT206_10))) (sG_cond (sG_leaf gT206_11) (sG_cond (sG_leaf gT206_12) (sG_leaf gT206_15))))) (sG_cond (sG_cond (sG_cond (sG_leaf gT206_16) (sG_cond (sG_leaf gT206_17) (sG_leaf gT206_18))) (sG_cond (sG_leaf gT206_21) (sG_cond (sG_leaf gT206_22) (sG_leaf gT206_25)))) (sG_cond (sG_cond (sG_leaf gT206_26) (sG_cond (sG_leaf gT206_27) (sG_leaf gT206_28))) (sG_cond (sG_leaf gT206_31) (sG_cond (sG_leaf gT206_34) (sG_leaf gT206_35)))))
theorem gT207_0 : sG l g D H0 mT 207 0 (s_load vRf 207 1 0) := ⟨ok_load _ _ _ _, so_aload_n mT207 dX8_isDone_0 rfl⟩
theorem gT207_1 : sG l g D H0 mT 207 1 (s_dup 207 2) := ⟨ok_dup _ _, so_dup mT207 dX8_isDone_1⟩
theorem gT207_2 : sG l g D H0 mT 207 2 (s_getf 207 5 7 10) := ⟨ok_getf _ _ _ _, so_getf mT207 cl7 (k := 10) (by decide) dX8_isDone_2 q1290 (fs_rf rfl)⟩
theorem gT207_5 : sG l g D H0 mT 207 5 (s_const 207 6 (.int 1)) := ⟨ok_const _ _ _, so_iconst mT207 dX8_isDone_5 (by decide)⟩
theorem gT207_6 : sG l g D H0 mT 207 6 (s_bin 207 7 (fun a b => a + b)) := ⟨ok_bin _ _ _, so_iadd mT207 dX8_isDone_6⟩
theorem gT207_7 : sG l g D H0 mT 207 7 (s_putf g pI 207 10 7 10) := ⟨ok_putf _ _ _ _ _ _, so_putf mT207 cl7 (k := 10) (by decide) fI rfl dX8_isDone_7 q1290 (fs_rf rfl)⟩
theorem gT207_10 : sG l g D H0 mT 207 10 (s_load vRf 207 11 0) := ⟨ok_load _ _ _ _, so_aload_n mT207 dX8_isDone_10 rfl⟩
theorem gT207_11 : sG l g D H0 mT 207 11 (s_dup 207 12) := ⟨ok_dup _ _, so_dup mT207 dX8_isDone_11⟩
theorem gT207_12 : sG l g D H0 mT 207 12 (s_getf 207 15 7 29) := ⟨ok_getf _ _ _ _, so_getf mT207 cl7 (k := 29) (by decide) dX8_isDone_12 q1340 (fs_rf rfl)⟩
theorem gT207_15 : sG l g D H0 mT 207 15 (s_const 207 16 (.int 1)) := ⟨ok_const _ _ _, so_iconst mT207 dX8_isDone_15 (by decide)⟩
theorem gT207_16 : sG l g D H0 mT 207 16 (s_bin 207 17 (fun a b => a + b)) := ⟨ok_bin _ _ _, so_iadd mT207 dX8_isDone_16⟩
theorem gT207_17 : sG l g D H0 mT 207 17 (s_putf g pI 207 20 7 29) := ⟨ok_putf _ _ _ _ _ _, so_putf mT207 cl7 (k := 29) (by decide) fI rfl dX8_isDone_17 q1340 (fs_rf rfl)⟩
theorem gT207_20 : sG l g D H0 mT 207 20 (s_load vRf 207 21 0) := ⟨ok_load _ _ _ _, so_aload_n mT207 dX8_isDone_20 rfl⟩
theorem gT207_21 : sG l g D H0 mT 207 21 (s_load vRf 207 22 0) := ⟨ok_load _ _ _ _, so_aload_n mT207 dX8_isDone_21 rfl⟩
theorem gT207_22 : sG l g D H0 mT 207 22 (s_getf 207 25 7 2) := ⟨ok_getf _ _ _ _, so_getf mT207 cl7 (k := 2) (by decide) dX8_isDone_22 q1266 (fs_rf rfl)⟩
theorem gT207_25 : sG l g D H0 mT 207 25 (s_const 207 26 (.int 1)) := ⟨ok_const _ _ _, so_iconst mT207 dX8_isDone_25 (by decide)⟩
theorem gT207_26 : sG l g D H0 mT 207 26 (s_bin 207 27 (fun a b => a + b)) := ⟨ok_bin _ _ _, so_iadd mT207 dX8_isDone_26⟩
theorem gT207_27 : sG l g D H0 mT 207 27 (s_load vRf 207 28 0) := ⟨ok_load _ _ _ _, so_aload_n mT207 dX8_isDone_27 rfl⟩
theorem gT207_28 : sG l g D H0 mT 207 28 (s_getf 207 31 7 1) := ⟨ok_getf _ _ _ _, so_getf mT207 cl7 (k := 1) (by decide) dX8_isDone_28 q1263 (fs_rf rfl)⟩
theorem gT207_31 : sG l g D H0 mT 207 31 (s_callvk 207 34 15 10 [] 1) := ⟨ok_callvk _ _ _ _ _ _, sk_callv (by decide) (so_callV mT207 mo15 (by decide) (t := 10) (C := "java/util/ArrayList") (by decide) rfl rfl dX8_isDone_31 q1540 q173 q174 q58)⟩
theorem gT207_34 : sG l g D H0 mT 207 34 (s_div 207 35 (fun a b => a - a / b * b)) := ⟨ok_div _ _ _, so_irem mT207 dX8_isDone_34⟩
theorem gT207_35 : sG l g D H0 mT 207 35 (s_putf g pI 207 38 7 2) := ⟨ok_putf _ _ _ _ _ _, so_putf mT207 cl7 (k := 2) (by decide) fI rfl dX8_isDone_35 q1266 (fs_rf rfl)⟩
theorem gT207_38 : sG l g D H0 mT 207 38 (s_vret) := ⟨ok_vret, so_vret mT207 dX8_isDone_38⟩
theorem gT207 (pc : Nat) : sG l g D H0 mT 207 pc (tT207 g pc) := sG_cond (sG_cond (sG_cond (sG_cond (sG_leaf gT207_0) (sG_leaf gT207_1)) (sG_cond (sG_leaf gT207_2) (sG_cond (sG_leaf gT207_5) (sG_leaf gT207_6)))) (sG_cond (sG_cond (sG_leaf gT207_7) (sG_cond (sG_leaf gT207_10) (sG_leaf gT207_11))) (sG_cond (sG_leaf gT207_12) (sG_cond (sG_leaf gT207_15) (sG_leaf gT207_16))))) (sG_cond (sG_cond (sG_cond (sG_leaf gT207_17) (sG_cond (sG_leaf gT207_20) (sG_leaf gT207_21))) (sG_cond (sG_leaf gT207_22) (sG_cond (sG_leaf gT207_25) (sG_leaf gT207_26)))) (sG_cond (sG_cond (sG_leaf gT207_27) (sG_cond (sG_leaf gT207_28) (sG_leaf gT207_31))) (sG_cond (sG_leaf gT207_34) (sG_cond (sG_leaf gT207_35) (sG_leaf gT207_38)))))
theorem gT208_0 : sG l g D H0 mT 208 0 (s_load vRf 208 1 0) := ⟨ok_load _ _ _ _, so_aload_n mT208 dX8_log_0 rfl⟩
theorem gT208_1 : sG l g D H0 mT 208 1 (s_getf 208 4 7 25) := ⟨ok_getf _ _ _ _, so_getf mT208 cl7 (k := 25) (by decide) dX8_log_1 q1332 (fs_rf rfl)⟩
theorem gT208_4 : sG l g D H0 mT 208 4 (s_if 208 7 31 (fun a => a = 0)) := ⟨ok_if _ _ _ _, so_if_eq mT208 dX8_log_4 (by decide)⟩
theorem gT208_7 : sG l g D H0 mT 208 7 (s_load vRf 208 8 0) := ⟨ok_load _ _ _ _, so_aload_n mT208 dX8_log_7 rfl⟩
theorem gT208_8 : sG l g D H0 mT 208 8 (s_getf 208 11 7 30) := ⟨ok_getf _ _ _ _, so_getf mT208 cl7 (k := 30) (by decide) dX8_log_8 q1342 (fs_rf rfl)⟩
theorem gT208_11 : sG l g D H0 mT 208 11 (s_callvk 208 14 15 10 [] 1) := ⟨ok_callvk _ _ _ _ _ _, sk_callv (by decide) (so_callV mT208 mo15 (by decide) (t := 10) (C := "java/util/ArrayList") (by decide) rfl rfl dX8_log_11 q1540 q173 q174 q58)⟩
theorem gT208_14 : sG l g D H0 mT 208 14 (s_const 208 16 (.int 60)) := ⟨ok_const _ _ _, so_bipush mT208 dX8_log_14 (by decide)⟩
theorem gT208_16 : sG l g D H0 mT 208 16 (s_icmp 208 19 31 (fun a b => b ≤ a)) := ⟨ok_icmp _ _ _ _, so_icmp_ge mT208 dX8_log_16 (by decide)⟩
theorem gT208_19 : sG l g D H0 mT 208 19 (s_load vRf 208 20 0) := ⟨ok_load _ _ _ _, so_aload_n mT208 dX8_log_19 rfl⟩
theorem gT208_20 : sG l g D H0 mT 208 20 (s_getf 208 23 7 30) := ⟨ok_getf _ _ _ _, so_getf mT208 cl7 (k := 30) (by decide) dX8_log_20 q1342 (fs_rf rfl)⟩
theorem gT208_23 : sG l g D H0 mT 208 23 (s_load vI 208 24 1) := ⟨ok_load _ _ _ _, so_iload_n mT208 dX8_log_23 rfl⟩
theorem gT208_24 : sG l g D H0 mT 208 24 (s_callk 208 27 9 [0] 1) := ⟨ok_callk _ _ _ _ _, sk_call (by decide) (so_callS mT208 mo9 (by decide) dX8_log_24 q1549 q771 q82)⟩
theorem gT208_27 : sG l g D H0 mT 208 27 (s_callvk 208 30 18 10 [1] 2) := ⟨ok_callvk _ _ _ _ _ _, sk_callv (by decide) (so_callV mT208 mo18 (by decide) (t := 10) (C := "java/util/ArrayList") (by decide) rfl rfl dX8_log_27 q1550 q228 q229 q58)⟩
theorem gT208_30 : sG l g D H0 mT 208 30 (s_pop 208 31) := ⟨ok_pop _ _, so_pop mT208 dX8_log_30⟩
theorem gT208_31 : sG l g D H0 mT 208 31 (s_vret) := ⟨ok_vret, so_vret mT208 dX8_log_31⟩
theorem gT208 (pc : Nat) : sG l g D H0 mT 208 pc (tT208 g pc) := sG_cond (sG_cond (sG_cond (sG_leaf gT208_0) (sG_cond (sG_leaf gT208_1) (sG_leaf gT208_4))) (sG_cond (sG_cond (sG_leaf gT208_7) (sG_leaf gT208_8)) (sG_cond (sG_leaf gT208_11) (sG_leaf gT208_14)))) (sG_cond (sG_cond (sG_cond (sG_leaf gT208_16) (sG_leaf gT208_19)) (sG_cond (sG_leaf gT208_20) (sG_leaf gT208_23))) (sG_cond (sG_cond (sG_leaf gT208_24) (sG_leaf gT208_27)) (sG_cond (sG_leaf gT208_30) (sG_leaf gT208_31))))
theorem gT209_0 : sG l g D H0 mT 209 0 (s_load vRf 209 1 0) := ⟨ok_load _ _ _ _, so_aload_n mT209 dX8_replay_0 rfl⟩
theorem gT209_1 : sG l g D H0 mT 209 1 (s_getf 209 4 7 25) := ⟨ok_getf _ _ _ _, so_getf mT209 cl7 (k := 25) (by decide) dX8_replay_1 q1332 (fs_rf rfl)⟩
theorem gT209_4 : sG l g D H0 mT 209 4 (s_if 209 7 15 (fun a => a = 0)) := ⟨ok_if _ _ _ _, so_if_eq mT209 dX8_replay_4 (by decide)⟩
theorem gT209_7 : sG l g D H0 mT 209 7 (s_load vI 209 8 1) := ⟨ok_load _ _ _ _, so_iload_n mT209 dX8_replay_7 rfl⟩
theorem gT209_8 : sG l g D H0 mT 209 8 (s_load vRf 209 9 0) := ⟨ok_load _ _ _ _, so_aload_n mT209 dX8_replay_8 rfl⟩
theorem gT209_9 : sG l g D H0 mT 209 9 (s_getf 209 12 7 29) := ⟨ok_getf _ _ _ _, so_getf mT209 cl7 (k := 29) (by decide) dX8_replay_9 q1340 (fs_rf rfl)⟩
theorem gT209_12 : sG l g D H0 mT 209 12 (s_icmp 209 15 17 (fun a b => a ≤ b)) := ⟨ok_icmp _ _ _ _, so_icmp_le mT209 dX8_replay_12 (by decide)⟩
theorem gT209_15 : sG l g D H0 mT 209 15 (s_const 209 16 (.int (-1))) := ⟨ok_const _ _ _, so_iconst mT209 dX8_replay_15 (by decide)⟩
theorem gT209_16 : sG l g D H0 mT 209 16 (s_ret pI) := ⟨ok_ret _, so_iret mT209 dX8_replay_16⟩
theorem gT209_17 : sG l g D H0 mT 209 17 (s_load vRf 209 18 0) := ⟨ok_load _ _ _ _, so_aload_n mT209 dX8_replay_17 rfl⟩
theorem gT209_18 : sG l g D H0 mT 209 18 (s_getf 209 21 7 28) := ⟨ok_getf _ _ _ _, so_getf mT209 cl7 (k := 28) (by decide) dX8_replay_18 q1338 (fs_rf rfl)⟩
theorem gT209_21 : sG l g D H0 mT 209 21 (s_clone g (fun _ v => vI v = true) 209 24 20) := ⟨ok_clone _ _ _ _ _, so_clone mT209 (by decide) (by decide) a20 (fun _ v q => (fI v q).2) rfl dX8_replay_21 q1628 q1629 q664 q665 q1630 q1631⟩
theorem gT209_24 : sG l g D H0 mT 209 24 (s_cast 209 27 [20]) := ⟨ok_cast _ _ _, so_cast mT209 (T := "[I") (ts := [20]) (by intro u hu; rw [List.mem_singleton] at hu; subst hu; exact ⟨by decide, Or.inl rfl⟩) dX8_replay_24 q1632⟩
theorem gT209_27 : sG l g D H0 mT 209 27 (s_store vRf 209 28 3) := ⟨ok_store _ _ _ _, so_astore_n mT209 dX8_replay_27 rfl⟩
theorem gT209_28 : sG l g D H0 mT 209 28 (s_load vRf 209 29 0) := ⟨ok_load _ _ _ _, so_aload_n mT209 dX8_replay_28 rfl⟩
theorem gT209_29 : sG l g D H0 mT 209 29 (s_getf 209 32 7 27) := ⟨ok_getf _ _ _ _, so_getf mT209 cl7 (k := 27) (by decide) dX8_replay_29 q1336 (fs_rf rfl)⟩
theorem gT209_32 : sG l g D H0 mT 209 32 (s_store vI 209 34 4) := ⟨ok_store _ _ _ _, so_istore mT209 dX8_replay_32⟩
theorem gT209_34 : sG l g D H0 mT 209 34 (s_load vRf 209 35 0) := ⟨ok_load _ _ _ _, so_aload_n mT209 dX8_replay_34 rfl⟩
theorem gT209_35 : sG l g D H0 mT 209 35 (s_getf 209 38 7 26) := ⟨ok_getf _ _ _ _, so_getf mT209 cl7 (k := 26) (by decide) dX8_replay_35 q1334 (fs_rf rfl)⟩
theorem gT209_38 : sG l g D H0 mT 209 38 (s_store vI 209 40 5) := ⟨ok_store _ _ _ _, so_istore mT209 dX8_replay_38⟩
theorem gT209_40 : sG l g D H0 mT 209 40 (s_const 209 41 (.int 0)) := ⟨ok_const _ _ _, so_iconst mT209 dX8_replay_40 (by decide)⟩
theorem gT209_41 : sG l g D H0 mT 209 41 (s_store vI 209 43 6) := ⟨ok_store _ _ _ _, so_istore mT209 dX8_replay_41⟩
theorem gT209_43 : sG l g D H0 mT 209 43 (s_const 209 44 (.int 0)) := ⟨ok_const _ _ _, so_iconst mT209 dX8_replay_43 (by decide)⟩
theorem gT209_44 : sG l g D H0 mT 209 44 (s_store vI 209 46 7) := ⟨ok_store _ _ _ _, so_istore mT209 dX8_replay_44⟩
theorem gT209_46 : sG l g D H0 mT 209 46 (s_const 209 47 (.int 0)) := ⟨ok_const _ _ _, so_iconst mT209 dX8_replay_46 (by decide)⟩
theorem gT209_47 : sG l g D H0 mT 209 47 (s_store vI 209 49 8) := ⟨ok_store _ _ _ _, so_istore mT209 dX8_replay_47⟩
theorem gT209_49 : sG l g D H0 mT 209 49 (s_load vI 209 51 8) := ⟨ok_load _ _ _ _, so_iload mT209 dX8_replay_49⟩
theorem gT209_51 : sG l g D H0 mT 209 51 (s_load vI 209 52 1) := ⟨ok_load _ _ _ _, so_iload_n mT209 dX8_replay_51 rfl⟩
theorem gT209_52 : sG l g D H0 mT 209 52 (s_icmp 209 55 291 (fun a b => b < a)) := ⟨ok_icmp _ _ _ _, so_icmp_gt mT209 dX8_replay_52 (by decide)⟩
theorem gT209_55 : sG l g D H0 mT 209 55 (s_load vI 209 57 7) := ⟨ok_load _ _ _ _, so_iload mT209 dX8_replay_55⟩
theorem gT209_57 : sG l g D H0 mT 209 57 (s_load vRf 209 58 0) := ⟨ok_load _ _ _ _, so_aload_n mT209 dX8_replay_57 rfl⟩
theorem gT209_58 : sG l g D H0 mT 209 58 (s_getf 209 61 7 31) := ⟨ok_getf _ _ _ _, so_getf mT209 cl7 (k := 31) (by decide) dX8_replay_58 q1344 (fs_rf rfl)⟩
theorem gT209_61 : sG l g D H0 mT 209 61 (s_callvk 209 64 15 10 [] 1) := ⟨ok_callvk _ _ _ _ _ _, sk_callv (by decide) (so_callV mT209 mo15 (by decide) (t := 10) (C := "java/util/ArrayList") (by decide) rfl rfl dX8_replay_61 q1540 q173 q174 q58)⟩
theorem gT209_64 : sG l g D H0 mT 209 64 (s_icmp 209 67 109 (fun a b => b ≤ a)) := ⟨ok_icmp _ _ _ _, so_icmp_ge mT209 dX8_replay_64 (by decide)⟩
theorem gT209_67 : sG l g D H0 mT 209 67 (s_load vRf 209 68 0) := ⟨ok_load _ _ _ _, so_aload_n mT209 dX8_replay_67 rfl⟩
theorem gT209_68 : sG l g D H0 mT 209 68 (s_getf 209 71 7 31) := ⟨ok_getf _ _ _ _, so_getf mT209 cl7 (k := 31) (by decide) dX8_replay_68 q1344 (fs_rf rfl)⟩
theorem gT209_71 : sG l g D H0 mT 209 71 (s_load vI 209 73 7) := ⟨ok_load _ _ _ _, so_iload mT209 dX8_replay_71⟩
theorem gT209_73 : sG l g D H0 mT 209 73 (s_callvk 209 76 25 10 [0] 2) := ⟨ok_callvk _ _ _ _ _ _, sk_callv (by decide) (so_callV mT209 mo25 (by decide) (t := 10) (C := "java/util/ArrayList") (by decide) rfl rfl dX8_replay_73 q1633 q439 q440 q58)⟩
theorem gT209_76 : sG l g D H0 mT 209 76 (s_cast 209 79 [20]) := ⟨ok_cast _ _ _, so_cast mT209 (T := "[I") (ts := [20]) (by intro u hu; rw [List.mem_singleton] at hu; subst hu; exact ⟨by decide, Or.inl rfl⟩) dX8_replay_76 q1632⟩
theorem gT209_79 : sG l g D H0 mT 209 79 (s_const 209 80 (.int 0)) := ⟨ok_const _ _ _, so_iconst mT209 dX8_replay_79 (by decide)⟩
theorem gT209_80 : sG l g D H0 mT 209 80 (s_ald 209 81 20) := ⟨ok_ald _ _ _, so_iald mT209 a20 dX8_replay_80⟩
theorem gT209_81 : sG l g D H0 mT 209 81 (s_load vI 209 83 8) := ⟨ok_load _ _ _ _, so_iload mT209 dX8_replay_81⟩
theorem gT209_83 : sG l g D H0 mT 209 83 (s_icmp 209 109 86 (fun a b => a = b)) := ⟨ok_icmp _ _ _ _, so_icmp_ne mT209 dX8_replay_83 (by decide)⟩
theorem gT209_86 : sG l g D H0 mT 209 86 (s_load vRf 209 87 3) := ⟨ok_load _ _ _ _, so_aload_n mT209 dX8_replay_86 rfl⟩
theorem gT209_87 : sG l g D H0 mT 209 87 (s_load vRf 209 88 0) := ⟨ok_load _ _ _ _, so_aload_n mT209 dX8_replay_87 rfl⟩
theorem gT209_88 : sG l g D H0 mT 209 88 (s_getf 209 91 7 31) := ⟨ok_getf _ _ _ _, so_getf mT209 cl7 (k := 31) (by decide) dX8_replay_88 q1344 (fs_rf rfl)⟩
theorem gT209_91 : sG l g D H0 mT 209 91 (s_load vI 209 93 7) := ⟨ok_load _ _ _ _, so_iload mT209 dX8_replay_91⟩
theorem gT209_93 : sG l g D H0 mT 209 93 (s_callvk 209 96 25 10 [0] 2) := ⟨ok_callvk _ _ _ _ _ _, sk_callv (by decide) (so_callV mT209 mo25 (by decide) (t := 10) (C := "java/util/ArrayList") (by decide) rfl rfl dX8_replay_93 q1633 q439 q440 q58)⟩
theorem gT209_96 : sG l g D H0 mT 209 96 (s_cast 209 99 [20]) := ⟨ok_cast _ _ _, so_cast mT209 (T := "[I") (ts := [20]) (by intro u hu; rw [List.mem_singleton] at hu; subst hu; exact ⟨by decide, Or.inl rfl⟩) dX8_replay_96 q1632⟩
theorem gT209_99 : sG l g D H0 mT 209 99 (s_const 209 100 (.int 1)) := ⟨ok_const _ _ _, so_iconst mT209 dX8_replay_99 (by decide)⟩
theorem gT209_100 : sG l g D H0 mT 209 100 (s_ald 209 101 20) := ⟨ok_ald _ _ _, so_iald mT209 a20 dX8_replay_100⟩
theorem gT209_101 : sG l g D H0 mT 209 101 (s_const 209 102 (.int 0)) := ⟨ok_const _ _ _, so_iconst mT209 dX8_replay_101 (by decide)⟩
theorem gT209_102 : sG l g D H0 mT 209 102 (s_ast g (fun _ v => vI v = true) 209 103 20) := ⟨ok_ast _ _ _ _ _, so_iast mT209 a20 dX8_replay_102⟩
theorem gT209_103 : sG l g D H0 mT 209 103 (s_iinc 209 106 7 1) := ⟨ok_iinc _ _ _ _, so_iinc mT209 dX8_replay_103 (by decide)⟩
theorem gT209_106 : sG l g D H0 mT 209 106 (s_goto 209 55) := ⟨ok_goto _ _, so_goto mT209 dX8_replay_106 (by decide)⟩
theorem gT209_109 : sG l g D H0 mT 209 109 (s_load vI 209 111 8) := ⟨ok_load _ _ _ _, so_iload mT209 dX8_replay_109⟩
theorem gT209_111 : sG l g D H0 mT 209 111 (s_load vI 209 112 1) := ⟨ok_load _ _ _ _, so_iload_n mT209 dX8_replay_111 rfl⟩
theorem gT209_112 : sG l g D H0 mT 209 112 (s_icmp 209 118 115 (fun a b => a = b)) := ⟨ok_icmp _ _ _ _, so_icmp_ne mT209 dX8_replay_112 (by decide)⟩
theorem gT209_115 : sG l g D H0 mT 209 115 (s_goto 209 291) := ⟨ok_goto _ _, so_goto mT209 dX8_replay_115 (by decide)⟩
theorem gT209_118 : sG l g D H0 mT 209 118 (s_load vRf 209 119 0) := ⟨ok_load _ _ _ _, so_aload_n mT209 dX8_replay_118 rfl⟩
theorem gT209_119 : sG l g D H0 mT 209 119 (s_getf 209 122 7 1) := ⟨ok_getf _ _ _ _, so_getf mT209 cl7 (k := 1) (by decide) dX8_replay_119 q1263 (fs_rf rfl)⟩
theorem gT209_122 : sG l g D H0 mT 209 122 (s_load vI 209 124 5) := ⟨ok_load _ _ _ _, so_iload mT209 dX8_replay_122⟩
theorem gT209_124 : sG l g D H0 mT 209 124 (s_callvk 209 127 25 10 [0] 2) := ⟨ok_callvk _ _ _ _ _ _, sk_callv (by decide) (so_callV mT209 mo25 (by decide) (t := 10) (C := "java/util/ArrayList") (by decide) rfl rfl dX8_replay_124 q1633 q439 q440 q58)⟩
theorem gT209_127 : sG l g D H0 mT 209 127 (s_cast 209 130 [20]) := ⟨ok_cast _ _ _, so_cast mT209 (T := "[I") (ts := [20]) (by intro u hu; rw [List.mem_singleton] at hu; subst hu; exact ⟨by decide, Or.inl rfl⟩) dX8_replay_127 q1632⟩
theorem gT209_130 : sG l g D H0 mT 209 130 (s_store vRf 209 132 9) := ⟨ok_store _ _ _ _, so_astore mT209 dX8_replay_130⟩
theorem gT209_132 : sG l g D H0 mT 209 132 (s_load vRf 209 134 9) := ⟨ok_load _ _ _ _, so_aload mT209 dX8_replay_132⟩
theorem gT209_134 : sG l g D H0 mT 209 134 (s_const 209 135 (.int 0)) := ⟨ok_const _ _ _, so_iconst mT209 dX8_replay_134 (by decide)⟩
theorem gT209_135 : sG l g D H0 mT 209 135 (s_ald 209 136 20) := ⟨ok_ald _ _ _, so_iald mT209 a20 dX8_replay_135⟩
theorem gT209_136 : sG l g D H0 mT 209 136 (s_const 209 137 (.int 4)) := ⟨ok_const _ _ _, so_iconst mT209 dX8_replay_136 (by decide)⟩
theorem gT209_137 : sG l g D H0 mT 209 137 (s_icmp 209 140 148 (fun a b => a = b)) := ⟨ok_icmp _ _ _ _, so_icmp_eq mT209 dX8_replay_137 (by decide)⟩
theorem gT209_140 : sG l g D H0 mT 209 140 (s_load vRf 209 142 9) := ⟨ok_load _ _ _ _, so_aload mT209 dX8_replay_140⟩
theorem gT209_142 : sG l g D H0 mT 209 142 (s_const 209 143 (.int 0)) := ⟨ok_const _ _ _, so_iconst mT209 dX8_replay_142 (by decide)⟩
theorem gT209_143 : sG l g D H0 mT 209 143 (s_ald 209 144 20) := ⟨ok_ald _ _ _, so_iald mT209 a20 dX8_replay_143⟩
theorem gT209_144 : sG l g D H0 mT 209 144 (s_const 209 145 (.int 5)) := ⟨ok_const _ _ _, so_iconst mT209 dX8_replay_144 (by decide)⟩
theorem gT209_145 : sG l g D H0 mT 209 145 (s_icmp 209 215 148 (fun a b => a = b)) := ⟨ok_icmp _ _ _ _, so_icmp_ne mT209 dX8_replay_145 (by decide)⟩
theorem gT209_148 : sG l g D H0 mT 209 148 (s_load vI 209 150 6) := ⟨ok_load _ _ _ _, so_iload mT209 dX8_replay_148⟩
theorem gT209_150 : sG l g D H0 mT 209 150 (s_load vRf 209 151 0) := ⟨ok_load _ _ _ _, so_aload_n mT209 dX8_replay_150 rfl⟩
theorem gT209_151 : sG l g D H0 mT 209 151 (s_getf 209 154 7 30) := ⟨ok_getf _ _ _ _, so_getf mT209 cl7 (k := 30) (by decide) dX8_replay_151 q1342 (fs_rf rfl)⟩
theorem gT209_154 : sG l g D H0 mT 209 154 (s_callvk 209 157 15 10 [] 1) := ⟨ok_callvk _ _ _ _ _ _, sk_callv (by decide) (so_callV mT209 mo15 (by decide) (t := 10) (C := "java/util/ArrayList") (by decide) rfl rfl dX8_replay_154 q1540 q173 q174 q58)⟩
theorem gT209_157 : sG l g D H0 mT 209 157 (s_icmp 209 162 160 (fun a b => a = b)) := ⟨ok_icmp _ _ _ _, so_icmp_ne mT209 dX8_replay_157 (by decide)⟩
theorem gT209_160 : sG l g D H0 mT 209 160 (s_const 209 161 (.int (-1))) := ⟨ok_const _ _ _, so_iconst mT209 dX8_replay_160 (by decide)⟩
theorem gT209_161 : sG l g D H0 mT 209 161 (s_ret pI) := ⟨ok_ret _, so_iret mT209 dX8_replay_161⟩
theorem gT209_162 : sG l g D H0 mT 209 162 (s_load vRf 209 164 9) := ⟨ok_load _ _ _ _, so_aload mT209 dX8_replay_162⟩
theorem gT209_164 : sG l g D H0 mT 209 164 (s_const 209 165 (.int 0)) := ⟨ok_const _ _ _, so_iconst mT209 dX8_replay_164 (by decide)⟩
theorem gT209_165 : sG l g D H0 mT 209 165 (s_ald 209 166 20) := ⟨ok_ald _ _ _, so_iald mT209 a20 dX8_replay_165⟩
theorem gT209_166 : sG l g D H0 mT 209 166 (s_const 209 167 (.int 5)) := ⟨ok_const _ _ _, so_iconst mT209 dX8_replay_166 (by decide)⟩
theorem gT209_167 : sG l g D H0 mT 209 167 (s_icmp 209 188 170 (fun a b => a = b)) := ⟨ok_icmp _ _ _ _, so_icmp_ne mT209 dX8_replay_167 (by decide)⟩
theorem gT209_170 : sG l g D H0 mT 209 170 (s_load vRf 209 171 0) := ⟨ok_load _ _ _ _, so_aload_n mT209 dX8_replay_170 rfl⟩
theorem gT209_171 : sG l g D H0 mT 209 171 (s_getf 209 174 7 30) := ⟨ok_getf _ _ _ _, so_getf mT209 cl7 (k := 30) (by decide) dX8_replay_171 q1342 (fs_rf rfl)⟩
theorem gT209_174 : sG l g D H0 mT 209 174 (s_load vI 209 176 6) := ⟨ok_load _ _ _ _, so_iload mT209 dX8_replay_174⟩
theorem gT209_176 : sG l g D H0 mT 209 176 (s_callvk 209 179 25 10 [0] 2) := ⟨ok_callvk _ _ _ _ _ _, sk_callv (by decide) (so_callV mT209 mo25 (by decide) (t := 10) (C := "java/util/ArrayList") (by decide) rfl rfl dX8_replay_176 q1633 q439 q440 q58)⟩
theorem gT209_179 : sG l g D H0 mT 209 179 (s_cast 209 182 [12]) := ⟨ok_cast _ _ _, so_cast mT209 (T := "java/lang/Integer") (ts := [12]) (by intro u hu; rw [List.mem_singleton] at hu; subst hu; exact ⟨by decide, Or.inl rfl⟩) dX8_replay_179 q1634⟩
theorem gT209_182 : sG l g D H0 mT 209 182 (s_callvk 209 185 8 12 [] 1) := ⟨ok_callvk _ _ _ _ _ _, sk_callv (by decide) (so_callV mT209 mo8 (by decide) (t := 12) (C := "java/lang/Integer") (by decide) rfl rfl dX8_replay_182 q1635 q430 q431 q82)⟩
theorem gT209_185 : sG l g D H0 mT 209 185 (s_goto 209 210) := ⟨ok_goto _ _, so_goto mT209 dX8_replay_185 (by decide)⟩
theorem gT209_188 : sG l g D H0 mT 209 188 (s_load vI 209 190 4) := ⟨ok_load _ _ _ _, so_iload mT209 dX8_replay_188⟩
theorem gT209_190 : sG l g D H0 mT 209 190 (s_load vRf 209 191 0) := ⟨ok_load _ _ _ _, so_aload_n mT209 dX8_replay_190 rfl⟩
theorem gT209_191 : sG l g D H0 mT 209 191 (s_getf 209 194 7 30) := ⟨ok_getf _ _ _ _, so_getf mT209 cl7 (k := 30) (by decide) dX8_replay_191 q1342 (fs_rf rfl)⟩
theorem gT209_194 : sG l g D H0 mT 209 194 (s_load vI 209 196 6) := ⟨ok_load _ _ _ _, so_iload mT209 dX8_replay_194⟩
theorem gT209_196 : sG l g D H0 mT 209 196 (s_callvk 209 199 25 10 [0] 2) := ⟨ok_callvk _ _ _ _ _ _, sk_callv (by decide) (so_callV mT209 mo25 (by decide) (t := 10) (C := "java/util/ArrayList") (by decide) rfl rfl dX8_replay_196 q1633 q439 q440 q58)⟩
theorem gT209_199 : sG l g D H0 mT 209 199 (s_cast 209 202 [12]) := ⟨ok_cast _ _ _, so_cast mT209 (T := "java/lang/Integer") (ts := [12]) (by intro u hu; rw [List.mem_singleton] at hu; subst hu; exact ⟨by decide, Or.inl rfl⟩) dX8_replay_199 q1634⟩
theorem gT209_202 : sG l g D H0 mT 209 202 (s_callvk 209 205 8 12 [] 1) := ⟨ok_callvk _ _ _ _ _ _, sk_callv (by decide) (so_callV mT209 mo8 (by decide) (t := 12) (C := "java/lang/Integer") (by decide) rfl rfl dX8_replay_202 q1635 q430 q431 q82)⟩
theorem gT209_205 : sG l g D H0 mT 209 205 (s_bin 209 206 (fun a b => a + b)) := ⟨ok_bin _ _ _, so_iadd mT209 dX8_replay_205⟩
theorem gT209_206 : sG l g D H0 mT 209 206 (s_const 209 209 (.int 1000)) := ⟨ok_const _ _ _, so_sipush mT209 dX8_replay_206 (by decide)⟩
theorem gT209_209 : sG l g D H0 mT 209 209 (s_div 209 210 (fun a b => a - a / b * b)) := ⟨ok_div _ _ _, so_irem mT209 dX8_replay_209⟩
theorem gT209_210 : sG l g D H0 mT 209 210 (s_store vI 209 212 4) := ⟨ok_store _ _ _ _, so_istore mT209 dX8_replay_210⟩
theorem gT209_212 : sG l g D H0 mT 209 212 (s_iinc 209 215 6 1) := ⟨ok_iinc _ _ _ _, so_iinc mT209 dX8_replay_212 (by decide)⟩
theorem gT209_215 : sG l g D H0 mT 209 215 (s_load vRf 209 217 9) := ⟨ok_load _ _ _ _, so_aload mT209 dX8_replay_215⟩
theorem gT209_217 : sG l g D H0 mT 209 217 (s_const 209 218 (.int 0)) := ⟨ok_const _ _ _, so_iconst mT209 dX8_replay_217 (by decide)⟩
theorem gT209_218 : sG l g D H0 mT 209 218 (s_ald 209 219 20) := ⟨ok_ald _ _ _, so_iald mT209 a20 dX8_replay_218⟩
theorem gT209_219 : sG l g D H0 mT 209 219 (s_const 209 220 (.int 1)) := ⟨ok_const _ _ _, so_iconst mT209 dX8_replay_219 (by decide)⟩
theorem gT209_220 : sG l g D H0 mT 209 220 (s_icmp 209 240 223 (fun a b => a = b)) := ⟨ok_icmp _ _ _ _, so_icmp_ne mT209 dX8_replay_220 (by decide)⟩
theorem gT209_223 : sG l g D H0 mT 209 223 (s_load vI 209 225 4) := ⟨ok_load _ _ _ _, so_iload mT209 dX8_replay_223⟩
theorem gT209_225 : sG l g D H0 mT 209 225 (s_load vRf 209 226 3) := ⟨ok_load _ _ _ _, so_aload_n mT209 dX8_replay_225 rfl⟩
theorem gT209_226 : sG l g D H0 mT 209 226 (s_load vRf 209 228 9) := ⟨ok_load _ _ _ _, so_aload mT209 dX8_replay_226⟩
theorem gT209_228 : sG l g D H0 mT 209 228 (s_const 209 229 (.int 1)) := ⟨ok_const _ _ _, so_iconst mT209 dX8_replay_228 (by decide)⟩
theorem gT209_229 : sG l g D H0 mT 209 229 (s_ald 209 230 20) := ⟨ok_ald _ _ _, so_iald mT209 a20 dX8_replay_229⟩
theorem gT209_230 : sG l g D H0 mT 209 230 (s_ald 209 231 20) := ⟨ok_ald _ _ _, so_iald mT209 a20 dX8_replay_230⟩
theorem gT209_231 : sG l g D H0 mT 209 231 (s_bin 209 232 (fun a b => a + b)) := ⟨ok_bin _ _ _, so_iadd mT209 dX8_replay_231⟩
theorem gT209_232 : sG l g D H0 mT 209 232 (s_const 209 233 (.int 1)) := ⟨ok_const _ _ _, so_iconst mT209 dX8_replay_232 (by decide)⟩
theorem gT209_233 : sG l g D H0 mT 209 233 (s_bin 209 234 (fun a b => a + b)) := ⟨ok_bin _ _ _, so_iadd mT209 dX8_replay_233⟩
theorem gT209_234 : sG l g D H0 mT 209 234 (s_const 209 237 (.int 1000)) := ⟨ok_const _ _ _, so_sipush mT209 dX8_replay_234 (by decide)⟩
theorem gT209_237 : sG l g D H0 mT 209 237 (s_div 209 238 (fun a b => a - a / b * b)) := ⟨ok_div _ _ _, so_irem mT209 dX8_replay_237⟩
theorem gT209_238 : sG l g D H0 mT 209 238 (s_store vI 209 240 4) := ⟨ok_store _ _ _ _, so_istore mT209 dX8_replay_238⟩
theorem gT209_240 : sG l g D H0 mT 209 240 (s_load vRf 209 242 9) := ⟨ok_load _ _ _ _, so_aload mT209 dX8_replay_240⟩
theorem gT209_242 : sG l g D H0 mT 209 242 (s_const 209 243 (.int 0)) := ⟨ok_const _ _ _, so_iconst mT209 dX8_replay_242 (by decide)⟩
theorem gT209_243 : sG l g D H0 mT 209 243 (s_ald 209 244 20) := ⟨ok_ald _ _ _, so_iald mT209 a20 dX8_replay_243⟩
theorem gT209_244 : sG l g D H0 mT 209 244 (s_const 209 245 (.int 2)) := ⟨ok_const _ _ _, so_iconst mT209 dX8_replay_244 (by decide)⟩
theorem gT209_245 : sG l g D H0 mT 209 245 (s_icmp 209 271 248 (fun a b => a = b)) := ⟨ok_icmp _ _ _ _, so_icmp_ne mT209 dX8_replay_245 (by decide)⟩
theorem gT209_248 : sG l g D H0 mT 209 248 (s_load vRf 209 249 3) := ⟨ok_load _ _ _ _, so_aload_n mT209 dX8_replay_248 rfl⟩
theorem gT209_249 : sG l g D H0 mT 209 249 (s_load vRf 209 251 9) := ⟨ok_load _ _ _ _, so_aload mT209 dX8_replay_249⟩
theorem gT209_251 : sG l g D H0 mT 209 251 (s_const 209 252 (.int 1)) := ⟨ok_const _ _ _, so_iconst mT209 dX8_replay_251 (by decide)⟩
theorem gT209_252 : sG l g D H0 mT 209 252 (s_ald 209 253 20) := ⟨ok_ald _ _ _, so_iald mT209 a20 dX8_replay_252⟩
theorem gT209_253 : sG l g D H0 mT 209 253 (s_const 209 254 (.int 3)) := ⟨ok_const _ _ _, so_iconst mT209 dX8_replay_253 (by decide)⟩
theorem gT209_254 : sG l g D H0 mT 209 254 (s_load vRf 209 255 3) := ⟨ok_load _ _ _ _, so_aload_n mT209 dX8_replay_254 rfl⟩
theorem gT209_255 : sG l g D H0 mT 209 255 (s_load vRf 209 257 9) := ⟨ok_load _ _ _ _, so_aload mT209 dX8_replay_255⟩
theorem gT209_257 : sG l g D H0 mT 209 257 (s_const 209 258 (.int 1)) := ⟨ok_const _ _ _, so_iconst mT209 dX8_replay_257 (by decide)⟩
theorem gT209_258 : sG l g D H0 mT 209 258 (s_ald 209 259 20) := ⟨ok_ald _ _ _, so_iald mT209 a20 dX8_replay_258⟩
theorem gT209_259 : sG l g D H0 mT 209 259 (s_ald 209 260 20) := ⟨ok_ald _ _ _, so_iald mT209 a20 dX8_replay_259⟩
theorem gT209_260 : sG l g D H0 mT 209 260 (s_bin 209 261 (fun a b => a * b)) := ⟨ok_bin _ _ _, so_imul mT209 dX8_replay_260⟩
theorem gT209_261 : sG l g D H0 mT 209 261 (s_load vI 209 263 4) := ⟨ok_load _ _ _ _, so_iload mT209 dX8_replay_261⟩
theorem gT209_263 : sG l g D H0 mT 209 263 (s_bin 209 264 (fun a b => a + b)) := ⟨ok_bin _ _ _, so_iadd mT209 dX8_replay_263⟩
theorem gT209_264 : sG l g D H0 mT 209 264 (s_const 209 265 (.int 1)) := ⟨ok_const _ _ _, so_iconst mT209 dX8_replay_264 (by decide)⟩
theorem gT209_265 : sG l g D H0 mT 209 265 (s_bin 209 266 (fun a b => a + b)) := ⟨ok_bin _ _ _, so_iadd mT209 dX8_replay_265⟩
theorem gT209_266 : sG l g D H0 mT 209 266 (s_const 209 269 (.int 1000)) := ⟨ok_const _ _ _, so_sipush mT209 dX8_replay_266 (by decide)⟩
theorem gT209_269 : sG l g D H0 mT 209 269 (s_div 209 270 (fun a b => a - a / b * b)) := ⟨ok_div _ _ _, so_irem mT209 dX8_replay_269⟩
theorem gT209_270 : sG l g D H0 mT 209 270 (s_ast g (fun _ v => vI v = true) 209 271 20) := ⟨ok_ast _ _ _ _ _, so_iast mT209 a20 dX8_replay_270⟩
theorem gT209_271 : sG l g D H0 mT 209 271 (s_load vI 209 273 5) := ⟨ok_load _ _ _ _, so_iload mT209 dX8_replay_271⟩
theorem gT209_273 : sG l g D H0 mT 209 273 (s_const 209 274 (.int 1)) := ⟨ok_const _ _ _, so_iconst mT209 dX8_replay_273 (by decide)⟩
theorem gT209_274 : sG l g D H0 mT 209 274 (s_bin 209 275 (fun a b => a + b)) := ⟨ok_bin _ _ _, so_iadd mT209 dX8_replay_274⟩
theorem gT209_275 : sG l g D H0 mT 209 275 (s_load vRf 209 276 0) := ⟨ok_load _ _ _ _, so_aload_n mT209 dX8_replay_275 rfl⟩
theorem gT209_276 : sG l g D H0 mT 209 276 (s_getf 209 279 7 1) := ⟨ok_getf _ _ _ _, so_getf mT209 cl7 (k := 1) (by decide) dX8_replay_276 q1263 (fs_rf rfl)⟩
theorem gT209_279 : sG l g D H0 mT 209 279 (s_callvk 209 282 15 10 [] 1) := ⟨ok_callvk _ _ _ _ _ _, sk_callv (by decide) (so_callV mT209 mo15 (by decide) (t := 10) (C := "java/util/ArrayList") (by decide) rfl rfl dX8_replay_279 q1540 q173 q174 q58)⟩
theorem gT209_282 : sG l g D H0 mT 209 282 (s_div 209 283 (fun a b => a - a / b * b)) := ⟨ok_div _ _ _, so_irem mT209 dX8_replay_282⟩
theorem gT209_283 : sG l g D H0 mT 209 283 (s_store vI 209 285 5) := ⟨ok_store _ _ _ _, so_istore mT209 dX8_replay_283⟩
theorem gT209_285 : sG l g D H0 mT 209 285 (s_iinc 209 288 8 1) := ⟨ok_iinc _ _ _ _, so_iinc mT209 dX8_replay_285 (by decide)⟩
theorem gT209_288 : sG l g D H0 mT 209 288 (s_goto 209 49) := ⟨ok_goto _ _, so_goto mT209 dX8_replay_288 (by decide)⟩
theorem gT209_291 : sG l g D H0 mT 209 291 (s_load vI 209 292 2) := ⟨ok_load _ _ _ _, so_iload_n mT209 dX8_replay_291 rfl⟩
theorem gT209_292 : sG l g D H0 mT 209 292 (s_const 209 293 (.int (-1))) := ⟨ok_const _ _ _, so_iconst mT209 dX8_replay_292 (by decide)⟩
theorem gT209_293 : sG l g D H0 mT 209 293 (s_icmp 209 301 296 (fun a b => a = b)) := ⟨ok_icmp _ _ _ _, so_icmp_ne mT209 dX8_replay_293 (by decide)⟩
theorem gT209_296 : sG l g D H0 mT 209 296 (s_load vI 209 298 4) := ⟨ok_load _ _ _ _, so_iload mT209 dX8_replay_296⟩
theorem gT209_298 : sG l g D H0 mT 209 298 (s_goto 209 304) := ⟨ok_goto _ _, so_goto mT209 dX8_replay_298 (by decide)⟩
theorem gT209_301 : sG l g D H0 mT 209 301 (s_load vRf 209 302 3) := ⟨ok_load _ _ _ _, so_aload_n mT209 dX8_replay_301 rfl⟩
theorem gT209_302 : sG l g D H0 mT 209 302 (s_load vI 209 303 2) := ⟨ok_load _ _ _ _, so_iload_n mT209 dX8_replay_302 rfl⟩
theorem gT209_303 : sG l g D H0 mT 209 303 (s_ald 209 304 20) := ⟨ok_ald _ _ _, so_iald mT209 a20 dX8_replay_303⟩
theorem gT209_304 : sG l g D H0 mT 209 304 (s_ret pI) := ⟨ok_ret _, so_iret mT209 dX8_replay_304⟩
theorem gT209 (pc : Nat) : sG l g D H0 mT 209 pc (tT209 g pc) := sG_cond (sG_cond (sG_cond (sG_cond (sG_cond (sG_cond (sG_cond (sG_leaf gT209_0) (sG_leaf gT209_1)) (sG_cond (sG_leaf gT209_4) (sG_cond (sG_leaf gT209_7) (sG_leaf gT209_8)))) (sG_cond (sG_cond (sG_leaf gT209_9) (sG_leaf gT209_12)) (sG_cond (sG_leaf gT209_15) (sG_cond (sG_leaf gT209_16) (sG_leaf gT209_17))))) (sG_cond (sG_cond (sG_cond (sG_leaf gT209_18) (sG_leaf gT209_21)) (sG_cond (sG_leaf gT209_24) (sG_cond (sG_leaf gT209_27) (sG_leaf gT209_28)))) (sG_cond (sG_cond (sG_leaf gT209_29) (sG_leaf gT209_32)) (sG_cond (sG_leaf gT209_34) (sG_cond (sG_leaf gT209_35) (sG_leaf gT209_38)))))) (sG_cond (sG_cond (sG_cond (sG_cond (sG_leaf gT209_40) (sG_leaf gT209_41)) (sG_cond (sG_leaf gT209_43) (sG_cond (sG_leaf gT209_44) (sG_leaf gT209_46)))) (sG_cond (sG_cond (sG_leaf gT209_47) (sG_leaf gT209_49)) (sG_cond (sG_leaf gT209_51) (sG_cond (sG_leaf gT209_52) (sG_leaf gT209_55))))) (sG_cond (sG_cond (sG_cond (sG_leaf gT209_57) (sG_leaf gT209_58)) (sG_cond (sG_leaf gT209_61) (sG_cond (sG_leaf gT209_64) (sG_leaf gT209_67)))) (sG_cond (sG_cond (sG_leaf gT209_68) (sG_cond (sG_leaf gT209_71) (sG_leaf gT209_73))) (sG_cond (sG_leaf gT209_76) (sG_cond (sG_leaf gT209_79) (sG_leaf gT209_80))))))) (sG_cond (sG_cond (sG_cond (sG_cond (sG_cond (sG_leaf gT209_81) (sG_leaf gT209_83)) (sG_cond (sG_leaf gT209_86) (sG_cond (sG_leaf gT209_87) (sG_leaf gT209_88)))) (sG_cond (sG_cond (sG_leaf gT209_91) (sG_leaf gT209_93)) (sG_cond (sG_leaf gT209_96) (sG_cond (sG_leaf gT209_99) (sG_leaf gT209_100))))) (sG_cond (sG_cond (sG_cond (sG_leaf gT209_101) (sG_leaf gT209_102)) (sG_cond (sG_leaf gT209_103) (sG_cond (sG_leaf gT209_106) (sG_leaf gT209_109)))) (sG_cond (sG_cond (sG_leaf gT209_111) (sG_leaf gT209_112)) (sG_cond (sG_leaf gT209_115) (sG_cond (sG_leaf gT209_118) (sG_leaf gT209_119)))))) (sG_cond (sG_cond (sG_cond (sG_cond (sG_leaf gT209_122) (sG_leaf gT209_124)) (sG_cond (sG_leaf gT209_127) (sG_cond (sG_leaf gT209_130) (sG_leaf gT209_132)))) (sG_cond (sG_cond (sG_leaf gT209_134) (sG_leaf gT209_135)) (sG_cond (sG_leaf gT209_136) (sG_cond (sG_leaf gT209_137) (sG_leaf gT209_140))))) (sG_cond (sG_cond (sG_cond (sG_leaf gT209_142) (sG_leaf gT209_143)) (sG_cond (sG_leaf gT209_144) (sG_cond (sG_leaf gT209_145) (sG_leaf gT209_148)))) (sG_cond (sG_cond (sG_leaf gT209_150) (sG_cond (sG_leaf gT209_151) (sG_leaf gT209_154))) (sG_cond (sG_leaf gT209_157) (sG_cond (sG_leaf gT209_160) (sG_leaf gT209_161)))))))) (sG_cond (sG_cond (sG_cond (sG_cond (sG_cond (sG_cond (sG_leaf gT209_162) (sG_leaf gT209_164)) (sG_cond (sG_leaf gT209_165) (sG_cond (sG_leaf gT209_166) (sG_leaf gT209_167)))) (sG_cond (sG_cond (sG_leaf gT209_170) (sG_leaf gT209_171)) (sG_cond (sG_leaf gT209_174) (sG_cond (sG_leaf gT209_176) (sG_leaf gT209_179))))) (sG_cond (sG_cond (sG_cond (sG_leaf gT209_182) (sG_leaf gT209_185)) (sG_cond (sG_leaf gT209_188) (sG_cond (sG_leaf gT209_190) (sG_leaf gT209_191)))) (sG_cond (sG_cond (sG_leaf gT209_194) (sG_leaf gT209_196)) (sG_cond (sG_leaf gT209_199) (sG_cond (sG_leaf gT209_202) (sG_leaf gT209_205)))))) (sG_cond (sG_cond (sG_cond (sG_cond (sG_leaf gT209_206) (sG_leaf gT209_209)) (sG_cond (sG_leaf gT209_210) (sG_cond (sG_leaf gT209_212) (sG_leaf gT209_215)))) (sG_cond (sG_cond (sG_leaf gT209_217) (sG_leaf gT209_218)) (sG_cond (sG_leaf gT209_219) (sG_cond (sG_leaf gT209_220) (sG_leaf gT209_223))))) (sG_cond (sG_cond (sG_cond (sG_leaf gT209_225) (sG_leaf gT209_226)) (sG_cond (sG_leaf gT209_228) (sG_cond (sG_leaf gT209_229) (sG_leaf gT209_230)))) (sG_cond (sG_cond (sG_leaf gT209_231) (sG_cond (sG_leaf gT209_232) (sG_leaf gT209_233))) (sG_cond (sG_leaf gT209_234) (sG_cond (sG_leaf gT209_237) (sG_leaf gT209_238))))))) (sG_cond (sG_cond (sG_cond (sG_cond (sG_cond (sG_leaf gT209_240) (sG_leaf gT209_242)) (sG_cond (sG_leaf gT209_243) (sG_cond (sG_leaf gT209_244) (sG_leaf gT209_245)))) (sG_cond (sG_cond (sG_leaf gT209_248) (sG_leaf gT209_249)) (sG_cond (sG_leaf gT209_251) (sG_cond (sG_leaf gT209_252) (sG_leaf gT209_253))))) (sG_cond (sG_cond (sG_cond (sG_leaf gT209_254) (sG_leaf gT209_255)) (sG_cond (sG_leaf gT209_257) (sG_cond (sG_leaf gT209_258) (sG_leaf gT209_259)))) (sG_cond (sG_cond (sG_leaf gT209_260) (sG_cond (sG_leaf gT209_261) (sG_leaf gT209_263))) (sG_cond (sG_leaf gT209_264) (sG_cond (sG_leaf gT209_265) (sG_leaf gT209_266)))))) (sG_cond (sG_cond (sG_cond (sG_cond (sG_leaf gT209_269) (sG_leaf gT209_270)) (sG_cond (sG_leaf gT209_271) (sG_cond (sG_leaf gT209_273) (sG_leaf gT209_274)))) (sG_cond (sG_cond (sG_leaf gT209_275) (sG_leaf gT209_276)) (sG_cond (sG_leaf gT209_279) (sG_cond (sG_leaf gT209_282) (sG_leaf gT209_283))))) (sG_cond (sG_cond (sG_cond (sG_leaf gT209_285) (sG_leaf gT209_288)) (sG_cond (sG_leaf gT209_291) (sG_cond (sG_leaf gT209_292) (sG_leaf gT209_293)))) (sG_cond (sG_cond (sG_leaf gT209_296) (sG_cond (sG_leaf gT209_298) (sG_leaf gT209_301))) (sG_cond (sG_leaf gT209_302) (sG_cond (sG_leaf gT209_303) (sG_leaf gT209_304))))))))
theorem gT210_0 : sG l g D H0 mT 210 0 (s_new g 210 3 7 32 (fun k => defaultValue (tyX8 k))) := ⟨ok_new _ _ _ _ _ _, so_new mT210 cl7 (fun _ _ => rfl) dX8_copy_0 q1654 q1253 q75⟩
theorem gT210_3 : sG l g D H0 mT 210 3 (s_dup 210 4) := ⟨ok_dup _ _, so_dup mT210 dX8_copy_3⟩
theorem gT210_4 : sG l g D H0 mT 210 4 (s_callik 210 7 205 [] 1) := ⟨ok_callik _ _ _ _ _, sk_calli (by decide) (so_callI mT210 mo205 (by decide) rfl dX8_copy_4 q1655 q1255 q75)⟩
theorem gT210_7 : sG l g D H0 mT 210 7 (s_store vRf 210 8 1) := ⟨ok_store _ _ _ _, so_astore_n mT210 dX8_copy_7 rfl⟩
theorem gT210_8 : sG l g D H0 mT 210 8 (s_load vRf 210 9 1) := ⟨ok_load _ _ _ _, so_aload_n mT210 dX8_copy_8 rfl⟩
theorem gT210_9 : sG l g D H0 mT 210 9 (s_load vRf 210 10 0) := ⟨ok_load _ _ _ _, so_aload_n mT210 dX8_copy_9 rfl⟩
theorem gT210_10 : sG l g D H0 mT 210 10 (s_getf 210 13 7 0) := ⟨ok_getf _ _ _ _, so_getf mT210 cl7 (k := 0) (by decide) dX8_copy_10 q1260 (fs_rf rfl)⟩
theorem gT210_13 : sG l g D H0 mT 210 13 (s_putf g pI 210 16 7 0) := ⟨ok_putf _ _ _ _ _ _, so_putf mT210 cl7 (k := 0) (by decide) fI rfl dX8_copy_13 q1260 (fs_rf rfl)⟩
theorem gT210_16 : sG l g D H0 mT 210 16 (s_load vRf 210 17 1) := ⟨ok_load _ _ _ _, so_aload_n mT210 dX8_copy_16 rfl⟩
theorem gT210_17 : sG l g D H0 mT 210 17 (s_new g 210 20 10 3 (fun k => defaultValue (tyJ2 k))) := ⟨ok_new _ _ _ _ _ _, so_new mT210 cl10 (fun _ _ => rfl) dX8_copy_17 q1258 q100 q58⟩
theorem gT210_20 : sG l g D H0 mT 210 20 (s_dup 210 21) := ⟨ok_dup _ _, so_dup mT210 dX8_copy_20⟩
theorem gT210_21 : sG l g D H0 mT 210 21 (s_load vRf 210 22 0) := ⟨ok_load _ _ _ _, so_aload_n mT210 dX8_copy_21 rfl⟩
theorem gT210_22 : sG l g D H0 mT 210 22 (s_getf 210 25 7 1) := ⟨ok_getf _ _ _ _, so_getf mT210 cl7 (k := 1) (by decide) dX8_copy_22 q1263 (fs_rf rfl)⟩
theorem gT210_25 : sG l g D H0 mT 210 25 (s_callik 210 28 29 [1] 3) := ⟨ok_callik _ _ _ _ _, sk_calli (by decide) (so_callI mT210 mo29 (by decide) rfl dX8_copy_25 q1656 q1657 q58)⟩
theorem gT210_28 : sG l g D H0 mT 210 28 (s_putf g pR 210 31 7 1) := ⟨ok_putf _ _ _ _ _ _, so_putf mT210 cl7 (k := 1) (by decide) fR rfl dX8_copy_28 q1263 (fs_rf rfl)⟩
theorem gT210_31 : sG l g D H0 mT 210 31 (s_load vRf 210 32 1) := ⟨ok_load _ _ _ _, so_aload_n mT210 dX8_copy_31 rfl⟩
theorem gT210_32 : sG l g D H0 mT 210 32 (s_load vRf 210 33 0) := ⟨ok_load _ _ _ _, so_aload_n mT210 dX8_copy_32 rfl⟩
theorem gT210_33 : sG l g D H0 mT 210 33 (s_getf 210 36 7 2) := ⟨ok_getf _ _ _ _, so_getf mT210 cl7 (k := 2) (by decide) dX8_copy_33 q1266 (fs_rf rfl)⟩
theorem gT210_36 : sG l g D H0 mT 210 36 (s_putf g pI 210 39 7 2) := ⟨ok_putf _ _ _ _ _ _, so_putf mT210 cl7 (k := 2) (by decide) fI rfl dX8_copy_36 q1266 (fs_rf rfl)⟩
theorem gT210_39 : sG l g D H0 mT 210 39 (s_load vRf 210 40 1) := ⟨ok_load _ _ _ _, so_aload_n mT210 dX8_copy_39 rfl⟩
theorem gT210_40 : sG l g D H0 mT 210 40 (s_load vRf 210 41 0) := ⟨ok_load _ _ _ _, so_aload_n mT210 dX8_copy_40 rfl⟩
theorem gT210_41 : sG l g D H0 mT 210 41 (s_getf 210 44 7 3) := ⟨ok_getf _ _ _ _, so_getf mT210 cl7 (k := 3) (by decide) dX8_copy_41 q1269 (fs_rf rfl)⟩
theorem gT210_44 : sG l g D H0 mT 210 44 (s_putf g pI 210 47 7 3) := ⟨ok_putf _ _ _ _ _ _, so_putf mT210 cl7 (k := 3) (by decide) fI rfl dX8_copy_44 q1269 (fs_rf rfl)⟩
theorem gT210_47 : sG l g D H0 mT 210 47 (s_load vRf 210 48 1) := ⟨ok_load _ _ _ _, so_aload_n mT210 dX8_copy_47 rfl⟩
theorem gT210_48 : sG l g D H0 mT 210 48 (s_load vRf 210 49 0) := ⟨ok_load _ _ _ _, so_aload_n mT210 dX8_copy_48 rfl⟩
theorem gT210_49 : sG l g D H0 mT 210 49 (s_getf 210 52 7 4) := ⟨ok_getf _ _ _ _, so_getf mT210 cl7 (k := 4) (by decide) dX8_copy_49 q1272 (fs_rf rfl)⟩
theorem gT210_52 : sG l g D H0 mT 210 52 (s_putf g pI 210 55 7 4) := ⟨ok_putf _ _ _ _ _ _, so_putf mT210 cl7 (k := 4) (by decide) fI rfl dX8_copy_52 q1272 (fs_rf rfl)⟩
theorem gT210_55 : sG l g D H0 mT 210 55 (s_load vRf 210 56 1) := ⟨ok_load _ _ _ _, so_aload_n mT210 dX8_copy_55 rfl⟩
theorem gT210_56 : sG l g D H0 mT 210 56 (s_load vRf 210 57 0) := ⟨ok_load _ _ _ _, so_aload_n mT210 dX8_copy_56 rfl⟩
theorem gT210_57 : sG l g D H0 mT 210 57 (s_getf 210 60 7 5) := ⟨ok_getf _ _ _ _, so_getf mT210 cl7 (k := 5) (by decide) dX8_copy_57 q1275 (fs_rf rfl)⟩
theorem gT210_60 : sG l g D H0 mT 210 60 (s_putf g pI 210 63 7 5) := ⟨ok_putf _ _ _ _ _ _, so_putf mT210 cl7 (k := 5) (by decide) fI rfl dX8_copy_60 q1275 (fs_rf rfl)⟩
theorem gT210_63 : sG l g D H0 mT 210 63 (s_load vRf 210 64 1) := ⟨ok_load _ _ _ _, so_aload_n mT210 dX8_copy_63 rfl⟩
theorem gT210_64 : sG l g D H0 mT 210 64 (s_load vRf 210 65 0) := ⟨ok_load _ _ _ _, so_aload_n mT210 dX8_copy_64 rfl⟩
theorem gT210_65 : sG l g D H0 mT 210 65 (s_getf 210 68 7 6) := ⟨ok_getf _ _ _ _, so_getf mT210 cl7 (k := 6) (by decide) dX8_copy_65 q1278 (fs_rf rfl)⟩
theorem gT210_68 : sG l g D H0 mT 210 68 (s_putf g pI 210 71 7 6) := ⟨ok_putf _ _ _ _ _ _, so_putf mT210 cl7 (k := 6) (by decide) fI rfl dX8_copy_68 q1278 (fs_rf rfl)⟩
theorem gT210_71 : sG l g D H0 mT 210 71 (s_load vRf 210 72 1) := ⟨ok_load _ _ _ _, so_aload_n mT210 dX8_copy_71 rfl⟩
theorem gT210_72 : sG l g D H0 mT 210 72 (s_load vRf 210 73 0) := ⟨ok_load _ _ _ _, so_aload_n mT210 dX8_copy_72 rfl⟩
theorem gT210_73 : sG l g D H0 mT 210 73 (s_getf 210 76 7 7) := ⟨ok_getf _ _ _ _, so_getf mT210 cl7 (k := 7) (by decide) dX8_copy_73 q1281 (fs_rf rfl)⟩
theorem gT210_76 : sG l g D H0 mT 210 76 (s_putf g pI 210 79 7 7) := ⟨ok_putf _ _ _ _ _ _, so_putf mT210 cl7 (k := 7) (by decide) fI rfl dX8_copy_76 q1281 (fs_rf rfl)⟩
theorem gT210_79 : sG l g D H0 mT 210 79 (s_load vRf 210 80 1) := ⟨ok_load _ _ _ _, so_aload_n mT210 dX8_copy_79 rfl⟩
theorem gT210_80 : sG l g D H0 mT 210 80 (s_load vRf 210 81 0) := ⟨ok_load _ _ _ _, so_aload_n mT210 dX8_copy_80 rfl⟩
theorem gT210_81 : sG l g D H0 mT 210 81 (s_getf 210 84 7 8) := ⟨ok_getf _ _ _ _, so_getf mT210 cl7 (k := 8) (by decide) dX8_copy_81 q1284 (fs_rf rfl)⟩
theorem gT210_84 : sG l g D H0 mT 210 84 (s_putf g pI 210 87 7 8) := ⟨ok_putf _ _ _ _ _ _, so_putf mT210 cl7 (k := 8) (by decide) fI rfl dX8_copy_84 q1284 (fs_rf rfl)⟩
theorem gT210_87 : sG l g D H0 mT 210 87 (s_load vRf 210 88 1) := ⟨ok_load _ _ _ _, so_aload_n mT210 dX8_copy_87 rfl⟩
theorem gT210_88 : sG l g D H0 mT 210 88 (s_load vRf 210 89 0) := ⟨ok_load _ _ _ _, so_aload_n mT210 dX8_copy_88 rfl⟩
theorem gT210_89 : sG l g D H0 mT 210 89 (s_getf 210 92 7 9) := ⟨ok_getf _ _ _ _, so_getf mT210 cl7 (k := 9) (by decide) dX8_copy_89 q1287 (fs_rf rfl)⟩
theorem gT210_92 : sG l g D H0 mT 210 92 (s_putf g pI 210 95 7 9) := ⟨ok_putf _ _ _ _ _ _, so_putf mT210 cl7 (k := 9) (by decide) fI rfl dX8_copy_92 q1287 (fs_rf rfl)⟩
theorem gT210_95 : sG l g D H0 mT 210 95 (s_load vRf 210 96 1) := ⟨ok_load _ _ _ _, so_aload_n mT210 dX8_copy_95 rfl⟩
theorem gT210_96 : sG l g D H0 mT 210 96 (s_load vRf 210 97 0) := ⟨ok_load _ _ _ _, so_aload_n mT210 dX8_copy_96 rfl⟩
theorem gT210_97 : sG l g D H0 mT 210 97 (s_getf 210 100 7 10) := ⟨ok_getf _ _ _ _, so_getf mT210 cl7 (k := 10) (by decide) dX8_copy_97 q1290 (fs_rf rfl)⟩
theorem gT210_100 : sG l g D H0 mT 210 100 (s_putf g pI 210 103 7 10) := ⟨ok_putf _ _ _ _ _ _, so_putf mT210 cl7 (k := 10) (by decide) fI rfl dX8_copy_100 q1290 (fs_rf rfl)⟩
theorem gT210_103 : sG l g D H0 mT 210 103 (s_load vRf 210 104 1) := ⟨ok_load _ _ _ _, so_aload_n mT210 dX8_copy_103 rfl⟩
theorem gT210_104 : sG l g D H0 mT 210 104 (s_load vRf 210 105 0) := ⟨ok_load _ _ _ _, so_aload_n mT210 dX8_copy_104 rfl⟩
theorem gT210_105 : sG l g D H0 mT 210 105 (s_getf 210 108 7 11) := ⟨ok_getf _ _ _ _, so_getf mT210 cl7 (k := 11) (by decide) dX8_copy_105 q1293 (fs_rf rfl)⟩
theorem gT210_108 : sG l g D H0 mT 210 108 (s_putf g pI 210 111 7 11) := ⟨ok_putf _ _ _ _ _ _, so_putf mT210 cl7 (k := 11) (by decide) fI rfl dX8_copy_108 q1293 (fs_rf rfl)⟩
theorem gT210_111 : sG l g D H0 mT 210 111 (s_load vRf 210 112 1) := ⟨ok_load _ _ _ _, so_aload_n mT210 dX8_copy_111 rfl⟩
theorem gT210_112 : sG l g D H0 mT 210 112 (s_load vRf 210 113 0) := ⟨ok_load _ _ _ _, so_aload_n mT210 dX8_copy_112 rfl⟩
theorem gT210_113 : sG l g D H0 mT 210 113 (s_getf 210 116 7 12) := ⟨ok_getf _ _ _ _, so_getf mT210 cl7 (k := 12) (by decide) dX8_copy_113 q1296 (fs_rf rfl)⟩
theorem gT210_116 : sG l g D H0 mT 210 116 (s_putf g pI 210 119 7 12) := ⟨ok_putf _ _ _ _ _ _, so_putf mT210 cl7 (k := 12) (by decide) fI rfl dX8_copy_116 q1296 (fs_rf rfl)⟩
theorem gT210_119 : sG l g D H0 mT 210 119 (s_const 210 120 (.int 5)) := ⟨ok_const _ _ _, so_iconst mT210 dX8_copy_119 (by decide)⟩
theorem gT210_120 : sG l g D H0 mT 210 120 (s_newa g 210 123 25 (.null)) := ⟨ok_newa _ _ _ _ _, so_anewI mT210 dX8_copy_120 q1632⟩
theorem gT210_123 : sG l g D H0 mT 210 123 (s_dup 210 124) := ⟨ok_dup _ _, so_dup mT210 dX8_copy_123⟩
theorem gT210_124 : sG l g D H0 mT 210 124 (s_const 210 125 (.int 0)) := ⟨ok_const _ _ _, so_iconst mT210 dX8_copy_124 (by decide)⟩
theorem gT210_125 : sG l g D H0 mT 210 125 (s_load vRf 210 126 0) := ⟨ok_load _ _ _ _, so_aload_n mT210 dX8_copy_125 rfl⟩
theorem gT210_126 : sG l g D H0 mT 210 126 (s_getf 210 129 7 13) := ⟨ok_getf _ _ _ _, so_getf mT210 cl7 (k := 13) (by decide) dX8_copy_126 q1299 (fs_rf rfl)⟩
theorem gT210_129 : sG l g D H0 mT 210 129 (s_ast g vRow 210 130 25) := ⟨ok_ast _ _ _ _ _, so_aastI mT210 dX8_copy_129⟩
theorem gT210_130 : sG l g D H0 mT 210 130 (s_dup 210 131) := ⟨ok_dup _ _, so_dup mT210 dX8_copy_130⟩
theorem gT210_131 : sG l g D H0 mT 210 131 (s_const 210 132 (.int 1)) := ⟨ok_const _ _ _, so_iconst mT210 dX8_copy_131 (by decide)⟩
theorem gT210_132 : sG l g D H0 mT 210 132 (s_load vRf 210 133 0) := ⟨ok_load _ _ _ _, so_aload_n mT210 dX8_copy_132 rfl⟩
theorem gT210_133 : sG l g D H0 mT 210 133 (s_getf 210 136 7 14) := ⟨ok_getf _ _ _ _, so_getf mT210 cl7 (k := 14) (by decide) dX8_copy_133 q1302 (fs_rf rfl)⟩
theorem gT210_136 : sG l g D H0 mT 210 136 (s_ast g vRow 210 137 25) := ⟨ok_ast _ _ _ _ _, so_aastI mT210 dX8_copy_136⟩
theorem gT210_137 : sG l g D H0 mT 210 137 (s_dup 210 138) := ⟨ok_dup _ _, so_dup mT210 dX8_copy_137⟩
theorem gT210_138 : sG l g D H0 mT 210 138 (s_const 210 139 (.int 2)) := ⟨ok_const _ _ _, so_iconst mT210 dX8_copy_138 (by decide)⟩
theorem gT210_139 : sG l g D H0 mT 210 139 (s_load vRf 210 140 0) := ⟨ok_load _ _ _ _, so_aload_n mT210 dX8_copy_139 rfl⟩
theorem gT210_140 : sG l g D H0 mT 210 140 (s_getf 210 143 7 15) := ⟨ok_getf _ _ _ _, so_getf mT210 cl7 (k := 15) (by decide) dX8_copy_140 q1305 (fs_rf rfl)⟩
theorem gT210_143 : sG l g D H0 mT 210 143 (s_ast g vRow 210 144 25) := ⟨ok_ast _ _ _ _ _, so_aastI mT210 dX8_copy_143⟩
theorem gT210_144 : sG l g D H0 mT 210 144 (s_dup 210 145) := ⟨ok_dup _ _, so_dup mT210 dX8_copy_144⟩
theorem gT210_145 : sG l g D H0 mT 210 145 (s_const 210 146 (.int 3)) := ⟨ok_const _ _ _, so_iconst mT210 dX8_copy_145 (by decide)⟩
theorem gT210_146 : sG l g D H0 mT 210 146 (s_load vRf 210 147 0) := ⟨ok_load _ _ _ _, so_aload_n mT210 dX8_copy_146 rfl⟩
theorem gT210_147 : sG l g D H0 mT 210 147 (s_getf 210 150 7 16) := ⟨ok_getf _ _ _ _, so_getf mT210 cl7 (k := 16) (by decide) dX8_copy_147 q1308 (fs_rf rfl)⟩
theorem gT210_150 : sG l g D H0 mT 210 150 (s_ast g vRow 210 151 25) := ⟨ok_ast _ _ _ _ _, so_aastI mT210 dX8_copy_150⟩
theorem gT210_151 : sG l g D H0 mT 210 151 (s_dup 210 152) := ⟨ok_dup _ _, so_dup mT210 dX8_copy_151⟩
theorem gT210_152 : sG l g D H0 mT 210 152 (s_const 210 153 (.int 4)) := ⟨ok_const _ _ _, so_iconst mT210 dX8_copy_152 (by decide)⟩
theorem gT210_153 : sG l g D H0 mT 210 153 (s_load vRf 210 154 0) := ⟨ok_load _ _ _ _, so_aload_n mT210 dX8_copy_153 rfl⟩
theorem gT210_154 : sG l g D H0 mT 210 154 (s_getf 210 157 7 28) := ⟨ok_getf _ _ _ _, so_getf mT210 cl7 (k := 28) (by decide) dX8_copy_154 q1338 (fs_rf rfl)⟩
theorem gT210_157 : sG l g D H0 mT 210 157 (s_ast g vRow 210 158 25) := ⟨ok_ast _ _ _ _ _, so_aastI mT210 dX8_copy_157⟩
theorem gT210_158 : sG l g D H0 mT 210 158 (s_store vRf 210 159 2) := ⟨ok_store _ _ _ _, so_astore_n mT210 dX8_copy_158 rfl⟩
theorem gT210_159 : sG l g D H0 mT 210 159 (s_const 210 160 (.int 5)) := ⟨ok_const _ _ _, so_iconst mT210 dX8_copy_159 (by decide)⟩
theorem gT210_160 : sG l g D H0 mT 210 160 (s_newa g 210 163 25 (.null)) := ⟨ok_newa _ _ _ _ _, so_anewI mT210 dX8_copy_160 q1632⟩
theorem gT210_163 : sG l g D H0 mT 210 163 (s_dup 210 164) := ⟨ok_dup _ _, so_dup mT210 dX8_copy_163⟩
theorem gT210_164 : sG l g D H0 mT 210 164 (s_const 210 165 (.int 0)) := ⟨ok_const _ _ _, so_iconst mT210 dX8_copy_164 (by decide)⟩
theorem gT210_165 : sG l g D H0 mT 210 165 (s_load vRf 210 166 1) := ⟨ok_load _ _ _ _, so_aload_n mT210 dX8_copy_165 rfl⟩
theorem gT210_166 : sG l g D H0 mT 210 166 (s_getf 210 169 7 13) := ⟨ok_getf _ _ _ _, so_getf mT210 cl7 (k := 13) (by decide) dX8_copy_166 q1299 (fs_rf rfl)⟩
theorem gT210_169 : sG l g D H0 mT 210 169 (s_ast g vRow 210 170 25) := ⟨ok_ast _ _ _ _ _, so_aastI mT210 dX8_copy_169⟩
theorem gT210_170 : sG l g D H0 mT 210 170 (s_dup 210 171) := ⟨ok_dup _ _, so_dup mT210 dX8_copy_170⟩
theorem gT210_171 : sG l g D H0 mT 210 171 (s_const 210 172 (.int 1)) := ⟨ok_const _ _ _, so_iconst mT210 dX8_copy_171 (by decide)⟩
theorem gT210_172 : sG l g D H0 mT 210 172 (s_load vRf 210 173 1) := ⟨ok_load _ _ _ _, so_aload_n mT210 dX8_copy_172 rfl⟩
theorem gT210_173 : sG l g D H0 mT 210 173 (s_getf 210 176 7 14) := ⟨ok_getf _ _ _ _, so_getf mT210 cl7 (k := 14) (by decide) dX8_copy_173 q1302 (fs_rf rfl)⟩
theorem gT210_176 : sG l g D H0 mT 210 176 (s_ast g vRow 210 177 25) := ⟨ok_ast _ _ _ _ _, so_aastI mT210 dX8_copy_176⟩
theorem gT210_177 : sG l g D H0 mT 210 177 (s_dup 210 178) := ⟨ok_dup _ _, so_dup mT210 dX8_copy_177⟩
theorem gT210_178 : sG l g D H0 mT 210 178 (s_const 210 179 (.int 2)) := ⟨ok_const _ _ _, so_iconst mT210 dX8_copy_178 (by decide)⟩
theorem gT210_179 : sG l g D H0 mT 210 179 (s_load vRf 210 180 1) := ⟨ok_load _ _ _ _, so_aload_n mT210 dX8_copy_179 rfl⟩
theorem gT210_180 : sG l g D H0 mT 210 180 (s_getf 210 183 7 15) := ⟨ok_getf _ _ _ _, so_getf mT210 cl7 (k := 15) (by decide) dX8_copy_180 q1305 (fs_rf rfl)⟩
theorem gT210_183 : sG l g D H0 mT 210 183 (s_ast g vRow 210 184 25) := ⟨ok_ast _ _ _ _ _, so_aastI mT210 dX8_copy_183⟩
theorem gT210_184 : sG l g D H0 mT 210 184 (s_dup 210 185) := ⟨ok_dup _ _, so_dup mT210 dX8_copy_184⟩
theorem gT210_185 : sG l g D H0 mT 210 185 (s_const 210 186 (.int 3)) := ⟨ok_const _ _ _, so_iconst mT210 dX8_copy_185 (by decide)⟩
theorem gT210_186 : sG l g D H0 mT 210 186 (s_load vRf 210 187 1) := ⟨ok_load _ _ _ _, so_aload_n mT210 dX8_copy_186 rfl⟩
theorem gT210_187 : sG l g D H0 mT 210 187 (s_getf 210 190 7 16) := ⟨ok_getf _ _ _ _, so_getf mT210 cl7 (k := 16) (by decide) dX8_copy_187 q1308 (fs_rf rfl)⟩
theorem gT210_190 : sG l g D H0 mT 210 190 (s_ast g vRow 210 191 25) := ⟨ok_ast _ _ _ _ _, so_aastI mT210 dX8_copy_190⟩
theorem gT210_191 : sG l g D H0 mT 210 191 (s_dup 210 192) := ⟨ok_dup _ _, so_dup mT210 dX8_copy_191⟩
theorem gT210_192 : sG l g D H0 mT 210 192 (s_const 210 193 (.int 4)) := ⟨ok_const _ _ _, so_iconst mT210 dX8_copy_192 (by decide)⟩
theorem gT210_193 : sG l g D H0 mT 210 193 (s_load vRf 210 194 1) := ⟨ok_load _ _ _ _, so_aload_n mT210 dX8_copy_193 rfl⟩
theorem gT210_194 : sG l g D H0 mT 210 194 (s_getf 210 197 7 28) := ⟨ok_getf _ _ _ _, so_getf mT210 cl7 (k := 28) (by decide) dX8_copy_194 q1338 (fs_rf rfl)⟩
theorem gT210_197 : sG l g D H0 mT 210 197 (s_ast g vRow 210 198 25) := ⟨ok_ast _ _ _ _ _, so_aastI mT210 dX8_copy_197⟩
theorem gT210_198 : sG l g D H0 mT 210 198 (s_store vRf 210 199 3) := ⟨ok_store _ _ _ _, so_astore_n mT210 dX8_copy_198 rfl⟩
theorem gT210_199 : sG l g D H0 mT 210 199 (s_const 210 200 (.int 0)) := ⟨ok_const _ _ _, so_iconst mT210 dX8_copy_199 (by decide)⟩
theorem gT210_200 : sG l g D H0 mT 210 200 (s_store vI 210 202 4) := ⟨ok_store _ _ _ _, so_istore mT210 dX8_copy_200⟩
theorem gT210_202 : sG l g D H0 mT 210 202 (s_load vI 210 204 4) := ⟨ok_load _ _ _ _, so_iload mT210 dX8_copy_202⟩
theorem gT210_204 : sG l g D H0 mT 210 204 (s_load vRf 210 205 2) := ⟨ok_load _ _ _ _, so_aload_n mT210 dX8_copy_204 rfl⟩
theorem gT210_205 : sG l g D H0 mT 210 205 (s_alen 210 206 25) := ⟨ok_alen _ _ _, so_alen mT210 a25 dX8_copy_205⟩
theorem gT210_206 : sG l g D H0 mT 210 206 (s_icmp 210 209 230 (fun a b => b ≤ a)) := ⟨ok_icmp _ _ _ _, so_icmp_ge mT210 dX8_copy_206 (by decide)⟩
theorem gT210_209 : sG l g D H0 mT 210 209 (s_load vRf 210 210 2) := ⟨ok_load _ _ _ _, so_aload_n mT210 dX8_copy_209 rfl⟩
theorem gT210_210 : sG l g D H0 mT 210 210 (s_load vI 210 212 4) := ⟨ok_load _ _ _ _, so_iload mT210 dX8_copy_210⟩
theorem gT210_212 : sG l g D H0 mT 210 212 (s_ald 210 213 25) := ⟨ok_ald _ _ _, so_aald mT210 a25 rfl dX8_copy_212⟩
theorem gT210_213 : sG l g D H0 mT 210 213 (s_const 210 214 (.int 0)) := ⟨ok_const _ _ _, so_iconst mT210 dX8_copy_213 (by decide)⟩
theorem gT210_214 : sG l g D H0 mT 210 214 (s_load vRf 210 215 3) := ⟨ok_load _ _ _ _, so_aload_n mT210 dX8_copy_214 rfl⟩
theorem gT210_215 : sG l g D H0 mT 210 215 (s_load vI 210 217 4) := ⟨ok_load _ _ _ _, so_iload mT210 dX8_copy_215⟩
theorem gT210_217 : sG l g D H0 mT 210 217 (s_ald 210 218 25) := ⟨ok_ald _ _ _, so_aald mT210 a25 rfl dX8_copy_217⟩
theorem gT210_218 : sG l g D H0 mT 210 218 (s_const 210 219 (.int 0)) := ⟨ok_const _ _ _, so_iconst mT210 dX8_copy_218 (by decide)⟩
theorem gT210_219 : sG l g D H0 mT 210 219 (s_const 210 221 (.int 6)) := ⟨ok_const _ _ _, so_bipush mT210 dX8_copy_219 (by decide)⟩
theorem gT210_221 : sG l g D H0 mT 210 221 (s_acopy g (fun _ v => vI v = true) 210 224 20) := ⟨ok_acopy _ _ _ _ _, so_acopy mT210 (by decide) a20 e20 dX8_copy_221 q1671 q192 q191 q61⟩
theorem gT210_224 : sG l g D H0 mT 210 224 (s_iinc 210 227 4 1) := ⟨ok_iinc _ _ _ _, so_iinc mT210 dX8_copy_224 (by decide)⟩
theorem gT210_227 : sG l g D H0 mT 210 227 (s_goto 210 202) := ⟨ok_goto _ _, so_goto mT210 dX8_copy_227 (by decide)⟩
theorem gT210_230 : sG l g D H0 mT 210 230 (s_load vRf 210 231 0) := ⟨ok_load _ _ _ _, so_aload_n mT210 dX8_copy_230 rfl⟩
theorem gT210_231 : sG l g D H0 mT 210 231 (s_getf 210 234 7 17) := ⟨ok_getf _ _ _ _, so_getf mT210 cl7 (k := 17) (by decide) dX8_copy_231 q1311 (fs_rf rfl)⟩
theorem gT210_234 : sG l g D H0 mT 210 234 (s_const 210 235 (.int 0)) := ⟨ok_const _ _ _, so_iconst mT210 dX8_copy_234 (by decide)⟩
theorem gT210_235 : sG l g D H0 mT 210 235 (s_load vRf 210 236 1) := ⟨ok_load _ _ _ _, so_aload_n mT210 dX8_copy_235 rfl⟩
theorem gT210_236 : sG l g D H0 mT 210 236 (s_getf 210 239 7 17) := ⟨ok_getf _ _ _ _, so_getf mT210 cl7 (k := 17) (by decide) dX8_copy_236 q1311 (fs_rf rfl)⟩
theorem gT210_239 : sG l g D H0 mT 210 239 (s_const 210 240 (.int 0)) := ⟨ok_const _ _ _, so_iconst mT210 dX8_copy_239 (by decide)⟩
theorem gT210_240 : sG l g D H0 mT 210 240 (s_const 210 241 (.int 5)) := ⟨ok_const _ _ _, so_iconst mT210 dX8_copy_240 (by decide)⟩
theorem gT210_241 : sG l g D H0 mT 210 241 (s_acopy g (fun _ v => vI v = true) 210 244 20) := ⟨ok_acopy _ _ _ _ _, so_acopy mT210 (by decide) a20 e20 dX8_copy_241 q1671 q192 q191 q61⟩
theorem gT210_244 : sG l g D H0 mT 210 244 (s_load vRf 210 245 1) := ⟨ok_load _ _ _ _, so_aload_n mT210 dX8_copy_244 rfl⟩
theorem gT210_245 : sG l g D H0 mT 210 245 (s_load vRf 210 246 0) := ⟨ok_load _ _ _ _, so_aload_n mT210 dX8_copy_245 rfl⟩
theorem gT210_246 : sG l g D H0 mT 210 246 (s_getf 210 249 7 18) := ⟨ok_getf _ _ _ _, so_getf mT210 cl7 (k := 18) (by decide) dX8_copy_246 q1314 (fs_rf rfl)⟩
theorem gT210_249 : sG l g D H0 mT 210 249 (s_putf g vZ 210 252 7 18) := ⟨ok_putf _ _ _ _ _ _, so_putf mT210 cl7 (k := 18) (by decide) fZ rfl dX8_copy_249 q1314 (fs_rf rfl)⟩
theorem gT210_252 : sG l g D H0 mT 210 252 (s_load vRf 210 253 1) := ⟨ok_load _ _ _ _, so_aload_n mT210 dX8_copy_252 rfl⟩
theorem gT210_253 : sG l g D H0 mT 210 253 (s_load vRf 210 254 0) := ⟨ok_load _ _ _ _, so_aload_n mT210 dX8_copy_253 rfl⟩
theorem gT210_254 : sG l g D H0 mT 210 254 (s_getf 210 257 7 19) := ⟨ok_getf _ _ _ _, so_getf mT210 cl7 (k := 19) (by decide) dX8_copy_254 q1317 (fs_rf rfl)⟩
theorem gT210_257 : sG l g D H0 mT 210 257 (s_putf g vZ 210 260 7 19) := ⟨ok_putf _ _ _ _ _ _, so_putf mT210 cl7 (k := 19) (by decide) fZ rfl dX8_copy_257 q1317 (fs_rf rfl)⟩
theorem gT210_260 : sG l g D H0 mT 210 260 (s_load vRf 210 261 1) := ⟨ok_load _ _ _ _, so_aload_n mT210 dX8_copy_260 rfl⟩
theorem gT210_261 : sG l g D H0 mT 210 261 (s_load vRf 210 262 0) := ⟨ok_load _ _ _ _, so_aload_n mT210 dX8_copy_261 rfl⟩
theorem gT210_262 : sG l g D H0 mT 210 262 (s_getf 210 265 7 20) := ⟨ok_getf _ _ _ _, so_getf mT210 cl7 (k := 20) (by decide) dX8_copy_262 q1319 (fs_rf rfl)⟩
theorem gT210_265 : sG l g D H0 mT 210 265 (s_putf g vZ 210 268 7 20) := ⟨ok_putf _ _ _ _ _ _, so_putf mT210 cl7 (k := 20) (by decide) fZ rfl dX8_copy_265 q1319 (fs_rf rfl)⟩
theorem gT210_268 : sG l g D H0 mT 210 268 (s_load vRf 210 269 1) := ⟨ok_load _ _ _ _, so_aload_n mT210 dX8_copy_268 rfl⟩
theorem gT210_269 : sG l g D H0 mT 210 269 (s_load vRf 210 270 0) := ⟨ok_load _ _ _ _, so_aload_n mT210 dX8_copy_269 rfl⟩
theorem gT210_270 : sG l g D H0 mT 210 270 (s_getf 210 273 7 21) := ⟨ok_getf _ _ _ _, so_getf mT210 cl7 (k := 21) (by decide) dX8_copy_270 q1322 (fs_rf rfl)⟩
theorem gT210_273 : sG l g D H0 mT 210 273 (s_putf g pI 210 276 7 21) := ⟨ok_putf _ _ _ _ _ _, so_putf mT210 cl7 (k := 21) (by decide) fI rfl dX8_copy_273 q1322 (fs_rf rfl)⟩
theorem gT210_276 : sG l g D H0 mT 210 276 (s_load vRf 210 277 1) := ⟨ok_load _ _ _ _, so_aload_n mT210 dX8_copy_276 rfl⟩
theorem gT210_277 : sG l g D H0 mT 210 277 (s_load vRf 210 278 0) := ⟨ok_load _ _ _ _, so_aload_n mT210 dX8_copy_277 rfl⟩
theorem gT210_278 : sG l g D H0 mT 210 278 (s_getf 210 281 7 22) := ⟨ok_getf _ _ _ _, so_getf mT210 cl7 (k := 22) (by decide) dX8_copy_278 q1324 (fs_rf rfl)⟩
theorem gT210_281 : sG l g D H0 mT 210 281 (s_putf g pI 210 284 7 22) := ⟨ok_putf _ _ _ _ _ _, so_putf mT210 cl7 (k := 22) (by decide) fI rfl dX8_copy_281 q1324 (fs_rf rfl)⟩
theorem gT210_284 : sG l g D H0 mT 210 284 (s_load vRf 210 285 1) := ⟨ok_load _ _ _ _, so_aload_n mT210 dX8_copy_284 rfl⟩
theorem gT210_285 : sG l g D H0 mT 210 285 (s_load vRf 210 286 0) := ⟨ok_load _ _ _ _, so_aload_n mT210 dX8_copy_285 rfl⟩
theorem gT210_286 : sG l g D H0 mT 210 286 (s_getf 210 289 7 23) := ⟨ok_getf _ _ _ _, so_getf mT210 cl7 (k := 23) (by decide) dX8_copy_286 q1327 (fs_rf rfl)⟩
theorem gT210_289 : sG l g D H0 mT 210 289 (s_putf g pI 210 292 7 23) := ⟨ok_putf _ _ _ _ _ _, so_putf mT210 cl7 (k := 23) (by decide) fI rfl dX8_copy_289 q1327 (fs_rf rfl)⟩
theorem gT210_292 : sG l g D H0 mT 210 292 (s_load vRf 210 293 1) := ⟨ok_load _ _ _ _, so_aload_n mT210 dX8_copy_292 rfl⟩
theorem gT210_293 : sG l g D H0 mT 210 293 (s_load vRf 210 294 0) := ⟨ok_load _ _ _ _, so_aload_n mT210 dX8_copy_293 rfl⟩
theorem gT210_294 : sG l g D H0 mT 210 294 (s_getf 210 297 7 24) := ⟨ok_getf _ _ _ _, so_getf mT210 cl7 (k := 24) (by decide) dX8_copy_294 q1329 (fs_rf rfl)⟩
theorem gT210_297 : sG l g D H0 mT 210 297 (s_putf g pI 210 300 7 24) := ⟨ok_putf _ _ _ _ _ _, so_putf mT210 cl7 (k := 24) (by decide) fI rfl dX8_copy_297 q1329 (fs_rf rfl)⟩
theorem gT210_300 : sG l g D H0 mT 210 300 (s_load vRf 210 301 1) := ⟨ok_load _ _ _ _, so_aload_n mT210 dX8_copy_300 rfl⟩
theorem gT210_301 : sG l g D H0 mT 210 301 (s_load vRf 210 302 0) := ⟨ok_load _ _ _ _, so_aload_n mT210 dX8_copy_301 rfl⟩
theorem gT210_302 : sG l g D H0 mT 210 302 (s_getf 210 305 7 25) := ⟨ok_getf _ _ _ _, so_getf mT210 cl7 (k := 25) (by decide) dX8_copy_302 q1332 (fs_rf rfl)⟩
theorem gT210_305 : sG l g D H0 mT 210 305 (s_putf g vZ 210 308 7 25) := ⟨ok_putf _ _ _ _ _ _, so_putf mT210 cl7 (k := 25) (by decide) fZ rfl dX8_copy_305 q1332 (fs_rf rfl)⟩
theorem gT210_308 : sG l g D H0 mT 210 308 (s_load vRf 210 309 1) := ⟨ok_load _ _ _ _, so_aload_n mT210 dX8_copy_308 rfl⟩
theorem gT210_309 : sG l g D H0 mT 210 309 (s_load vRf 210 310 0) := ⟨ok_load _ _ _ _, so_aload_n mT210 dX8_copy_309 rfl⟩
theorem gT210_310 : sG l g D H0 mT 210 310 (s_getf 210 313 7 26) := ⟨ok_getf _ _ _ _, so_getf mT210 cl7 (k := 26) (by decide) dX8_copy_310 q1334 (fs_rf rfl)⟩
theorem gT210_313 : sG l g D H0 mT 210 313 (s_putf g pI 210 316 7 26) := ⟨ok_putf _ _ _ _ _ _, so_putf mT210 cl7 (k := 26) (by decide) fI rfl dX8_copy_313 q1334 (fs_rf rfl)⟩
theorem gT210_316 : sG l g D H0 mT 210 316 (s_load vRf 210 317 1) := ⟨ok_load _ _ _ _, so_aload_n mT210 dX8_copy_316 rfl⟩
theorem gT210_317 : sG l g D H0 mT 210 317 (s_load vRf 210 318 0) := ⟨ok_load _ _ _ _, so_aload_n mT210 dX8_copy_317 rfl⟩
theorem gT210_318 : sG l g D H0 mT 210 318 (s_getf 210 321 7 27) := ⟨ok_getf _ _ _ _, so_getf mT210 cl7 (k := 27) (by decide) dX8_copy_318 q1336 (fs_rf rfl)⟩
theorem gT210_321 : sG l g D H0 mT 210 321 (s_putf g pI 210 324 7 27) := ⟨ok_putf _ _ _ _ _ _, so_putf mT210 cl7 (k := 27) (by decide) fI rfl dX8_copy_321 q1336 (fs_rf rfl)⟩
theorem gT210_324 : sG l g D H0 mT 210 324 (s_load vRf 210 325 1) := ⟨ok_load _ _ _ _, so_aload_n mT210 dX8_copy_324 rfl⟩
theorem gT210_325 : sG l g D H0 mT 210 325 (s_load vRf 210 326 0) := ⟨ok_load _ _ _ _, so_aload_n mT210 dX8_copy_325 rfl⟩
theorem gT210_326 : sG l g D H0 mT 210 326 (s_getf 210 329 7 29) := ⟨ok_getf _ _ _ _, so_getf mT210 cl7 (k := 29) (by decide) dX8_copy_326 q1340 (fs_rf rfl)⟩
theorem gT210_329 : sG l g D H0 mT 210 329 (s_putf g pI 210 332 7 29) := ⟨ok_putf _ _ _ _ _ _, so_putf mT210 cl7 (k := 29) (by decide) fI rfl dX8_copy_329 q1340 (fs_rf rfl)⟩
theorem gT210_332 : sG l g D H0 mT 210 332 (s_load vRf 210 333 1) := ⟨ok_load _ _ _ _, so_aload_n mT210 dX8_copy_332 rfl⟩
theorem gT210_333 : sG l g D H0 mT 210 333 (s_new g 210 336 10 3 (fun k => defaultValue (tyJ2 k))) := ⟨ok_new _ _ _ _ _ _, so_new mT210 cl10 (fun _ _ => rfl) dX8_copy_333 q1258 q100 q58⟩
theorem gT210_336 : sG l g D H0 mT 210 336 (s_dup 210 337) := ⟨ok_dup _ _, so_dup mT210 dX8_copy_336⟩
theorem gT210_337 : sG l g D H0 mT 210 337 (s_load vRf 210 338 0) := ⟨ok_load _ _ _ _, so_aload_n mT210 dX8_copy_337 rfl⟩
theorem gT210_338 : sG l g D H0 mT 210 338 (s_getf 210 341 7 30) := ⟨ok_getf _ _ _ _, so_getf mT210 cl7 (k := 30) (by decide) dX8_copy_338 q1342 (fs_rf rfl)⟩
theorem gT210_341 : sG l g D H0 mT 210 341 (s_callik 210 344 29 [1] 3) := ⟨ok_callik _ _ _ _ _, sk_calli (by decide) (so_callI mT210 mo29 (by decide) rfl dX8_copy_341 q1656 q1657 q58)⟩
theorem gT210_344 : sG l g D H0 mT 210 344 (s_putf g pR 210 347 7 30) := ⟨ok_putf _ _ _ _ _ _, so_putf mT210 cl7 (k := 30) (by decide) fR rfl dX8_copy_344 q1342 (fs_rf rfl)⟩
theorem gT210_347 : sG l g D H0 mT 210 347 (s_load vRf 210 348 1) := ⟨ok_load _ _ _ _, so_aload_n mT210 dX8_copy_347 rfl⟩
theorem gT210_348 : sG l g D H0 mT 210 348 (s_new g 210 351 10 3 (fun k => defaultValue (tyJ2 k))) := ⟨ok_new _ _ _ _ _ _, so_new mT210 cl10 (fun _ _ => rfl) dX8_copy_348 q1258 q100 q58⟩
theorem gT210_351 : sG l g D H0 mT 210 351 (s_dup 210 352) := ⟨ok_dup _ _, so_dup mT210 dX8_copy_351⟩
theorem gT210_352 : sG l g D H0 mT 210 352 (s_load vRf 210 353 0) := ⟨ok_load _ _ _ _, so_aload_n mT210 dX8_copy_352 rfl⟩
theorem gT210_353 : sG l g D H0 mT 210 353 (s_getf 210 356 7 31) := ⟨ok_getf _ _ _ _, so_getf mT210 cl7 (k := 31) (by decide) dX8_copy_353 q1344 (fs_rf rfl)⟩
theorem gT210_356 : sG l g D H0 mT 210 356 (s_callik 210 359 29 [1] 3) := ⟨ok_callik _ _ _ _ _, sk_calli (by decide) (so_callI mT210 mo29 (by decide) rfl dX8_copy_356 q1656 q1657 q58)⟩
theorem gT210_359 : sG l g D H0 mT 210 359 (s_putf g pR 210 362 7 31) := ⟨ok_putf _ _ _ _ _ _, so_putf mT210 cl7 (k := 31) (by decide) fR rfl dX8_copy_359 q1344 (fs_rf rfl)⟩
theorem gT210_362 : sG l g D H0 mT 210 362 (s_load vRf 210 363 1) := ⟨ok_load _ _ _ _, so_aload_n mT210 dX8_copy_362 rfl⟩
theorem gT210_363 : sG l g D H0 mT 210 363 (s_ret pR) := ⟨ok_ret _, so_aret mT210 dX8_copy_363 (Or.inl ⟨_, rfl⟩)⟩
theorem gT210 (pc : Nat) : sG l g D H0 mT 210 pc (tT210 g pc) := sG_cond (sG_cond (sG_cond (sG_cond (sG_cond (sG_cond (sG_cond (sG_leaf gT210_0) (sG_cond (sG_leaf gT210_3) (sG_leaf gT210_4))) (sG_cond (sG_leaf gT210_7) (sG_cond (sG_leaf gT210_8) (sG_leaf gT210_9)))) (sG_cond (sG_cond (sG_leaf gT210_10) (sG_cond (sG_leaf gT210_13) (sG_leaf gT210_16))) (sG_cond (sG_leaf gT210_17) (sG_cond (sG_leaf gT210_20) (sG_leaf gT210_21))))) (sG_cond (sG_cond (sG_cond (sG_leaf gT210_22) (sG_cond (sG_leaf gT210_25) (sG_leaf gT210_28))) (sG_cond (sG_leaf gT210_31) (sG_cond (sG_leaf gT210_32) (sG_leaf gT210_33)))) (sG_cond (sG_cond (sG_leaf gT210_36) (sG_cond (sG_leaf gT210_39) (sG_leaf gT210_40))) (sG_cond (sG_cond (sG_leaf gT210_41) (sG_leaf gT210_44)) (sG_cond (sG_leaf gT210_47) (sG_leaf gT210_48)))))) (sG_cond (sG_cond (sG_cond (sG_cond (sG_leaf gT210_49) (sG_cond (sG_leaf gT210_52) (sG_leaf gT210_55))) (sG_cond (sG_leaf gT210_56) (sG_cond (sG_leaf gT210_57) (sG_leaf gT210_60)))) (sG_cond (sG_cond (sG_leaf gT210_63) (sG_cond (sG_leaf gT210_64) (sG_leaf gT210_65))) (sG_cond (sG_leaf gT210_68) (sG_cond (sG_leaf gT210_71) (sG_leaf gT210_72))))) (sG_cond (sG_cond (sG_cond (sG_leaf gT210_73) (sG_cond (sG_leaf gT210_76) (sG_leaf gT210_79))) (sG_cond (sG_leaf gT210_80) (sG_cond (sG_leaf gT210_81) (sG_leaf gT210_84)))) (sG_cond (sG_cond (sG_leaf gT210_87) (sG_cond (sG_leaf gT210_88) (sG_leaf gT210_89))) (sG_cond (sG_cond (sG_leaf gT210_92) (sG_leaf gT210_95)) (sG_cond (sG_leaf gT210_96) (sG_leaf gT210_97))))))) (sG_cond (sG_cond (sG_cond (sG_cond (sG_cond (sG_leaf gT210_100) (sG_cond (sG_leaf gT210_103) (sG_leaf gT210_104))) (sG_cond (sG_leaf gT210_105) (sG_cond (sG_leaf gT210_108) (sG_leaf gT210_111)))) (sG_cond (sG_cond (sG_leaf gT210_112) (sG_cond (sG_leaf gT210_113) (sG_leaf gT210_116))) (sG_cond (sG_leaf gT210_119) (sG_cond (sG_leaf gT210_120) (sG_leaf gT210_123))))) (sG_cond (sG_cond (sG_cond (sG_leaf gT210_124) (sG_cond (sG_leaf gT210_125) (sG_leaf gT210_126))) (sG_cond (sG_leaf gT210_129) (sG_cond (sG_leaf gT210_130) (sG_leaf gT210_131)))) (sG_cond (sG_cond (sG_leaf gT210_132) (sG_cond (sG_leaf gT210_133) (sG_leaf gT210_136))) (sG_cond (sG_cond (sG_leaf gT210_137) (sG_leaf gT210_138)) (sG_cond (sG_leaf gT210_139) (sG_leaf gT210_140)))))) (sG_cond (sG_cond (sG_cond (sG_cond (sG_leaf gT210_143) (sG_cond (sG_leaf gT210_144) (sG_leaf gT210_145))) (sG_cond (sG_leaf gT210_146) (sG_cond (sG_leaf gT210_147) (sG_leaf gT210_150)))) (sG_cond (sG_cond (sG_leaf gT210_151) (sG_cond (sG_leaf gT210_152) (sG_leaf gT210_153))) (sG_cond (sG_leaf gT210_154) (sG_cond (sG_leaf gT210_157) (sG_leaf gT210_158))))) (sG_cond (sG_cond (sG_cond (sG_leaf gT210_159) (sG_cond (sG_leaf gT210_160) (sG_leaf gT210_163))) (sG_cond (sG_leaf gT210_164) (sG_cond (sG_leaf gT210_165) (sG_leaf gT210_166)))) (sG_cond (sG_cond (sG_leaf gT210_169) (sG_cond (sG_leaf gT210_170) (sG_leaf gT210_171))) (sG_cond (sG_cond (sG_leaf gT210_172) (sG_leaf gT210_173)) (sG_cond (sG_leaf gT210_176) (sG_leaf gT210_177)))))))) (sG_cond (sG_cond (sG_cond (sG_cond (sG_cond (sG_cond (sG_leaf gT210_178) (sG_cond (sG_leaf gT210_179) (sG_leaf gT210_180))) (sG_cond (sG_leaf gT210_183) (sG_cond (sG_leaf gT210_184) (sG_leaf gT210_185)))) (sG_cond (sG_cond (sG_leaf gT210_186) (sG_cond (sG_leaf gT210_187) (sG_leaf gT210_190))) (sG_cond (sG_leaf gT210_191) (sG_cond (sG_leaf gT210_192) (sG_leaf gT210_193))))) (sG_cond (sG_cond (sG_cond (sG_leaf gT210_194) (sG_cond (sG_leaf gT210_197) (sG_leaf gT210_198))) (sG_cond (sG_leaf gT210_199) (sG_cond (sG_leaf gT210_200) (sG_leaf gT210_202)))) (sG_cond (sG_cond (sG_leaf gT210_204) (sG_cond (sG_leaf gT210_205) (sG_leaf gT210_206))) (sG_cond (sG_cond (sG_leaf gT210_209) (sG_leaf gT210_210)) (sG_cond (sG_leaf gT210_212) (sG_leaf gT210_213)))))) (sG_cond (sG_cond (sG_cond (sG_cond (sG_leaf gT210_214) (sG_cond (sG_leaf gT210_215) (sG_leaf gT210_217))) (sG_cond (sG_leaf gT210_218) (sG_cond (sG_leaf gT210_219) (sG_leaf gT210_221)))) (sG_cond (sG_cond (sG_leaf gT210_224) (sG_cond (sG_leaf gT210_227) (sG_leaf gT210_230))) (sG_cond (sG_leaf gT210_231) (sG_cond (sG_leaf gT210_234) (sG_leaf gT210_235))))) (sG_cond (sG_cond (sG_cond (sG_leaf gT210_236) (sG_cond (sG_leaf gT210_239) (sG_leaf gT210_240))) (sG_cond (sG_leaf gT210_241) (sG_cond (sG_leaf gT210_244) (sG_leaf gT210_245)))) (sG_cond (sG_cond (sG_leaf gT210_246) (sG_cond (sG_leaf gT210_249) (sG_leaf gT210_252))) (sG_cond (sG_cond (sG_leaf gT210_253) (sG_leaf gT210_254)) (sG_cond (sG_leaf gT210_257) (sG_leaf gT210_260))))))) (sG_cond (sG_cond (sG_cond (sG_cond (sG_cond (sG_leaf gT210_261) (sG_cond (sG_leaf gT210_262) (sG_leaf gT210_265))) (sG_cond (sG_leaf gT210_268) (sG_cond (sG_leaf gT210_269) (sG_leaf gT210_270)))) (sG_cond (sG_cond (sG_leaf gT210_273) (sG_cond (sG_leaf gT210_276) (sG_leaf gT210_277))) (sG_cond (sG_leaf gT210_278) (sG_cond (sG_leaf gT210_281) (sG_leaf gT210_284))))) (sG_cond (sG_cond (sG_cond (sG_leaf gT210_285) (sG_cond (sG_leaf gT210_286) (sG_leaf gT210_289))) (sG_cond (sG_leaf gT210_292) (sG_cond (sG_leaf gT210_293) (sG_leaf gT210_294)))) (sG_cond (sG_cond (sG_leaf gT210_297) (sG_cond (sG_leaf gT210_300) (sG_leaf gT210_301))) (sG_cond (sG_cond (sG_leaf gT210_302) (sG_leaf gT210_305)) (sG_cond (sG_leaf gT210_308) (sG_leaf gT210_309)))))) (sG_cond (sG_cond (sG_cond (sG_cond (sG_leaf gT210_310) (sG_cond (sG_leaf gT210_313) (sG_leaf gT210_316))) (sG_cond (sG_leaf gT210_317) (sG_cond (sG_leaf gT210_318) (sG_leaf gT210_321)))) (sG_cond (sG_cond (sG_leaf gT210_324) (sG_cond (sG_leaf gT210_325) (sG_leaf gT210_326))) (sG_cond (sG_cond (sG_leaf gT210_329) (sG_leaf gT210_332)) (sG_cond (sG_leaf gT210_333) (sG_leaf gT210_336))))) (sG_cond (sG_cond (sG_cond (sG_leaf gT210_337) (sG_cond (sG_leaf gT210_338) (sG_leaf gT210_341))) (sG_cond (sG_leaf gT210_344) (sG_cond (sG_leaf gT210_347) (sG_leaf gT210_348)))) (sG_cond (sG_cond (sG_leaf gT210_351) (sG_cond (sG_leaf gT210_352) (sG_leaf gT210_353))) (sG_cond (sG_cond (sG_leaf gT210_356) (sG_leaf gT210_359)) (sG_cond (sG_leaf gT210_362) (sG_leaf gT210_363))))))))
end SND
