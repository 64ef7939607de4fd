/-! the tables are right over the machine: printed by gen.py -/
section SND
variable {l : Launch} {g : GC} {D : va_G} {H0 : Heap}
theorem gT108_0 : sG l g D H0 mT 108 0 (s_load vRf 108 1 0) := ⟨ok_load _ _ _ _, so_aload_n mT108 dX2_init_0 rfl⟩
theorem gT108_1 : sG l g D H0 mT 108 1 (s_oinit 108 4) := ⟨ok_oinit _ _, so_oinit mT108 (by decide) dX2_init_1 q98 q91 q92⟩
theorem gT108_4 : sG l g D H0 mT 108 4 (s_load vRf 108 5 0) := ⟨ok_load _ _ _ _, so_aload_n mT108 dX2_init_4 rfl⟩
theorem gT108_5 : sG l g D H0 mT 108 5 (s_new g 108 8 10 3 (fun k => defaultValue (tyJ2 k))) := ⟨ok_new _ _ _ _ _ _, so_new mT108 cl10 (fun _ _ => rfl) dX2_init_5 q99 q100 q58⟩
theorem gT108_8 : sG l g D H0 mT 108 8 (s_dup 108 9) := ⟨ok_dup _ _, so_dup mT108 dX2_init_8⟩
theorem gT108_9 : sG l g D H0 mT 108 9 (s_callik 108 12 14 [] 1) := ⟨ok_callik _ _ _ _ _, sk_calli (by decide) (so_callI mT108 mo14 (by decide) rfl dX2_init_9 q101 q102 q58)⟩
theorem gT108_12 : sG l g D H0 mT 108 12 (s_putf g pR 108 15 1 0) := ⟨ok_putf _ _ _ _ _ _, so_putfF mT108 cl1 (k := 0) (by decide) fR rfl rfl rfl dX2_init_12 q128 (fs_rf rfl)⟩
theorem gT108_15 : sG l g D H0 mT 108 15 (s_load vRf 108 16 0) := ⟨ok_load _ _ _ _, so_aload_n mT108 dX2_init_15 rfl⟩
theorem gT108_16 : sG l g D H0 mT 108 16 (s_new g 108 19 10 3 (fun k => defaultValue (tyJ2 k))) := ⟨ok_new _ _ _ _ _ _, so_new mT108 cl10 (fun _ _ => rfl) dX2_init_16 q99 q100 q58⟩
theorem gT108_19 : sG l g D H0 mT 108 19 (s_dup 108 20) := ⟨ok_dup _ _, so_dup mT108 dX2_init_19⟩
theorem gT108_20 : sG l g D H0 mT 108 20 (s_callik 108 23 14 [] 1) := ⟨ok_callik _ _ _ _ _, sk_calli (by decide) (so_callI mT108 mo14 (by decide) rfl dX2_init_20 q101 q102 q58)⟩
theorem gT108_23 : sG l g D H0 mT 108 23 (s_putf g pR 108 26 1 1) := ⟨ok_putf _ _ _ _ _ _, so_putfF mT108 cl1 (k := 1) (by decide) fR rfl rfl rfl dX2_init_23 q130 (fs_rf rfl)⟩
theorem gT108_26 : sG l g D H0 mT 108 26 (s_load vRf 108 27 0) := ⟨ok_load _ _ _ _, so_aload_n mT108 dX2_init_26 rfl⟩
theorem gT108_27 : sG l g D H0 mT 108 27 (s_const 108 28 (.int (-1))) := ⟨ok_const _ _ _, so_iconst mT108 dX2_init_27 (by decide)⟩
theorem gT108_28 : sG l g D H0 mT 108 28 (s_putf g pI 108 31 1 5) := ⟨ok_putf _ _ _ _ _ _, so_putf mT108 cl1 (k := 5) (by decide) fI rfl dX2_init_28 q138 (fs_rf rfl)⟩
theorem gT108_31 : sG l g D H0 mT 108 31 (s_load vRf 108 32 0) := ⟨ok_load _ _ _ _, so_aload_n mT108 dX2_init_31 rfl⟩
theorem gT108_32 : sG l g D H0 mT 108 32 (s_const 108 33 (.int (-1))) := ⟨ok_const _ _ _, so_iconst mT108 dX2_init_32 (by decide)⟩
theorem gT108_33 : sG l g D H0 mT 108 33 (s_putf g pI 108 36 1 6) := ⟨ok_putf _ _ _ _ _ _, so_putf mT108 cl1 (k := 6) (by decide) fI rfl dX2_init_33 q140 (fs_rf rfl)⟩
theorem gT108_36 : sG l g D H0 mT 108 36 (s_vret) := ⟨ok_vret, so_vret mT108 dX2_init_36⟩
theorem gT108 (pc : Nat) : sG l g D H0 mT 108 pc (tT108 g pc) := sG_cond (sG_cond (sG_cond (sG_cond (sG_leaf gT108_0) (sG_leaf gT108_1)) (sG_cond (sG_leaf gT108_4) (sG_leaf gT108_5))) (sG_cond (sG_cond (sG_leaf gT108_8) (sG_leaf gT108_9)) (sG_cond (sG_leaf gT108_12) (sG_cond (sG_leaf gT108_15) (sG_leaf gT108_16))))) (sG_cond (sG_cond (sG_cond (sG_leaf gT108_19) (sG_leaf gT108_20)) (sG_cond (sG_leaf gT108_23) (sG_cond (sG_leaf gT108_26) (sG_leaf gT108_27)))) (sG_cond (sG_cond (sG_leaf gT108_28) (sG_leaf gT108_31)) (sG_cond (sG_leaf gT108_32) (sG_cond (sG_leaf gT108_33) (sG_leaf gT108_36)))))
theorem gT109_0 : sG l g D H0 mT 109 0 (s_load vRf 109 1 0) := ⟨ok_load _ _ _ _, so_aload_n mT109 dX2_setFrames_0 rfl⟩
theorem gT109_1 : sG l g D H0 mT 109 1 (s_getf 109 4 1 8) := ⟨ok_getf _ _ _ _, so_getf mT109 cl1 (k := 8) (by decide) dX2_setFrames_1 q143 (fs_rf rfl)⟩
theorem gT109_4 : sG l g D H0 mT 109 4 (s_store vI 109 5 2) := ⟨ok_store _ _ _ _, so_istore_n mT109 dX2_setFrames_4 rfl⟩
theorem gT109_5 : sG l g D H0 mT 109 5 (s_load vRf 109 6 0) := ⟨ok_load _ _ _ _, so_aload_n mT109 dX2_setFrames_5 rfl⟩
theorem gT109_6 : sG l g D H0 mT 109 6 (s_getf 109 9 1 1) := ⟨ok_getf _ _ _ _, so_getf mT109 cl1 (k := 1) (by decide) dX2_setFrames_6 q130 (fs_rf rfl)⟩
theorem gT109_9 : sG l g D H0 mT 109 9 (s_callvk 109 12 15 10 [] 1) := ⟨ok_callvk _ _ _ _ _ _, sk_callv (by decide) (so_callV mT109 mo15 (by decide) (t := 10) (C := "java/util/ArrayList") (by decide) rfl rfl dX2_setFrames_9 q172 q173 q174 q58)⟩
theorem gT109_12 : sG l g D H0 mT 109 12 (s_load vI 109 13 1) := ⟨ok_load _ _ _ _, so_iload_n mT109 dX2_setFrames_12 rfl⟩
theorem gT109_13 : sG l g D H0 mT 109 13 (s_icmp 109 16 51 (fun a b => a ≤ b)) := ⟨ok_icmp _ _ _ _, so_icmp_le mT109 dX2_setFrames_13 (by decide)⟩
theorem gT109_16 : sG l g D H0 mT 109 16 (s_load vRf 109 17 0) := ⟨ok_load _ _ _ _, so_aload_n mT109 dX2_setFrames_16 rfl⟩
theorem gT109_17 : sG l g D H0 mT 109 17 (s_getf 109 20 1 1) := ⟨ok_getf _ _ _ _, so_getf mT109 cl1 (k := 1) (by decide) dX2_setFrames_17 q130 (fs_rf rfl)⟩
theorem gT109_20 : sG l g D H0 mT 109 20 (s_load vRf 109 21 0) := ⟨ok_load _ _ _ _, so_aload_n mT109 dX2_setFrames_20 rfl⟩
theorem gT109_21 : sG l g D H0 mT 109 21 (s_getf 109 24 1 1) := ⟨ok_getf _ _ _ _, so_getf mT109 cl1 (k := 1) (by decide) dX2_setFrames_21 q130 (fs_rf rfl)⟩
theorem gT109_24 : sG l g D H0 mT 109 24 (s_callvk 109 27 15 10 [] 1) := ⟨ok_callvk _ _ _ _ _ _, sk_callv (by decide) (so_callV mT109 mo15 (by decide) (t := 10) (C := "java/util/ArrayList") (by decide) rfl rfl dX2_setFrames_24 q172 q173 q174 q58)⟩
theorem gT109_27 : sG l g D H0 mT 109 27 (s_const 109 28 (.int 1)) := ⟨ok_const _ _ _, so_iconst mT109 dX2_setFrames_27 (by decide)⟩
theorem gT109_28 : sG l g D H0 mT 109 28 (s_bin 109 29 (fun a b => a - b)) := ⟨ok_bin _ _ _, so_isub mT109 dX2_setFrames_28⟩
theorem gT109_29 : sG l g D H0 mT 109 29 (s_callvk 109 32 16 10 [0] 4) := ⟨ok_callvk _ _ _ _ _ _, sk_callv (by decide) (so_callV mT109 mo16 (by decide) (t := 10) (C := "java/util/ArrayList") (by decide) rfl rfl dX2_setFrames_29 q176 q177 q178 q58)⟩
theorem gT109_32 : sG l g D H0 mT 109 32 (s_cast 109 35 [2]) := ⟨ok_cast _ _ _, so_cast mT109 (T := "HyperVane$Frame") (ts := [2]) (by intro u hu; rw [List.mem_singleton] at hu; subst hu; exact ⟨by decide, Or.inl rfl⟩) dX2_setFrames_32 q193⟩
theorem gT109_35 : sG l g D H0 mT 109 35 (s_store vRf 109 36 3) := ⟨ok_store _ _ _ _, so_astore_n mT109 dX2_setFrames_35 rfl⟩
theorem gT109_36 : sG l g D H0 mT 109 36 (s_load vRf 109 37 3) := ⟨ok_load _ _ _ _, so_aload_n mT109 dX2_setFrames_36 rfl⟩
theorem gT109_37 : sG l g D H0 mT 109 37 (s_getf 109 40 2 0) := ⟨ok_getf _ _ _ _, so_getfN mT109 cl2 (k := 0) (by decide) dX2_setFrames_37 q212 (fs_rf rfl)⟩
theorem gT109_40 : sG l g D H0 mT 109 40 (s_ifnull 109 43 48) := ⟨ok_ifnull _ _ _, so_ifnull mT109 dX2_setFrames_40 (by decide)⟩
theorem gT109_43 : sG l g D H0 mT 109 43 (s_load vRf 109 44 0) := ⟨ok_load _ _ _ _, so_aload_n mT109 dX2_setFrames_43 rfl⟩
theorem gT109_44 : sG l g D H0 mT 109 44 (s_load vRf 109 45 3) := ⟨ok_load _ _ _ _, so_aload_n mT109 dX2_setFrames_44 rfl⟩
theorem gT109_45 : sG l g D H0 mT 109 45 (s_callvk 109 48 110 1 [1] 2) := ⟨ok_callvk _ _ _ _ _ _, sk_callv (by decide) (so_callV mT109 mo110 (by decide) (t := 1) (C := "HyperVane$Machine") (by decide) rfl rfl dX2_setFrames_45 q194 q196 qs1 q55)⟩
theorem gT109_48 : sG l g D H0 mT 109 48 (s_goto 109 5) := ⟨ok_goto _ _, so_goto mT109 dX2_setFrames_48 (by decide)⟩
theorem gT109_51 : sG l g D H0 mT 109 51 (s_load vRf 109 52 0) := ⟨ok_load _ _ _ _, so_aload_n mT109 dX2_setFrames_51 rfl⟩
theorem gT109_52 : sG l g D H0 mT 109 52 (s_getf 109 55 1 1) := ⟨ok_getf _ _ _ _, so_getf mT109 cl1 (k := 1) (by decide) dX2_setFrames_52 q130 (fs_rf rfl)⟩
theorem gT109_55 : sG l g D H0 mT 109 55 (s_callvk 109 58 15 10 [] 1) := ⟨ok_callvk _ _ _ _ _ _, sk_callv (by decide) (so_callV mT109 mo15 (by decide) (t := 10) (C := "java/util/ArrayList") (by decide) rfl rfl dX2_setFrames_55 q172 q173 q174 q58)⟩
theorem gT109_58 : sG l g D H0 mT 109 58 (s_load vI 109 59 1) := ⟨ok_load _ _ _ _, so_iload_n mT109 dX2_setFrames_58 rfl⟩
theorem gT109_59 : sG l g D H0 mT 109 59 (s_icmp 109 62 80 (fun a b => b ≤ a)) := ⟨ok_icmp _ _ _ _, so_icmp_ge mT109 dX2_setFrames_59 (by decide)⟩
theorem gT109_62 : sG l g D H0 mT 109 62 (s_load vRf 109 63 0) := ⟨ok_load _ _ _ _, so_aload_n mT109 dX2_setFrames_62 rfl⟩
theorem gT109_63 : sG l g D H0 mT 109 63 (s_getf 109 66 1 1) := ⟨ok_getf _ _ _ _, so_getf mT109 cl1 (k := 1) (by decide) dX2_setFrames_63 q130 (fs_rf rfl)⟩
theorem gT109_66 : sG l g D H0 mT 109 66 (s_new g 109 69 2 3 (fun k => defaultValue (tyX3 k))) := ⟨ok_new _ _ _ _ _ _, so_new mT109 cl2 (fun _ _ => rfl) dX2_setFrames_66 q193 q206 q62⟩
theorem gT109_69 : sG l g D H0 mT 109 69 (s_dup 109 70) := ⟨ok_dup _ _, so_dup mT109 dX2_setFrames_69⟩
theorem gT109_70 : sG l g D H0 mT 109 70 (s_callik 109 73 136 [] 1) := ⟨ok_callik _ _ _ _ _, sk_calli (by decide) (so_callIN mT109 mo136 (by decide) rfl dX2_setFrames_70 q207 q208 q62)⟩
theorem gT109_73 : sG l g D H0 mT 109 73 (s_callvk 109 76 18 10 [1] 2) := ⟨ok_callvk _ _ _ _ _ _, sk_callv (by decide) (so_callV mT109 mo18 (by decide) (t := 10) (C := "java/util/ArrayList") (by decide) rfl rfl dX2_setFrames_73 q227 q228 q229 q58)⟩
theorem gT109_76 : sG l g D H0 mT 109 76 (s_pop 109 77) := ⟨ok_pop _ _, so_pop mT109 dX2_setFrames_76⟩
theorem gT109_77 : sG l g D H0 mT 109 77 (s_goto 109 51) := ⟨ok_goto _ _, so_goto mT109 dX2_setFrames_77 (by decide)⟩
theorem gT109_80 : sG l g D H0 mT 109 80 (s_load vRf 109 81 0) := ⟨ok_load _ _ _ _, so_aload_n mT109 dX2_setFrames_80 rfl⟩
theorem gT109_81 : sG l g D H0 mT 109 81 (s_getf 109 84 1 8) := ⟨ok_getf _ _ _ _, so_getf mT109 cl1 (k := 8) (by decide) dX2_setFrames_81 q143 (fs_rf rfl)⟩
theorem gT109_84 : sG l g D H0 mT 109 84 (s_load vI 109 85 2) := ⟨ok_load _ _ _ _, so_iload_n mT109 dX2_setFrames_84 rfl⟩
theorem gT109_85 : sG l g D H0 mT 109 85 (s_bin 109 86 (fun a b => a - b)) := ⟨ok_bin _ _ _, so_isub mT109 dX2_setFrames_85⟩
theorem gT109_86 : sG l g D H0 mT 109 86 (s_ret pI) := ⟨ok_ret _, so_iret mT109 dX2_setFrames_86⟩
theorem gT109 (pc : Nat) : sG l g D H0 mT 109 pc (tT109 g pc) := sG_cond (sG_cond (sG_cond (sG_cond (sG_cond (sG_leaf gT109_0) (sG_leaf gT109_1)) (sG_cond (sG_leaf gT109_4) (sG_cond (sG_leaf gT109_5) (sG_leaf gT109_6)))) (sG_cond (sG_cond (sG_leaf gT109_9) (sG_leaf gT109_12)) (sG_cond (sG_leaf gT109_13) (sG_cond (sG_leaf gT109_16) (sG_leaf gT109_17))))) (sG_cond (sG_cond (sG_cond (sG_leaf gT109_20) (sG_leaf gT109_21)) (sG_cond (sG_leaf gT109_24) (sG_cond (sG_leaf gT109_27) (sG_leaf gT109_28)))) (sG_cond (sG_cond (sG_leaf gT109_29) (sG_cond (sG_leaf gT109_32) (sG_leaf gT109_35))) (sG_cond (sG_leaf gT109_36) (sG_cond (sG_leaf gT109_37) (sG_leaf gT109_40)))))) (sG_cond (sG_cond (sG_cond (sG_cond (sG_leaf gT109_43) (sG_leaf gT109_44)) (sG_cond (sG_leaf gT109_45) (sG_cond (sG_leaf gT109_48) (sG_leaf gT109_51)))) (sG_cond (sG_cond (sG_leaf gT109_52) (sG_cond (sG_leaf gT109_55) (sG_leaf gT109_58))) (sG_cond (sG_leaf gT109_59) (sG_cond (sG_leaf gT109_62) (sG_leaf gT109_63))))) (sG_cond (sG_cond (sG_cond (sG_leaf gT109_66) (sG_leaf gT109_69)) (sG_cond (sG_leaf gT109_70) (sG_cond (sG_leaf gT109_73) (sG_leaf gT109_76)))) (sG_cond (sG_cond (sG_leaf gT109_77) (sG_cond (sG_leaf gT109_80) (sG_leaf gT109_81))) (sG_cond (sG_leaf gT109_84) (sG_cond (sG_leaf gT109_85) (sG_leaf gT109_86))))))
theorem gT110_0 : sG l g D H0 mT 110 0 (s_load vRf 110 1 1) := ⟨ok_load _ _ _ _, so_aload_n mT110 dX2_toDisk_0 rfl⟩
theorem gT110_1 : sG l g D H0 mT 110 1 (s_getf 110 4 2 0) := ⟨ok_getf _ _ _ _, so_getfN mT110 cl2 (k := 0) (by decide) dX2_toDisk_1 q212 (fs_rf rfl)⟩
theorem gT110_4 : sG l g D H0 mT 110 4 (s_getf 110 7 5 14) := ⟨ok_getf _ _ _ _, so_getfN mT110 cl5 (k := 14) (by decide) dX2_toDisk_4 q594 (fs_rf rfl)⟩
theorem gT110_7 : sG l g D H0 mT 110 7 (s_load vRf 110 8 1) := ⟨ok_load _ _ _ _, so_aload_n mT110 dX2_toDisk_7 rfl⟩
theorem gT110_8 : sG l g D H0 mT 110 8 (s_getf 110 11 2 1) := ⟨ok_getf _ _ _ _, so_getfN mT110 cl2 (k := 1) (by decide) dX2_toDisk_8 q215 (fs_rf rfl)⟩
theorem gT110_11 : sG l g D H0 mT 110 11 (s_const 110 12 (.int 1)) := ⟨ok_const _ _ _, so_iconst mT110 dX2_toDisk_11 (by decide)⟩
theorem gT110_12 : sG l g D H0 mT 110 12 (s_ast g (fun _ v => vZ v) 110 13 21) := ⟨ok_ast _ _ _ _ _, so_zast mT110 a21 dX2_toDisk_12⟩
theorem gT110_13 : sG l g D H0 mT 110 13 (s_load vRf 110 14 1) := ⟨ok_load _ _ _ _, so_aload_n mT110 dX2_toDisk_13 rfl⟩
theorem gT110_14 : sG l g D H0 mT 110 14 (s_callvk 110 17 134 2 [] 1) := ⟨ok_callvk _ _ _ _ _ _, sk_callv (by decide) (so_callV mT110 mo134 (by decide) (t := 2) (C := "HyperVane$Frame") (by decide) rfl rfl dX2_toDisk_14 q198 q199 q200 q62)⟩
theorem gT110_17 : sG l g D H0 mT 110 17 (s_load vRf 110 18 0) := ⟨ok_load _ _ _ _, so_aload_n mT110 dX2_toDisk_17 rfl⟩
theorem gT110_18 : sG l g D H0 mT 110 18 (s_dup 110 19) := ⟨ok_dup _ _, so_dup mT110 dX2_toDisk_18⟩
theorem gT110_19 : sG l g D H0 mT 110 19 (s_getf 110 22 1 8) := ⟨ok_getf _ _ _ _, so_getf mT110 cl1 (k := 8) (by decide) dX2_toDisk_19 q143 (fs_rf rfl)⟩
theorem gT110_22 : sG l g D H0 mT 110 22 (s_const 110 23 (.int 1)) := ⟨ok_const _ _ _, so_iconst mT110 dX2_toDisk_22 (by decide)⟩
theorem gT110_23 : sG l g D H0 mT 110 23 (s_bin 110 24 (fun a b => a + b)) := ⟨ok_bin _ _ _, so_iadd mT110 dX2_toDisk_23⟩
theorem gT110_24 : sG l g D H0 mT 110 24 (s_putf g pI 110 27 1 8) := ⟨ok_putf _ _ _ _ _ _, so_putf mT110 cl1 (k := 8) (by decide) fI rfl dX2_toDisk_24 q143 (fs_rf rfl)⟩
theorem gT110_27 : sG l g D H0 mT 110 27 (s_vret) := ⟨ok_vret, so_vret mT110 dX2_toDisk_27⟩
theorem gT110 (pc : Nat) : sG l g D H0 mT 110 pc (tT110 g pc) := sG_cond (sG_cond (sG_cond (sG_cond (sG_leaf gT110_0) (sG_leaf gT110_1)) (sG_cond (sG_leaf gT110_4) (sG_leaf gT110_7))) (sG_cond (sG_cond (sG_leaf gT110_8) (sG_leaf gT110_11)) (sG_cond (sG_leaf gT110_12) (sG_leaf gT110_13)))) (sG_cond (sG_cond (sG_cond (sG_leaf gT110_14) (sG_leaf gT110_17)) (sG_cond (sG_leaf gT110_18) (sG_leaf gT110_19))) (sG_cond (sG_cond (sG_leaf gT110_22) (sG_leaf gT110_23)) (sG_cond (sG_leaf gT110_24) (sG_leaf gT110_27))))
theorem gT111_0 : sG l g D H0 mT 111 0 (s_load vRf 111 1 0) := ⟨ok_load _ _ _ _, so_aload_n mT111 dX2_frameOf_0 rfl⟩
theorem gT111_1 : sG l g D H0 mT 111 1 (s_getf 111 4 1 1) := ⟨ok_getf _ _ _ _, so_getf mT111 cl1 (k := 1) (by decide) dX2_frameOf_1 q130 (fs_rf rfl)⟩
theorem gT111_4 : sG l g D H0 mT 111 4 (s_callvk 111 7 22 10 [] 1) := ⟨ok_callvk _ _ _ _ _ _, sk_callv (by decide) (so_callV mT111 mo22 (by decide) (t := 10) (C := "java/util/ArrayList") (by decide) rfl rfl dX2_frameOf_4 q381 q303 q304 q58)⟩
theorem gT111_7 : sG l g D H0 mT 111 7 (s_store vRf 111 8 3) := ⟨ok_store _ _ _ _, so_astore_n mT111 dX2_frameOf_7 rfl⟩
theorem gT111_8 : sG l g D H0 mT 111 8 (s_load vRf 111 9 3) := ⟨ok_load _ _ _ _, so_aload_n mT111 dX2_frameOf_8 rfl⟩
theorem gT111_9 : sG l g D H0 mT 111 9 (s_callvk 111 14 3 11 [] 1) := ⟨ok_callvk _ _ _ _ _ _, sk_callv (by decide) (so_callF mT111 mo3 (by decide) (t := 11) (C := "java/util/ArrayList$Itr") (by decide) rfl (by decide +kernel) ⟨by decide, by decide, by decide +kernel⟩ dX2_frameOf_9 q383 q332 q330 q80)⟩
theorem gT111_14 : sG l g D H0 mT 111 14 (s_if 111 17 52 (fun a => a = 0)) := ⟨ok_if _ _ _ _, so_if_eq mT111 dX2_frameOf_14 (by decide)⟩
theorem gT111_17 : sG l g D H0 mT 111 17 (s_load vRf 111 18 3) := ⟨ok_load _ _ _ _, so_aload_n mT111 dX2_frameOf_17 rfl⟩
theorem gT111_18 : sG l g D H0 mT 111 18 (s_callvk 111 23 4 11 [] 3) := ⟨ok_callvk _ _ _ _ _ _, sk_callv (by decide) (so_callF mT111 mo4 (by decide) (t := 11) (C := "java/util/ArrayList$Itr") (by decide) rfl (by decide +kernel) ⟨by decide, by decide, by decide +kernel⟩ dX2_frameOf_18 q385 q341 q339 q80)⟩
theorem gT111_23 : sG l g D H0 mT 111 23 (s_cast 111 26 [2]) := ⟨ok_cast _ _ _, so_cast mT111 (T := "HyperVane$Frame") (ts := [2]) (by intro u hu; rw [List.mem_singleton] at hu; subst hu; exact ⟨by decide, Or.inl rfl⟩) dX2_frameOf_23 q193⟩
theorem gT111_26 : sG l g D H0 mT 111 26 (s_store vRf 111 28 4) := ⟨ok_store _ _ _ _, so_astore mT111 dX2_frameOf_26⟩
theorem gT111_28 : sG l g D H0 mT 111 28 (s_load vRf 111 30 4) := ⟨ok_load _ _ _ _, so_aload mT111 dX2_frameOf_28⟩
theorem gT111_30 : sG l g D H0 mT 111 30 (s_getf 111 33 2 0) := ⟨ok_getf _ _ _ _, so_getfN mT111 cl2 (k := 0) (by decide) dX2_frameOf_30 q212 (fs_rf rfl)⟩
theorem gT111_33 : sG l g D H0 mT 111 33 (s_load vRf 111 34 1) := ⟨ok_load _ _ _ _, so_aload_n mT111 dX2_frameOf_33 rfl⟩
theorem gT111_34 : sG l g D H0 mT 111 34 (s_acmpn 111 37 49) := ⟨ok_acmpn _ _ _, so_acmp_ne mT111 dX2_frameOf_34 (by decide)⟩
theorem gT111_37 : sG l g D H0 mT 111 37 (s_load vRf 111 39 4) := ⟨ok_load _ _ _ _, so_aload mT111 dX2_frameOf_37⟩
theorem gT111_39 : sG l g D H0 mT 111 39 (s_getf 111 42 2 1) := ⟨ok_getf _ _ _ _, so_getfN mT111 cl2 (k := 1) (by decide) dX2_frameOf_39 q215 (fs_rf rfl)⟩
theorem gT111_42 : sG l g D H0 mT 111 42 (s_load vI 111 43 2) := ⟨ok_load _ _ _ _, so_iload_n mT111 dX2_frameOf_42 rfl⟩
theorem gT111_43 : sG l g D H0 mT 111 43 (s_icmp 111 49 46 (fun a b => a = b)) := ⟨ok_icmp _ _ _ _, so_icmp_ne mT111 dX2_frameOf_43 (by decide)⟩
theorem gT111_46 : sG l g D H0 mT 111 46 (s_load vRf 111 48 4) := ⟨ok_load _ _ _ _, so_aload mT111 dX2_frameOf_46⟩
theorem gT111_48 : sG l g D H0 mT 111 48 (s_ret pR) := ⟨ok_ret _, so_aret mT111 dX2_frameOf_48 (Or.inl ⟨_, rfl⟩)⟩
theorem gT111_49 : sG l g D H0 mT 111 49 (s_goto 111 8) := ⟨ok_goto _ _, so_goto mT111 dX2_frameOf_49 (by decide)⟩
theorem gT111_52 : sG l g D H0 mT 111 52 (s_const 111 53 .null) := ⟨ok_const _ _ _, so_null mT111 dX2_frameOf_52⟩
theorem gT111_53 : sG l g D H0 mT 111 53 (s_ret pR) := ⟨ok_ret _, so_aret mT111 dX2_frameOf_53 (Or.inl ⟨_, rfl⟩)⟩
theorem gT111 (pc : Nat) : sG l g D H0 mT 111 pc (tT111 g pc) := sG_cond (sG_cond (sG_cond (sG_cond (sG_leaf gT111_0) (sG_cond (sG_leaf gT111_1) (sG_leaf gT111_4))) (sG_cond (sG_leaf gT111_7) (sG_cond (sG_leaf gT111_8) (sG_leaf gT111_9)))) (sG_cond (sG_cond (sG_leaf gT111_14) (sG_cond (sG_leaf gT111_17) (sG_leaf gT111_18))) (sG_cond (sG_leaf gT111_23) (sG_cond (sG_leaf gT111_26) (sG_leaf gT111_28))))) (sG_cond (sG_cond (sG_cond (sG_leaf gT111_30) (sG_cond (sG_leaf gT111_33) (sG_leaf gT111_34))) (sG_cond (sG_leaf gT111_37) (sG_cond (sG_leaf gT111_39) (sG_leaf gT111_42)))) (sG_cond (sG_cond (sG_leaf gT111_43) (sG_cond (sG_leaf gT111_46) (sG_leaf gT111_48))) (sG_cond (sG_leaf gT111_49) (sG_cond (sG_leaf gT111_52) (sG_leaf gT111_53)))))
theorem gT112_0 : sG l g D H0 mT 112 0 (s_new g 112 3 1 10 (fun k => defaultValue (tyX2 k))) := ⟨ok_new _ _ _ _ _ _, so_new mT112 cl1 (fun _ _ => rfl) dX2_copy_0 q537 q94 q55⟩
theorem gT112_3 : sG l g D H0 mT 112 3 (s_dup 112 4) := ⟨ok_dup _ _, so_dup mT112 dX2_copy_3⟩
theorem gT112_4 : sG l g D H0 mT 112 4 (s_callik 112 7 108 [] 1) := ⟨ok_callik _ _ _ _ _, sk_calli (by decide) (so_callI mT112 mo108 (by decide) rfl dX2_copy_4 q538 q96 q55)⟩
theorem gT112_7 : sG l g D H0 mT 112 7 (s_store vRf 112 8 1) := ⟨ok_store _ _ _ _, so_astore_n mT112 dX2_copy_7 rfl⟩
theorem gT112_8 : sG l g D H0 mT 112 8 (s_load vRf 112 9 0) := ⟨ok_load _ _ _ _, so_aload_n mT112 dX2_copy_8 rfl⟩
theorem gT112_9 : sG l g D H0 mT 112 9 (s_getf 112 12 1 0) := ⟨ok_getf _ _ _ _, so_getf mT112 cl1 (k := 0) (by decide) dX2_copy_9 q128 (fs_rf rfl)⟩
theorem gT112_12 : sG l g D H0 mT 112 12 (s_callvk 112 15 22 10 [] 1) := ⟨ok_callvk _ _ _ _ _ _, sk_callv (by decide) (so_callV mT112 mo22 (by decide) (t := 10) (C := "java/util/ArrayList") (by decide) rfl rfl dX2_copy_12 q381 q303 q304 q58)⟩
theorem gT112_15 : sG l g D H0 mT 112 15 (s_store vRf 112 16 2) := ⟨ok_store _ _ _ _, so_astore_n mT112 dX2_copy_15 rfl⟩
theorem gT112_16 : sG l g D H0 mT 112 16 (s_load vRf 112 17 2) := ⟨ok_load _ _ _ _, so_aload_n mT112 dX2_copy_16 rfl⟩
theorem gT112_17 : sG l g D H0 mT 112 17 (s_callvk 112 22 3 11 [] 1) := ⟨ok_callvk _ _ _ _ _ _, sk_callv (by decide) (so_callF mT112 mo3 (by decide) (t := 11) (C := "java/util/ArrayList$Itr") (by decide) rfl (by decide +kernel) ⟨by decide, by decide, by decide +kernel⟩ dX2_copy_17 q383 q332 q330 q80)⟩
theorem gT112_22 : sG l g D H0 mT 112 22 (s_if 112 25 50 (fun a => a = 0)) := ⟨ok_if _ _ _ _, so_if_eq mT112 dX2_copy_22 (by decide)⟩
theorem gT112_25 : sG l g D H0 mT 112 25 (s_load vRf 112 26 2) := ⟨ok_load _ _ _ _, so_aload_n mT112 dX2_copy_25 rfl⟩
theorem gT112_26 : sG l g D H0 mT 112 26 (s_callvk 112 31 4 11 [] 3) := ⟨ok_callvk _ _ _ _ _ _, sk_callv (by decide) (so_callF mT112 mo4 (by decide) (t := 11) (C := "java/util/ArrayList$Itr") (by decide) rfl (by decide +kernel) ⟨by decide, by decide, by decide +kernel⟩ dX2_copy_26 q385 q341 q339 q80)⟩
theorem gT112_31 : sG l g D H0 mT 112 31 (s_cast 112 34 [5]) := ⟨ok_cast _ _ _, so_cast mT112 (T := "HyperVane$Guest") (ts := [5]) (by intro u hu; rw [List.mem_singleton] at hu; subst hu; exact ⟨by decide, Or.inl rfl⟩) dX2_copy_31 q539⟩
theorem gT112_34 : sG l g D H0 mT 112 34 (s_store vRf 112 35 3) := ⟨ok_store _ _ _ _, so_astore_n mT112 dX2_copy_34 rfl⟩
theorem gT112_35 : sG l g D H0 mT 112 35 (s_load vRf 112 36 1) := ⟨ok_load _ _ _ _, so_aload_n mT112 dX2_copy_35 rfl⟩
theorem gT112_36 : sG l g D H0 mT 112 36 (s_getf 112 39 1 0) := ⟨ok_getf _ _ _ _, so_getf mT112 cl1 (k := 0) (by decide) dX2_copy_36 q128 (fs_rf rfl)⟩
theorem gT112_39 : sG l g D H0 mT 112 39 (s_load vRf 112 40 3) := ⟨ok_load _ _ _ _, so_aload_n mT112 dX2_copy_39 rfl⟩
theorem gT112_40 : sG l g D H0 mT 112 40 (s_callvk 112 43 195 5 [] 2) := ⟨ok_callvk _ _ _ _ _ _, sk_callv (by decide) (so_callV mT112 mo195 (by decide) (t := 5) (C := "HyperVane$Guest") (by decide) rfl rfl dX2_copy_40 q540 q541 q542 q73)⟩
theorem gT112_43 : sG l g D H0 mT 112 43 (s_callvk 112 46 18 10 [1] 2) := ⟨ok_callvk _ _ _ _ _ _, sk_callv (by decide) (so_callV mT112 mo18 (by decide) (t := 10) (C := "java/util/ArrayList") (by decide) rfl rfl dX2_copy_43 q227 q228 q229 q58)⟩
theorem gT112_46 : sG l g D H0 mT 112 46 (s_pop 112 47) := ⟨ok_pop _ _, so_pop mT112 dX2_copy_46⟩
theorem gT112_47 : sG l g D H0 mT 112 47 (s_goto 112 16) := ⟨ok_goto _ _, so_goto mT112 dX2_copy_47 (by decide)⟩
theorem gT112_50 : sG l g D H0 mT 112 50 (s_load vRf 112 51 0) := ⟨ok_load _ _ _ _, so_aload_n mT112 dX2_copy_50 rfl⟩
theorem gT112_51 : sG l g D H0 mT 112 51 (s_getf 112 54 1 1) := ⟨ok_getf _ _ _ _, so_getf mT112 cl1 (k := 1) (by decide) dX2_copy_51 q130 (fs_rf rfl)⟩
theorem gT112_54 : sG l g D H0 mT 112 54 (s_callvk 112 57 22 10 [] 1) := ⟨ok_callvk _ _ _ _ _ _, sk_callv (by decide) (so_callV mT112 mo22 (by decide) (t := 10) (C := "java/util/ArrayList") (by decide) rfl rfl dX2_copy_54 q381 q303 q304 q58)⟩
theorem gT112_57 : sG l g D H0 mT 112 57 (s_store vRf 112 58 2) := ⟨ok_store _ _ _ _, so_astore_n mT112 dX2_copy_57 rfl⟩
theorem gT112_58 : sG l g D H0 mT 112 58 (s_load vRf 112 59 2) := ⟨ok_load _ _ _ _, so_aload_n mT112 dX2_copy_58 rfl⟩
theorem gT112_59 : sG l g D H0 mT 112 59 (s_callvk 112 64 3 11 [] 1) := ⟨ok_callvk _ _ _ _ _ _, sk_callv (by decide) (so_callF mT112 mo3 (by decide) (t := 11) (C := "java/util/ArrayList$Itr") (by decide) rfl (by decide +kernel) ⟨by decide, by decide, by decide +kernel⟩ dX2_copy_59 q383 q332 q330 q80)⟩
theorem gT112_64 : sG l g D H0 mT 112 64 (s_if 112 67 140 (fun a => a = 0)) := ⟨ok_if _ _ _ _, so_if_eq mT112 dX2_copy_64 (by decide)⟩
theorem gT112_67 : sG l g D H0 mT 112 67 (s_load vRf 112 68 2) := ⟨ok_load _ _ _ _, so_aload_n mT112 dX2_copy_67 rfl⟩
theorem gT112_68 : sG l g D H0 mT 112 68 (s_callvk 112 73 4 11 [] 3) := ⟨ok_callvk _ _ _ _ _ _, sk_callv (by decide) (so_callF mT112 mo4 (by decide) (t := 11) (C := "java/util/ArrayList$Itr") (by decide) rfl (by decide +kernel) ⟨by decide, by decide, by decide +kernel⟩ dX2_copy_68 q385 q341 q339 q80)⟩
theorem gT112_73 : sG l g D H0 mT 112 73 (s_cast 112 76 [2]) := ⟨ok_cast _ _ _, so_cast mT112 (T := "HyperVane$Frame") (ts := [2]) (by intro u hu; rw [List.mem_singleton] at hu; subst hu; exact ⟨by decide, Or.inl rfl⟩) dX2_copy_73 q193⟩
theorem gT112_76 : sG l g D H0 mT 112 76 (s_store vRf 112 77 3) := ⟨ok_store _ _ _ _, so_astore_n mT112 dX2_copy_76 rfl⟩
theorem gT112_77 : sG l g D H0 mT 112 77 (s_new g 112 80 2 3 (fun k => defaultValue (tyX3 k))) := ⟨ok_new _ _ _ _ _ _, so_new mT112 cl2 (fun _ _ => rfl) dX2_copy_77 q193 q206 q62⟩
theorem gT112_80 : sG l g D H0 mT 112 80 (s_dup 112 81) := ⟨ok_dup _ _, so_dup mT112 dX2_copy_80⟩
theorem gT112_81 : sG l g D H0 mT 112 81 (s_callik 112 84 136 [] 1) := ⟨ok_callik _ _ _ _ _, sk_calli (by decide) (so_callIN mT112 mo136 (by decide) rfl dX2_copy_81 q207 q208 q62)⟩
theorem gT112_84 : sG l g D H0 mT 112 84 (s_store vRf 112 86 4) := ⟨ok_store _ _ _ _, so_astore mT112 dX2_copy_84⟩
theorem gT112_86 : sG l g D H0 mT 112 86 (s_load vRf 112 88 4) := ⟨ok_load _ _ _ _, so_aload mT112 dX2_copy_86⟩
theorem gT112_88 : sG l g D H0 mT 112 88 (s_load vRf 112 89 3) := ⟨ok_load _ _ _ _, so_aload_n mT112 dX2_copy_88 rfl⟩
theorem gT112_89 : sG l g D H0 mT 112 89 (s_getf 112 92 2 0) := ⟨ok_getf _ _ _ _, so_getfN mT112 cl2 (k := 0) (by decide) dX2_copy_89 q212 (fs_rf rfl)⟩
theorem gT112_92 : sG l g D H0 mT 112 92 (s_ifnn 112 95 99) := ⟨ok_ifnn _ _ _, so_ifnonnull mT112 dX2_copy_92 (by decide)⟩
theorem gT112_95 : sG l g D H0 mT 112 95 (s_const 112 96 .null) := ⟨ok_const _ _ _, so_null mT112 dX2_copy_95⟩
theorem gT112_96 : sG l g D H0 mT 112 96 (s_goto 112 116) := ⟨ok_goto _ _, so_goto mT112 dX2_copy_96 (by decide)⟩
theorem gT112_99 : sG l g D H0 mT 112 99 (s_load vRf 112 100 1) := ⟨ok_load _ _ _ _, so_aload_n mT112 dX2_copy_99 rfl⟩
theorem gT112_100 : sG l g D H0 mT 112 100 (s_getf 112 103 1 0) := ⟨ok_getf _ _ _ _, so_getf mT112 cl1 (k := 0) (by decide) dX2_copy_100 q128 (fs_rf rfl)⟩
theorem gT112_103 : sG l g D H0 mT 112 103 (s_load vRf 112 104 3) := ⟨ok_load _ _ _ _, so_aload_n mT112 dX2_copy_103 rfl⟩
theorem gT112_104 : sG l g D H0 mT 112 104 (s_getf 112 107 2 0) := ⟨ok_getf _ _ _ _, so_getfN mT112 cl2 (k := 0) (by decide) dX2_copy_104 q212 (fs_rf rfl)⟩
theorem gT112_107 : sG l g D H0 mT 112 107 (s_getf 112 110 5 0) := ⟨ok_getf _ _ _ _, so_getfN mT112 cl5 (k := 0) (by decide) dX2_copy_107 q553 (fs_rf rfl)⟩
theorem gT112_110 : sG l g D H0 mT 112 110 (s_callvk 112 113 25 10 [0] 2) := ⟨ok_callvk _ _ _ _ _ _, sk_callv (by decide) (so_callV mT112 mo25 (by decide) (t := 10) (C := "java/util/ArrayList") (by decide) rfl rfl dX2_copy_110 q700 q439 q440 q58)⟩
theorem gT112_113 : sG l g D H0 mT 112 113 (s_cast 112 116 [5]) := ⟨ok_cast _ _ _, so_cast mT112 (T := "HyperVane$Guest") (ts := [5]) (by intro u hu; rw [List.mem_singleton] at hu; subst hu; exact ⟨by decide, Or.inl rfl⟩) dX2_copy_113 q539⟩
theorem gT112_116 : sG l g D H0 mT 112 116 (s_load vRf 112 117 3) := ⟨ok_load _ _ _ _, so_aload_n mT112 dX2_copy_116 rfl⟩
theorem gT112_117 : sG l g D H0 mT 112 117 (s_getf 112 120 2 1) := ⟨ok_getf _ _ _ _, so_getfN mT112 cl2 (k := 1) (by decide) dX2_copy_117 q215 (fs_rf rfl)⟩
theorem gT112_120 : sG l g D H0 mT 112 120 (s_load vRf 112 121 3) := ⟨ok_load _ _ _ _, so_aload_n mT112 dX2_copy_120 rfl⟩
theorem gT112_121 : sG l g D H0 mT 112 121 (s_getf 112 124 2 2) := ⟨ok_getf _ _ _ _, so_getfN mT112 cl2 (k := 2) (by decide) dX2_copy_121 q218 (fs_rf rfl)⟩
theorem gT112_124 : sG l g D H0 mT 112 124 (s_callvk 112 127 135 2 [1, 0, 0] 4) := ⟨ok_callvk _ _ _ _ _ _, sk_callv (by decide) (so_callV mT112 mo135 (by decide) (t := 2) (C := "HyperVane$Frame") (by decide) rfl rfl dX2_copy_124 q701 q203 q204 q62)⟩
theorem gT112_127 : sG l g D H0 mT 112 127 (s_load vRf 112 128 1) := ⟨ok_load _ _ _ _, so_aload_n mT112 dX2_copy_127 rfl⟩
theorem gT112_128 : sG l g D H0 mT 112 128 (s_getf 112 131 1 1) := ⟨ok_getf _ _ _ _, so_getf mT112 cl1 (k := 1) (by decide) dX2_copy_128 q130 (fs_rf rfl)⟩
theorem gT112_131 : sG l g D H0 mT 112 131 (s_load vRf 112 133 4) := ⟨ok_load _ _ _ _, so_aload mT112 dX2_copy_131⟩
theorem gT112_133 : sG l g D H0 mT 112 133 (s_callvk 112 136 18 10 [1] 2) := ⟨ok_callvk _ _ _ _ _ _, sk_callv (by decide) (so_callV mT112 mo18 (by decide) (t := 10) (C := "java/util/ArrayList") (by decide) rfl rfl dX2_copy_133 q227 q228 q229 q58)⟩
theorem gT112_136 : sG l g D H0 mT 112 136 (s_pop 112 137) := ⟨ok_pop _ _, so_pop mT112 dX2_copy_136⟩
theorem gT112_137 : sG l g D H0 mT 112 137 (s_goto 112 58) := ⟨ok_goto _ _, so_goto mT112 dX2_copy_137 (by decide)⟩
theorem gT112_140 : sG l g D H0 mT 112 140 (s_load vRf 112 141 1) := ⟨ok_load _ _ _ _, so_aload_n mT112 dX2_copy_140 rfl⟩
theorem gT112_141 : sG l g D H0 mT 112 141 (s_load vRf 112 142 0) := ⟨ok_load _ _ _ _, so_aload_n mT112 dX2_copy_141 rfl⟩
theorem gT112_142 : sG l g D H0 mT 112 142 (s_getf 112 145 1 2) := ⟨ok_getf _ _ _ _, so_getf mT112 cl1 (k := 2) (by decide) dX2_copy_142 q132 (fs_rf rfl)⟩
theorem gT112_145 : sG l g D H0 mT 112 145 (s_putf g pI 112 148 1 2) := ⟨ok_putf _ _ _ _ _ _, so_putf mT112 cl1 (k := 2) (by decide) fI rfl dX2_copy_145 q132 (fs_rf rfl)⟩
theorem gT112_148 : sG l g D H0 mT 112 148 (s_load vRf 112 149 1) := ⟨ok_load _ _ _ _, so_aload_n mT112 dX2_copy_148 rfl⟩
theorem gT112_149 : sG l g D H0 mT 112 149 (s_load vRf 112 150 0) := ⟨ok_load _ _ _ _, so_aload_n mT112 dX2_copy_149 rfl⟩
theorem gT112_150 : sG l g D H0 mT 112 150 (s_getf 112 153 1 3) := ⟨ok_getf _ _ _ _, so_getf mT112 cl1 (k := 3) (by decide) dX2_copy_150 q134 (fs_rf rfl)⟩
theorem gT112_153 : sG l g D H0 mT 112 153 (s_ifnn 112 156 160) := ⟨ok_ifnn _ _ _, so_ifnonnull mT112 dX2_copy_153 (by decide)⟩
theorem gT112_156 : sG l g D H0 mT 112 156 (s_const 112 157 .null) := ⟨ok_const _ _ _, so_null mT112 dX2_copy_156⟩
theorem gT112_157 : sG l g D H0 mT 112 157 (s_goto 112 177) := ⟨ok_goto _ _, so_goto mT112 dX2_copy_157 (by decide)⟩
theorem gT112_160 : sG l g D H0 mT 112 160 (s_load vRf 112 161 1) := ⟨ok_load _ _ _ _, so_aload_n mT112 dX2_copy_160 rfl⟩
theorem gT112_161 : sG l g D H0 mT 112 161 (s_getf 112 164 1 0) := ⟨ok_getf _ _ _ _, so_getf mT112 cl1 (k := 0) (by decide) dX2_copy_161 q128 (fs_rf rfl)⟩
theorem gT112_164 : sG l g D H0 mT 112 164 (s_load vRf 112 165 0) := ⟨ok_load _ _ _ _, so_aload_n mT112 dX2_copy_164 rfl⟩
theorem gT112_165 : sG l g D H0 mT 112 165 (s_getf 112 168 1 3) := ⟨ok_getf _ _ _ _, so_getf mT112 cl1 (k := 3) (by decide) dX2_copy_165 q134 (fs_rf rfl)⟩
theorem gT112_168 : sG l g D H0 mT 112 168 (s_getf 112 171 5 0) := ⟨ok_getf _ _ _ _, so_getfN mT112 cl5 (k := 0) (by decide) dX2_copy_168 q553 (fs_rf rfl)⟩
theorem gT112_171 : sG l g D H0 mT 112 171 (s_callvk 112 174 25 10 [0] 2) := ⟨ok_callvk _ _ _ _ _ _, sk_callv (by decide) (so_callV mT112 mo25 (by decide) (t := 10) (C := "java/util/ArrayList") (by decide) rfl rfl dX2_copy_171 q700 q439 q440 q58)⟩
theorem gT112_174 : sG l g D H0 mT 112 174 (s_cast 112 177 [5]) := ⟨ok_cast _ _ _, so_cast mT112 (T := "HyperVane$Guest") (ts := [5]) (by intro u hu; rw [List.mem_singleton] at hu; subst hu; exact ⟨by decide, Or.inl rfl⟩) dX2_copy_174 q539⟩
theorem gT112_177 : sG l g D H0 mT 112 177 (s_putf g pR 112 180 1 3) := ⟨ok_putf _ _ _ _ _ _, so_putf mT112 cl1 (k := 3) (by decide) fR rfl dX2_copy_177 q134 (fs_rf rfl)⟩
theorem gT112_180 : sG l g D H0 mT 112 180 (s_load vRf 112 181 1) := ⟨ok_load _ _ _ _, so_aload_n mT112 dX2_copy_180 rfl⟩
theorem gT112_181 : sG l g D H0 mT 112 181 (s_load vRf 112 182 0) := ⟨ok_load _ _ _ _, so_aload_n mT112 dX2_copy_181 rfl⟩
theorem gT112_182 : sG l g D H0 mT 112 182 (s_getf 112 185 1 4) := ⟨ok_getf _ _ _ _, so_getf mT112 cl1 (k := 4) (by decide) dX2_copy_182 q136 (fs_rf rfl)⟩
theorem gT112_185 : sG l g D H0 mT 112 185 (s_ifnn 112 188 192) := ⟨ok_ifnn _ _ _, so_ifnonnull mT112 dX2_copy_185 (by decide)⟩
theorem gT112_188 : sG l g D H0 mT 112 188 (s_const 112 189 .null) := ⟨ok_const _ _ _, so_null mT112 dX2_copy_188⟩
theorem gT112_189 : sG l g D H0 mT 112 189 (s_goto 112 209) := ⟨ok_goto _ _, so_goto mT112 dX2_copy_189 (by decide)⟩
theorem gT112_192 : sG l g D H0 mT 112 192 (s_load vRf 112 193 1) := ⟨ok_load _ _ _ _, so_aload_n mT112 dX2_copy_192 rfl⟩
theorem gT112_193 : sG l g D H0 mT 112 193 (s_getf 112 196 1 0) := ⟨ok_getf _ _ _ _, so_getf mT112 cl1 (k := 0) (by decide) dX2_copy_193 q128 (fs_rf rfl)⟩
theorem gT112_196 : sG l g D H0 mT 112 196 (s_load vRf 112 197 0) := ⟨ok_load _ _ _ _, so_aload_n mT112 dX2_copy_196 rfl⟩
theorem gT112_197 : sG l g D H0 mT 112 197 (s_getf 112 200 1 4) := ⟨ok_getf _ _ _ _, so_getf mT112 cl1 (k := 4) (by decide) dX2_copy_197 q136 (fs_rf rfl)⟩
theorem gT112_200 : sG l g D H0 mT 112 200 (s_getf 112 203 5 0) := ⟨ok_getf _ _ _ _, so_getfN mT112 cl5 (k := 0) (by decide) dX2_copy_200 q553 (fs_rf rfl)⟩
theorem gT112_203 : sG l g D H0 mT 112 203 (s_callvk 112 206 25 10 [0] 2) := ⟨ok_callvk _ _ _ _ _ _, sk_callv (by decide) (so_callV mT112 mo25 (by decide) (t := 10) (C := "java/util/ArrayList") (by decide) rfl rfl dX2_copy_203 q700 q439 q440 q58)⟩
theorem gT112_206 : sG l g D H0 mT 112 206 (s_cast 112 209 [5]) := ⟨ok_cast _ _ _, so_cast mT112 (T := "HyperVane$Guest") (ts := [5]) (by intro u hu; rw [List.mem_singleton] at hu; subst hu; exact ⟨by decide, Or.inl rfl⟩) dX2_copy_206 q539⟩
theorem gT112_209 : sG l g D H0 mT 112 209 (s_putf g pR 112 212 1 4) := ⟨ok_putf _ _ _ _ _ _, so_putf mT112 cl1 (k := 4) (by decide) fR rfl dX2_copy_209 q136 (fs_rf rfl)⟩
theorem gT112_212 : sG l g D H0 mT 112 212 (s_load vRf 112 213 1) := ⟨ok_load _ _ _ _, so_aload_n mT112 dX2_copy_212 rfl⟩
theorem gT112_213 : sG l g D H0 mT 112 213 (s_load vRf 112 214 0) := ⟨ok_load _ _ _ _, so_aload_n mT112 dX2_copy_213 rfl⟩
theorem gT112_214 : sG l g D H0 mT 112 214 (s_getf 112 217 1 5) := ⟨ok_getf _ _ _ _, so_getf mT112 cl1 (k := 5) (by decide) dX2_copy_214 q138 (fs_rf rfl)⟩
theorem gT112_217 : sG l g D H0 mT 112 217 (s_putf g pI 112 220 1 5) := ⟨ok_putf _ _ _ _ _ _, so_putf mT112 cl1 (k := 5) (by decide) fI rfl dX2_copy_217 q138 (fs_rf rfl)⟩
theorem gT112_220 : sG l g D H0 mT 112 220 (s_load vRf 112 221 1) := ⟨ok_load _ _ _ _, so_aload_n mT112 dX2_copy_220 rfl⟩
theorem gT112_221 : sG l g D H0 mT 112 221 (s_load vRf 112 222 0) := ⟨ok_load _ _ _ _, so_aload_n mT112 dX2_copy_221 rfl⟩
theorem gT112_222 : sG l g D H0 mT 112 222 (s_getf 112 225 1 6) := ⟨ok_getf _ _ _ _, so_getf mT112 cl1 (k := 6) (by decide) dX2_copy_222 q140 (fs_rf rfl)⟩
theorem gT112_225 : sG l g D H0 mT 112 225 (s_putf g pI 112 228 1 6) := ⟨ok_putf _ _ _ _ _ _, so_putf mT112 cl1 (k := 6) (by decide) fI rfl dX2_copy_225 q140 (fs_rf rfl)⟩
theorem gT112_228 : sG l g D H0 mT 112 228 (s_load vRf 112 229 1) := ⟨ok_load _ _ _ _, so_aload_n mT112 dX2_copy_228 rfl⟩
theorem gT112_229 : sG l g D H0 mT 112 229 (s_load vRf 112 230 0) := ⟨ok_load _ _ _ _, so_aload_n mT112 dX2_copy_229 rfl⟩
theorem gT112_230 : sG l g D H0 mT 112 230 (s_getf 112 233 1 7) := ⟨ok_getf _ _ _ _, so_getf mT112 cl1 (k := 7) (by decide) dX2_copy_230 q141 (fs_rf rfl)⟩
theorem gT112_233 : sG l g D H0 mT 112 233 (s_putf g pI 112 236 1 7) := ⟨ok_putf _ _ _ _ _ _, so_putf mT112 cl1 (k := 7) (by decide) fI rfl dX2_copy_233 q141 (fs_rf rfl)⟩
theorem gT112_236 : sG l g D H0 mT 112 236 (s_load vRf 112 237 1) := ⟨ok_load _ _ _ _, so_aload_n mT112 dX2_copy_236 rfl⟩
theorem gT112_237 : sG l g D H0 mT 112 237 (s_load vRf 112 238 0) := ⟨ok_load _ _ _ _, so_aload_n mT112 dX2_copy_237 rfl⟩
theorem gT112_238 : sG l g D H0 mT 112 238 (s_getf 112 241 1 8) := ⟨ok_getf _ _ _ _, so_getf mT112 cl1 (k := 8) (by decide) dX2_copy_238 q143 (fs_rf rfl)⟩
theorem gT112_241 : sG l g D H0 mT 112 241 (s_putf g pI 112 244 1 8) := ⟨ok_putf _ _ _ _ _ _, so_putf mT112 cl1 (k := 8) (by decide) fI rfl dX2_copy_241 q143 (fs_rf rfl)⟩
theorem gT112_244 : sG l g D H0 mT 112 244 (s_load vRf 112 245 1) := ⟨ok_load _ _ _ _, so_aload_n mT112 dX2_copy_244 rfl⟩
theorem gT112_245 : sG l g D H0 mT 112 245 (s_load vRf 112 246 0) := ⟨ok_load _ _ _ _, so_aload_n mT112 dX2_copy_245 rfl⟩
theorem gT112_246 : sG l g D H0 mT 112 246 (s_getf 112 249 1 9) := ⟨ok_getf _ _ _ _, so_getf mT112 cl1 (k := 9) (by decide) dX2_copy_246 q145 (fs_rf rfl)⟩
theorem gT112_249 : sG l g D H0 mT 112 249 (s_putf g pI 112 252 1 9) := ⟨ok_putf _ _ _ _ _ _, so_putf mT112 cl1 (k := 9) (by decide) fI rfl dX2_copy_249 q145 (fs_rf rfl)⟩
theorem gT112_252 : sG l g D H0 mT 112 252 (s_load vRf 112 253 1) := ⟨ok_load _ _ _ _, so_aload_n mT112 dX2_copy_252 rfl⟩
theorem gT112_253 : sG l g D H0 mT 112 253 (s_ret pR) := ⟨ok_ret _, so_aret mT112 dX2_copy_253 (Or.inl ⟨_, rfl⟩)⟩
theorem gT112 (pc : Nat) : sG l g D H0 mT 112 pc (tT112 g pc) := sG_cond (sG_cond (sG_cond (sG_cond (sG_cond (sG_cond (sG_leaf gT112_0) (sG_cond (sG_leaf gT112_3) (sG_leaf gT112_4))) (sG_cond (sG_cond (sG_leaf gT112_7) (sG_leaf gT112_8)) (sG_cond (sG_leaf gT112_9) (sG_leaf gT112_12)))) (sG_cond (sG_cond (sG_leaf gT112_15) (sG_cond (sG_leaf gT112_16) (sG_leaf gT112_17))) (sG_cond (sG_cond (sG_leaf gT112_22) (sG_leaf gT112_25)) (sG_cond (sG_leaf gT112_26) (sG_leaf gT112_31))))) (sG_cond (sG_cond (sG_cond (sG_leaf gT112_34) (sG_cond (sG_leaf gT112_35) (sG_leaf gT112_36))) (sG_cond (sG_cond (sG_leaf gT112_39) (sG_leaf gT112_40)) (sG_cond (sG_leaf gT112_43) (sG_leaf gT112_46)))) (sG_cond (sG_cond (sG_leaf gT112_47) (sG_cond (sG_leaf gT112_50) (sG_leaf gT112_51))) (sG_cond (sG_cond (sG_leaf gT112_54) (sG_leaf gT112_57)) (sG_cond (sG_leaf gT112_58) (sG_leaf gT112_59)))))) (sG_cond (sG_cond (sG_cond (sG_cond (sG_leaf gT112_64) (sG_cond (sG_leaf gT112_67) (sG_leaf gT112_68))) (sG_cond (sG_cond (sG_leaf gT112_73) (sG_leaf gT112_76)) (sG_cond (sG_leaf gT112_77) (sG_leaf gT112_80)))) (sG_cond (sG_cond (sG_leaf gT112_81) (sG_cond (sG_leaf gT112_84) (sG_leaf gT112_86))) (sG_cond (sG_cond (sG_leaf gT112_88) (sG_leaf gT112_89)) (sG_cond (sG_leaf gT112_92) (sG_leaf gT112_95))))) (sG_cond (sG_cond (sG_cond (sG_leaf gT112_96) (sG_cond (sG_leaf gT112_99) (sG_leaf gT112_100))) (sG_cond (sG_cond (sG_leaf gT112_103) (sG_leaf gT112_104)) (sG_cond (sG_leaf gT112_107) (sG_leaf gT112_110)))) (sG_cond (sG_cond (sG_cond (sG_leaf gT112_113) (sG_leaf gT112_116)) (sG_cond (sG_leaf gT112_117) (sG_leaf gT112_120))) (sG_cond (sG_cond (sG_leaf gT112_121) (sG_leaf gT112_124)) (sG_cond (sG_leaf gT112_127) (sG_leaf gT112_128))))))) (sG_cond (sG_cond (sG_cond (sG_cond (sG_cond (sG_leaf gT112_131) (sG_cond (sG_leaf gT112_133) (sG_leaf gT112_136))) (sG_cond (sG_cond (sG_leaf gT112_137) (sG_leaf gT112_140)) (sG_cond (sG_leaf gT112_141) (sG_leaf gT112_142)))) (sG_cond (sG_cond (sG_leaf gT112_145) (sG_cond (sG_leaf gT112_148) (sG_leaf gT112_149))) (sG_cond (sG_cond (sG_leaf gT112_150) (sG_leaf gT112_153)) (sG_cond (sG_leaf gT112_156) (sG_leaf gT112_157))))) (sG_cond (sG_cond (sG_cond (sG_leaf gT112_160) (sG_cond (sG_leaf gT112_161) (sG_leaf gT112_164))) (sG_cond (sG_cond (sG_leaf gT112_165) (sG_leaf gT112_168)) (sG_cond (sG_leaf gT112_171) (sG_leaf gT112_174)))) (sG_cond (sG_cond (sG_cond (sG_leaf gT112_177) (sG_leaf gT112_180)) (sG_cond (sG_leaf gT112_181) (sG_leaf gT112_182))) (sG_cond (sG_cond (sG_leaf gT112_185) (sG_leaf gT112_188)) (sG_cond (sG_leaf gT112_189) (sG_leaf gT112_192)))))) (sG_cond (sG_cond (sG_cond (sG_cond (sG_leaf gT112_193) (sG_cond (sG_leaf gT112_196) (sG_leaf gT112_197))) (sG_cond (sG_cond (sG_leaf gT112_200) (sG_leaf gT112_203)) (sG_cond (sG_leaf gT112_206) (sG_leaf gT112_209)))) (sG_cond (sG_cond (sG_leaf gT112_212) (sG_cond (sG_leaf gT112_213) (sG_leaf gT112_214))) (sG_cond (sG_cond (sG_leaf gT112_217) (sG_leaf gT112_220)) (sG_cond (sG_leaf gT112_221) (sG_leaf gT112_222))))) (sG_cond (sG_cond (sG_cond (sG_leaf gT112_225) (sG_cond (sG_leaf gT112_228) (sG_leaf gT112_229))) (sG_cond (sG_cond (sG_leaf gT112_230) (sG_leaf gT112_233)) (sG_cond (sG_leaf gT112_236) (sG_leaf gT112_237)))) (sG_cond (sG_cond (sG_cond (sG_leaf gT112_238) (sG_leaf gT112_241)) (sG_cond (sG_leaf gT112_244) (sG_leaf gT112_245))) (sG_cond (sG_cond (sG_leaf gT112_246) (sG_leaf gT112_249)) (sG_cond (sG_leaf gT112_252) (sG_leaf gT112_253)))))))
theorem gT113_0 : sG l g D H0 mT 113 0 (s_load vRf 113 1 0) := ⟨ok_load _ _ _ _, so_aload_n mT113 dX2_run_0 rfl⟩
theorem gT113_1 : sG l g D H0 mT 113 1 (s_callvk 113 4 114 1 [] 4) := ⟨ok_callvk _ _ _ _ _ _, sk_callv (by decide) (so_callV mT113 mo114 (by decide) (t := 1) (C := "HyperVane$Machine") (by decide) rfl rfl dX2_run_1 q706 q708 qs13 q55)⟩
theorem gT113_4 : sG l g D H0 mT 113 4 (s_store vI 113 5 2) := ⟨ok_store _ _ _ _, so_istore_n mT113 dX2_run_4 rfl⟩
theorem gT113_5 : sG l g D H0 mT 113 5 (s_const 113 6 (.int 0)) := ⟨ok_const _ _ _, so_iconst mT113 dX2_run_5 (by decide)⟩
theorem gT113_6 : sG l g D H0 mT 113 6 (s_store vI 113 7 3) := ⟨ok_store _ _ _ _, so_istore_n mT113 dX2_run_6 rfl⟩
theorem gT113_7 : sG l g D H0 mT 113 7 (s_load vI 113 8 3) := ⟨ok_load _ _ _ _, so_iload_n mT113 dX2_run_7 rfl⟩
theorem gT113_8 : sG l g D H0 mT 113 8 (s_load vI 113 9 1) := ⟨ok_load _ _ _ _, so_iload_n mT113 dX2_run_8 rfl⟩
theorem gT113_9 : sG l g D H0 mT 113 9 (s_icmp 113 12 22 (fun a b => b ≤ a)) := ⟨ok_icmp _ _ _ _, so_icmp_ge mT113 dX2_run_9 (by decide)⟩
theorem gT113_12 : sG l g D H0 mT 113 12 (s_load vRf 113 13 0) := ⟨ok_load _ _ _ _, so_aload_n mT113 dX2_run_12 rfl⟩
theorem gT113_13 : sG l g D H0 mT 113 13 (s_callvk 113 16 115 1 [] 3) := ⟨ok_callvk _ _ _ _ _ _, sk_callv (by decide) (so_callV mT113 mo115 (by decide) (t := 1) (C := "HyperVane$Machine") (by decide) rfl rfl dX2_run_13 q710 q712 qs14 q55)⟩
theorem gT113_16 : sG l g D H0 mT 113 16 (s_iinc 113 19 3 1) := ⟨ok_iinc _ _ _ _, so_iinc mT113 dX2_run_16 (by decide)⟩
theorem gT113_19 : sG l g D H0 mT 113 19 (s_goto 113 7) := ⟨ok_goto _ _, so_goto mT113 dX2_run_19 (by decide)⟩
theorem gT113_22 : sG l g D H0 mT 113 22 (s_load vRf 113 23 0) := ⟨ok_load _ _ _ _, so_aload_n mT113 dX2_run_22 rfl⟩
theorem gT113_23 : sG l g D H0 mT 113 23 (s_callvk 113 26 114 1 [] 4) := ⟨ok_callvk _ _ _ _ _ _, sk_callv (by decide) (so_callV mT113 mo114 (by decide) (t := 1) (C := "HyperVane$Machine") (by decide) rfl rfl dX2_run_23 q706 q708 qs13 q55)⟩
theorem gT113_26 : sG l g D H0 mT 113 26 (s_load vI 113 27 2) := ⟨ok_load _ _ _ _, so_iload_n mT113 dX2_run_26 rfl⟩
theorem gT113_27 : sG l g D H0 mT 113 27 (s_bin 113 28 (fun a b => a - b)) := ⟨ok_bin _ _ _, so_isub mT113 dX2_run_27⟩
theorem gT113_28 : sG l g D H0 mT 113 28 (s_ret pI) := ⟨ok_ret _, so_iret mT113 dX2_run_28⟩
theorem gT113 (pc : Nat) : sG l g D H0 mT 113 pc (tT113 g pc) := sG_cond (sG_cond (sG_cond (sG_cond (sG_leaf gT113_0) (sG_leaf gT113_1)) (sG_cond (sG_leaf gT113_4) (sG_leaf gT113_5))) (sG_cond (sG_cond (sG_leaf gT113_6) (sG_leaf gT113_7)) (sG_cond (sG_leaf gT113_8) (sG_leaf gT113_9)))) (sG_cond (sG_cond (sG_cond (sG_leaf gT113_12) (sG_leaf gT113_13)) (sG_cond (sG_leaf gT113_16) (sG_leaf gT113_19))) (sG_cond (sG_cond (sG_leaf gT113_22) (sG_leaf gT113_23)) (sG_cond (sG_leaf gT113_26) (sG_cond (sG_leaf gT113_27) (sG_leaf gT113_28)))))
theorem gT114_0 : sG l g D H0 mT 114 0 (s_const 114 1 (.int 0)) := ⟨ok_const _ _ _, so_iconst mT114 dX2_doneOfAll_0 (by decide)⟩
theorem gT114_1 : sG l g D H0 mT 114 1 (s_store vI 114 2 1) := ⟨ok_store _ _ _ _, so_istore_n mT114 dX2_doneOfAll_1 rfl⟩
theorem gT114_2 : sG l g D H0 mT 114 2 (s_load vRf 114 3 0) := ⟨ok_load _ _ _ _, so_aload_n mT114 dX2_doneOfAll_2 rfl⟩
theorem gT114_3 : sG l g D H0 mT 114 3 (s_getf 114 6 1 0) := ⟨ok_getf _ _ _ _, so_getf mT114 cl1 (k := 0) (by decide) dX2_doneOfAll_3 q128 (fs_rf rfl)⟩
theorem gT114_6 : sG l g D H0 mT 114 6 (s_callvk 114 9 22 10 [] 1) := ⟨ok_callvk _ _ _ _ _ _, sk_callv (by decide) (so_callV mT114 mo22 (by decide) (t := 10) (C := "java/util/ArrayList") (by decide) rfl rfl dX2_doneOfAll_6 q381 q303 q304 q58)⟩
theorem gT114_9 : sG l g D H0 mT 114 9 (s_store vRf 114 10 2) := ⟨ok_store _ _ _ _, so_astore_n mT114 dX2_doneOfAll_9 rfl⟩
theorem gT114_10 : sG l g D H0 mT 114 10 (s_load vRf 114 11 2) := ⟨ok_load _ _ _ _, so_aload_n mT114 dX2_doneOfAll_10 rfl⟩
theorem gT114_11 : sG l g D H0 mT 114 11 (s_callvk 114 16 3 11 [] 1) := ⟨ok_callvk _ _ _ _ _ _, sk_callv (by decide) (so_callF mT114 mo3 (by decide) (t := 11) (C := "java/util/ArrayList$Itr") (by decide) rfl (by decide +kernel) ⟨by decide, by decide, by decide +kernel⟩ dX2_doneOfAll_11 q383 q332 q330 q80)⟩
theorem gT114_16 : sG l g D H0 mT 114 16 (s_if 114 19 39 (fun a => a = 0)) := ⟨ok_if _ _ _ _, so_if_eq mT114 dX2_doneOfAll_16 (by decide)⟩
theorem gT114_19 : sG l g D H0 mT 114 19 (s_load vRf 114 20 2) := ⟨ok_load _ _ _ _, so_aload_n mT114 dX2_doneOfAll_19 rfl⟩
theorem gT114_20 : sG l g D H0 mT 114 20 (s_callvk 114 25 4 11 [] 3) := ⟨ok_callvk _ _ _ _ _ _, sk_callv (by decide) (so_callF mT114 mo4 (by decide) (t := 11) (C := "java/util/ArrayList$Itr") (by decide) rfl (by decide +kernel) ⟨by decide, by decide, by decide +kernel⟩ dX2_doneOfAll_20 q385 q341 q339 q80)⟩
theorem gT114_25 : sG l g D H0 mT 114 25 (s_cast 114 28 [5]) := ⟨ok_cast _ _ _, so_cast mT114 (T := "HyperVane$Guest") (ts := [5]) (by intro u hu; rw [List.mem_singleton] at hu; subst hu; exact ⟨by decide, Or.inl rfl⟩) dX2_doneOfAll_25 q539⟩
theorem gT114_28 : sG l g D H0 mT 114 28 (s_store vRf 114 29 3) := ⟨ok_store _ _ _ _, so_astore_n mT114 dX2_doneOfAll_28 rfl⟩
theorem gT114_29 : sG l g D H0 mT 114 29 (s_load vI 114 30 1) := ⟨ok_load _ _ _ _, so_iload_n mT114 dX2_doneOfAll_29 rfl⟩
theorem gT114_30 : sG l g D H0 mT 114 30 (s_load vRf 114 31 3) := ⟨ok_load _ _ _ _, so_aload_n mT114 dX2_doneOfAll_30 rfl⟩
theorem gT114_31 : sG l g D H0 mT 114 31 (s_getf 114 34 5 10) := ⟨ok_getf _ _ _ _, so_getfN mT114 cl5 (k := 10) (by decide) dX2_doneOfAll_31 q582 (fs_rf rfl)⟩
theorem gT114_34 : sG l g D H0 mT 114 34 (s_bin 114 35 (fun a b => a + b)) := ⟨ok_bin _ _ _, so_iadd mT114 dX2_doneOfAll_34⟩
theorem gT114_35 : sG l g D H0 mT 114 35 (s_store vI 114 36 1) := ⟨ok_store _ _ _ _, so_istore_n mT114 dX2_doneOfAll_35 rfl⟩
theorem gT114_36 : sG l g D H0 mT 114 36 (s_goto 114 10) := ⟨ok_goto _ _, so_goto mT114 dX2_doneOfAll_36 (by decide)⟩
theorem gT114_39 : sG l g D H0 mT 114 39 (s_load vI 114 40 1) := ⟨ok_load _ _ _ _, so_iload_n mT114 dX2_doneOfAll_39 rfl⟩
theorem gT114_40 : sG l g D H0 mT 114 40 (s_ret pI) := ⟨ok_ret _, so_iret mT114 dX2_doneOfAll_40⟩
theorem gT114 (pc : Nat) : sG l g D H0 mT 114 pc (tT114 g pc) := sG_cond (sG_cond (sG_cond (sG_cond (sG_leaf gT114_0) (sG_leaf gT114_1)) (sG_cond (sG_leaf gT114_2) (sG_cond (sG_leaf gT114_3) (sG_leaf gT114_6)))) (sG_cond (sG_cond (sG_leaf gT114_9) (sG_leaf gT114_10)) (sG_cond (sG_leaf gT114_11) (sG_cond (sG_leaf gT114_16) (sG_leaf gT114_19))))) (sG_cond (sG_cond (sG_cond (sG_leaf gT114_20) (sG_leaf gT114_25)) (sG_cond (sG_leaf gT114_28) (sG_cond (sG_leaf gT114_29) (sG_leaf gT114_30)))) (sG_cond (sG_cond (sG_leaf gT114_31) (sG_cond (sG_leaf gT114_34) (sG_leaf gT114_35))) (sG_cond (sG_leaf gT114_36) (sG_cond (sG_leaf gT114_39) (sG_leaf gT114_40)))))
theorem gT115_0 : sG l g D H0 mT 115 0 (s_load vRf 115 1 0) := ⟨ok_load _ _ _ _, so_aload_n mT115 dX2_tick_0 rfl⟩
theorem gT115_1 : sG l g D H0 mT 115 1 (s_dup 115 2) := ⟨ok_dup _ _, so_dup mT115 dX2_tick_1⟩
theorem gT115_2 : sG l g D H0 mT 115 2 (s_getf 115 5 1 2) := ⟨ok_getf _ _ _ _, so_getf mT115 cl1 (k := 2) (by decide) dX2_tick_2 q132 (fs_rf rfl)⟩
theorem gT115_5 : sG l g D H0 mT 115 5 (s_const 115 6 (.int 1)) := ⟨ok_const _ _ _, so_iconst mT115 dX2_tick_5 (by decide)⟩
theorem gT115_6 : sG l g D H0 mT 115 6 (s_bin 115 7 (fun a b => a + b)) := ⟨ok_bin _ _ _, so_iadd mT115 dX2_tick_6⟩
theorem gT115_7 : sG l g D H0 mT 115 7 (s_putf g pI 115 10 1 2) := ⟨ok_putf _ _ _ _ _ _, so_putf mT115 cl1 (k := 2) (by decide) fI rfl dX2_tick_7 q132 (fs_rf rfl)⟩
theorem gT115_10 : sG l g D H0 mT 115 10 (s_load vRf 115 11 0) := ⟨ok_load _ _ _ _, so_aload_n mT115 dX2_tick_10 rfl⟩
theorem gT115_11 : sG l g D H0 mT 115 11 (s_getf 115 14 1 0) := ⟨ok_getf _ _ _ _, so_getf mT115 cl1 (k := 0) (by decide) dX2_tick_11 q128 (fs_rf rfl)⟩
theorem gT115_14 : sG l g D H0 mT 115 14 (s_callvk 115 17 22 10 [] 1) := ⟨ok_callvk _ _ _ _ _ _, sk_callv (by decide) (so_callV mT115 mo22 (by decide) (t := 10) (C := "java/util/ArrayList") (by decide) rfl rfl dX2_tick_14 q381 q303 q304 q58)⟩
theorem gT115_17 : sG l g D H0 mT 115 17 (s_store vRf 115 18 1) := ⟨ok_store _ _ _ _, so_astore_n mT115 dX2_tick_17 rfl⟩
theorem gT115_18 : sG l g D H0 mT 115 18 (s_load vRf 115 19 1) := ⟨ok_load _ _ _ _, so_aload_n mT115 dX2_tick_18 rfl⟩
theorem gT115_19 : sG l g D H0 mT 115 19 (s_callvk 115 24 3 11 [] 1) := ⟨ok_callvk _ _ _ _ _ _, sk_callv (by decide) (so_callF mT115 mo3 (by decide) (t := 11) (C := "java/util/ArrayList$Itr") (by decide) rfl (by decide +kernel) ⟨by decide, by decide, by decide +kernel⟩ dX2_tick_19 q383 q332 q330 q80)⟩
theorem gT115_24 : sG l g D H0 mT 115 24 (s_if 115 27 73 (fun a => a = 0)) := ⟨ok_if _ _ _ _, so_if_eq mT115 dX2_tick_24 (by decide)⟩
theorem gT115_27 : sG l g D H0 mT 115 27 (s_load vRf 115 28 1) := ⟨ok_load _ _ _ _, so_aload_n mT115 dX2_tick_27 rfl⟩
theorem gT115_28 : sG l g D H0 mT 115 28 (s_callvk 115 33 4 11 [] 3) := ⟨ok_callvk _ _ _ _ _ _, sk_callv (by decide) (so_callF mT115 mo4 (by decide) (t := 11) (C := "java/util/ArrayList$Itr") (by decide) rfl (by decide +kernel) ⟨by decide, by decide, by decide +kernel⟩ dX2_tick_28 q385 q341 q339 q80)⟩
theorem gT115_33 : sG l g D H0 mT 115 33 (s_cast 115 36 [5]) := ⟨ok_cast _ _ _, so_cast mT115 (T := "HyperVane$Guest") (ts := [5]) (by intro u hu; rw [List.mem_singleton] at hu; subst hu; exact ⟨by decide, Or.inl rfl⟩) dX2_tick_33 q539⟩
theorem gT115_36 : sG l g D H0 mT 115 36 (s_store vRf 115 37 2) := ⟨ok_store _ _ _ _, so_astore_n mT115 dX2_tick_36 rfl⟩
theorem gT115_37 : sG l g D H0 mT 115 37 (s_load vRf 115 38 2) := ⟨ok_load _ _ _ _, so_aload_n mT115 dX2_tick_37 rfl⟩
theorem gT115_38 : sG l g D H0 mT 115 38 (s_getf 115 41 5 3) := ⟨ok_getf _ _ _ _, so_getfN mT115 cl5 (k := 3) (by decide) dX2_tick_38 q562 (fs_rf rfl)⟩
theorem gT115_41 : sG l g D H0 mT 115 41 (s_const 115 42 (.int 3)) := ⟨ok_const _ _ _, so_iconst mT115 dX2_tick_41 (by decide)⟩
theorem gT115_42 : sG l g D H0 mT 115 42 (s_icmp 115 45 62 (fun a b => a = b)) := ⟨ok_icmp _ _ _ _, so_icmp_eq mT115 dX2_tick_42 (by decide)⟩
theorem gT115_45 : sG l g D H0 mT 115 45 (s_load vRf 115 46 2) := ⟨ok_load _ _ _ _, so_aload_n mT115 dX2_tick_45 rfl⟩
theorem gT115_46 : sG l g D H0 mT 115 46 (s_callvk 115 49 197 5 [] 1) := ⟨ok_callvk _ _ _ _ _ _, sk_callv (by decide) (so_callV mT115 mo197 (by decide) (t := 5) (C := "HyperVane$Guest") (by decide) rfl rfl dX2_tick_46 q714 q715 q716 q73)⟩
theorem gT115_49 : sG l g D H0 mT 115 49 (s_if 115 62 52 (fun a => a = 0)) := ⟨ok_if _ _ _ _, so_if_ne mT115 dX2_tick_49 (by decide)⟩
theorem gT115_52 : sG l g D H0 mT 115 52 (s_load vRf 115 53 2) := ⟨ok_load _ _ _ _, so_aload_n mT115 dX2_tick_52 rfl⟩
theorem gT115_53 : sG l g D H0 mT 115 53 (s_dup 115 54) := ⟨ok_dup _ _, so_dup mT115 dX2_tick_53⟩
theorem gT115_54 : sG l g D H0 mT 115 54 (s_getf 115 57 5 7) := ⟨ok_getf _ _ _ _, so_getfN mT115 cl5 (k := 7) (by decide) dX2_tick_54 q573 (fs_rf rfl)⟩
theorem gT115_57 : sG l g D H0 mT 115 57 (s_const 115 58 (.int 1)) := ⟨ok_const _ _ _, so_iconst mT115 dX2_tick_57 (by decide)⟩
theorem gT115_58 : sG l g D H0 mT 115 58 (s_bin 115 59 (fun a b => a + b)) := ⟨ok_bin _ _ _, so_iadd mT115 dX2_tick_58⟩
theorem gT115_59 : sG l g D H0 mT 115 59 (s_putf g pI 115 62 5 7) := ⟨ok_putf _ _ _ _ _ _, so_putfN mT115 cl5 (k := 7) (by decide) fI rfl dX2_tick_59 q573 (fs_rf rfl)⟩
theorem gT115_62 : sG l g D H0 mT 115 62 (s_load vRf 115 63 2) := ⟨ok_load _ _ _ _, so_aload_n mT115 dX2_tick_62 rfl⟩
theorem gT115_63 : sG l g D H0 mT 115 63 (s_load vRf 115 64 0) := ⟨ok_load _ _ _ _, so_aload_n mT115 dX2_tick_63 rfl⟩
theorem gT115_64 : sG l g D H0 mT 115 64 (s_getf 115 67 1 2) := ⟨ok_getf _ _ _ _, so_getf mT115 cl1 (k := 2) (by decide) dX2_tick_64 q132 (fs_rf rfl)⟩
theorem gT115_67 : sG l g D H0 mT 115 67 (s_callvk 115 70 198 5 [0] 2) := ⟨ok_callvk _ _ _ _ _ _, sk_callv (by decide) (so_callV mT115 mo198 (by decide) (t := 5) (C := "HyperVane$Guest") (by decide) rfl rfl dX2_tick_67 q718 q719 q720 q73)⟩
theorem gT115_70 : sG l g D H0 mT 115 70 (s_goto 115 18) := ⟨ok_goto _ _, so_goto mT115 dX2_tick_70 (by decide)⟩
theorem gT115_73 : sG l g D H0 mT 115 73 (s_load vRf 115 74 0) := ⟨ok_load _ _ _ _, so_aload_n mT115 dX2_tick_73 rfl⟩
theorem gT115_74 : sG l g D H0 mT 115 74 (s_load vRf 115 75 0) := ⟨ok_load _ _ _ _, so_aload_n mT115 dX2_tick_74 rfl⟩
theorem gT115_75 : sG l g D H0 mT 115 75 (s_callvk 115 78 116 1 [] 4) := ⟨ok_callvk _ _ _ _ _ _, sk_callv (by decide) (so_callV mT115 mo116 (by decide) (t := 1) (C := "HyperVane$Machine") (by decide) rfl rfl dX2_tick_75 q722 q724 qs15 q55)⟩
theorem gT115_78 : sG l g D H0 mT 115 78 (s_putf g pR 115 81 1 3) := ⟨ok_putf _ _ _ _ _ _, so_putf mT115 cl1 (k := 3) (by decide) fR rfl dX2_tick_78 q134 (fs_rf rfl)⟩
theorem gT115_81 : sG l g D H0 mT 115 81 (s_load vRf 115 82 0) := ⟨ok_load _ _ _ _, so_aload_n mT115 dX2_tick_81 rfl⟩
theorem gT115_82 : sG l g D H0 mT 115 82 (s_getf 115 85 1 3) := ⟨ok_getf _ _ _ _, so_getf mT115 cl1 (k := 3) (by decide) dX2_tick_82 q134 (fs_rf rfl)⟩
theorem gT115_85 : sG l g D H0 mT 115 85 (s_ifnn 115 88 101) := ⟨ok_ifnn _ _ _, so_ifnonnull mT115 dX2_tick_85 (by decide)⟩
theorem gT115_88 : sG l g D H0 mT 115 88 (s_load vRf 115 89 0) := ⟨ok_load _ _ _ _, so_aload_n mT115 dX2_tick_88 rfl⟩
theorem gT115_89 : sG l g D H0 mT 115 89 (s_dup 115 90) := ⟨ok_dup _ _, so_dup mT115 dX2_tick_89⟩
theorem gT115_90 : sG l g D H0 mT 115 90 (s_getf 115 93 1 7) := ⟨ok_getf _ _ _ _, so_getf mT115 cl1 (k := 7) (by decide) dX2_tick_90 q141 (fs_rf rfl)⟩
theorem gT115_93 : sG l g D H0 mT 115 93 (s_const 115 94 (.int 1)) := ⟨ok_const _ _ _, so_iconst mT115 dX2_tick_93 (by decide)⟩
theorem gT115_94 : sG l g D H0 mT 115 94 (s_bin 115 95 (fun a b => a + b)) := ⟨ok_bin _ _ _, so_iadd mT115 dX2_tick_94⟩
theorem gT115_95 : sG l g D H0 mT 115 95 (s_putf g pI 115 98 1 7) := ⟨ok_putf _ _ _ _ _ _, so_putf mT115 cl1 (k := 7) (by decide) fI rfl dX2_tick_95 q141 (fs_rf rfl)⟩
theorem gT115_98 : sG l g D H0 mT 115 98 (s_goto 115 184) := ⟨ok_goto _ _, so_goto mT115 dX2_tick_98 (by decide)⟩
theorem gT115_101 : sG l g D H0 mT 115 101 (s_load vRf 115 102 0) := ⟨ok_load _ _ _ _, so_aload_n mT115 dX2_tick_101 rfl⟩
theorem gT115_102 : sG l g D H0 mT 115 102 (s_getf 115 105 1 0) := ⟨ok_getf _ _ _ _, so_getf mT115 cl1 (k := 0) (by decide) dX2_tick_102 q128 (fs_rf rfl)⟩
theorem gT115_105 : sG l g D H0 mT 115 105 (s_callvk 115 108 22 10 [] 1) := ⟨ok_callvk _ _ _ _ _ _, sk_callv (by decide) (so_callV mT115 mo22 (by decide) (t := 10) (C := "java/util/ArrayList") (by decide) rfl rfl dX2_tick_105 q381 q303 q304 q58)⟩
theorem gT115_108 : sG l g D H0 mT 115 108 (s_store vRf 115 109 1) := ⟨ok_store _ _ _ _, so_astore_n mT115 dX2_tick_108 rfl⟩
theorem gT115_109 : sG l g D H0 mT 115 109 (s_load vRf 115 110 1) := ⟨ok_load _ _ _ _, so_aload_n mT115 dX2_tick_109 rfl⟩
theorem gT115_110 : sG l g D H0 mT 115 110 (s_callvk 115 115 3 11 [] 1) := ⟨ok_callvk _ _ _ _ _ _, sk_callv (by decide) (so_callF mT115 mo3 (by decide) (t := 11) (C := "java/util/ArrayList$Itr") (by decide) rfl (by decide +kernel) ⟨by decide, by decide, by decide +kernel⟩ dX2_tick_110 q383 q332 q330 q80)⟩
theorem gT115_115 : sG l g D H0 mT 115 115 (s_if 115 118 163 (fun a => a = 0)) := ⟨ok_if _ _ _ _, so_if_eq mT115 dX2_tick_115 (by decide)⟩
theorem gT115_118 : sG l g D H0 mT 115 118 (s_load vRf 115 119 1) := ⟨ok_load _ _ _ _, so_aload_n mT115 dX2_tick_118 rfl⟩
theorem gT115_119 : sG l g D H0 mT 115 119 (s_callvk 115 124 4 11 [] 3) := ⟨ok_callvk _ _ _ _ _ _, sk_callv (by decide) (so_callF mT115 mo4 (by decide) (t := 11) (C := "java/util/ArrayList$Itr") (by decide) rfl (by decide +kernel) ⟨by decide, by decide, by decide +kernel⟩ dX2_tick_119 q385 q341 q339 q80)⟩
theorem gT115_124 : sG l g D H0 mT 115 124 (s_cast 115 127 [5]) := ⟨ok_cast _ _ _, so_cast mT115 (T := "HyperVane$Guest") (ts := [5]) (by intro u hu; rw [List.mem_singleton] at hu; subst hu; exact ⟨by decide, Or.inl rfl⟩) dX2_tick_124 q539⟩
theorem gT115_127 : sG l g D H0 mT 115 127 (s_store vRf 115 128 2) := ⟨ok_store _ _ _ _, so_astore_n mT115 dX2_tick_127 rfl⟩
theorem gT115_128 : sG l g D H0 mT 115 128 (s_load vRf 115 129 2) := ⟨ok_load _ _ _ _, so_aload_n mT115 dX2_tick_128 rfl⟩
theorem gT115_129 : sG l g D H0 mT 115 129 (s_dup 115 130) := ⟨ok_dup _ _, so_dup mT115 dX2_tick_129⟩
theorem gT115_130 : sG l g D H0 mT 115 130 (s_getf 115 133 5 11) := ⟨ok_getf _ _ _ _, so_getfN mT115 cl5 (k := 11) (by decide) dX2_tick_130 q585 (fs_rf rfl)⟩
theorem gT115_133 : sG l g D H0 mT 115 133 (s_load vRf 115 134 2) := ⟨ok_load _ _ _ _, so_aload_n mT115 dX2_tick_133 rfl⟩
theorem gT115_134 : sG l g D H0 mT 115 134 (s_getf 115 137 5 3) := ⟨ok_getf _ _ _ _, so_getfN mT115 cl5 (k := 3) (by decide) dX2_tick_134 q562 (fs_rf rfl)⟩
theorem gT115_137 : sG l g D H0 mT 115 137 (s_if 115 152 140 (fun a => a = 0)) := ⟨ok_if _ _ _ _, so_if_ne mT115 dX2_tick_137 (by decide)⟩
theorem gT115_140 : sG l g D H0 mT 115 140 (s_load vRf 115 141 2) := ⟨ok_load _ _ _ _, so_aload_n mT115 dX2_tick_140 rfl⟩
theorem gT115_141 : sG l g D H0 mT 115 141 (s_load vRf 115 142 0) := ⟨ok_load _ _ _ _, so_aload_n mT115 dX2_tick_141 rfl⟩
theorem gT115_142 : sG l g D H0 mT 115 142 (s_getf 115 145 1 3) := ⟨ok_getf _ _ _ _, so_getf mT115 cl1 (k := 3) (by decide) dX2_tick_142 q134 (fs_rf rfl)⟩
theorem gT115_145 : sG l g D H0 mT 115 145 (s_acmp 115 148 152) := ⟨ok_acmp _ _ _, so_acmp_eq mT115 dX2_tick_145 (by decide)⟩
theorem gT115_148 : sG l g D H0 mT 115 148 (s_const 115 149 (.int 1)) := ⟨ok_const _ _ _, so_iconst mT115 dX2_tick_148 (by decide)⟩
theorem gT115_149 : sG l g D H0 mT 115 149 (s_goto 115 153) := ⟨ok_goto _ _, so_goto mT115 dX2_tick_149 (by decide)⟩
theorem gT115_152 : sG l g D H0 mT 115 152 (s_const 115 153 (.int 0)) := ⟨ok_const _ _ _, so_iconst mT115 dX2_tick_152 (by decide)⟩
theorem gT115_153 : sG l g D H0 mT 115 153 (s_callk 115 156 61 [0] 1) := ⟨ok_callk _ _ _ _ _, sk_call (by decide) (so_callSN mT115 mo61 (by decide) dX2_tick_153 q731 q350 q54)⟩
theorem gT115_156 : sG l g D H0 mT 115 156 (s_bin 115 157 (fun a b => a + b)) := ⟨ok_bin _ _ _, so_iadd mT115 dX2_tick_156⟩
theorem gT115_157 : sG l g D H0 mT 115 157 (s_putf g pI 115 160 5 11) := ⟨ok_putf _ _ _ _ _ _, so_putfN mT115 cl5 (k := 11) (by decide) fI rfl dX2_tick_157 q585 (fs_rf rfl)⟩
theorem gT115_160 : sG l g D H0 mT 115 160 (s_goto 115 109) := ⟨ok_goto _ _, so_goto mT115 dX2_tick_160 (by decide)⟩
theorem gT115_163 : sG l g D H0 mT 115 163 (s_load vRf 115 164 0) := ⟨ok_load _ _ _ _, so_aload_n mT115 dX2_tick_163 rfl⟩
theorem gT115_164 : sG l g D H0 mT 115 164 (s_getf 115 167 1 3) := ⟨ok_getf _ _ _ _, so_getf mT115 cl1 (k := 3) (by decide) dX2_tick_164 q134 (fs_rf rfl)⟩
theorem gT115_167 : sG l g D H0 mT 115 167 (s_dup 115 168) := ⟨ok_dup _ _, so_dup mT115 dX2_tick_167⟩
theorem gT115_168 : sG l g D H0 mT 115 168 (s_getf 115 171 5 9) := ⟨ok_getf _ _ _ _, so_getfN mT115 cl5 (k := 9) (by decide) dX2_tick_168 q579 (fs_rf rfl)⟩
theorem gT115_171 : sG l g D H0 mT 115 171 (s_const 115 172 (.int 1)) := ⟨ok_const _ _ _, so_iconst mT115 dX2_tick_171 (by decide)⟩
theorem gT115_172 : sG l g D H0 mT 115 172 (s_bin 115 173 (fun a b => a - b)) := ⟨ok_bin _ _ _, so_isub mT115 dX2_tick_172⟩
theorem gT115_173 : sG l g D H0 mT 115 173 (s_putf g pI 115 176 5 9) := ⟨ok_putf _ _ _ _ _ _, so_putfN mT115 cl5 (k := 9) (by decide) fI rfl dX2_tick_173 q579 (fs_rf rfl)⟩
theorem gT115_176 : sG l g D H0 mT 115 176 (s_load vRf 115 177 0) := ⟨ok_load _ _ _ _, so_aload_n mT115 dX2_tick_176 rfl⟩
theorem gT115_177 : sG l g D H0 mT 115 177 (s_load vRf 115 178 0) := ⟨ok_load _ _ _ _, so_aload_n mT115 dX2_tick_177 rfl⟩
theorem gT115_178 : sG l g D H0 mT 115 178 (s_getf 115 181 1 3) := ⟨ok_getf _ _ _ _, so_getf mT115 cl1 (k := 3) (by decide) dX2_tick_178 q134 (fs_rf rfl)⟩
theorem gT115_181 : sG l g D H0 mT 115 181 (s_callvk 115 184 118 1 [1] 3) := ⟨ok_callvk _ _ _ _ _ _, sk_callv (by decide) (so_callV mT115 mo118 (by decide) (t := 1) (C := "HyperVane$Machine") (by decide) rfl rfl dX2_tick_181 q732 q734 qs17 q55)⟩
theorem gT115_184 : sG l g D H0 mT 115 184 (s_load vRf 115 185 0) := ⟨ok_load _ _ _ _, so_aload_n mT115 dX2_tick_184 rfl⟩
theorem gT115_185 : sG l g D H0 mT 115 185 (s_callvk 115 188 126 1 [] 3) := ⟨ok_callvk _ _ _ _ _ _, sk_callv (by decide) (so_callV mT115 mo126 (by decide) (t := 1) (C := "HyperVane$Machine") (by decide) rfl rfl dX2_tick_185 q790 q792 qs23 q55)⟩
theorem gT115_188 : sG l g D H0 mT 115 188 (s_load vRf 115 189 0) := ⟨ok_load _ _ _ _, so_aload_n mT115 dX2_tick_188 rfl⟩
theorem gT115_189 : sG l g D H0 mT 115 189 (s_getf 115 192 1 0) := ⟨ok_getf _ _ _ _, so_getf mT115 cl1 (k := 0) (by decide) dX2_tick_189 q128 (fs_rf rfl)⟩
theorem gT115_192 : sG l g D H0 mT 115 192 (s_callvk 115 195 22 10 [] 1) := ⟨ok_callvk _ _ _ _ _ _, sk_callv (by decide) (so_callV mT115 mo22 (by decide) (t := 10) (C := "java/util/ArrayList") (by decide) rfl rfl dX2_tick_192 q381 q303 q304 q58)⟩
theorem gT115_195 : sG l g D H0 mT 115 195 (s_store vRf 115 196 1) := ⟨ok_store _ _ _ _, so_astore_n mT115 dX2_tick_195 rfl⟩
theorem gT115_196 : sG l g D H0 mT 115 196 (s_load vRf 115 197 1) := ⟨ok_load _ _ _ _, so_aload_n mT115 dX2_tick_196 rfl⟩
theorem gT115_197 : sG l g D H0 mT 115 197 (s_callvk 115 202 3 11 [] 1) := ⟨ok_callvk _ _ _ _ _ _, sk_callv (by decide) (so_callF mT115 mo3 (by decide) (t := 11) (C := "java/util/ArrayList$Itr") (by decide) rfl (by decide +kernel) ⟨by decide, by decide, by decide +kernel⟩ dX2_tick_197 q383 q332 q330 q80)⟩
theorem gT115_202 : sG l g D H0 mT 115 202 (s_if 115 205 230 (fun a => a = 0)) := ⟨ok_if _ _ _ _, so_if_eq mT115 dX2_tick_202 (by decide)⟩
theorem gT115_205 : sG l g D H0 mT 115 205 (s_load vRf 115 206 1) := ⟨ok_load _ _ _ _, so_aload_n mT115 dX2_tick_205 rfl⟩
theorem gT115_206 : sG l g D H0 mT 115 206 (s_callvk 115 211 4 11 [] 3) := ⟨ok_callvk _ _ _ _ _ _, sk_callv (by decide) (so_callF mT115 mo4 (by decide) (t := 11) (C := "java/util/ArrayList$Itr") (by decide) rfl (by decide +kernel) ⟨by decide, by decide, by decide +kernel⟩ dX2_tick_206 q385 q341 q339 q80)⟩
theorem gT115_211 : sG l g D H0 mT 115 211 (s_cast 115 214 [5]) := ⟨ok_cast _ _ _, so_cast mT115 (T := "HyperVane$Guest") (ts := [5]) (by intro u hu; rw [List.mem_singleton] at hu; subst hu; exact ⟨by decide, Or.inl rfl⟩) dX2_tick_211 q539⟩
theorem gT115_214 : sG l g D H0 mT 115 214 (s_store vRf 115 215 2) := ⟨ok_store _ _ _ _, so_astore_n mT115 dX2_tick_214 rfl⟩
theorem gT115_215 : sG l g D H0 mT 115 215 (s_load vRf 115 216 2) := ⟨ok_load _ _ _ _, so_aload_n mT115 dX2_tick_215 rfl⟩
theorem gT115_216 : sG l g D H0 mT 115 216 (s_callvk 115 219 194 5 [] 1) := ⟨ok_callvk _ _ _ _ _ _, sk_callv (by decide) (so_callV mT115 mo194 (by decide) (t := 5) (C := "HyperVane$Guest") (by decide) rfl rfl dX2_tick_216 q742 q391 q392 q73)⟩
theorem gT115_219 : sG l g D H0 mT 115 219 (s_if 115 222 227 (fun a => a = 0)) := ⟨ok_if _ _ _ _, so_if_eq mT115 dX2_tick_219 (by decide)⟩
theorem gT115_222 : sG l g D H0 mT 115 222 (s_load vRf 115 223 0) := ⟨ok_load _ _ _ _, so_aload_n mT115 dX2_tick_222 rfl⟩
theorem gT115_223 : sG l g D H0 mT 115 223 (s_load vRf 115 224 2) := ⟨ok_load _ _ _ _, so_aload_n mT115 dX2_tick_223 rfl⟩
theorem gT115_224 : sG l g D H0 mT 115 224 (s_callvk 115 227 129 1 [1] 5) := ⟨ok_callvk _ _ _ _ _ _, sk_callv (by decide) (so_callV mT115 mo129 (by decide) (t := 1) (C := "HyperVane$Machine") (by decide) rfl rfl dX2_tick_224 q802 q804 qs26 q55)⟩
theorem gT115_227 : sG l g D H0 mT 115 227 (s_goto 115 196) := ⟨ok_goto _ _, so_goto mT115 dX2_tick_227 (by decide)⟩
theorem gT115_230 : sG l g D H0 mT 115 230 (s_vret) := ⟨ok_vret, so_vret mT115 dX2_tick_230⟩
theorem gT115 (pc : Nat) : sG l g D H0 mT 115 pc (tT115 g pc) := sG_cond (sG_cond (sG_cond (sG_cond (sG_cond (sG_cond (sG_leaf gT115_0) (sG_cond (sG_leaf gT115_1) (sG_leaf gT115_2))) (sG_cond (sG_leaf gT115_5) (sG_cond (sG_leaf gT115_6) (sG_leaf gT115_7)))) (sG_cond (sG_cond (sG_leaf gT115_10) (sG_cond (sG_leaf gT115_11) (sG_leaf gT115_14))) (sG_cond (sG_cond (sG_leaf gT115_17) (sG_leaf gT115_18)) (sG_cond (sG_leaf gT115_19) (sG_leaf gT115_24))))) (sG_cond (sG_cond (sG_cond (sG_leaf gT115_27) (sG_cond (sG_leaf gT115_28) (sG_leaf gT115_33))) (sG_cond (sG_cond (sG_leaf gT115_36) (sG_leaf gT115_37)) (sG_cond (sG_leaf gT115_38) (sG_leaf gT115_41)))) (sG_cond (sG_cond (sG_leaf gT115_42) (sG_cond (sG_leaf gT115_45) (sG_leaf gT115_46))) (sG_cond (sG_cond (sG_leaf gT115_49) (sG_leaf gT115_52)) (sG_cond (sG_leaf gT115_53) (sG_leaf gT115_54)))))) (sG_cond (sG_cond (sG_cond (sG_cond (sG_leaf gT115_57) (sG_cond (sG_leaf gT115_58) (sG_leaf gT115_59))) (sG_cond (sG_leaf gT115_62) (sG_cond (sG_leaf gT115_63) (sG_leaf gT115_64)))) (sG_cond (sG_cond (sG_leaf gT115_67) (sG_cond (sG_leaf gT115_70) (sG_leaf gT115_73))) (sG_cond (sG_cond (sG_leaf gT115_74) (sG_leaf gT115_75)) (sG_cond (sG_leaf gT115_78) (sG_leaf gT115_81))))) (sG_cond (sG_cond (sG_cond (sG_leaf gT115_82) (sG_cond (sG_leaf gT115_85) (sG_leaf gT115_88))) (sG_cond (sG_cond (sG_leaf gT115_89) (sG_leaf gT115_90)) (sG_cond (sG_leaf gT115_93) (sG_leaf gT115_94)))) (sG_cond (sG_cond (sG_leaf gT115_95) (sG_cond (sG_leaf gT115_98) (sG_leaf gT115_101))) (sG_cond (sG_cond (sG_leaf gT115_102) (sG_leaf gT115_105)) (sG_cond (sG_leaf gT115_108) (sG_leaf gT115_109))))))) (sG_cond (sG_cond (sG_cond (sG_cond (sG_cond (sG_leaf gT115_110) (sG_cond (sG_leaf gT115_115) (sG_leaf gT115_118))) (sG_cond (sG_leaf gT115_119) (sG_cond (sG_leaf gT115_124) (sG_leaf gT115_127)))) (sG_cond (sG_cond (sG_leaf gT115_128) (sG_cond (sG_leaf gT115_129) (sG_leaf gT115_130))) (sG_cond (sG_cond (sG_leaf gT115_133) (sG_leaf gT115_134)) (sG_cond (sG_leaf gT115_137) (sG_leaf gT115_140))))) (sG_cond (sG_cond (sG_cond (sG_leaf gT115_141) (sG_cond (sG_leaf gT115_142) (sG_leaf gT115_145))) (sG_cond (sG_cond (sG_leaf gT115_148) (sG_leaf gT115_149)) (sG_cond (sG_leaf gT115_152) (sG_leaf gT115_153)))) (sG_cond (sG_cond (sG_leaf gT115_156) (sG_cond (sG_leaf gT115_157) (sG_leaf gT115_160))) (sG_cond (sG_cond (sG_leaf gT115_163) (sG_leaf gT115_164)) (sG_cond (sG_leaf gT115_167) (sG_leaf gT115_168)))))) (sG_cond (sG_cond (sG_cond (sG_cond (sG_leaf gT115_171) (sG_cond (sG_leaf gT115_172) (sG_leaf gT115_173))) (sG_cond (sG_cond (sG_leaf gT115_176) (sG_leaf gT115_177)) (sG_cond (sG_leaf gT115_178) (sG_leaf gT115_181)))) (sG_cond (sG_cond (sG_leaf gT115_184) (sG_cond (sG_leaf gT115_185) (sG_leaf gT115_188))) (sG_cond (sG_cond (sG_leaf gT115_189) (sG_leaf gT115_192)) (sG_cond (sG_leaf gT115_195) (sG_leaf gT115_196))))) (sG_cond (sG_cond (sG_cond (sG_leaf gT115_197) (sG_cond (sG_leaf gT115_202) (sG_leaf gT115_205))) (sG_cond (sG_cond (sG_leaf gT115_206) (sG_leaf gT115_211)) (sG_cond (sG_leaf gT115_214) (sG_leaf gT115_215)))) (sG_cond (sG_cond (sG_leaf gT115_216) (sG_cond (sG_leaf gT115_219) (sG_leaf gT115_222))) (sG_cond (sG_cond (sG_leaf gT115_223) (sG_leaf gT115_224)) (sG_cond (sG_leaf gT115_227) (sG_leaf gT115_230)))))))
theorem gT116_0 : sG l g D H0 mT 116 0 (s_load vRf 116 1 0) := ⟨ok_load _ _ _ _, so_aload_n mT116 dX2_chosen_0 rfl⟩
theorem gT116_1 : sG l g D H0 mT 116 1 (s_callvk 116 4 117 1 [] 4) := ⟨ok_callvk _ _ _ _ _ _, sk_callv (by decide) (so_callV mT116 mo117 (by decide) (t := 1) (C := "HyperVane$Machine") (by decide) rfl rfl dX2_chosen_1 q726 q728 qs16 q55)⟩
theorem gT116_4 : sG l g D H0 mT 116 4 (s_store vRf 116 5 1) := ⟨ok_store _ _ _ _, so_astore_n mT116 dX2_chosen_4 rfl⟩
theorem gT116_5 : sG l g D H0 mT 116 5 (s_load vRf 116 6 1) := ⟨ok_load _ _ _ _, so_aload_n mT116 dX2_chosen_5 rfl⟩
theorem gT116_6 : sG l g D H0 mT 116 6 (s_ifnull 116 9 16) := ⟨ok_ifnull _ _ _, so_ifnull mT116 dX2_chosen_6 (by decide)⟩
theorem gT116_9 : sG l g D H0 mT 116 9 (s_load vRf 116 10 1) := ⟨ok_load _ _ _ _, so_aload_n mT116 dX2_chosen_9 rfl⟩
theorem gT116_10 : sG l g D H0 mT 116 10 (s_getf 116 13 5 9) := ⟨ok_getf _ _ _ _, so_getfN mT116 cl5 (k := 9) (by decide) dX2_chosen_10 q579 (fs_rf rfl)⟩
theorem gT116_13 : sG l g D H0 mT 116 13 (s_if 116 16 18 (fun a => a ≤ 0)) := ⟨ok_if _ _ _ _, so_if_le mT116 dX2_chosen_13 (by decide)⟩
theorem gT116_16 : sG l g D H0 mT 116 16 (s_load vRf 116 17 1) := ⟨ok_load _ _ _ _, so_aload_n mT116 dX2_chosen_16 rfl⟩
theorem gT116_17 : sG l g D H0 mT 116 17 (s_ret pR) := ⟨ok_ret _, so_aret mT116 dX2_chosen_17 (Or.inl ⟨_, rfl⟩)⟩
theorem gT116_18 : sG l g D H0 mT 116 18 (s_load vRf 116 19 0) := ⟨ok_load _ _ _ _, so_aload_n mT116 dX2_chosen_18 rfl⟩
theorem gT116_19 : sG l g D H0 mT 116 19 (s_getf 116 22 1 0) := ⟨ok_getf _ _ _ _, so_getf mT116 cl1 (k := 0) (by decide) dX2_chosen_19 q128 (fs_rf rfl)⟩
theorem gT116_22 : sG l g D H0 mT 116 22 (s_callvk 116 25 22 10 [] 1) := ⟨ok_callvk _ _ _ _ _ _, sk_callv (by decide) (so_callV mT116 mo22 (by decide) (t := 10) (C := "java/util/ArrayList") (by decide) rfl rfl dX2_chosen_22 q381 q303 q304 q58)⟩
theorem gT116_25 : sG l g D H0 mT 116 25 (s_store vRf 116 26 2) := ⟨ok_store _ _ _ _, so_astore_n mT116 dX2_chosen_25 rfl⟩
theorem gT116_26 : sG l g D H0 mT 116 26 (s_load vRf 116 27 2) := ⟨ok_load _ _ _ _, so_aload_n mT116 dX2_chosen_26 rfl⟩
theorem gT116_27 : sG l g D H0 mT 116 27 (s_callvk 116 32 3 11 [] 1) := ⟨ok_callvk _ _ _ _ _ _, sk_callv (by decide) (so_callF mT116 mo3 (by decide) (t := 11) (C := "java/util/ArrayList$Itr") (by decide) rfl (by decide +kernel) ⟨by decide, by decide, by decide +kernel⟩ dX2_chosen_27 q383 q332 q330 q80)⟩
theorem gT116_32 : sG l g D H0 mT 116 32 (s_if 116 35 80 (fun a => a = 0)) := ⟨ok_if _ _ _ _, so_if_eq mT116 dX2_chosen_32 (by decide)⟩
theorem gT116_35 : sG l g D H0 mT 116 35 (s_load vRf 116 36 2) := ⟨ok_load _ _ _ _, so_aload_n mT116 dX2_chosen_35 rfl⟩
theorem gT116_36 : sG l g D H0 mT 116 36 (s_callvk 116 41 4 11 [] 3) := ⟨ok_callvk _ _ _ _ _ _, sk_callv (by decide) (so_callF mT116 mo4 (by decide) (t := 11) (C := "java/util/ArrayList$Itr") (by decide) rfl (by decide +kernel) ⟨by decide, by decide, by decide +kernel⟩ dX2_chosen_36 q385 q341 q339 q80)⟩
theorem gT116_41 : sG l g D H0 mT 116 41 (s_cast 116 44 [5]) := ⟨ok_cast _ _ _, so_cast mT116 (T := "HyperVane$Guest") (ts := [5]) (by intro u hu; rw [List.mem_singleton] at hu; subst hu; exact ⟨by decide, Or.inl rfl⟩) dX2_chosen_41 q539⟩
theorem gT116_44 : sG l g D H0 mT 116 44 (s_store vRf 116 45 3) := ⟨ok_store _ _ _ _, so_astore_n mT116 dX2_chosen_44 rfl⟩
theorem gT116_45 : sG l g D H0 mT 116 45 (s_load vRf 116 46 3) := ⟨ok_load _ _ _ _, so_aload_n mT116 dX2_chosen_45 rfl⟩
theorem gT116_46 : sG l g D H0 mT 116 46 (s_callvk 116 49 197 5 [] 1) := ⟨ok_callvk _ _ _ _ _ _, sk_callv (by decide) (so_callV mT116 mo197 (by decide) (t := 5) (C := "HyperVane$Guest") (by decide) rfl rfl dX2_chosen_46 q714 q715 q716 q73)⟩
theorem gT116_49 : sG l g D H0 mT 116 49 (s_if 116 77 52 (fun a => a = 0)) := ⟨ok_if _ _ _ _, so_if_ne mT116 dX2_chosen_49 (by decide)⟩
theorem gT116_52 : sG l g D H0 mT 116 52 (s_load vRf 116 53 3) := ⟨ok_load _ _ _ _, so_aload_n mT116 dX2_chosen_52 rfl⟩
theorem gT116_53 : sG l g D H0 mT 116 53 (s_const 116 55 (.int 8)) := ⟨ok_const _ _ _, so_bipush mT116 dX2_chosen_53 (by decide)⟩
theorem gT116_55 : sG l g D H0 mT 116 55 (s_load vRf 116 56 3) := ⟨ok_load _ _ _ _, so_aload_n mT116 dX2_chosen_55 rfl⟩
theorem gT116_56 : sG l g D H0 mT 116 56 (s_getf 116 59 5 1) := ⟨ok_getf _ _ _ _, so_getfN mT116 cl5 (k := 1) (by decide) dX2_chosen_56 q557 (fs_rf rfl)⟩
theorem gT116_59 : sG l g D H0 mT 116 59 (s_bin 116 60 (fun a b => a * b)) := ⟨ok_bin _ _ _, so_imul mT116 dX2_chosen_59⟩
theorem gT116_60 : sG l g D H0 mT 116 60 (s_load vRf 116 61 3) := ⟨ok_load _ _ _ _, so_aload_n mT116 dX2_chosen_60 rfl⟩
theorem gT116_61 : sG l g D H0 mT 116 61 (s_getf 116 64 5 9) := ⟨ok_getf _ _ _ _, so_getfN mT116 cl5 (k := 9) (by decide) dX2_chosen_61 q579 (fs_rf rfl)⟩
theorem gT116_64 : sG l g D H0 mT 116 64 (s_const 116 65 (.int 4)) := ⟨ok_const _ _ _, so_iconst mT116 dX2_chosen_64 (by decide)⟩
theorem gT116_65 : sG l g D H0 mT 116 65 (s_load vRf 116 66 3) := ⟨ok_load _ _ _ _, so_aload_n mT116 dX2_chosen_65 rfl⟩
theorem gT116_66 : sG l g D H0 mT 116 66 (s_getf 116 69 5 1) := ⟨ok_getf _ _ _ _, so_getfN mT116 cl5 (k := 1) (by decide) dX2_chosen_66 q557 (fs_rf rfl)⟩
theorem gT116_69 : sG l g D H0 mT 116 69 (s_bin 116 70 (fun a b => a * b)) := ⟨ok_bin _ _ _, so_imul mT116 dX2_chosen_69⟩
theorem gT116_70 : sG l g D H0 mT 116 70 (s_bin 116 71 (fun a b => a + b)) := ⟨ok_bin _ _ _, so_iadd mT116 dX2_chosen_70⟩
theorem gT116_71 : sG l g D H0 mT 116 71 (s_callk 116 74 35 [0, 0] 2) := ⟨ok_callk _ _ _ _ _, sk_call (by decide) (so_callS mT116 mo35 (by decide) dX2_chosen_71 q730 q284 q64)⟩
theorem gT116_74 : sG l g D H0 mT 116 74 (s_putf g pI 116 77 5 9) := ⟨ok_putf _ _ _ _ _ _, so_putfN mT116 cl5 (k := 9) (by decide) fI rfl dX2_chosen_74 q579 (fs_rf rfl)⟩
theorem gT116_77 : sG l g D H0 mT 116 77 (s_goto 116 26) := ⟨ok_goto _ _, so_goto mT116 dX2_chosen_77 (by decide)⟩
theorem gT116_80 : sG l g D H0 mT 116 80 (s_load vRf 116 81 0) := ⟨ok_load _ _ _ _, so_aload_n mT116 dX2_chosen_80 rfl⟩
theorem gT116_81 : sG l g D H0 mT 116 81 (s_callvk 116 84 117 1 [] 4) := ⟨ok_callvk _ _ _ _ _ _, sk_callv (by decide) (so_callV mT116 mo117 (by decide) (t := 1) (C := "HyperVane$Machine") (by decide) rfl rfl dX2_chosen_81 q726 q728 qs16 q55)⟩
theorem gT116_84 : sG l g D H0 mT 116 84 (s_ret pR) := ⟨ok_ret _, so_aret mT116 dX2_chosen_84 (Or.inl ⟨_, rfl⟩)⟩
theorem gT116 (pc : Nat) : sG l g D H0 mT 116 pc (tT116 g pc) := sG_cond (sG_cond (sG_cond (sG_cond (sG_cond (sG_leaf gT116_0) (sG_leaf gT116_1)) (sG_cond (sG_leaf gT116_4) (sG_cond (sG_leaf gT116_5) (sG_leaf gT116_6)))) (sG_cond (sG_cond (sG_leaf gT116_9) (sG_leaf gT116_10)) (sG_cond (sG_leaf gT116_13) (sG_cond (sG_leaf gT116_16) (sG_leaf gT116_17))))) (sG_cond (sG_cond (sG_cond (sG_leaf gT116_18) (sG_leaf gT116_19)) (sG_cond (sG_leaf gT116_22) (sG_cond (sG_leaf gT116_25) (sG_leaf gT116_26)))) (sG_cond (sG_cond (sG_leaf gT116_27) (sG_cond (sG_leaf gT116_32) (sG_leaf gT116_35))) (sG_cond (sG_leaf gT116_36) (sG_cond (sG_leaf gT116_41) (sG_leaf gT116_44)))))) (sG_cond (sG_cond (sG_cond (sG_cond (sG_leaf gT116_45) (sG_leaf gT116_46)) (sG_cond (sG_leaf gT116_49) (sG_cond (sG_leaf gT116_52) (sG_leaf gT116_53)))) (sG_cond (sG_cond (sG_leaf gT116_55) (sG_leaf gT116_56)) (sG_cond (sG_leaf gT116_59) (sG_cond (sG_leaf gT116_60) (sG_leaf gT116_61))))) (sG_cond (sG_cond (sG_cond (sG_leaf gT116_64) (sG_leaf gT116_65)) (sG_cond (sG_leaf gT116_66) (sG_cond (sG_leaf gT116_69) (sG_leaf gT116_70)))) (sG_cond (sG_cond (sG_leaf gT116_71) (sG_cond (sG_leaf gT116_74) (sG_leaf gT116_77))) (sG_cond (sG_leaf gT116_80) (sG_cond (sG_leaf gT116_81) (sG_leaf gT116_84))))))
theorem gT117_0 : sG l g D H0 mT 117 0 (s_const 117 1 .null) := ⟨ok_const _ _ _, so_null mT117 dX2_mostCredits_0⟩
theorem gT117_1 : sG l g D H0 mT 117 1 (s_store vRf 117 2 1) := ⟨ok_store _ _ _ _, so_astore_n mT117 dX2_mostCredits_1 rfl⟩
theorem gT117_2 : sG l g D H0 mT 117 2 (s_load vRf 117 3 0) := ⟨ok_load _ _ _ _, so_aload_n mT117 dX2_mostCredits_2 rfl⟩
theorem gT117_3 : sG l g D H0 mT 117 3 (s_getf 117 6 1 0) := ⟨ok_getf _ _ _ _, so_getf mT117 cl1 (k := 0) (by decide) dX2_mostCredits_3 q128 (fs_rf rfl)⟩
theorem gT117_6 : sG l g D H0 mT 117 6 (s_callvk 117 9 22 10 [] 1) := ⟨ok_callvk _ _ _ _ _ _, sk_callv (by decide) (so_callV mT117 mo22 (by decide) (t := 10) (C := "java/util/ArrayList") (by decide) rfl rfl dX2_mostCredits_6 q381 q303 q304 q58)⟩
theorem gT117_9 : sG l g D H0 mT 117 9 (s_store vRf 117 10 2) := ⟨ok_store _ _ _ _, so_astore_n mT117 dX2_mostCredits_9 rfl⟩
theorem gT117_10 : sG l g D H0 mT 117 10 (s_load vRf 117 11 2) := ⟨ok_load _ _ _ _, so_aload_n mT117 dX2_mostCredits_10 rfl⟩
theorem gT117_11 : sG l g D H0 mT 117 11 (s_callvk 117 16 3 11 [] 1) := ⟨ok_callvk _ _ _ _ _ _, sk_callv (by decide) (so_callF mT117 mo3 (by decide) (t := 11) (C := "java/util/ArrayList$Itr") (by decide) rfl (by decide +kernel) ⟨by decide, by decide, by decide +kernel⟩ dX2_mostCredits_11 q383 q332 q330 q80)⟩
theorem gT117_16 : sG l g D H0 mT 117 16 (s_if 117 19 56 (fun a => a = 0)) := ⟨ok_if _ _ _ _, so_if_eq mT117 dX2_mostCredits_16 (by decide)⟩
theorem gT117_19 : sG l g D H0 mT 117 19 (s_load vRf 117 20 2) := ⟨ok_load _ _ _ _, so_aload_n mT117 dX2_mostCredits_19 rfl⟩
theorem gT117_20 : sG l g D H0 mT 117 20 (s_callvk 117 25 4 11 [] 3) := ⟨ok_callvk _ _ _ _ _ _, sk_callv (by decide) (so_callF mT117 mo4 (by decide) (t := 11) (C := "java/util/ArrayList$Itr") (by decide) rfl (by decide +kernel) ⟨by decide, by decide, by decide +kernel⟩ dX2_mostCredits_20 q385 q341 q339 q80)⟩
theorem gT117_25 : sG l g D H0 mT 117 25 (s_cast 117 28 [5]) := ⟨ok_cast _ _ _, so_cast mT117 (T := "HyperVane$Guest") (ts := [5]) (by intro u hu; rw [List.mem_singleton] at hu; subst hu; exact ⟨by decide, Or.inl rfl⟩) dX2_mostCredits_25 q539⟩
theorem gT117_28 : sG l g D H0 mT 117 28 (s_store vRf 117 29 3) := ⟨ok_store _ _ _ _, so_astore_n mT117 dX2_mostCredits_28 rfl⟩
theorem gT117_29 : sG l g D H0 mT 117 29 (s_load vRf 117 30 3) := ⟨ok_load _ _ _ _, so_aload_n mT117 dX2_mostCredits_29 rfl⟩
theorem gT117_30 : sG l g D H0 mT 117 30 (s_getf 117 33 5 3) := ⟨ok_getf _ _ _ _, so_getfN mT117 cl5 (k := 3) (by decide) dX2_mostCredits_30 q562 (fs_rf rfl)⟩
theorem gT117_33 : sG l g D H0 mT 117 33 (s_if 117 53 36 (fun a => a = 0)) := ⟨ok_if _ _ _ _, so_if_ne mT117 dX2_mostCredits_33 (by decide)⟩
theorem gT117_36 : sG l g D H0 mT 117 36 (s_load vRf 117 37 1) := ⟨ok_load _ _ _ _, so_aload_n mT117 dX2_mostCredits_36 rfl⟩
theorem gT117_37 : sG l g D H0 mT 117 37 (s_ifnull 117 40 51) := ⟨ok_ifnull _ _ _, so_ifnull mT117 dX2_mostCredits_37 (by decide)⟩
theorem gT117_40 : sG l g D H0 mT 117 40 (s_load vRf 117 41 3) := ⟨ok_load _ _ _ _, so_aload_n mT117 dX2_mostCredits_40 rfl⟩
theorem gT117_41 : sG l g D H0 mT 117 41 (s_getf 117 44 5 9) := ⟨ok_getf _ _ _ _, so_getfN mT117 cl5 (k := 9) (by decide) dX2_mostCredits_41 q579 (fs_rf rfl)⟩
theorem gT117_44 : sG l g D H0 mT 117 44 (s_load vRf 117 45 1) := ⟨ok_load _ _ _ _, so_aload_n mT117 dX2_mostCredits_44 rfl⟩
theorem gT117_45 : sG l g D H0 mT 117 45 (s_getf 117 48 5 9) := ⟨ok_getf _ _ _ _, so_getfN mT117 cl5 (k := 9) (by decide) dX2_mostCredits_45 q579 (fs_rf rfl)⟩
theorem gT117_48 : sG l g D H0 mT 117 48 (s_icmp 117 51 53 (fun a b => a ≤ b)) := ⟨ok_icmp _ _ _ _, so_icmp_le mT117 dX2_mostCredits_48 (by decide)⟩
theorem gT117_51 : sG l g D H0 mT 117 51 (s_load vRf 117 52 3) := ⟨ok_load _ _ _ _, so_aload_n mT117 dX2_mostCredits_51 rfl⟩
theorem gT117_52 : sG l g D H0 mT 117 52 (s_store vRf 117 53 1) := ⟨ok_store _ _ _ _, so_astore_n mT117 dX2_mostCredits_52 rfl⟩
theorem gT117_53 : sG l g D H0 mT 117 53 (s_goto 117 10) := ⟨ok_goto _ _, so_goto mT117 dX2_mostCredits_53 (by decide)⟩
theorem gT117_56 : sG l g D H0 mT 117 56 (s_load vRf 117 57 1) := ⟨ok_load _ _ _ _, so_aload_n mT117 dX2_mostCredits_56 rfl⟩
theorem gT117_57 : sG l g D H0 mT 117 57 (s_ret pR) := ⟨ok_ret _, so_aret mT117 dX2_mostCredits_57 (Or.inl ⟨_, rfl⟩)⟩
theorem gT117 (pc : Nat) : sG l g D H0 mT 117 pc (tT117 g pc) := sG_cond (sG_cond (sG_cond (sG_cond (sG_leaf gT117_0) (sG_cond (sG_leaf gT117_1) (sG_leaf gT117_2))) (sG_cond (sG_cond (sG_leaf gT117_3) (sG_leaf gT117_6)) (sG_cond (sG_leaf gT117_9) (sG_leaf gT117_10)))) (sG_cond (sG_cond (sG_leaf gT117_11) (sG_cond (sG_leaf gT117_16) (sG_leaf gT117_19))) (sG_cond (sG_cond (sG_leaf gT117_20) (sG_leaf gT117_25)) (sG_cond (sG_leaf gT117_28) (sG_leaf gT117_29))))) (sG_cond (sG_cond (sG_cond (sG_leaf gT117_30) (sG_cond (sG_leaf gT117_33) (sG_leaf gT117_36))) (sG_cond (sG_cond (sG_leaf gT117_37) (sG_leaf gT117_40)) (sG_cond (sG_leaf gT117_41) (sG_leaf gT117_44)))) (sG_cond (sG_cond (sG_leaf gT117_45) (sG_cond (sG_leaf gT117_48) (sG_leaf gT117_51))) (sG_cond (sG_cond (sG_leaf gT117_52) (sG_leaf gT117_53)) (sG_cond (sG_leaf gT117_56) (sG_leaf gT117_57)))))
theorem gT118_0 : sG l g D H0 mT 118 0 (s_load vRf 118 1 1) := ⟨ok_load _ _ _ _, so_aload_n mT118 dX2_go_0 rfl⟩
theorem gT118_1 : sG l g D H0 mT 118 1 (s_getf 118 4 5 2) := ⟨ok_getf _ _ _ _, so_getfN mT118 cl5 (k := 2) (by decide) dX2_go_1 q559 (fs_rf rfl)⟩
theorem gT118_4 : sG l g D H0 mT 118 4 (s_callvk 118 7 203 6 [] 1) := ⟨ok_callvk _ _ _ _ _ _, sk_callv (by decide) (so_callV mT118 mo203 (by decide) (t := 6) (C := "HyperVane$Mind") (by decide) rfl rfl dX2_go_4 q736 q514 q515 q74)⟩
theorem gT118_7 : sG l g D H0 mT 118 7 (s_store vRf 118 8 2) := ⟨ok_store _ _ _ _, so_astore_n mT118 dX2_go_7 rfl⟩
theorem gT118_8 : sG l g D H0 mT 118 8 (s_load vRf 118 9 2) := ⟨ok_load _ _ _ _, so_aload_n mT118 dX2_go_8 rfl⟩
theorem gT118_9 : sG l g D H0 mT 118 9 (s_getf 118 12 8 0) := ⟨ok_getf _ _ _ _, so_getfN mT118 cl8 (k := 0) (by decide) dX2_go_9 q1022 (fs_rf rfl)⟩
theorem gT118_12 : sG l g D H0 mT 118 12 (s_tsw 118 (tswf 1 124 [52, 52, 61, 69, 77, 104])) := ⟨ok_tsw _ _, so_tsw mT118 dX2_go_12 (by decide) (by decide) (by decide)⟩
theorem gT118_52 : sG l g D H0 mT 118 52 (s_load vRf 118 53 0) := ⟨ok_load _ _ _ _, so_aload_n mT118 dX2_go_52 rfl⟩
theorem gT118_53 : sG l g D H0 mT 118 53 (s_load vRf 118 54 1) := ⟨ok_load _ _ _ _, so_aload_n mT118 dX2_go_53 rfl⟩
theorem gT118_54 : sG l g D H0 mT 118 54 (s_load vRf 118 55 2) := ⟨ok_load _ _ _ _, so_aload_n mT118 dX2_go_54 rfl⟩
theorem gT118_55 : sG l g D H0 mT 118 55 (s_callvk 118 58 119 1 [1, 1] 4) := ⟨ok_callvk _ _ _ _ _ _, sk_callv (by decide) (so_callV mT118 mo119 (by decide) (t := 1) (C := "HyperVane$Machine") (by decide) rfl rfl dX2_go_55 q737 q739 qs18 q55)⟩
theorem gT118_58 : sG l g D H0 mT 118 58 (s_goto 118 129) := ⟨ok_goto _ _, so_goto mT118 dX2_go_58 (by decide)⟩
theorem gT118_61 : sG l g D H0 mT 118 61 (s_load vRf 118 62 0) := ⟨ok_load _ _ _ _, so_aload_n mT118 dX2_go_61 rfl⟩
theorem gT118_62 : sG l g D H0 mT 118 62 (s_load vRf 118 63 1) := ⟨ok_load _ _ _ _, so_aload_n mT118 dX2_go_62 rfl⟩
theorem gT118_63 : sG l g D H0 mT 118 63 (s_callvk 118 66 123 1 [1] 2) := ⟨ok_callvk _ _ _ _ _ _, sk_callv (by decide) (so_callV mT118 mo123 (by decide) (t := 1) (C := "HyperVane$Machine") (by decide) rfl rfl dX2_go_63 q755 q757 qs21 q55)⟩
theorem gT118_66 : sG l g D H0 mT 118 66 (s_goto 118 129) := ⟨ok_goto _ _, so_goto mT118 dX2_go_66 (by decide)⟩
theorem gT118_69 : sG l g D H0 mT 118 69 (s_load vRf 118 70 0) := ⟨ok_load _ _ _ _, so_aload_n mT118 dX2_go_69 rfl⟩
theorem gT118_70 : sG l g D H0 mT 118 70 (s_load vRf 118 71 1) := ⟨ok_load _ _ _ _, so_aload_n mT118 dX2_go_70 rfl⟩
theorem gT118_71 : sG l g D H0 mT 118 71 (s_callvk 118 74 124 1 [1] 3) := ⟨ok_callvk _ _ _ _ _ _, sk_callv (by decide) (so_callV mT118 mo124 (by decide) (t := 1) (C := "HyperVane$Machine") (by decide) rfl rfl dX2_go_71 q759 q761 qs22 q55)⟩
theorem gT118_74 : sG l g D H0 mT 118 74 (s_goto 118 129) := ⟨ok_goto _ _, so_goto mT118 dX2_go_74 (by decide)⟩
theorem gT118_77 : sG l g D H0 mT 118 77 (s_load vRf 118 78 1) := ⟨ok_load _ _ _ _, so_aload_n mT118 dX2_go_77 rfl⟩
theorem gT118_78 : sG l g D H0 mT 118 78 (s_load vRf 118 79 1) := ⟨ok_load _ _ _ _, so_aload_n mT118 dX2_go_78 rfl⟩
theorem gT118_79 : sG l g D H0 mT 118 79 (s_getf 118 82 5 7) := ⟨ok_getf _ _ _ _, so_getfN mT118 cl5 (k := 7) (by decide) dX2_go_79 q573 (fs_rf rfl)⟩
theorem gT118_82 : sG l g D H0 mT 118 82 (s_const 118 85 (.int 1000)) := ⟨ok_const _ _ _, so_sipush mT118 dX2_go_82 (by decide)⟩
theorem gT118_85 : sG l g D H0 mT 118 85 (s_div 118 86 (fun a b => a - a / b * b)) := ⟨ok_div _ _ _, so_irem mT118 dX2_go_85⟩
theorem gT118_86 : sG l g D H0 mT 118 86 (s_callk 118 89 125 [1, 0] 2) := ⟨ok_callk _ _ _ _ _, sk_call (by decide) (so_callS mT118 mo125 (by decide) dX2_go_86 q763 q764 q55)⟩
theorem gT118_89 : sG l g D H0 mT 118 89 (s_load vRf 118 90 1) := ⟨ok_load _ _ _ _, so_aload_n mT118 dX2_go_89 rfl⟩
theorem gT118_90 : sG l g D H0 mT 118 90 (s_load vRf 118 91 1) := ⟨ok_load _ _ _ _, so_aload_n mT118 dX2_go_90 rfl⟩
theorem gT118_91 : sG l g D H0 mT 118 91 (s_getf 118 94 5 7) := ⟨ok_getf _ _ _ _, so_getfN mT118 cl5 (k := 7) (by decide) dX2_go_91 q573 (fs_rf rfl)⟩
theorem gT118_94 : sG l g D H0 mT 118 94 (s_const 118 97 (.int 1000)) := ⟨ok_const _ _ _, so_sipush mT118 dX2_go_94 (by decide)⟩
theorem gT118_97 : sG l g D H0 mT 118 97 (s_div 118 98 (fun a b => a - a / b * b)) := ⟨ok_div _ _ _, so_irem mT118 dX2_go_97⟩
theorem gT118_98 : sG l g D H0 mT 118 98 (s_callk 118 101 120 [1, 0] 2) := ⟨ok_callk _ _ _ _ _, sk_call (by decide) (so_callS mT118 mo120 (by decide) dX2_go_98 q743 q744 q55)⟩
theorem gT118_101 : sG l g D H0 mT 118 101 (s_goto 118 129) := ⟨ok_goto _ _, so_goto mT118 dX2_go_101 (by decide)⟩
theorem gT118_104 : sG l g D H0 mT 118 104 (s_load vRf 118 105 1) := ⟨ok_load _ _ _ _, so_aload_n mT118 dX2_go_104 rfl⟩
theorem gT118_105 : sG l g D H0 mT 118 105 (s_const 118 106 (.int 0)) := ⟨ok_const _ _ _, so_iconst mT118 dX2_go_105 (by decide)⟩
theorem gT118_106 : sG l g D H0 mT 118 106 (s_load vRf 118 107 1) := ⟨ok_load _ _ _ _, so_aload_n mT118 dX2_go_106 rfl⟩
theorem gT118_107 : sG l g D H0 mT 118 107 (s_getf 118 110 5 9) := ⟨ok_getf _ _ _ _, so_getfN mT118 cl5 (k := 9) (by decide) dX2_go_107 q579 (fs_rf rfl)⟩
theorem gT118_110 : sG l g D H0 mT 118 110 (s_callk 118 113 35 [0, 0] 2) := ⟨ok_callk _ _ _ _ _, sk_call (by decide) (so_callS mT118 mo35 (by decide) dX2_go_110 q730 q284 q64)⟩
theorem gT118_113 : sG l g D H0 mT 118 113 (s_putf g pI 118 116 5 9) := ⟨ok_putf _ _ _ _ _ _, so_putfN mT118 cl5 (k := 9) (by decide) fI rfl dX2_go_113 q579 (fs_rf rfl)⟩
theorem gT118_116 : sG l g D H0 mT 118 116 (s_load vRf 118 117 1) := ⟨ok_load _ _ _ _, so_aload_n mT118 dX2_go_116 rfl⟩
theorem gT118_117 : sG l g D H0 mT 118 117 (s_const 118 118 (.int 0)) := ⟨ok_const _ _ _, so_iconst mT118 dX2_go_117 (by decide)⟩
theorem gT118_118 : sG l g D H0 mT 118 118 (s_callk 118 121 120 [1, 0] 2) := ⟨ok_callk _ _ _ _ _, sk_call (by decide) (so_callS mT118 mo120 (by decide) dX2_go_118 q743 q744 q55)⟩
theorem gT118_121 : sG l g D H0 mT 118 121 (s_goto 118 129) := ⟨ok_goto _ _, so_goto mT118 dX2_go_121 (by decide)⟩
theorem gT118_124 : sG l g D H0 mT 118 124 (s_load vRf 118 125 1) := ⟨ok_load _ _ _ _, so_aload_n mT118 dX2_go_124 rfl⟩
theorem gT118_125 : sG l g D H0 mT 118 125 (s_const 118 126 (.int 0)) := ⟨ok_const _ _ _, so_iconst mT118 dX2_go_125 (by decide)⟩
theorem gT118_126 : sG l g D H0 mT 118 126 (s_callk 118 129 120 [1, 0] 2) := ⟨ok_callk _ _ _ _ _, sk_call (by decide) (so_callS mT118 mo120 (by decide) dX2_go_126 q743 q744 q55)⟩
theorem gT118_129 : sG l g D H0 mT 118 129 (s_vret) := ⟨ok_vret, so_vret mT118 dX2_go_129⟩
theorem gT118 (pc : Nat) : sG l g D H0 mT 118 pc (tT118 g pc) := sG_cond (sG_cond (sG_cond (sG_cond (sG_cond (sG_leaf gT118_0) (sG_leaf gT118_1)) (sG_cond (sG_leaf gT118_4) (sG_cond (sG_leaf gT118_7) (sG_leaf gT118_8)))) (sG_cond (sG_cond (sG_leaf gT118_9) (sG_cond (sG_leaf gT118_12) (sG_leaf gT118_52))) (sG_cond (sG_leaf gT118_53) (sG_cond (sG_leaf gT118_54) (sG_leaf gT118_55))))) (sG_cond (sG_cond (sG_cond (sG_leaf gT118_58) (sG_cond (sG_leaf gT118_61) (sG_leaf gT118_62))) (sG_cond (sG_leaf gT118_63) (sG_cond (sG_leaf gT118_66) (sG_leaf gT118_69)))) (sG_cond (sG_cond (sG_leaf gT118_70) (sG_cond (sG_leaf gT118_71) (sG_leaf gT118_74))) (sG_cond (sG_leaf gT118_77) (sG_cond (sG_leaf gT118_78) (sG_leaf gT118_79)))))) (sG_cond (sG_cond (sG_cond (sG_cond (sG_leaf gT118_82) (sG_cond (sG_leaf gT118_85) (sG_leaf gT118_86))) (sG_cond (sG_leaf gT118_89) (sG_cond (sG_leaf gT118_90) (sG_leaf gT118_91)))) (sG_cond (sG_cond (sG_leaf gT118_94) (sG_cond (sG_leaf gT118_97) (sG_leaf gT118_98))) (sG_cond (sG_leaf gT118_101) (sG_cond (sG_leaf gT118_104) (sG_leaf gT118_105))))) (sG_cond (sG_cond (sG_cond (sG_leaf gT118_106) (sG_cond (sG_leaf gT118_107) (sG_leaf gT118_110))) (sG_cond (sG_leaf gT118_113) (sG_cond (sG_leaf gT118_116) (sG_leaf gT118_117)))) (sG_cond (sG_cond (sG_leaf gT118_118) (sG_cond (sG_leaf gT118_121) (sG_leaf gT118_124))) (sG_cond (sG_leaf gT118_125) (sG_cond (sG_leaf gT118_126) (sG_leaf gT118_129))))))
theorem gT119_0 : sG l g D H0 mT 119 0 (s_load vRf 119 1 0) := ⟨ok_load _ _ _ _, so_aload_n mT119 dX2_touch_0 rfl⟩
theorem gT119_1 : sG l g D H0 mT 119 1 (s_load vRf 119 2 1) := ⟨ok_load _ _ _ _, so_aload_n mT119 dX2_touch_1 rfl⟩
theorem gT119_2 : sG l g D H0 mT 119 2 (s_load vRf 119 3 2) := ⟨ok_load _ _ _ _, so_aload_n mT119 dX2_touch_2 rfl⟩
theorem gT119_3 : sG l g D H0 mT 119 3 (s_getf 119 6 8 1) := ⟨ok_getf _ _ _ _, so_getfN mT119 cl8 (k := 1) (by decide) dX2_touch_3 q1025 (fs_rf rfl)⟩
theorem gT119_6 : sG l g D H0 mT 119 6 (s_callvk 119 9 111 1 [1, 0] 5) := ⟨ok_callvk _ _ _ _ _ _, sk_callv (by decide) (so_callV mT119 mo111 (by decide) (t := 1) (C := "HyperVane$Machine") (by decide) rfl rfl dX2_touch_6 q741 q378 q379 q55)⟩
theorem gT119_9 : sG l g D H0 mT 119 9 (s_store vRf 119 10 3) := ⟨ok_store _ _ _ _, so_astore_n mT119 dX2_touch_9 rfl⟩
theorem gT119_10 : sG l g D H0 mT 119 10 (s_load vRf 119 11 3) := ⟨ok_load _ _ _ _, so_aload_n mT119 dX2_touch_10 rfl⟩
theorem gT119_11 : sG l g D H0 mT 119 11 (s_ifnull 119 14 55) := ⟨ok_ifnull _ _ _, so_ifnull mT119 dX2_touch_11 (by decide)⟩
theorem gT119_14 : sG l g D H0 mT 119 14 (s_load vRf 119 15 3) := ⟨ok_load _ _ _ _, so_aload_n mT119 dX2_touch_14 rfl⟩
theorem gT119_15 : sG l g D H0 mT 119 15 (s_load vRf 119 16 0) := ⟨ok_load _ _ _ _, so_aload_n mT119 dX2_touch_15 rfl⟩
theorem gT119_16 : sG l g D H0 mT 119 16 (s_getf 119 19 1 2) := ⟨ok_getf _ _ _ _, so_getf mT119 cl1 (k := 2) (by decide) dX2_touch_16 q132 (fs_rf rfl)⟩
theorem gT119_19 : sG l g D H0 mT 119 19 (s_putf g pI 119 22 2 2) := ⟨ok_putf _ _ _ _ _ _, so_putfN mT119 cl2 (k := 2) (by decide) fI rfl dX2_touch_19 q218 (fs_rf rfl)⟩
theorem gT119_22 : sG l g D H0 mT 119 22 (s_load vRf 119 23 2) := ⟨ok_load _ _ _ _, so_aload_n mT119 dX2_touch_22 rfl⟩
theorem gT119_23 : sG l g D H0 mT 119 23 (s_getf 119 26 8 0) := ⟨ok_getf _ _ _ _, so_getfN mT119 cl8 (k := 0) (by decide) dX2_touch_23 q1022 (fs_rf rfl)⟩
theorem gT119_26 : sG l g D H0 mT 119 26 (s_const 119 27 (.int 2)) := ⟨ok_const _ _ _, so_iconst mT119 dX2_touch_26 (by decide)⟩
theorem gT119_27 : sG l g D H0 mT 119 27 (s_icmp 119 47 30 (fun a b => a = b)) := ⟨ok_icmp _ _ _ _, so_icmp_ne mT119 dX2_touch_27 (by decide)⟩
theorem gT119_30 : sG l g D H0 mT 119 30 (s_load vRf 119 31 1) := ⟨ok_load _ _ _ _, so_aload_n mT119 dX2_touch_30 rfl⟩
theorem gT119_31 : sG l g D H0 mT 119 31 (s_callvk 119 34 194 5 [] 1) := ⟨ok_callvk _ _ _ _ _ _, sk_callv (by decide) (so_callV mT119 mo194 (by decide) (t := 5) (C := "HyperVane$Guest") (by decide) rfl rfl dX2_touch_31 q742 q391 q392 q73)⟩
theorem gT119_34 : sG l g D H0 mT 119 34 (s_if 119 37 47 (fun a => a = 0)) := ⟨ok_if _ _ _ _, so_if_eq mT119 dX2_touch_34 (by decide)⟩
theorem gT119_37 : sG l g D H0 mT 119 37 (s_load vRf 119 38 1) := ⟨ok_load _ _ _ _, so_aload_n mT119 dX2_touch_37 rfl⟩
theorem gT119_38 : sG l g D H0 mT 119 38 (s_getf 119 41 5 16) := ⟨ok_getf _ _ _ _, so_getfN mT119 cl5 (k := 16) (by decide) dX2_touch_38 q600 (fs_rf rfl)⟩
theorem gT119_41 : sG l g D H0 mT 119 41 (s_load vRf 119 42 2) := ⟨ok_load _ _ _ _, so_aload_n mT119 dX2_touch_41 rfl⟩
theorem gT119_42 : sG l g D H0 mT 119 42 (s_getf 119 45 8 1) := ⟨ok_getf _ _ _ _, so_getfN mT119 cl8 (k := 1) (by decide) dX2_touch_42 q1025 (fs_rf rfl)⟩
theorem gT119_45 : sG l g D H0 mT 119 45 (s_const 119 46 (.int 1)) := ⟨ok_const _ _ _, so_iconst mT119 dX2_touch_45 (by decide)⟩
theorem gT119_46 : sG l g D H0 mT 119 46 (s_ast g (fun _ v => vZ v) 119 47 21) := ⟨ok_ast _ _ _ _ _, so_zast mT119 a21 dX2_touch_46⟩
theorem gT119_47 : sG l g D H0 mT 119 47 (s_load vRf 119 48 1) := ⟨ok_load _ _ _ _, so_aload_n mT119 dX2_touch_47 rfl⟩
theorem gT119_48 : sG l g D H0 mT 119 48 (s_const 119 49 (.int 0)) := ⟨ok_const _ _ _, so_iconst mT119 dX2_touch_48 (by decide)⟩
theorem gT119_49 : sG l g D H0 mT 119 49 (s_callk 119 52 120 [1, 0] 2) := ⟨ok_callk _ _ _ _ _, sk_call (by decide) (so_callS mT119 mo120 (by decide) dX2_touch_49 q743 q744 q55)⟩
theorem gT119_52 : sG l g D H0 mT 119 52 (s_goto 119 109) := ⟨ok_goto _ _, so_goto mT119 dX2_touch_52 (by decide)⟩
theorem gT119_55 : sG l g D H0 mT 119 55 (s_load vRf 119 56 1) := ⟨ok_load _ _ _ _, so_aload_n mT119 dX2_touch_55 rfl⟩
theorem gT119_56 : sG l g D H0 mT 119 56 (s_getf 119 59 5 15) := ⟨ok_getf _ _ _ _, so_getfN mT119 cl5 (k := 15) (by decide) dX2_touch_56 q597 (fs_rf rfl)⟩
theorem gT119_59 : sG l g D H0 mT 119 59 (s_load vRf 119 60 2) := ⟨ok_load _ _ _ _, so_aload_n mT119 dX2_touch_59 rfl⟩
theorem gT119_60 : sG l g D H0 mT 119 60 (s_getf 119 63 8 1) := ⟨ok_getf _ _ _ _, so_getfN mT119 cl8 (k := 1) (by decide) dX2_touch_60 q1025 (fs_rf rfl)⟩
theorem gT119_63 : sG l g D H0 mT 119 63 (s_ald 119 64 21) := ⟨ok_ald _ _ _, so_zald mT119 a21 dX2_touch_63⟩
theorem gT119_64 : sG l g D H0 mT 119 64 (s_if 119 67 90 (fun a => a = 0)) := ⟨ok_if _ _ _ _, so_if_eq mT119 dX2_touch_64 (by decide)⟩
theorem gT119_67 : sG l g D H0 mT 119 67 (s_load vRf 119 68 1) := ⟨ok_load _ _ _ _, so_aload_n mT119 dX2_touch_67 rfl⟩
theorem gT119_68 : sG l g D H0 mT 119 68 (s_getf 119 71 5 13) := ⟨ok_getf _ _ _ _, so_getfN mT119 cl5 (k := 13) (by decide) dX2_touch_68 q591 (fs_rf rfl)⟩
theorem gT119_71 : sG l g D H0 mT 119 71 (s_const 119 72 (.int 3)) := ⟨ok_const _ _ _, so_iconst mT119 dX2_touch_71 (by decide)⟩
theorem gT119_72 : sG l g D H0 mT 119 72 (s_dup2 119 73) := ⟨ok_dup2 _ _, so_dup2 mT119 dX2_touch_72⟩
theorem gT119_73 : sG l g D H0 mT 119 73 (s_ald 119 74 20) := ⟨ok_ald _ _ _, so_iald mT119 a20 dX2_touch_73⟩
theorem gT119_74 : sG l g D H0 mT 119 74 (s_const 119 75 (.int 1)) := ⟨ok_const _ _ _, so_iconst mT119 dX2_touch_74 (by decide)⟩
theorem gT119_75 : sG l g D H0 mT 119 75 (s_bin 119 76 (fun a b => a + b)) := ⟨ok_bin _ _ _, so_iadd mT119 dX2_touch_75⟩
theorem gT119_76 : sG l g D H0 mT 119 76 (s_ast g (fun _ v => vI v = true) 119 77 20) := ⟨ok_ast _ _ _ _ _, so_iast mT119 a20 dX2_touch_76⟩
theorem gT119_77 : sG l g D H0 mT 119 77 (s_load vRf 119 78 1) := ⟨ok_load _ _ _ _, so_aload_n mT119 dX2_touch_77 rfl⟩
theorem gT119_78 : sG l g D H0 mT 119 78 (s_getf 119 81 5 15) := ⟨ok_getf _ _ _ _, so_getfN mT119 cl5 (k := 15) (by decide) dX2_touch_78 q597 (fs_rf rfl)⟩
theorem gT119_81 : sG l g D H0 mT 119 81 (s_load vRf 119 82 2) := ⟨ok_load _ _ _ _, so_aload_n mT119 dX2_touch_81 rfl⟩
theorem gT119_82 : sG l g D H0 mT 119 82 (s_getf 119 85 8 1) := ⟨ok_getf _ _ _ _, so_getfN mT119 cl8 (k := 1) (by decide) dX2_touch_82 q1025 (fs_rf rfl)⟩
theorem gT119_85 : sG l g D H0 mT 119 85 (s_const 119 86 (.int 0)) := ⟨ok_const _ _ _, so_iconst mT119 dX2_touch_85 (by decide)⟩
theorem gT119_86 : sG l g D H0 mT 119 86 (s_ast g (fun _ v => vZ v) 119 87 21) := ⟨ok_ast _ _ _ _ _, so_zast mT119 a21 dX2_touch_86⟩
theorem gT119_87 : sG l g D H0 mT 119 87 (s_goto 119 109) := ⟨ok_goto _ _, so_goto mT119 dX2_touch_87 (by decide)⟩
theorem gT119_90 : sG l g D H0 mT 119 90 (s_load vRf 119 91 1) := ⟨ok_load _ _ _ _, so_aload_n mT119 dX2_touch_90 rfl⟩
theorem gT119_91 : sG l g D H0 mT 119 91 (s_getf 119 94 5 13) := ⟨ok_getf _ _ _ _, so_getfN mT119 cl5 (k := 13) (by decide) dX2_touch_91 q591 (fs_rf rfl)⟩
theorem gT119_94 : sG l g D H0 mT 119 94 (s_const 119 95 (.int 0)) := ⟨ok_const _ _ _, so_iconst mT119 dX2_touch_94 (by decide)⟩
theorem gT119_95 : sG l g D H0 mT 119 95 (s_dup2 119 96) := ⟨ok_dup2 _ _, so_dup2 mT119 dX2_touch_95⟩
theorem gT119_96 : sG l g D H0 mT 119 96 (s_ald 119 97 20) := ⟨ok_ald _ _ _, so_iald mT119 a20 dX2_touch_96⟩
theorem gT119_97 : sG l g D H0 mT 119 97 (s_const 119 98 (.int 1)) := ⟨ok_const _ _ _, so_iconst mT119 dX2_touch_97 (by decide)⟩
theorem gT119_98 : sG l g D H0 mT 119 98 (s_bin 119 99 (fun a b => a + b)) := ⟨ok_bin _ _ _, so_iadd mT119 dX2_touch_98⟩
theorem gT119_99 : sG l g D H0 mT 119 99 (s_ast g (fun _ v => vI v = true) 119 100 20) := ⟨ok_ast _ _ _ _ _, so_iast mT119 a20 dX2_touch_99⟩
theorem gT119_100 : sG l g D H0 mT 119 100 (s_load vRf 119 101 0) := ⟨ok_load _ _ _ _, so_aload_n mT119 dX2_touch_100 rfl⟩
theorem gT119_101 : sG l g D H0 mT 119 101 (s_load vRf 119 102 1) := ⟨ok_load _ _ _ _, so_aload_n mT119 dX2_touch_101 rfl⟩
theorem gT119_102 : sG l g D H0 mT 119 102 (s_load vRf 119 103 2) := ⟨ok_load _ _ _ _, so_aload_n mT119 dX2_touch_102 rfl⟩
theorem gT119_103 : sG l g D H0 mT 119 103 (s_getf 119 106 8 1) := ⟨ok_getf _ _ _ _, so_getfN mT119 cl8 (k := 1) (by decide) dX2_touch_103 q1025 (fs_rf rfl)⟩
theorem gT119_106 : sG l g D H0 mT 119 106 (s_callvk 119 109 121 1 [1, 0] 3) := ⟨ok_callvk _ _ _ _ _ _, sk_callv (by decide) (so_callV mT119 mo121 (by decide) (t := 1) (C := "HyperVane$Machine") (by decide) rfl rfl dX2_touch_106 q747 q749 qs19 q55)⟩
theorem gT119_109 : sG l g D H0 mT 119 109 (s_vret) := ⟨ok_vret, so_vret mT119 dX2_touch_109⟩
theorem gT119 (pc : Nat) : sG l g D H0 mT 119 pc (tT119 g pc) := sG_cond (sG_cond (sG_cond (sG_cond (sG_cond (sG_cond (sG_leaf gT119_0) (sG_leaf gT119_1)) (sG_cond (sG_leaf gT119_2) (sG_leaf gT119_3))) (sG_cond (sG_cond (sG_leaf gT119_6) (sG_leaf gT119_9)) (sG_cond (sG_leaf gT119_10) (sG_leaf gT119_11)))) (sG_cond (sG_cond (sG_cond (sG_leaf gT119_14) (sG_leaf gT119_15)) (sG_cond (sG_leaf gT119_16) (sG_leaf gT119_19))) (sG_cond (sG_cond (sG_leaf gT119_22) (sG_leaf gT119_23)) (sG_cond (sG_leaf gT119_26) (sG_leaf gT119_27))))) (sG_cond (sG_cond (sG_cond (sG_cond (sG_leaf gT119_30) (sG_leaf gT119_31)) (sG_cond (sG_leaf gT119_34) (sG_leaf gT119_37))) (sG_cond (sG_cond (sG_leaf gT119_38) (sG_leaf gT119_41)) (sG_cond (sG_leaf gT119_42) (sG_leaf gT119_45)))) (sG_cond (sG_cond (sG_cond (sG_leaf gT119_46) (sG_leaf gT119_47)) (sG_cond (sG_leaf gT119_48) (sG_leaf gT119_49))) (sG_cond (sG_cond (sG_leaf gT119_52) (sG_leaf gT119_55)) (sG_cond (sG_leaf gT119_56) (sG_leaf gT119_59)))))) (sG_cond (sG_cond (sG_cond (sG_cond (sG_cond (sG_leaf gT119_60) (sG_leaf gT119_63)) (sG_cond (sG_leaf gT119_64) (sG_leaf gT119_67))) (sG_cond (sG_cond (sG_leaf gT119_68) (sG_leaf gT119_71)) (sG_cond (sG_leaf gT119_72) (sG_leaf gT119_73)))) (sG_cond (sG_cond (sG_cond (sG_leaf gT119_74) (sG_leaf gT119_75)) (sG_cond (sG_leaf gT119_76) (sG_leaf gT119_77))) (sG_cond (sG_cond (sG_leaf gT119_78) (sG_leaf gT119_81)) (sG_cond (sG_leaf gT119_82) (sG_leaf gT119_85))))) (sG_cond (sG_cond (sG_cond (sG_cond (sG_leaf gT119_86) (sG_leaf gT119_87)) (sG_cond (sG_leaf gT119_90) (sG_leaf gT119_91))) (sG_cond (sG_cond (sG_leaf gT119_94) (sG_leaf gT119_95)) (sG_cond (sG_leaf gT119_96) (sG_leaf gT119_97)))) (sG_cond (sG_cond (sG_cond (sG_leaf gT119_98) (sG_leaf gT119_99)) (sG_cond (sG_leaf gT119_100) (sG_leaf gT119_101))) (sG_cond (sG_cond (sG_leaf gT119_102) (sG_leaf gT119_103)) (sG_cond (sG_leaf gT119_106) (sG_leaf gT119_109))))))
theorem gT120_0 : sG l g D H0 mT 120 0 (s_load vRf 120 1 0) := ⟨ok_load _ _ _ _, so_aload_n mT120 dX2_finish_0 rfl⟩
theorem gT120_1 : sG l g D H0 mT 120 1 (s_getf 120 4 5 2) := ⟨ok_getf _ _ _ _, so_getfN mT120 cl5 (k := 2) (by decide) dX2_finish_1 q559 (fs_rf rfl)⟩
theorem gT120_4 : sG l g D H0 mT 120 4 (s_load vI 120 5 1) := ⟨ok_load _ _ _ _, so_iload_n mT120 dX2_finish_4 rfl⟩
theorem gT120_5 : sG l g D H0 mT 120 5 (s_callvk 120 8 204 6 [0] 3) := ⟨ok_callvk _ _ _ _ _ _, sk_callv (by decide) (so_callV mT120 mo204 (by decide) (t := 6) (C := "HyperVane$Mind") (by decide) rfl rfl dX2_finish_5 q746 q524 q525 q74)⟩
theorem gT120_8 : sG l g D H0 mT 120 8 (s_load vRf 120 9 0) := ⟨ok_load _ _ _ _, so_aload_n mT120 dX2_finish_8 rfl⟩
theorem gT120_9 : sG l g D H0 mT 120 9 (s_dup 120 10) := ⟨ok_dup _ _, so_dup mT120 dX2_finish_9⟩
theorem gT120_10 : sG l g D H0 mT 120 10 (s_getf 120 13 5 10) := ⟨ok_getf _ _ _ _, so_getfN mT120 cl5 (k := 10) (by decide) dX2_finish_10 q582 (fs_rf rfl)⟩
theorem gT120_13 : sG l g D H0 mT 120 13 (s_const 120 14 (.int 1)) := ⟨ok_const _ _ _, so_iconst mT120 dX2_finish_13 (by decide)⟩
theorem gT120_14 : sG l g D H0 mT 120 14 (s_bin 120 15 (fun a b => a + b)) := ⟨ok_bin _ _ _, so_iadd mT120 dX2_finish_14⟩
theorem gT120_15 : sG l g D H0 mT 120 15 (s_putf g pI 120 18 5 10) := ⟨ok_putf _ _ _ _ _ _, so_putfN mT120 cl5 (k := 10) (by decide) fI rfl dX2_finish_15 q582 (fs_rf rfl)⟩
theorem gT120_18 : sG l g D H0 mT 120 18 (s_load vRf 120 19 0) := ⟨ok_load _ _ _ _, so_aload_n mT120 dX2_finish_18 rfl⟩
theorem gT120_19 : sG l g D H0 mT 120 19 (s_getf 120 22 5 21) := ⟨ok_getf _ _ _ _, so_getfN mT120 cl5 (k := 21) (by decide) dX2_finish_19 q612 (fs_rf rfl)⟩
theorem gT120_22 : sG l g D H0 mT 120 22 (s_ifnull 120 25 38) := ⟨ok_ifnull _ _ _, so_ifnull mT120 dX2_finish_22 (by decide)⟩
theorem gT120_25 : sG l g D H0 mT 120 25 (s_load vRf 120 26 0) := ⟨ok_load _ _ _ _, so_aload_n mT120 dX2_finish_25 rfl⟩
theorem gT120_26 : sG l g D H0 mT 120 26 (s_getf 120 29 5 21) := ⟨ok_getf _ _ _ _, so_getfN mT120 cl5 (k := 21) (by decide) dX2_finish_26 q612 (fs_rf rfl)⟩
theorem gT120_29 : sG l g D H0 mT 120 29 (s_dup 120 30) := ⟨ok_dup _ _, so_dup mT120 dX2_finish_29⟩
theorem gT120_30 : sG l g D H0 mT 120 30 (s_getf 120 33 9 3) := ⟨ok_getf _ _ _ _, so_getfN mT120 cl9 (k := 3) (by decide) dX2_finish_30 q686 (fs_rf rfl)⟩
theorem gT120_33 : sG l g D H0 mT 120 33 (s_const 120 34 (.int 1)) := ⟨ok_const _ _ _, so_iconst mT120 dX2_finish_33 (by decide)⟩
theorem gT120_34 : sG l g D H0 mT 120 34 (s_bin 120 35 (fun a b => a + b)) := ⟨ok_bin _ _ _, so_iadd mT120 dX2_finish_34⟩
theorem gT120_35 : sG l g D H0 mT 120 35 (s_putf g pI 120 38 9 3) := ⟨ok_putf _ _ _ _ _ _, so_putfN mT120 cl9 (k := 3) (by decide) fI rfl dX2_finish_35 q686 (fs_rf rfl)⟩
theorem gT120_38 : sG l g D H0 mT 120 38 (s_vret) := ⟨ok_vret, so_vret mT120 dX2_finish_38⟩
theorem gT120 (pc : Nat) : sG l g D H0 mT 120 pc (tT120 g pc) := sG_cond (sG_cond (sG_cond (sG_cond (sG_leaf gT120_0) (sG_leaf gT120_1)) (sG_cond (sG_leaf gT120_4) (sG_cond (sG_leaf gT120_5) (sG_leaf gT120_8)))) (sG_cond (sG_cond (sG_leaf gT120_9) (sG_leaf gT120_10)) (sG_cond (sG_leaf gT120_13) (sG_cond (sG_leaf gT120_14) (sG_leaf gT120_15))))) (sG_cond (sG_cond (sG_cond (sG_leaf gT120_18) (sG_leaf gT120_19)) (sG_cond (sG_leaf gT120_22) (sG_cond (sG_leaf gT120_25) (sG_leaf gT120_26)))) (sG_cond (sG_cond (sG_leaf gT120_29) (sG_cond (sG_leaf gT120_30) (sG_leaf gT120_33))) (sG_cond (sG_leaf gT120_34) (sG_cond (sG_leaf gT120_35) (sG_leaf gT120_38)))))
theorem gT121_0 : sG l g D H0 mT 121 0 (s_load vRf 121 1 0) := ⟨ok_load _ _ _ _, so_aload_n mT121 dX2_fetch_0 rfl⟩
theorem gT121_1 : sG l g D H0 mT 121 1 (s_callvk 121 4 122 1 [] 4) := ⟨ok_callvk _ _ _ _ _ _, sk_callv (by decide) (so_callV mT121 mo122 (by decide) (t := 1) (C := "HyperVane$Machine") (by decide) rfl rfl dX2_fetch_1 q751 q753 qs20 q55)⟩
theorem gT121_4 : sG l g D H0 mT 121 4 (s_load vRf 121 5 1) := ⟨ok_load _ _ _ _, so_aload_n mT121 dX2_fetch_4 rfl⟩
theorem gT121_5 : sG l g D H0 mT 121 5 (s_load vI 121 6 2) := ⟨ok_load _ _ _ _, so_iload_n mT121 dX2_fetch_5 rfl⟩
theorem gT121_6 : sG l g D H0 mT 121 6 (s_load vRf 121 7 0) := ⟨ok_load _ _ _ _, so_aload_n mT121 dX2_fetch_6 rfl⟩
theorem gT121_7 : sG l g D H0 mT 121 7 (s_getf 121 10 1 2) := ⟨ok_getf _ _ _ _, so_getf mT121 cl1 (k := 2) (by decide) dX2_fetch_7 q132 (fs_rf rfl)⟩
theorem gT121_10 : sG l g D H0 mT 121 10 (s_callvk 121 13 135 2 [1, 0, 0] 4) := ⟨ok_callvk _ _ _ _ _ _, sk_callv (by decide) (so_callV mT121 mo135 (by decide) (t := 2) (C := "HyperVane$Frame") (by decide) rfl rfl dX2_fetch_10 q701 q203 q204 q62)⟩
theorem gT121_13 : sG l g D H0 mT 121 13 (s_load vRf 121 14 1) := ⟨ok_load _ _ _ _, so_aload_n mT121 dX2_fetch_13 rfl⟩
theorem gT121_14 : sG l g D H0 mT 121 14 (s_getf 121 17 5 14) := ⟨ok_getf _ _ _ _, so_getfN mT121 cl5 (k := 14) (by decide) dX2_fetch_14 q594 (fs_rf rfl)⟩
theorem gT121_17 : sG l g D H0 mT 121 17 (s_load vI 121 18 2) := ⟨ok_load _ _ _ _, so_iload_n mT121 dX2_fetch_17 rfl⟩
theorem gT121_18 : sG l g D H0 mT 121 18 (s_ald 121 19 21) := ⟨ok_ald _ _ _, so_zald mT121 a21 dX2_fetch_18⟩
theorem gT121_19 : sG l g D H0 mT 121 19 (s_if 121 23 22 (fun a => a = 0)) := ⟨ok_if _ _ _ _, so_if_ne mT121 dX2_fetch_19 (by decide)⟩
theorem gT121_22 : sG l g D H0 mT 121 22 (s_vret) := ⟨ok_vret, so_vret mT121 dX2_fetch_22⟩
theorem gT121_23 : sG l g D H0 mT 121 23 (s_load vRf 121 24 1) := ⟨ok_load _ _ _ _, so_aload_n mT121 dX2_fetch_23 rfl⟩
theorem gT121_24 : sG l g D H0 mT 121 24 (s_getf 121 27 5 14) := ⟨ok_getf _ _ _ _, so_getfN mT121 cl5 (k := 14) (by decide) dX2_fetch_24 q594 (fs_rf rfl)⟩
theorem gT121_27 : sG l g D H0 mT 121 27 (s_load vI 121 28 2) := ⟨ok_load _ _ _ _, so_iload_n mT121 dX2_fetch_27 rfl⟩
theorem gT121_28 : sG l g D H0 mT 121 28 (s_const 121 29 (.int 0)) := ⟨ok_const _ _ _, so_iconst mT121 dX2_fetch_28 (by decide)⟩
theorem gT121_29 : sG l g D H0 mT 121 29 (s_ast g (fun _ v => vZ v) 121 30 21) := ⟨ok_ast _ _ _ _ _, so_zast mT121 a21 dX2_fetch_29⟩
theorem gT121_30 : sG l g D H0 mT 121 30 (s_load vRf 121 31 1) := ⟨ok_load _ _ _ _, so_aload_n mT121 dX2_fetch_30 rfl⟩
theorem gT121_31 : sG l g D H0 mT 121 31 (s_const 121 32 (.int 2)) := ⟨ok_const _ _ _, so_iconst mT121 dX2_fetch_31 (by decide)⟩
theorem gT121_32 : sG l g D H0 mT 121 32 (s_putf g pI 121 35 5 3) := ⟨ok_putf _ _ _ _ _ _, so_putfN mT121 cl5 (k := 3) (by decide) fI rfl dX2_fetch_32 q562 (fs_rf rfl)⟩
theorem gT121_35 : sG l g D H0 mT 121 35 (s_load vRf 121 36 1) := ⟨ok_load _ _ _ _, so_aload_n mT121 dX2_fetch_35 rfl⟩
theorem gT121_36 : sG l g D H0 mT 121 36 (s_load vRf 121 37 0) := ⟨ok_load _ _ _ _, so_aload_n mT121 dX2_fetch_36 rfl⟩
theorem gT121_37 : sG l g D H0 mT 121 37 (s_getf 121 40 1 2) := ⟨ok_getf _ _ _ _, so_getf mT121 cl1 (k := 2) (by decide) dX2_fetch_37 q132 (fs_rf rfl)⟩
theorem gT121_40 : sG l g D H0 mT 121 40 (s_const 121 41 (.int 2)) := ⟨ok_const _ _ _, so_iconst mT121 dX2_fetch_40 (by decide)⟩
theorem gT121_41 : sG l g D H0 mT 121 41 (s_bin 121 42 (fun a b => a + b)) := ⟨ok_bin _ _ _, so_iadd mT121 dX2_fetch_41⟩
theorem gT121_42 : sG l g D H0 mT 121 42 (s_putf g pI 121 45 5 6) := ⟨ok_putf _ _ _ _ _ _, so_putfN mT121 cl5 (k := 6) (by decide) fI rfl dX2_fetch_42 q570 (fs_rf rfl)⟩
theorem gT121_45 : sG l g D H0 mT 121 45 (s_vret) := ⟨ok_vret, so_vret mT121 dX2_fetch_45⟩
theorem gT121 (pc : Nat) : sG l g D H0 mT 121 pc (tT121 g pc) := sG_cond (sG_cond (sG_cond (sG_cond (sG_leaf gT121_0) (sG_cond (sG_leaf gT121_1) (sG_leaf gT121_4))) (sG_cond (sG_cond (sG_leaf gT121_5) (sG_leaf gT121_6)) (sG_cond (sG_leaf gT121_7) (sG_leaf gT121_10)))) (sG_cond (sG_cond (sG_leaf gT121_13) (sG_cond (sG_leaf gT121_14) (sG_leaf gT121_17))) (sG_cond (sG_cond (sG_leaf gT121_18) (sG_leaf gT121_19)) (sG_cond (sG_leaf gT121_22) (sG_leaf gT121_23))))) (sG_cond (sG_cond (sG_cond (sG_leaf gT121_24) (sG_cond (sG_leaf gT121_27) (sG_leaf gT121_28))) (sG_cond (sG_cond (sG_leaf gT121_29) (sG_leaf gT121_30)) (sG_cond (sG_leaf gT121_31) (sG_leaf gT121_32)))) (sG_cond (sG_cond (sG_leaf gT121_35) (sG_cond (sG_leaf gT121_36) (sG_leaf gT121_37))) (sG_cond (sG_cond (sG_leaf gT121_40) (sG_leaf gT121_41)) (sG_cond (sG_leaf gT121_42) (sG_leaf gT121_45)))))
theorem gT122_0 : sG l g D H0 mT 122 0 (s_const 122 1 .null) := ⟨ok_const _ _ _, so_null mT122 dX2_taken_0⟩
theorem gT122_1 : sG l g D H0 mT 122 1 (s_store vRf 122 2 1) := ⟨ok_store _ _ _ _, so_astore_n mT122 dX2_taken_1 rfl⟩
theorem gT122_2 : sG l g D H0 mT 122 2 (s_load vRf 122 3 0) := ⟨ok_load _ _ _ _, so_aload_n mT122 dX2_taken_2 rfl⟩
theorem gT122_3 : sG l g D H0 mT 122 3 (s_getf 122 6 1 1) := ⟨ok_getf _ _ _ _, so_getf mT122 cl1 (k := 1) (by decide) dX2_taken_3 q130 (fs_rf rfl)⟩
theorem gT122_6 : sG l g D H0 mT 122 6 (s_callvk 122 9 22 10 [] 1) := ⟨ok_callvk _ _ _ _ _ _, sk_callv (by decide) (so_callV mT122 mo22 (by decide) (t := 10) (C := "java/util/ArrayList") (by decide) rfl rfl dX2_taken_6 q381 q303 q304 q58)⟩
theorem gT122_9 : sG l g D H0 mT 122 9 (s_store vRf 122 10 2) := ⟨ok_store _ _ _ _, so_astore_n mT122 dX2_taken_9 rfl⟩
theorem gT122_10 : sG l g D H0 mT 122 10 (s_load vRf 122 11 2) := ⟨ok_load _ _ _ _, so_aload_n mT122 dX2_taken_10 rfl⟩
theorem gT122_11 : sG l g D H0 mT 122 11 (s_callvk 122 16 3 11 [] 1) := ⟨ok_callvk _ _ _ _ _ _, sk_callv (by decide) (so_callF mT122 mo3 (by decide) (t := 11) (C := "java/util/ArrayList$Itr") (by decide) rfl (by decide +kernel) ⟨by decide, by decide, by decide +kernel⟩ dX2_taken_11 q383 q332 q330 q80)⟩
theorem gT122_16 : sG l g D H0 mT 122 16 (s_if 122 19 58 (fun a => a = 0)) := ⟨ok_if _ _ _ _, so_if_eq mT122 dX2_taken_16 (by decide)⟩
theorem gT122_19 : sG l g D H0 mT 122 19 (s_load vRf 122 20 2) := ⟨ok_load _ _ _ _, so_aload_n mT122 dX2_taken_19 rfl⟩
theorem gT122_20 : sG l g D H0 mT 122 20 (s_callvk 122 25 4 11 [] 3) := ⟨ok_callvk _ _ _ _ _ _, sk_callv (by decide) (so_callF mT122 mo4 (by decide) (t := 11) (C := "java/util/ArrayList$Itr") (by decide) rfl (by decide +kernel) ⟨by decide, by decide, by decide +kernel⟩ dX2_taken_20 q385 q341 q339 q80)⟩
theorem gT122_25 : sG l g D H0 mT 122 25 (s_cast 122 28 [2]) := ⟨ok_cast _ _ _, so_cast mT122 (T := "HyperVane$Frame") (ts := [2]) (by intro u hu; rw [List.mem_singleton] at hu; subst hu; exact ⟨by decide, Or.inl rfl⟩) dX2_taken_25 q193⟩
theorem gT122_28 : sG l g D H0 mT 122 28 (s_store vRf 122 29 3) := ⟨ok_store _ _ _ _, so_astore_n mT122 dX2_taken_28 rfl⟩
theorem gT122_29 : sG l g D H0 mT 122 29 (s_load vRf 122 30 3) := ⟨ok_load _ _ _ _, so_aload_n mT122 dX2_taken_29 rfl⟩
theorem gT122_30 : sG l g D H0 mT 122 30 (s_getf 122 33 2 0) := ⟨ok_getf _ _ _ _, so_getfN mT122 cl2 (k := 0) (by decide) dX2_taken_30 q212 (fs_rf rfl)⟩
theorem gT122_33 : sG l g D H0 mT 122 33 (s_ifnn 122 36 38) := ⟨ok_ifnn _ _ _, so_ifnonnull mT122 dX2_taken_33 (by decide)⟩
theorem gT122_36 : sG l g D H0 mT 122 36 (s_load vRf 122 37 3) := ⟨ok_load _ _ _ _, so_aload_n mT122 dX2_taken_36 rfl⟩
theorem gT122_37 : sG l g D H0 mT 122 37 (s_ret pR) := ⟨ok_ret _, so_aret mT122 dX2_taken_37 (Or.inl ⟨_, rfl⟩)⟩
theorem gT122_38 : sG l g D H0 mT 122 38 (s_load vRf 122 39 1) := ⟨ok_load _ _ _ _, so_aload_n mT122 dX2_taken_38 rfl⟩
theorem gT122_39 : sG l g D H0 mT 122 39 (s_ifnull 122 42 53) := ⟨ok_ifnull _ _ _, so_ifnull mT122 dX2_taken_39 (by decide)⟩
theorem gT122_42 : sG l g D H0 mT 122 42 (s_load vRf 122 43 3) := ⟨ok_load _ _ _ _, so_aload_n mT122 dX2_taken_42 rfl⟩
theorem gT122_43 : sG l g D H0 mT 122 43 (s_getf 122 46 2 2) := ⟨ok_getf _ _ _ _, so_getfN mT122 cl2 (k := 2) (by decide) dX2_taken_43 q218 (fs_rf rfl)⟩
theorem gT122_46 : sG l g D H0 mT 122 46 (s_load vRf 122 47 1) := ⟨ok_load _ _ _ _, so_aload_n mT122 dX2_taken_46 rfl⟩
theorem gT122_47 : sG l g D H0 mT 122 47 (s_getf 122 50 2 2) := ⟨ok_getf _ _ _ _, so_getfN mT122 cl2 (k := 2) (by decide) dX2_taken_47 q218 (fs_rf rfl)⟩
theorem gT122_50 : sG l g D H0 mT 122 50 (s_icmp 122 53 55 (fun a b => b ≤ a)) := ⟨ok_icmp _ _ _ _, so_icmp_ge mT122 dX2_taken_50 (by decide)⟩
theorem gT122_53 : sG l g D H0 mT 122 53 (s_load vRf 122 54 3) := ⟨ok_load _ _ _ _, so_aload_n mT122 dX2_taken_53 rfl⟩
theorem gT122_54 : sG l g D H0 mT 122 54 (s_store vRf 122 55 1) := ⟨ok_store _ _ _ _, so_astore_n mT122 dX2_taken_54 rfl⟩
theorem gT122_55 : sG l g D H0 mT 122 55 (s_goto 122 10) := ⟨ok_goto _ _, so_goto mT122 dX2_taken_55 (by decide)⟩
theorem gT122_58 : sG l g D H0 mT 122 58 (s_load vRf 122 59 0) := ⟨ok_load _ _ _ _, so_aload_n mT122 dX2_taken_58 rfl⟩
theorem gT122_59 : sG l g D H0 mT 122 59 (s_load vRf 122 60 1) := ⟨ok_load _ _ _ _, so_aload_n mT122 dX2_taken_59 rfl⟩
theorem gT122_60 : sG l g D H0 mT 122 60 (s_callvk 122 63 110 1 [1] 2) := ⟨ok_callvk _ _ _ _ _ _, sk_callv (by decide) (so_callV mT122 mo110 (by decide) (t := 1) (C := "HyperVane$Machine") (by decide) rfl rfl dX2_taken_60 q194 q196 qs1 q55)⟩
theorem gT122_63 : sG l g D H0 mT 122 63 (s_load vRf 122 64 1) := ⟨ok_load _ _ _ _, so_aload_n mT122 dX2_taken_63 rfl⟩
theorem gT122_64 : sG l g D H0 mT 122 64 (s_ret pR) := ⟨ok_ret _, so_aret mT122 dX2_taken_64 (Or.inl ⟨_, rfl⟩)⟩
theorem gT122 (pc : Nat) : sG l g D H0 mT 122 pc (tT122 g pc) := sG_cond (sG_cond (sG_cond (sG_cond (sG_cond (sG_leaf gT122_0) (sG_leaf gT122_1)) (sG_cond (sG_leaf gT122_2) (sG_leaf gT122_3))) (sG_cond (sG_cond (sG_leaf gT122_6) (sG_leaf gT122_9)) (sG_cond (sG_leaf gT122_10) (sG_leaf gT122_11)))) (sG_cond (sG_cond (sG_cond (sG_leaf gT122_16) (sG_leaf gT122_19)) (sG_cond (sG_leaf gT122_20) (sG_leaf gT122_25))) (sG_cond (sG_cond (sG_leaf gT122_28) (sG_leaf gT122_29)) (sG_cond (sG_leaf gT122_30) (sG_leaf gT122_33))))) (sG_cond (sG_cond (sG_cond (sG_cond (sG_leaf gT122_36) (sG_leaf gT122_37)) (sG_cond (sG_leaf gT122_38) (sG_leaf gT122_39))) (sG_cond (sG_cond (sG_leaf gT122_42) (sG_leaf gT122_43)) (sG_cond (sG_leaf gT122_46) (sG_leaf gT122_47)))) (sG_cond (sG_cond (sG_cond (sG_leaf gT122_50) (sG_leaf gT122_53)) (sG_cond (sG_leaf gT122_54) (sG_leaf gT122_55))) (sG_cond (sG_cond (sG_leaf gT122_58) (sG_leaf gT122_59)) (sG_cond (sG_leaf gT122_60) (sG_cond (sG_leaf gT122_63) (sG_leaf gT122_64))))))
theorem gT123_0 : sG l g D H0 mT 123 0 (s_load vRf 123 1 1) := ⟨ok_load _ _ _ _, so_aload_n mT123 dX2_send_0 rfl⟩
theorem gT123_1 : sG l g D H0 mT 123 1 (s_getf 123 4 5 12) := ⟨ok_getf _ _ _ _, so_getfN mT123 cl5 (k := 12) (by decide) dX2_send_1 q588 (fs_rf rfl)⟩
theorem gT123_4 : sG l g D H0 mT 123 4 (s_const 123 5 (.int 4)) := ⟨ok_const _ _ _, so_iconst mT123 dX2_send_4 (by decide)⟩
theorem gT123_5 : sG l g D H0 mT 123 5 (s_icmp 123 31 8 (fun a b => a = b)) := ⟨ok_icmp _ _ _ _, so_icmp_ne mT123 dX2_send_5 (by decide)⟩
theorem gT123_8 : sG l g D H0 mT 123 8 (s_load vRf 123 9 1) := ⟨ok_load _ _ _ _, so_aload_n mT123 dX2_send_8 rfl⟩
theorem gT123_9 : sG l g D H0 mT 123 9 (s_getf 123 12 5 13) := ⟨ok_getf _ _ _ _, so_getfN mT123 cl5 (k := 13) (by decide) dX2_send_9 q591 (fs_rf rfl)⟩
theorem gT123_12 : sG l g D H0 mT 123 12 (s_const 123 13 (.int 4)) := ⟨ok_const _ _ _, so_iconst mT123 dX2_send_12 (by decide)⟩
theorem gT123_13 : sG l g D H0 mT 123 13 (s_dup2 123 14) := ⟨ok_dup2 _ _, so_dup2 mT123 dX2_send_13⟩
theorem gT123_14 : sG l g D H0 mT 123 14 (s_ald 123 15 20) := ⟨ok_ald _ _ _, so_iald mT123 a20 dX2_send_14⟩
theorem gT123_15 : sG l g D H0 mT 123 15 (s_const 123 16 (.int 1)) := ⟨ok_const _ _ _, so_iconst mT123 dX2_send_15 (by decide)⟩
theorem gT123_16 : sG l g D H0 mT 123 16 (s_bin 123 17 (fun a b => a + b)) := ⟨ok_bin _ _ _, so_iadd mT123 dX2_send_16⟩
theorem gT123_17 : sG l g D H0 mT 123 17 (s_ast g (fun _ v => vI v = true) 123 18 20) := ⟨ok_ast _ _ _ _ _, so_iast mT123 a20 dX2_send_17⟩
theorem gT123_18 : sG l g D H0 mT 123 18 (s_load vRf 123 19 1) := ⟨ok_load _ _ _ _, so_aload_n mT123 dX2_send_18 rfl⟩
theorem gT123_19 : sG l g D H0 mT 123 19 (s_const 123 20 (.int 0)) := ⟨ok_const _ _ _, so_iconst mT123 dX2_send_19 (by decide)⟩
theorem gT123_20 : sG l g D H0 mT 123 20 (s_load vRf 123 21 1) := ⟨ok_load _ _ _ _, so_aload_n mT123 dX2_send_20 rfl⟩
theorem gT123_21 : sG l g D H0 mT 123 21 (s_getf 123 24 5 9) := ⟨ok_getf _ _ _ _, so_getfN mT123 cl5 (k := 9) (by decide) dX2_send_21 q579 (fs_rf rfl)⟩
theorem gT123_24 : sG l g D H0 mT 123 24 (s_callk 123 27 35 [0, 0] 2) := ⟨ok_callk _ _ _ _ _, sk_call (by decide) (so_callS mT123 mo35 (by decide) dX2_send_24 q730 q284 q64)⟩
theorem gT123_27 : sG l g D H0 mT 123 27 (s_putf g pI 123 30 5 9) := ⟨ok_putf _ _ _ _ _ _, so_putfN mT123 cl5 (k := 9) (by decide) fI rfl dX2_send_27 q579 (fs_rf rfl)⟩
theorem gT123_30 : sG l g D H0 mT 123 30 (s_vret) := ⟨ok_vret, so_vret mT123 dX2_send_30⟩
theorem gT123_31 : sG l g D H0 mT 123 31 (s_load vRf 123 32 1) := ⟨ok_load _ _ _ _, so_aload_n mT123 dX2_send_31 rfl⟩
theorem gT123_32 : sG l g D H0 mT 123 32 (s_getf 123 35 5 12) := ⟨ok_getf _ _ _ _, so_getfN mT123 cl5 (k := 12) (by decide) dX2_send_32 q588 (fs_rf rfl)⟩
theorem gT123_35 : sG l g D H0 mT 123 35 (s_if 123 56 38 (fun a => a = 0)) := ⟨ok_if _ _ _ _, so_if_ne mT123 dX2_send_35 (by decide)⟩
theorem gT123_38 : sG l g D H0 mT 123 38 (s_load vRf 123 39 0) := ⟨ok_load _ _ _ _, so_aload_n mT123 dX2_send_38 rfl⟩
theorem gT123_39 : sG l g D H0 mT 123 39 (s_getf 123 42 1 4) := ⟨ok_getf _ _ _ _, so_getf mT123 cl1 (k := 4) (by decide) dX2_send_39 q136 (fs_rf rfl)⟩
theorem gT123_42 : sG l g D H0 mT 123 42 (s_load vRf 123 43 1) := ⟨ok_load _ _ _ _, so_aload_n mT123 dX2_send_42 rfl⟩
theorem gT123_43 : sG l g D H0 mT 123 43 (s_acmp 123 46 56) := ⟨ok_acmp _ _ _, so_acmp_eq mT123 dX2_send_43 (by decide)⟩
theorem gT123_46 : sG l g D H0 mT 123 46 (s_load vRf 123 47 1) := ⟨ok_load _ _ _ _, so_aload_n mT123 dX2_send_46 rfl⟩
theorem gT123_47 : sG l g D H0 mT 123 47 (s_getf 123 50 5 13) := ⟨ok_getf _ _ _ _, so_getfN mT123 cl5 (k := 13) (by decide) dX2_send_47 q591 (fs_rf rfl)⟩
theorem gT123_50 : sG l g D H0 mT 123 50 (s_const 123 51 (.int 1)) := ⟨ok_const _ _ _, so_iconst mT123 dX2_send_50 (by decide)⟩
theorem gT123_51 : sG l g D H0 mT 123 51 (s_dup2 123 52) := ⟨ok_dup2 _ _, so_dup2 mT123 dX2_send_51⟩
theorem gT123_52 : sG l g D H0 mT 123 52 (s_ald 123 53 20) := ⟨ok_ald _ _ _, so_iald mT123 a20 dX2_send_52⟩
theorem gT123_53 : sG l g D H0 mT 123 53 (s_const 123 54 (.int 1)) := ⟨ok_const _ _ _, so_iconst mT123 dX2_send_53 (by decide)⟩
theorem gT123_54 : sG l g D H0 mT 123 54 (s_bin 123 55 (fun a b => a + b)) := ⟨ok_bin _ _ _, so_iadd mT123 dX2_send_54⟩
theorem gT123_55 : sG l g D H0 mT 123 55 (s_ast g (fun _ v => vI v = true) 123 56 20) := ⟨ok_ast _ _ _ _ _, so_iast mT123 a20 dX2_send_55⟩
theorem gT123_56 : sG l g D H0 mT 123 56 (s_load vRf 123 57 1) := ⟨ok_load _ _ _ _, so_aload_n mT123 dX2_send_56 rfl⟩
theorem gT123_57 : sG l g D H0 mT 123 57 (s_dup 123 58) := ⟨ok_dup _ _, so_dup mT123 dX2_send_57⟩
theorem gT123_58 : sG l g D H0 mT 123 58 (s_getf 123 61 5 12) := ⟨ok_getf _ _ _ _, so_getfN mT123 cl5 (k := 12) (by decide) dX2_send_58 q588 (fs_rf rfl)⟩
theorem gT123_61 : sG l g D H0 mT 123 61 (s_const 123 62 (.int 1)) := ⟨ok_const _ _ _, so_iconst mT123 dX2_send_61 (by decide)⟩
theorem gT123_62 : sG l g D H0 mT 123 62 (s_bin 123 63 (fun a b => a + b)) := ⟨ok_bin _ _ _, so_iadd mT123 dX2_send_62⟩
theorem gT123_63 : sG l g D H0 mT 123 63 (s_putf g pI 123 66 5 12) := ⟨ok_putf _ _ _ _ _ _, so_putfN mT123 cl5 (k := 12) (by decide) fI rfl dX2_send_63 q588 (fs_rf rfl)⟩
theorem gT123_66 : sG l g D H0 mT 123 66 (s_load vRf 123 67 1) := ⟨ok_load _ _ _ _, so_aload_n mT123 dX2_send_66 rfl⟩
theorem gT123_67 : sG l g D H0 mT 123 67 (s_const 123 68 (.int 0)) := ⟨ok_const _ _ _, so_iconst mT123 dX2_send_67 (by decide)⟩
theorem gT123_68 : sG l g D H0 mT 123 68 (s_callk 123 71 120 [1, 0] 2) := ⟨ok_callk _ _ _ _ _, sk_call (by decide) (so_callS mT123 mo120 (by decide) dX2_send_68 q743 q744 q55)⟩
theorem gT123_71 : sG l g D H0 mT 123 71 (s_vret) := ⟨ok_vret, so_vret mT123 dX2_send_71⟩
theorem gT123 (pc : Nat) : sG l g D H0 mT 123 pc (tT123 g pc) := sG_cond (sG_cond (sG_cond (sG_cond (sG_cond (sG_leaf gT123_0) (sG_leaf gT123_1)) (sG_cond (sG_leaf gT123_4) (sG_cond (sG_leaf gT123_5) (sG_leaf gT123_8)))) (sG_cond (sG_cond (sG_leaf gT123_9) (sG_cond (sG_leaf gT123_12) (sG_leaf gT123_13))) (sG_cond (sG_leaf gT123_14) (sG_cond (sG_leaf gT123_15) (sG_leaf gT123_16))))) (sG_cond (sG_cond (sG_cond (sG_leaf gT123_17) (sG_leaf gT123_18)) (sG_cond (sG_leaf gT123_19) (sG_cond (sG_leaf gT123_20) (sG_leaf gT123_21)))) (sG_cond (sG_cond (sG_leaf gT123_24) (sG_cond (sG_leaf gT123_27) (sG_leaf gT123_30))) (sG_cond (sG_leaf gT123_31) (sG_cond (sG_leaf gT123_32) (sG_leaf gT123_35)))))) (sG_cond (sG_cond (sG_cond (sG_cond (sG_leaf gT123_38) (sG_leaf gT123_39)) (sG_cond (sG_leaf gT123_42) (sG_cond (sG_leaf gT123_43) (sG_leaf gT123_46)))) (sG_cond (sG_cond (sG_leaf gT123_47) (sG_cond (sG_leaf gT123_50) (sG_leaf gT123_51))) (sG_cond (sG_leaf gT123_52) (sG_cond (sG_leaf gT123_53) (sG_leaf gT123_54))))) (sG_cond (sG_cond (sG_cond (sG_leaf gT123_55) (sG_leaf gT123_56)) (sG_cond (sG_leaf gT123_57) (sG_cond (sG_leaf gT123_58) (sG_leaf gT123_61)))) (sG_cond (sG_cond (sG_leaf gT123_62) (sG_cond (sG_leaf gT123_63) (sG_leaf gT123_66))) (sG_cond (sG_leaf gT123_67) (sG_cond (sG_leaf gT123_68) (sG_leaf gT123_71))))))
theorem gT124_0 : sG l g D H0 mT 124 0 (s_load vRf 124 1 1) := ⟨ok_load _ _ _ _, so_aload_n mT124 dX2_await_0 rfl⟩
theorem gT124_1 : sG l g D H0 mT 124 1 (s_getf 124 4 5 8) := ⟨ok_getf _ _ _ _, so_getfN mT124 cl5 (k := 8) (by decide) dX2_await_1 q576 (fs_rf rfl)⟩
theorem gT124_4 : sG l g D H0 mT 124 4 (s_if 124 23 7 (fun a => a = 0)) := ⟨ok_if _ _ _ _, so_if_ne mT124 dX2_await_4 (by decide)⟩
theorem gT124_7 : sG l g D H0 mT 124 7 (s_load vRf 124 8 1) := ⟨ok_load _ _ _ _, so_aload_n mT124 dX2_await_7 rfl⟩
theorem gT124_8 : sG l g D H0 mT 124 8 (s_getf 124 11 5 13) := ⟨ok_getf _ _ _ _, so_getfN mT124 cl5 (k := 13) (by decide) dX2_await_8 q591 (fs_rf rfl)⟩
theorem gT124_11 : sG l g D H0 mT 124 11 (s_const 124 12 (.int 2)) := ⟨ok_const _ _ _, so_iconst mT124 dX2_await_11 (by decide)⟩
theorem gT124_12 : sG l g D H0 mT 124 12 (s_dup2 124 13) := ⟨ok_dup2 _ _, so_dup2 mT124 dX2_await_12⟩
theorem gT124_13 : sG l g D H0 mT 124 13 (s_ald 124 14 20) := ⟨ok_ald _ _ _, so_iald mT124 a20 dX2_await_13⟩
theorem gT124_14 : sG l g D H0 mT 124 14 (s_const 124 15 (.int 1)) := ⟨ok_const _ _ _, so_iconst mT124 dX2_await_14 (by decide)⟩
theorem gT124_15 : sG l g D H0 mT 124 15 (s_bin 124 16 (fun a b => a + b)) := ⟨ok_bin _ _ _, so_iadd mT124 dX2_await_15⟩
theorem gT124_16 : sG l g D H0 mT 124 16 (s_ast g (fun _ v => vI v = true) 124 17 20) := ⟨ok_ast _ _ _ _ _, so_iast mT124 a20 dX2_await_16⟩
theorem gT124_17 : sG l g D H0 mT 124 17 (s_load vRf 124 18 1) := ⟨ok_load _ _ _ _, so_aload_n mT124 dX2_await_17 rfl⟩
theorem gT124_18 : sG l g D H0 mT 124 18 (s_const 124 19 (.int 1)) := ⟨ok_const _ _ _, so_iconst mT124 dX2_await_18 (by decide)⟩
theorem gT124_19 : sG l g D H0 mT 124 19 (s_putf g pI 124 22 5 3) := ⟨ok_putf _ _ _ _ _ _, so_putfN mT124 cl5 (k := 3) (by decide) fI rfl dX2_await_19 q562 (fs_rf rfl)⟩
theorem gT124_22 : sG l g D H0 mT 124 22 (s_vret) := ⟨ok_vret, so_vret mT124 dX2_await_22⟩
theorem gT124_23 : sG l g D H0 mT 124 23 (s_load vRf 124 24 1) := ⟨ok_load _ _ _ _, so_aload_n mT124 dX2_await_23 rfl⟩
theorem gT124_24 : sG l g D H0 mT 124 24 (s_getf 124 27 5 8) := ⟨ok_getf _ _ _ _, so_getfN mT124 cl5 (k := 8) (by decide) dX2_await_24 q576 (fs_rf rfl)⟩
theorem gT124_27 : sG l g D H0 mT 124 27 (s_store vI 124 28 2) := ⟨ok_store _ _ _ _, so_istore_n mT124 dX2_await_27 rfl⟩
theorem gT124_28 : sG l g D H0 mT 124 28 (s_load vRf 124 29 1) := ⟨ok_load _ _ _ _, so_aload_n mT124 dX2_await_28 rfl⟩
theorem gT124_29 : sG l g D H0 mT 124 29 (s_const 124 30 (.int 0)) := ⟨ok_const _ _ _, so_iconst mT124 dX2_await_29 (by decide)⟩
theorem gT124_30 : sG l g D H0 mT 124 30 (s_putf g pI 124 33 5 8) := ⟨ok_putf _ _ _ _ _ _, so_putfN mT124 cl5 (k := 8) (by decide) fI rfl dX2_await_30 q576 (fs_rf rfl)⟩
theorem gT124_33 : sG l g D H0 mT 124 33 (s_load vRf 124 34 1) := ⟨ok_load _ _ _ _, so_aload_n mT124 dX2_await_33 rfl⟩
theorem gT124_34 : sG l g D H0 mT 124 34 (s_load vI 124 35 2) := ⟨ok_load _ _ _ _, so_iload_n mT124 dX2_await_34 rfl⟩
theorem gT124_35 : sG l g D H0 mT 124 35 (s_callk 124 38 125 [1, 0] 2) := ⟨ok_callk _ _ _ _ _, sk_call (by decide) (so_callS mT124 mo125 (by decide) dX2_await_35 q763 q764 q55)⟩
theorem gT124_38 : sG l g D H0 mT 124 38 (s_load vRf 124 39 1) := ⟨ok_load _ _ _ _, so_aload_n mT124 dX2_await_38 rfl⟩
theorem gT124_39 : sG l g D H0 mT 124 39 (s_load vI 124 40 2) := ⟨ok_load _ _ _ _, so_iload_n mT124 dX2_await_39 rfl⟩
theorem gT124_40 : sG l g D H0 mT 124 40 (s_callk 124 43 120 [1, 0] 2) := ⟨ok_callk _ _ _ _ _, sk_call (by decide) (so_callS mT124 mo120 (by decide) dX2_await_40 q743 q744 q55)⟩
theorem gT124_43 : sG l g D H0 mT 124 43 (s_vret) := ⟨ok_vret, so_vret mT124 dX2_await_43⟩
theorem gT124 (pc : Nat) : sG l g D H0 mT 124 pc (tT124 g pc) := sG_cond (sG_cond (sG_cond (sG_cond (sG_leaf gT124_0) (sG_cond (sG_leaf gT124_1) (sG_leaf gT124_4))) (sG_cond (sG_cond (sG_leaf gT124_7) (sG_leaf gT124_8)) (sG_cond (sG_leaf gT124_11) (sG_leaf gT124_12)))) (sG_cond (sG_cond (sG_leaf gT124_13) (sG_cond (sG_leaf gT124_14) (sG_leaf gT124_15))) (sG_cond (sG_cond (sG_leaf gT124_16) (sG_leaf gT124_17)) (sG_cond (sG_leaf gT124_18) (sG_leaf gT124_19))))) (sG_cond (sG_cond (sG_cond (sG_leaf gT124_22) (sG_cond (sG_leaf gT124_23) (sG_leaf gT124_24))) (sG_cond (sG_cond (sG_leaf gT124_27) (sG_leaf gT124_28)) (sG_cond (sG_leaf gT124_29) (sG_leaf gT124_30)))) (sG_cond (sG_cond (sG_leaf gT124_33) (sG_cond (sG_leaf gT124_34) (sG_leaf gT124_35))) (sG_cond (sG_cond (sG_leaf gT124_38) (sG_leaf gT124_39)) (sG_cond (sG_leaf gT124_40) (sG_leaf gT124_43)))))
theorem gT125_0 : sG l g D H0 mT 125 0 (s_load vRf 125 1 0) := ⟨ok_load _ _ _ _, so_aload_n mT125 dX2_log_0 rfl⟩
theorem gT125_1 : sG l g D H0 mT 125 1 (s_getf 125 4 5 21) := ⟨ok_getf _ _ _ _, so_getfN mT125 cl5 (k := 21) (by decide) dX2_log_1 q612 (fs_rf rfl)⟩
theorem gT125_4 : sG l g D H0 mT 125 4 (s_ifnull 125 7 15) := ⟨ok_ifnull _ _ _, so_ifnull mT125 dX2_log_4 (by decide)⟩
theorem gT125_7 : sG l g D H0 mT 125 7 (s_load vRf 125 8 0) := ⟨ok_load _ _ _ _, so_aload_n mT125 dX2_log_7 rfl⟩
theorem gT125_8 : sG l g D H0 mT 125 8 (s_getf 125 11 5 21) := ⟨ok_getf _ _ _ _, so_getfN mT125 cl5 (k := 21) (by decide) dX2_log_8 q612 (fs_rf rfl)⟩
theorem gT125_11 : sG l g D H0 mT 125 11 (s_load vI 125 12 1) := ⟨ok_load _ _ _ _, so_iload_n mT125 dX2_log_11 rfl⟩
theorem gT125_12 : sG l g D H0 mT 125 12 (s_callvk 125 15 107 9 [0] 2) := ⟨ok_callvk _ _ _ _ _ _, sk_callv (by decide) (so_callV mT125 mo107 (by decide) (t := 9) (C := "HyperVane$Past") (by decide) rfl rfl dX2_log_12 q766 q767 q768 q83)⟩
theorem gT125_15 : sG l g D H0 mT 125 15 (s_vret) := ⟨ok_vret, so_vret mT125 dX2_log_15⟩
theorem gT125 (pc : Nat) : sG l g D H0 mT 125 pc (tT125 g pc) := sG_cond (sG_cond (sG_cond (sG_leaf gT125_0) (sG_leaf gT125_1)) (sG_cond (sG_leaf gT125_4) (sG_leaf gT125_7))) (sG_cond (sG_cond (sG_leaf gT125_8) (sG_leaf gT125_11)) (sG_cond (sG_leaf gT125_12) (sG_leaf gT125_15)))
theorem gT126_0 : sG l g D H0 mT 126 0 (s_load vRf 126 1 0) := ⟨ok_load _ _ _ _, so_aload_n mT126 dX2_device_0 rfl⟩
theorem gT126_1 : sG l g D H0 mT 126 1 (s_getf 126 4 1 4) := ⟨ok_getf _ _ _ _, so_getf mT126 cl1 (k := 4) (by decide) dX2_device_1 q136 (fs_rf rfl)⟩
theorem gT126_4 : sG l g D H0 mT 126 4 (s_ifnull 126 7 66) := ⟨ok_ifnull _ _ _, so_ifnull mT126 dX2_device_4 (by decide)⟩
theorem gT126_7 : sG l g D H0 mT 126 7 (s_load vRf 126 8 0) := ⟨ok_load _ _ _ _, so_aload_n mT126 dX2_device_7 rfl⟩
theorem gT126_8 : sG l g D H0 mT 126 8 (s_getf 126 11 1 2) := ⟨ok_getf _ _ _ _, so_getf mT126 cl1 (k := 2) (by decide) dX2_device_8 q132 (fs_rf rfl)⟩
theorem gT126_11 : sG l g D H0 mT 126 11 (s_load vRf 126 12 0) := ⟨ok_load _ _ _ _, so_aload_n mT126 dX2_device_11 rfl⟩
theorem gT126_12 : sG l g D H0 mT 126 12 (s_getf 126 15 1 5) := ⟨ok_getf _ _ _ _, so_getf mT126 cl1 (k := 5) (by decide) dX2_device_12 q138 (fs_rf rfl)⟩
theorem gT126_15 : sG l g D H0 mT 126 15 (s_bin 126 16 (fun a b => a - b)) := ⟨ok_bin _ _ _, so_isub mT126 dX2_device_15⟩
theorem gT126_16 : sG l g D H0 mT 126 16 (s_const 126 17 (.int 3)) := ⟨ok_const _ _ _, so_iconst mT126 dX2_device_16 (by decide)⟩
theorem gT126_17 : sG l g D H0 mT 126 17 (s_icmp 126 20 66 (fun a b => a < b)) := ⟨ok_icmp _ _ _ _, so_icmp_lt mT126 dX2_device_17 (by decide)⟩
theorem gT126_20 : sG l g D H0 mT 126 20 (s_load vRf 126 21 0) := ⟨ok_load _ _ _ _, so_aload_n mT126 dX2_device_20 rfl⟩
theorem gT126_21 : sG l g D H0 mT 126 21 (s_getf 126 24 1 4) := ⟨ok_getf _ _ _ _, so_getf mT126 cl1 (k := 4) (by decide) dX2_device_21 q136 (fs_rf rfl)⟩
theorem gT126_24 : sG l g D H0 mT 126 24 (s_dup 126 25) := ⟨ok_dup _ _, so_dup mT126 dX2_device_24⟩
theorem gT126_25 : sG l g D H0 mT 126 25 (s_getf 126 28 5 8) := ⟨ok_getf _ _ _ _, so_getfN mT126 cl5 (k := 8) (by decide) dX2_device_25 q576 (fs_rf rfl)⟩
theorem gT126_28 : sG l g D H0 mT 126 28 (s_const 126 29 (.int 1)) := ⟨ok_const _ _ _, so_iconst mT126 dX2_device_28 (by decide)⟩
theorem gT126_29 : sG l g D H0 mT 126 29 (s_bin 126 30 (fun a b => a + b)) := ⟨ok_bin _ _ _, so_iadd mT126 dX2_device_29⟩
theorem gT126_30 : sG l g D H0 mT 126 30 (s_putf g pI 126 33 5 8) := ⟨ok_putf _ _ _ _ _ _, so_putfN mT126 cl5 (k := 8) (by decide) fI rfl dX2_device_30 q576 (fs_rf rfl)⟩
theorem gT126_33 : sG l g D H0 mT 126 33 (s_load vRf 126 34 0) := ⟨ok_load _ _ _ _, so_aload_n mT126 dX2_device_33 rfl⟩
theorem gT126_34 : sG l g D H0 mT 126 34 (s_getf 126 37 1 4) := ⟨ok_getf _ _ _ _, so_getf mT126 cl1 (k := 4) (by decide) dX2_device_34 q136 (fs_rf rfl)⟩
theorem gT126_37 : sG l g D H0 mT 126 37 (s_getf 126 40 5 3) := ⟨ok_getf _ _ _ _, so_getfN mT126 cl5 (k := 3) (by decide) dX2_device_37 q562 (fs_rf rfl)⟩
theorem gT126_40 : sG l g D H0 mT 126 40 (s_const 126 41 (.int 1)) := ⟨ok_const _ _ _, so_iconst mT126 dX2_device_40 (by decide)⟩
theorem gT126_41 : sG l g D H0 mT 126 41 (s_icmp 126 52 44 (fun a b => a = b)) := ⟨ok_icmp _ _ _ _, so_icmp_ne mT126 dX2_device_41 (by decide)⟩
theorem gT126_44 : sG l g D H0 mT 126 44 (s_load vRf 126 45 0) := ⟨ok_load _ _ _ _, so_aload_n mT126 dX2_device_44 rfl⟩
theorem gT126_45 : sG l g D H0 mT 126 45 (s_getf 126 48 1 4) := ⟨ok_getf _ _ _ _, so_getf mT126 cl1 (k := 4) (by decide) dX2_device_45 q136 (fs_rf rfl)⟩
theorem gT126_48 : sG l g D H0 mT 126 48 (s_const 126 49 (.int 0)) := ⟨ok_const _ _ _, so_iconst mT126 dX2_device_48 (by decide)⟩
theorem gT126_49 : sG l g D H0 mT 126 49 (s_putf g pI 126 52 5 3) := ⟨ok_putf _ _ _ _ _ _, so_putfN mT126 cl5 (k := 3) (by decide) fI rfl dX2_device_49 q562 (fs_rf rfl)⟩
theorem gT126_52 : sG l g D H0 mT 126 52 (s_load vRf 126 53 0) := ⟨ok_load _ _ _ _, so_aload_n mT126 dX2_device_52 rfl⟩
theorem gT126_53 : sG l g D H0 mT 126 53 (s_dup 126 54) := ⟨ok_dup _ _, so_dup mT126 dX2_device_53⟩
theorem gT126_54 : sG l g D H0 mT 126 54 (s_getf 126 57 1 9) := ⟨ok_getf _ _ _ _, so_getf mT126 cl1 (k := 9) (by decide) dX2_device_54 q145 (fs_rf rfl)⟩
theorem gT126_57 : sG l g D H0 mT 126 57 (s_const 126 58 (.int 1)) := ⟨ok_const _ _ _, so_iconst mT126 dX2_device_57 (by decide)⟩
theorem gT126_58 : sG l g D H0 mT 126 58 (s_bin 126 59 (fun a b => a + b)) := ⟨ok_bin _ _ _, so_iadd mT126 dX2_device_58⟩
theorem gT126_59 : sG l g D H0 mT 126 59 (s_putf g pI 126 62 1 9) := ⟨ok_putf _ _ _ _ _ _, so_putf mT126 cl1 (k := 9) (by decide) fI rfl dX2_device_59 q145 (fs_rf rfl)⟩
theorem gT126_62 : sG l g D H0 mT 126 62 (s_load vRf 126 63 0) := ⟨ok_load _ _ _ _, so_aload_n mT126 dX2_device_62 rfl⟩
theorem gT126_63 : sG l g D H0 mT 126 63 (s_callvk 126 66 127 1 [] 1) := ⟨ok_callvk _ _ _ _ _ _, sk_callv (by decide) (so_callV mT126 mo127 (by decide) (t := 1) (C := "HyperVane$Machine") (by decide) rfl rfl dX2_device_63 q794 q796 qs24 q55)⟩
theorem gT126_66 : sG l g D H0 mT 126 66 (s_const 126 67 (.int 1)) := ⟨ok_const _ _ _, so_iconst mT126 dX2_device_66 (by decide)⟩
theorem gT126_67 : sG l g D H0 mT 126 67 (s_store vI 126 68 1) := ⟨ok_store _ _ _ _, so_istore_n mT126 dX2_device_67 rfl⟩
theorem gT126_68 : sG l g D H0 mT 126 68 (s_load vI 126 69 1) := ⟨ok_load _ _ _ _, so_iload_n mT126 dX2_device_68 rfl⟩
theorem gT126_69 : sG l g D H0 mT 126 69 (s_load vRf 126 70 0) := ⟨ok_load _ _ _ _, so_aload_n mT126 dX2_device_69 rfl⟩
theorem gT126_70 : sG l g D H0 mT 126 70 (s_getf 126 73 1 0) := ⟨ok_getf _ _ _ _, so_getf mT126 cl1 (k := 0) (by decide) dX2_device_70 q128 (fs_rf rfl)⟩
theorem gT126_73 : sG l g D H0 mT 126 73 (s_callvk 126 76 15 10 [] 1) := ⟨ok_callvk _ _ _ _ _ _, sk_callv (by decide) (so_callV mT126 mo15 (by decide) (t := 10) (C := "java/util/ArrayList") (by decide) rfl rfl dX2_device_73 q172 q173 q174 q58)⟩
theorem gT126_76 : sG l g D H0 mT 126 76 (s_icmp 126 79 129 (fun a b => b < a)) := ⟨ok_icmp _ _ _ _, so_icmp_gt mT126 dX2_device_76 (by decide)⟩
theorem gT126_79 : sG l g D H0 mT 126 79 (s_load vRf 126 80 0) := ⟨ok_load _ _ _ _, so_aload_n mT126 dX2_device_79 rfl⟩
theorem gT126_80 : sG l g D H0 mT 126 80 (s_getf 126 83 1 4) := ⟨ok_getf _ _ _ _, so_getf mT126 cl1 (k := 4) (by decide) dX2_device_80 q136 (fs_rf rfl)⟩
theorem gT126_83 : sG l g D H0 mT 126 83 (s_ifnn 126 86 129) := ⟨ok_ifnn _ _ _, so_ifnonnull mT126 dX2_device_83 (by decide)⟩
theorem gT126_86 : sG l g D H0 mT 126 86 (s_load vRf 126 87 0) := ⟨ok_load _ _ _ _, so_aload_n mT126 dX2_device_86 rfl⟩
theorem gT126_87 : sG l g D H0 mT 126 87 (s_getf 126 90 1 0) := ⟨ok_getf _ _ _ _, so_getf mT126 cl1 (k := 0) (by decide) dX2_device_87 q128 (fs_rf rfl)⟩
theorem gT126_90 : sG l g D H0 mT 126 90 (s_load vRf 126 91 0) := ⟨ok_load _ _ _ _, so_aload_n mT126 dX2_device_90 rfl⟩
theorem gT126_91 : sG l g D H0 mT 126 91 (s_getf 126 94 1 6) := ⟨ok_getf _ _ _ _, so_getf mT126 cl1 (k := 6) (by decide) dX2_device_91 q140 (fs_rf rfl)⟩
theorem gT126_94 : sG l g D H0 mT 126 94 (s_load vI 126 95 1) := ⟨ok_load _ _ _ _, so_iload_n mT126 dX2_device_94 rfl⟩
theorem gT126_95 : sG l g D H0 mT 126 95 (s_bin 126 96 (fun a b => a + b)) := ⟨ok_bin _ _ _, so_iadd mT126 dX2_device_95⟩
theorem gT126_96 : sG l g D H0 mT 126 96 (s_load vRf 126 97 0) := ⟨ok_load _ _ _ _, so_aload_n mT126 dX2_device_96 rfl⟩
theorem gT126_97 : sG l g D H0 mT 126 97 (s_getf 126 100 1 0) := ⟨ok_getf _ _ _ _, so_getf mT126 cl1 (k := 0) (by decide) dX2_device_97 q128 (fs_rf rfl)⟩
theorem gT126_100 : sG l g D H0 mT 126 100 (s_callvk 126 103 15 10 [] 1) := ⟨ok_callvk _ _ _ _ _ _, sk_callv (by decide) (so_callV mT126 mo15 (by decide) (t := 10) (C := "java/util/ArrayList") (by decide) rfl rfl dX2_device_100 q172 q173 q174 q58)⟩
theorem gT126_103 : sG l g D H0 mT 126 103 (s_div 126 104 (fun a b => a - a / b * b)) := ⟨ok_div _ _ _, so_irem mT126 dX2_device_103⟩
theorem gT126_104 : sG l g D H0 mT 126 104 (s_callvk 126 107 25 10 [0] 2) := ⟨ok_callvk _ _ _ _ _ _, sk_callv (by decide) (so_callV mT126 mo25 (by decide) (t := 10) (C := "java/util/ArrayList") (by decide) rfl rfl dX2_device_104 q700 q439 q440 q58)⟩
theorem gT126_107 : sG l g D H0 mT 126 107 (s_cast 126 110 [5]) := ⟨ok_cast _ _ _, so_cast mT126 (T := "HyperVane$Guest") (ts := [5]) (by intro u hu; rw [List.mem_singleton] at hu; subst hu; exact ⟨by decide, Or.inl rfl⟩) dX2_device_107 q539⟩
theorem gT126_110 : sG l g D H0 mT 126 110 (s_store vRf 126 111 2) := ⟨ok_store _ _ _ _, so_astore_n mT126 dX2_device_110 rfl⟩
theorem gT126_111 : sG l g D H0 mT 126 111 (s_load vRf 126 112 2) := ⟨ok_load _ _ _ _, so_aload_n mT126 dX2_device_111 rfl⟩
theorem gT126_112 : sG l g D H0 mT 126 112 (s_getf 126 115 5 12) := ⟨ok_getf _ _ _ _, so_getfN mT126 cl5 (k := 12) (by decide) dX2_device_112 q588 (fs_rf rfl)⟩
theorem gT126_115 : sG l g D H0 mT 126 115 (s_if 126 118 123 (fun a => a ≤ 0)) := ⟨ok_if _ _ _ _, so_if_le mT126 dX2_device_115 (by decide)⟩
theorem gT126_118 : sG l g D H0 mT 126 118 (s_load vRf 126 119 0) := ⟨ok_load _ _ _ _, so_aload_n mT126 dX2_device_118 rfl⟩
theorem gT126_119 : sG l g D H0 mT 126 119 (s_load vRf 126 120 2) := ⟨ok_load _ _ _ _, so_aload_n mT126 dX2_device_119 rfl⟩
theorem gT126_120 : sG l g D H0 mT 126 120 (s_callvk 126 123 128 1 [1] 2) := ⟨ok_callvk _ _ _ _ _ _, sk_callv (by decide) (so_callV mT126 mo128 (by decide) (t := 1) (C := "HyperVane$Machine") (by decide) rfl rfl dX2_device_120 q798 q800 qs25 q55)⟩
theorem gT126_123 : sG l g D H0 mT 126 123 (s_iinc 126 126 1 1) := ⟨ok_iinc _ _ _ _, so_iinc mT126 dX2_device_123 (by decide)⟩
theorem gT126_126 : sG l g D H0 mT 126 126 (s_goto 126 68) := ⟨ok_goto _ _, so_goto mT126 dX2_device_126 (by decide)⟩
theorem gT126_129 : sG l g D H0 mT 126 129 (s_vret) := ⟨ok_vret, so_vret mT126 dX2_device_129⟩
theorem gT126 (pc : Nat) : sG l g D H0 mT 126 pc (tT126 g pc) := sG_cond (sG_cond (sG_cond (sG_cond (sG_cond (sG_cond (sG_leaf gT126_0) (sG_leaf gT126_1)) (sG_cond (sG_leaf gT126_4) (sG_leaf gT126_7))) (sG_cond (sG_cond (sG_leaf gT126_8) (sG_leaf gT126_11)) (sG_cond (sG_leaf gT126_12) (sG_leaf gT126_15)))) (sG_cond (sG_cond (sG_cond (sG_leaf gT126_16) (sG_leaf gT126_17)) (sG_cond (sG_leaf gT126_20) (sG_leaf gT126_21))) (sG_cond (sG_cond (sG_leaf gT126_24) (sG_leaf gT126_25)) (sG_cond (sG_leaf gT126_28) (sG_leaf gT126_29))))) (sG_cond (sG_cond (sG_cond (sG_cond (sG_leaf gT126_30) (sG_leaf gT126_33)) (sG_cond (sG_leaf gT126_34) (sG_leaf gT126_37))) (sG_cond (sG_cond (sG_leaf gT126_40) (sG_leaf gT126_41)) (sG_cond (sG_leaf gT126_44) (sG_leaf gT126_45)))) (sG_cond (sG_cond (sG_cond (sG_leaf gT126_48) (sG_leaf gT126_49)) (sG_cond (sG_leaf gT126_52) (sG_leaf gT126_53))) (sG_cond (sG_cond (sG_leaf gT126_54) (sG_leaf gT126_57)) (sG_cond (sG_leaf gT126_58) (sG_cond (sG_leaf gT126_59) (sG_leaf gT126_62))))))) (sG_cond (sG_cond (sG_cond (sG_cond (sG_cond (sG_leaf gT126_63) (sG_leaf gT126_66)) (sG_cond (sG_leaf gT126_67) (sG_leaf gT126_68))) (sG_cond (sG_cond (sG_leaf gT126_69) (sG_leaf gT126_70)) (sG_cond (sG_leaf gT126_73) (sG_leaf gT126_76)))) (sG_cond (sG_cond (sG_cond (sG_leaf gT126_79) (sG_leaf gT126_80)) (sG_cond (sG_leaf gT126_83) (sG_leaf gT126_86))) (sG_cond (sG_cond (sG_leaf gT126_87) (sG_leaf gT126_90)) (sG_cond (sG_leaf gT126_91) (sG_leaf gT126_94))))) (sG_cond (sG_cond (sG_cond (sG_cond (sG_leaf gT126_95) (sG_leaf gT126_96)) (sG_cond (sG_leaf gT126_97) (sG_leaf gT126_100))) (sG_cond (sG_cond (sG_leaf gT126_103) (sG_leaf gT126_104)) (sG_cond (sG_leaf gT126_107) (sG_leaf gT126_110)))) (sG_cond (sG_cond (sG_cond (sG_leaf gT126_111) (sG_leaf gT126_112)) (sG_cond (sG_leaf gT126_115) (sG_leaf gT126_118))) (sG_cond (sG_cond (sG_leaf gT126_119) (sG_leaf gT126_120)) (sG_cond (sG_leaf gT126_123) (sG_cond (sG_leaf gT126_126) (sG_leaf gT126_129)))))))
theorem gT127_0 : sG l g D H0 mT 127 0 (s_load vRf 127 1 0) := ⟨ok_load _ _ _ _, so_aload_n mT127 dX2_stopWork_0 rfl⟩
theorem gT127_1 : sG l g D H0 mT 127 1 (s_const 127 2 .null) := ⟨ok_const _ _ _, so_null mT127 dX2_stopWork_1⟩
theorem gT127_2 : sG l g D H0 mT 127 2 (s_putf g pR 127 5 1 4) := ⟨ok_putf _ _ _ _ _ _, so_putf mT127 cl1 (k := 4) (by decide) fR rfl dX2_stopWork_2 q136 (fs_rf rfl)⟩
theorem gT127_5 : sG l g D H0 mT 127 5 (s_load vRf 127 6 0) := ⟨ok_load _ _ _ _, so_aload_n mT127 dX2_stopWork_5 rfl⟩
theorem gT127_6 : sG l g D H0 mT 127 6 (s_const 127 7 (.int (-1))) := ⟨ok_const _ _ _, so_iconst mT127 dX2_stopWork_6 (by decide)⟩
theorem gT127_7 : sG l g D H0 mT 127 7 (s_putf g pI 127 10 1 5) := ⟨ok_putf _ _ _ _ _ _, so_putf mT127 cl1 (k := 5) (by decide) fI rfl dX2_stopWork_7 q138 (fs_rf rfl)⟩
theorem gT127_10 : sG l g D H0 mT 127 10 (s_vret) := ⟨ok_vret, so_vret mT127 dX2_stopWork_10⟩
theorem gT127 (pc : Nat) : sG l g D H0 mT 127 pc (tT127 g pc) := sG_cond (sG_cond (sG_leaf gT127_0) (sG_cond (sG_leaf gT127_1) (sG_leaf gT127_2))) (sG_cond (sG_cond (sG_leaf gT127_5) (sG_leaf gT127_6)) (sG_cond (sG_leaf gT127_7) (sG_leaf gT127_10)))
theorem gT128_0 : sG l g D H0 mT 128 0 (s_load vRf 128 1 1) := ⟨ok_load _ _ _ _, so_aload_n mT128 dX2_begin_0 rfl⟩
theorem gT128_1 : sG l g D H0 mT 128 1 (s_dup 128 2) := ⟨ok_dup _ _, so_dup mT128 dX2_begin_1⟩
theorem gT128_2 : sG l g D H0 mT 128 2 (s_getf 128 5 5 12) := ⟨ok_getf _ _ _ _, so_getfN mT128 cl5 (k := 12) (by decide) dX2_begin_2 q588 (fs_rf rfl)⟩
theorem gT128_5 : sG l g D H0 mT 128 5 (s_const 128 6 (.int 1)) := ⟨ok_const _ _ _, so_iconst mT128 dX2_begin_5 (by decide)⟩
theorem gT128_6 : sG l g D H0 mT 128 6 (s_bin 128 7 (fun a b => a - b)) := ⟨ok_bin _ _ _, so_isub mT128 dX2_begin_6⟩
theorem gT128_7 : sG l g D H0 mT 128 7 (s_putf g pI 128 10 5 12) := ⟨ok_putf _ _ _ _ _ _, so_putfN mT128 cl5 (k := 12) (by decide) fI rfl dX2_begin_7 q588 (fs_rf rfl)⟩
theorem gT128_10 : sG l g D H0 mT 128 10 (s_load vRf 128 11 0) := ⟨ok_load _ _ _ _, so_aload_n mT128 dX2_begin_10 rfl⟩
theorem gT128_11 : sG l g D H0 mT 128 11 (s_load vRf 128 12 1) := ⟨ok_load _ _ _ _, so_aload_n mT128 dX2_begin_11 rfl⟩
theorem gT128_12 : sG l g D H0 mT 128 12 (s_putf g pR 128 15 1 4) := ⟨ok_putf _ _ _ _ _ _, so_putf mT128 cl1 (k := 4) (by decide) fR rfl dX2_begin_12 q136 (fs_rf rfl)⟩
theorem gT128_15 : sG l g D H0 mT 128 15 (s_load vRf 128 16 0) := ⟨ok_load _ _ _ _, so_aload_n mT128 dX2_begin_15 rfl⟩
theorem gT128_16 : sG l g D H0 mT 128 16 (s_load vRf 128 17 0) := ⟨ok_load _ _ _ _, so_aload_n mT128 dX2_begin_16 rfl⟩
theorem gT128_17 : sG l g D H0 mT 128 17 (s_getf 128 20 1 2) := ⟨ok_getf _ _ _ _, so_getf mT128 cl1 (k := 2) (by decide) dX2_begin_17 q132 (fs_rf rfl)⟩
theorem gT128_20 : sG l g D H0 mT 128 20 (s_putf g pI 128 23 1 5) := ⟨ok_putf _ _ _ _ _ _, so_putf mT128 cl1 (k := 5) (by decide) fI rfl dX2_begin_20 q138 (fs_rf rfl)⟩
theorem gT128_23 : sG l g D H0 mT 128 23 (s_load vRf 128 24 0) := ⟨ok_load _ _ _ _, so_aload_n mT128 dX2_begin_23 rfl⟩
theorem gT128_24 : sG l g D H0 mT 128 24 (s_load vRf 128 25 1) := ⟨ok_load _ _ _ _, so_aload_n mT128 dX2_begin_24 rfl⟩
theorem gT128_25 : sG l g D H0 mT 128 25 (s_getf 128 28 5 0) := ⟨ok_getf _ _ _ _, so_getfN mT128 cl5 (k := 0) (by decide) dX2_begin_25 q553 (fs_rf rfl)⟩
theorem gT128_28 : sG l g D H0 mT 128 28 (s_putf g pI 128 31 1 6) := ⟨ok_putf _ _ _ _ _ _, so_putf mT128 cl1 (k := 6) (by decide) fI rfl dX2_begin_28 q140 (fs_rf rfl)⟩
theorem gT128_31 : sG l g D H0 mT 128 31 (s_vret) := ⟨ok_vret, so_vret mT128 dX2_begin_31⟩
theorem gT128 (pc : Nat) : sG l g D H0 mT 128 pc (tT128 g pc) := sG_cond (sG_cond (sG_cond (sG_cond (sG_leaf gT128_0) (sG_leaf gT128_1)) (sG_cond (sG_leaf gT128_2) (sG_leaf gT128_5))) (sG_cond (sG_cond (sG_leaf gT128_6) (sG_leaf gT128_7)) (sG_cond (sG_leaf gT128_10) (sG_cond (sG_leaf gT128_11) (sG_leaf gT128_12))))) (sG_cond (sG_cond (sG_cond (sG_leaf gT128_15) (sG_leaf gT128_16)) (sG_cond (sG_leaf gT128_17) (sG_leaf gT128_20))) (sG_cond (sG_cond (sG_leaf gT128_23) (sG_leaf gT128_24)) (sG_cond (sG_leaf gT128_25) (sG_cond (sG_leaf gT128_28) (sG_leaf gT128_31)))))
theorem gT129_0 : sG l g D H0 mT 129 0 (s_load vRf 129 1 1) := ⟨ok_load _ _ _ _, so_aload_n mT129 dX2_move_0 rfl⟩
theorem gT129_1 : sG l g D H0 mT 129 1 (s_getf 129 4 5 19) := ⟨ok_getf _ _ _ _, so_getfN mT129 cl5 (k := 19) (by decide) dX2_move_1 q607 (fs_rf rfl)⟩
theorem gT129_4 : sG l g D H0 mT 129 4 (s_if 129 7 13 (fun a => a = 0)) := ⟨ok_if _ _ _ _, so_if_eq mT129 dX2_move_4 (by decide)⟩
theorem gT129_7 : sG l g D H0 mT 129 7 (s_load vRf 129 8 0) := ⟨ok_load _ _ _ _, so_aload_n mT129 dX2_move_7 rfl⟩
theorem gT129_8 : sG l g D H0 mT 129 8 (s_load vRf 129 9 1) := ⟨ok_load _ _ _ _, so_aload_n mT129 dX2_move_8 rfl⟩
theorem gT129_9 : sG l g D H0 mT 129 9 (s_callvk 129 12 130 1 [1] 4) := ⟨ok_callvk _ _ _ _ _ _, sk_callv (by decide) (so_callV mT129 mo130 (by decide) (t := 1) (C := "HyperVane$Machine") (by decide) rfl rfl dX2_move_9 q806 q808 qs27 q55)⟩
theorem gT129_12 : sG l g D H0 mT 129 12 (s_vret) := ⟨ok_vret, so_vret mT129 dX2_move_12⟩
theorem gT129_13 : sG l g D H0 mT 129 13 (s_load vRf 129 14 1) := ⟨ok_load _ _ _ _, so_aload_n mT129 dX2_move_13 rfl⟩
theorem gT129_14 : sG l g D H0 mT 129 14 (s_callvk 129 17 193 5 [] 3) := ⟨ok_callvk _ _ _ _ _ _, sk_callv (by decide) (so_callV mT129 mo193 (by decide) (t := 5) (C := "HyperVane$Guest") (by decide) rfl rfl dX2_move_14 q810 q387 q388 q73)⟩
theorem gT129_17 : sG l g D H0 mT 129 17 (s_load vRf 129 18 1) := ⟨ok_load _ _ _ _, so_aload_n mT129 dX2_move_17 rfl⟩
theorem gT129_18 : sG l g D H0 mT 129 18 (s_getf 129 21 5 17) := ⟨ok_getf _ _ _ _, so_getfN mT129 cl5 (k := 17) (by decide) dX2_move_18 q603 (fs_rf rfl)⟩
theorem gT129_21 : sG l g D H0 mT 129 21 (s_icmp 129 24 28 (fun a b => b < a)) := ⟨ok_icmp _ _ _ _, so_icmp_gt mT129 dX2_move_21 (by decide)⟩
theorem gT129_24 : sG l g D H0 mT 129 24 (s_const 129 25 (.int 1)) := ⟨ok_const _ _ _, so_iconst mT129 dX2_move_24 (by decide)⟩
theorem gT129_25 : sG l g D H0 mT 129 25 (s_goto 129 29) := ⟨ok_goto _ _, so_goto mT129 dX2_move_25 (by decide)⟩
theorem gT129_28 : sG l g D H0 mT 129 28 (s_const 129 29 (.int 0)) := ⟨ok_const _ _ _, so_iconst mT129 dX2_move_28 (by decide)⟩
theorem gT129_29 : sG l g D H0 mT 129 29 (s_store vI 129 30 2) := ⟨ok_store _ _ _ _, so_istore_n mT129 dX2_move_29 rfl⟩
theorem gT129_30 : sG l g D H0 mT 129 30 (s_load vI 129 31 2) := ⟨ok_load _ _ _ _, so_iload_n mT129 dX2_move_30 rfl⟩
theorem gT129_31 : sG l g D H0 mT 129 31 (s_if 129 48 34 (fun a => a = 0)) := ⟨ok_if _ _ _ _, so_if_ne mT129 dX2_move_31 (by decide)⟩
theorem gT129_34 : sG l g D H0 mT 129 34 (s_load vRf 129 35 0) := ⟨ok_load _ _ _ _, so_aload_n mT129 dX2_move_34 rfl⟩
theorem gT129_35 : sG l g D H0 mT 129 35 (s_getf 129 38 1 2) := ⟨ok_getf _ _ _ _, so_getf mT129 cl1 (k := 2) (by decide) dX2_move_35 q132 (fs_rf rfl)⟩
theorem gT129_38 : sG l g D H0 mT 129 38 (s_load vRf 129 39 1) := ⟨ok_load _ _ _ _, so_aload_n mT129 dX2_move_38 rfl⟩
theorem gT129_39 : sG l g D H0 mT 129 39 (s_getf 129 42 5 18) := ⟨ok_getf _ _ _ _, so_getfN mT129 cl5 (k := 18) (by decide) dX2_move_39 q605 (fs_rf rfl)⟩
theorem gT129_42 : sG l g D H0 mT 129 42 (s_bin 129 43 (fun a b => a - b)) := ⟨ok_bin _ _ _, so_isub mT129 dX2_move_42⟩
theorem gT129_43 : sG l g D H0 mT 129 43 (s_const 129 45 (.int 12)) := ⟨ok_const _ _ _, so_bipush mT129 dX2_move_43 (by decide)⟩
theorem gT129_45 : sG l g D H0 mT 129 45 (s_icmp 129 48 80 (fun a b => a < b)) := ⟨ok_icmp _ _ _ _, so_icmp_lt mT129 dX2_move_45 (by decide)⟩
theorem gT129_48 : sG l g D H0 mT 129 48 (s_load vRf 129 49 1) := ⟨ok_load _ _ _ _, so_aload_n mT129 dX2_move_48 rfl⟩
theorem gT129_49 : sG l g D H0 mT 129 49 (s_getf 129 52 5 3) := ⟨ok_getf _ _ _ _, so_getfN mT129 cl5 (k := 3) (by decide) dX2_move_49 q562 (fs_rf rfl)⟩
theorem gT129_52 : sG l g D H0 mT 129 52 (s_const 129 53 (.int 3)) := ⟨ok_const _ _ _, so_iconst mT129 dX2_move_52 (by decide)⟩
theorem gT129_53 : sG l g D H0 mT 129 53 (s_icmp 129 56 60 (fun a b => a = b)) := ⟨ok_icmp _ _ _ _, so_icmp_eq mT129 dX2_move_53 (by decide)⟩
theorem gT129_56 : sG l g D H0 mT 129 56 (s_load vRf 129 57 1) := ⟨ok_load _ _ _ _, so_aload_n mT129 dX2_move_56 rfl⟩
theorem gT129_57 : sG l g D H0 mT 129 57 (s_callvk 129 60 199 5 [] 1) := ⟨ok_callvk _ _ _ _ _ _, sk_callv (by decide) (so_callV mT129 mo199 (by decide) (t := 5) (C := "HyperVane$Guest") (by decide) rfl rfl dX2_move_57 q811 q812 q813 q73)⟩
theorem gT129_60 : sG l g D H0 mT 129 60 (s_load vRf 129 61 1) := ⟨ok_load _ _ _ _, so_aload_n mT129 dX2_move_60 rfl⟩
theorem gT129_61 : sG l g D H0 mT 129 61 (s_const 129 62 (.int 1)) := ⟨ok_const _ _ _, so_iconst mT129 dX2_move_61 (by decide)⟩
theorem gT129_62 : sG l g D H0 mT 129 62 (s_putf g vZ 129 65 5 5) := ⟨ok_putf _ _ _ _ _ _, so_putfN mT129 cl5 (k := 5) (by decide) fZ rfl dX2_move_62 q568 (fs_rf rfl)⟩
theorem gT129_65 : sG l g D H0 mT 129 65 (s_load vRf 129 66 1) := ⟨ok_load _ _ _ _, so_aload_n mT129 dX2_move_65 rfl⟩
theorem gT129_66 : sG l g D H0 mT 129 66 (s_dup 129 67) := ⟨ok_dup _ _, so_dup mT129 dX2_move_66⟩
theorem gT129_67 : sG l g D H0 mT 129 67 (s_getf 129 70 5 20) := ⟨ok_getf _ _ _ _, so_getfN mT129 cl5 (k := 20) (by decide) dX2_move_67 q609 (fs_rf rfl)⟩
theorem gT129_70 : sG l g D H0 mT 129 70 (s_const 129 71 (.int 1)) := ⟨ok_const _ _ _, so_iconst mT129 dX2_move_70 (by decide)⟩
theorem gT129_71 : sG l g D H0 mT 129 71 (s_bin 129 72 (fun a b => a + b)) := ⟨ok_bin _ _ _, so_iadd mT129 dX2_move_71⟩
theorem gT129_72 : sG l g D H0 mT 129 72 (s_putf g pI 129 75 5 20) := ⟨ok_putf _ _ _ _ _ _, so_putfN mT129 cl5 (k := 20) (by decide) fI rfl dX2_move_72 q609 (fs_rf rfl)⟩
theorem gT129_75 : sG l g D H0 mT 129 75 (s_load vRf 129 76 1) := ⟨ok_load _ _ _ _, so_aload_n mT129 dX2_move_75 rfl⟩
theorem gT129_76 : sG l g D H0 mT 129 76 (s_load vI 129 77 2) := ⟨ok_load _ _ _ _, so_iload_n mT129 dX2_move_76 rfl⟩
theorem gT129_77 : sG l g D H0 mT 129 77 (s_putf g vZ 129 80 5 19) := ⟨ok_putf _ _ _ _ _ _, so_putfN mT129 cl5 (k := 19) (by decide) fZ rfl dX2_move_77 q607 (fs_rf rfl)⟩
theorem gT129_80 : sG l g D H0 mT 129 80 (s_load vRf 129 81 1) := ⟨ok_load _ _ _ _, so_aload_n mT129 dX2_move_80 rfl⟩
theorem gT129_81 : sG l g D H0 mT 129 81 (s_getf 129 84 5 17) := ⟨ok_getf _ _ _ _, so_getfN mT129 cl5 (k := 17) (by decide) dX2_move_81 q603 (fs_rf rfl)⟩
theorem gT129_84 : sG l g D H0 mT 129 84 (s_store vI 129 85 3) := ⟨ok_store _ _ _ _, so_istore_n mT129 dX2_move_84 rfl⟩
theorem gT129_85 : sG l g D H0 mT 129 85 (s_const 129 86 (.int 0)) := ⟨ok_const _ _ _, so_iconst mT129 dX2_move_85 (by decide)⟩
theorem gT129_86 : sG l g D H0 mT 129 86 (s_store vI 129 88 4) := ⟨ok_store _ _ _ _, so_istore mT129 dX2_move_86⟩
theorem gT129_88 : sG l g D H0 mT 129 88 (s_load vI 129 90 4) := ⟨ok_load _ _ _ _, so_iload mT129 dX2_move_88⟩
theorem gT129_90 : sG l g D H0 mT 129 90 (s_const 129 92 (.int 6)) := ⟨ok_const _ _ _, so_bipush mT129 dX2_move_90 (by decide)⟩
theorem gT129_92 : sG l g D H0 mT 129 92 (s_icmp 129 95 129 (fun a b => b ≤ a)) := ⟨ok_icmp _ _ _ _, so_icmp_ge mT129 dX2_move_92 (by decide)⟩
theorem gT129_95 : sG l g D H0 mT 129 95 (s_load vI 129 96 3) := ⟨ok_load _ _ _ _, so_iload_n mT129 dX2_move_95 rfl⟩
theorem gT129_96 : sG l g D H0 mT 129 96 (s_if 129 99 129 (fun a => a ≤ 0)) := ⟨ok_if _ _ _ _, so_if_le mT129 dX2_move_96 (by decide)⟩
theorem gT129_99 : sG l g D H0 mT 129 99 (s_load vRf 129 100 1) := ⟨ok_load _ _ _ _, so_aload_n mT129 dX2_move_99 rfl⟩
theorem gT129_100 : sG l g D H0 mT 129 100 (s_getf 129 103 5 16) := ⟨ok_getf _ _ _ _, so_getfN mT129 cl5 (k := 16) (by decide) dX2_move_100 q600 (fs_rf rfl)⟩
theorem gT129_103 : sG l g D H0 mT 129 103 (s_load vI 129 105 4) := ⟨ok_load _ _ _ _, so_iload mT129 dX2_move_103⟩
theorem gT129_105 : sG l g D H0 mT 129 105 (s_ald 129 106 21) := ⟨ok_ald _ _ _, so_zald mT129 a21 dX2_move_105⟩
theorem gT129_106 : sG l g D H0 mT 129 106 (s_if 129 112 109 (fun a => a = 0)) := ⟨ok_if _ _ _ _, so_if_ne mT129 dX2_move_106 (by decide)⟩
theorem gT129_109 : sG l g D H0 mT 129 109 (s_goto 129 123) := ⟨ok_goto _ _, so_goto mT129 dX2_move_109 (by decide)⟩
theorem gT129_112 : sG l g D H0 mT 129 112 (s_load vRf 129 113 1) := ⟨ok_load _ _ _ _, so_aload_n mT129 dX2_move_112 rfl⟩
theorem gT129_113 : sG l g D H0 mT 129 113 (s_getf 129 116 5 16) := ⟨ok_getf _ _ _ _, so_getfN mT129 cl5 (k := 16) (by decide) dX2_move_113 q600 (fs_rf rfl)⟩
theorem gT129_116 : sG l g D H0 mT 129 116 (s_load vI 129 118 4) := ⟨ok_load _ _ _ _, so_iload mT129 dX2_move_116⟩
theorem gT129_118 : sG l g D H0 mT 129 118 (s_const 129 119 (.int 0)) := ⟨ok_const _ _ _, so_iconst mT129 dX2_move_118 (by decide)⟩
theorem gT129_119 : sG l g D H0 mT 129 119 (s_ast g (fun _ v => vZ v) 129 120 21) := ⟨ok_ast _ _ _ _ _, so_zast mT129 a21 dX2_move_119⟩
theorem gT129_120 : sG l g D H0 mT 129 120 (s_iinc 129 123 3 (-1)) := ⟨ok_iinc _ _ _ _, so_iinc mT129 dX2_move_120 (by decide)⟩
theorem gT129_123 : sG l g D H0 mT 129 123 (s_iinc 129 126 4 1) := ⟨ok_iinc _ _ _ _, so_iinc mT129 dX2_move_123 (by decide)⟩
theorem gT129_126 : sG l g D H0 mT 129 126 (s_goto 129 88) := ⟨ok_goto _ _, so_goto mT129 dX2_move_126 (by decide)⟩
theorem gT129_129 : sG l g D H0 mT 129 129 (s_vret) := ⟨ok_vret, so_vret mT129 dX2_move_129⟩
theorem gT129 (pc : Nat) : sG l g D H0 mT 129 pc (tT129 g pc) := sG_cond (sG_cond (sG_cond (sG_cond (sG_cond (sG_cond (sG_leaf gT129_0) (sG_leaf gT129_1)) (sG_cond (sG_leaf gT129_4) (sG_leaf gT129_7))) (sG_cond (sG_cond (sG_leaf gT129_8) (sG_leaf gT129_9)) (sG_cond (sG_leaf gT129_12) (sG_leaf gT129_13)))) (sG_cond (sG_cond (sG_cond (sG_leaf gT129_14) (sG_leaf gT129_17)) (sG_cond (sG_leaf gT129_18) (sG_leaf gT129_21))) (sG_cond (sG_cond (sG_leaf gT129_24) (sG_leaf gT129_25)) (sG_cond (sG_leaf gT129_28) (sG_cond (sG_leaf gT129_29) (sG_leaf gT129_30)))))) (sG_cond (sG_cond (sG_cond (sG_cond (sG_leaf gT129_31) (sG_leaf gT129_34)) (sG_cond (sG_leaf gT129_35) (sG_leaf gT129_38))) (sG_cond (sG_cond (sG_leaf gT129_39) (sG_leaf gT129_42)) (sG_cond (sG_leaf gT129_43) (sG_leaf gT129_45)))) (sG_cond (sG_cond (sG_cond (sG_leaf gT129_48) (sG_leaf gT129_49)) (sG_cond (sG_leaf gT129_52) (sG_leaf gT129_53))) (sG_cond (sG_cond (sG_leaf gT129_56) (sG_leaf gT129_57)) (sG_cond (sG_leaf gT129_60) (sG_cond (sG_leaf gT129_61) (sG_leaf gT129_62))))))) (sG_cond (sG_cond (sG_cond (sG_cond (sG_cond (sG_leaf gT129_65) (sG_leaf gT129_66)) (sG_cond (sG_leaf gT129_67) (sG_leaf gT129_70))) (sG_cond (sG_cond (sG_leaf gT129_71) (sG_leaf gT129_72)) (sG_cond (sG_leaf gT129_75) (sG_leaf gT129_76)))) (sG_cond (sG_cond (sG_cond (sG_leaf gT129_77) (sG_leaf gT129_80)) (sG_cond (sG_leaf gT129_81) (sG_leaf gT129_84))) (sG_cond (sG_cond (sG_leaf gT129_85) (sG_leaf gT129_86)) (sG_cond (sG_leaf gT129_88) (sG_cond (sG_leaf gT129_90) (sG_leaf gT129_92)))))) (sG_cond (sG_cond (sG_cond (sG_cond (sG_leaf gT129_95) (sG_leaf gT129_96)) (sG_cond (sG_leaf gT129_99) (sG_leaf gT129_100))) (sG_cond (sG_cond (sG_leaf gT129_103) (sG_leaf gT129_105)) (sG_cond (sG_leaf gT129_106) (sG_leaf gT129_109)))) (sG_cond (sG_cond (sG_cond (sG_leaf gT129_112) (sG_leaf gT129_113)) (sG_cond (sG_leaf gT129_116) (sG_leaf gT129_118))) (sG_cond (sG_cond (sG_leaf gT129_119) (sG_leaf gT129_120)) (sG_cond (sG_leaf gT129_123) (sG_cond (sG_leaf gT129_126) (sG_leaf gT129_129)))))))
theorem gT130_0 : sG l g D H0 mT 130 0 (s_load vRf 130 1 1) := ⟨ok_load _ _ _ _, so_aload_n mT130 dX2_leave_0 rfl⟩
theorem gT130_1 : sG l g D H0 mT 130 1 (s_const 130 2 (.int 4)) := ⟨ok_const _ _ _, so_iconst mT130 dX2_leave_1 (by decide)⟩
theorem gT130_2 : sG l g D H0 mT 130 2 (s_putf g pI 130 5 5 3) := ⟨ok_putf _ _ _ _ _ _, so_putfN mT130 cl5 (k := 3) (by decide) fI rfl dX2_leave_2 q562 (fs_rf rfl)⟩
theorem gT130_5 : sG l g D H0 mT 130 5 (s_load vRf 130 6 1) := ⟨ok_load _ _ _ _, so_aload_n mT130 dX2_leave_5 rfl⟩
theorem gT130_6 : sG l g D H0 mT 130 6 (s_const 130 7 .null) := ⟨ok_const _ _ _, so_null mT130 dX2_leave_6⟩
theorem gT130_7 : sG l g D H0 mT 130 7 (s_putf g pR 130 10 5 16) := ⟨ok_putf _ _ _ _ _ _, so_putfN mT130 cl5 (k := 16) (by decide) fA rfl dX2_leave_7 q600 (fs_rf rfl)⟩
theorem gT130_10 : sG l g D H0 mT 130 10 (s_load vRf 130 11 1) := ⟨ok_load _ _ _ _, so_aload_n mT130 dX2_leave_10 rfl⟩
theorem gT130_11 : sG l g D H0 mT 130 11 (s_const 130 12 (.int 0)) := ⟨ok_const _ _ _, so_iconst mT130 dX2_leave_11 (by decide)⟩
theorem gT130_12 : sG l g D H0 mT 130 12 (s_putf g pI 130 15 5 12) := ⟨ok_putf _ _ _ _ _ _, so_putfN mT130 cl5 (k := 12) (by decide) fI rfl dX2_leave_12 q588 (fs_rf rfl)⟩
theorem gT130_15 : sG l g D H0 mT 130 15 (s_load vRf 130 16 1) := ⟨ok_load _ _ _ _, so_aload_n mT130 dX2_leave_15 rfl⟩
theorem gT130_16 : sG l g D H0 mT 130 16 (s_const 130 17 (.int (-1))) := ⟨ok_const _ _ _, so_iconst mT130 dX2_leave_16 (by decide)⟩
theorem gT130_17 : sG l g D H0 mT 130 17 (s_putf g pI 130 20 5 6) := ⟨ok_putf _ _ _ _ _ _, so_putfN mT130 cl5 (k := 6) (by decide) fI rfl dX2_leave_17 q570 (fs_rf rfl)⟩
theorem gT130_20 : sG l g D H0 mT 130 20 (s_load vRf 130 21 0) := ⟨ok_load _ _ _ _, so_aload_n mT130 dX2_leave_20 rfl⟩
theorem gT130_21 : sG l g D H0 mT 130 21 (s_getf 130 24 1 1) := ⟨ok_getf _ _ _ _, so_getf mT130 cl1 (k := 1) (by decide) dX2_leave_21 q130 (fs_rf rfl)⟩
theorem gT130_24 : sG l g D H0 mT 130 24 (s_callvk 130 27 22 10 [] 1) := ⟨ok_callvk _ _ _ _ _ _, sk_callv (by decide) (so_callV mT130 mo22 (by decide) (t := 10) (C := "java/util/ArrayList") (by decide) rfl rfl dX2_leave_24 q381 q303 q304 q58)⟩
theorem gT130_27 : sG l g D H0 mT 130 27 (s_store vRf 130 28 2) := ⟨ok_store _ _ _ _, so_astore_n mT130 dX2_leave_27 rfl⟩
theorem gT130_28 : sG l g D H0 mT 130 28 (s_load vRf 130 29 2) := ⟨ok_load _ _ _ _, so_aload_n mT130 dX2_leave_28 rfl⟩
theorem gT130_29 : sG l g D H0 mT 130 29 (s_callvk 130 34 3 11 [] 1) := ⟨ok_callvk _ _ _ _ _ _, sk_callv (by decide) (so_callF mT130 mo3 (by decide) (t := 11) (C := "java/util/ArrayList$Itr") (by decide) rfl (by decide +kernel) ⟨by decide, by decide, by decide +kernel⟩ dX2_leave_29 q383 q332 q330 q80)⟩
theorem gT130_34 : sG l g D H0 mT 130 34 (s_if 130 37 62 (fun a => a = 0)) := ⟨ok_if _ _ _ _, so_if_eq mT130 dX2_leave_34 (by decide)⟩
theorem gT130_37 : sG l g D H0 mT 130 37 (s_load vRf 130 38 2) := ⟨ok_load _ _ _ _, so_aload_n mT130 dX2_leave_37 rfl⟩
theorem gT130_38 : sG l g D H0 mT 130 38 (s_callvk 130 43 4 11 [] 3) := ⟨ok_callvk _ _ _ _ _ _, sk_callv (by decide) (so_callF mT130 mo4 (by decide) (t := 11) (C := "java/util/ArrayList$Itr") (by decide) rfl (by decide +kernel) ⟨by decide, by decide, by decide +kernel⟩ dX2_leave_38 q385 q341 q339 q80)⟩
theorem gT130_43 : sG l g D H0 mT 130 43 (s_cast 130 46 [2]) := ⟨ok_cast _ _ _, so_cast mT130 (T := "HyperVane$Frame") (ts := [2]) (by intro u hu; rw [List.mem_singleton] at hu; subst hu; exact ⟨by decide, Or.inl rfl⟩) dX2_leave_43 q193⟩
theorem gT130_46 : sG l g D H0 mT 130 46 (s_store vRf 130 47 3) := ⟨ok_store _ _ _ _, so_astore_n mT130 dX2_leave_46 rfl⟩
theorem gT130_47 : sG l g D H0 mT 130 47 (s_load vRf 130 48 3) := ⟨ok_load _ _ _ _, so_aload_n mT130 dX2_leave_47 rfl⟩
theorem gT130_48 : sG l g D H0 mT 130 48 (s_getf 130 51 2 0) := ⟨ok_getf _ _ _ _, so_getfN mT130 cl2 (k := 0) (by decide) dX2_leave_48 q212 (fs_rf rfl)⟩
theorem gT130_51 : sG l g D H0 mT 130 51 (s_load vRf 130 52 1) := ⟨ok_load _ _ _ _, so_aload_n mT130 dX2_leave_51 rfl⟩
theorem gT130_52 : sG l g D H0 mT 130 52 (s_acmpn 130 55 59) := ⟨ok_acmpn _ _ _, so_acmp_ne mT130 dX2_leave_52 (by decide)⟩
theorem gT130_55 : sG l g D H0 mT 130 55 (s_load vRf 130 56 3) := ⟨ok_load _ _ _ _, so_aload_n mT130 dX2_leave_55 rfl⟩
theorem gT130_56 : sG l g D H0 mT 130 56 (s_callvk 130 59 134 2 [] 1) := ⟨ok_callvk _ _ _ _ _ _, sk_callv (by decide) (so_callV mT130 mo134 (by decide) (t := 2) (C := "HyperVane$Frame") (by decide) rfl rfl dX2_leave_56 q198 q199 q200 q62)⟩
theorem gT130_59 : sG l g D H0 mT 130 59 (s_goto 130 28) := ⟨ok_goto _ _, so_goto mT130 dX2_leave_59 (by decide)⟩
theorem gT130_62 : sG l g D H0 mT 130 62 (s_const 130 63 (.int 0)) := ⟨ok_const _ _ _, so_iconst mT130 dX2_leave_62 (by decide)⟩
theorem gT130_63 : sG l g D H0 mT 130 63 (s_store vI 130 64 2) := ⟨ok_store _ _ _ _, so_istore_n mT130 dX2_leave_63 rfl⟩
theorem gT130_64 : sG l g D H0 mT 130 64 (s_load vI 130 65 2) := ⟨ok_load _ _ _ _, so_iload_n mT130 dX2_leave_64 rfl⟩
theorem gT130_65 : sG l g D H0 mT 130 65 (s_const 130 67 (.int 6)) := ⟨ok_const _ _ _, so_bipush mT130 dX2_leave_65 (by decide)⟩
theorem gT130_67 : sG l g D H0 mT 130 67 (s_icmp 130 70 83 (fun a b => b ≤ a)) := ⟨ok_icmp _ _ _ _, so_icmp_ge mT130 dX2_leave_67 (by decide)⟩
theorem gT130_70 : sG l g D H0 mT 130 70 (s_load vRf 130 71 1) := ⟨ok_load _ _ _ _, so_aload_n mT130 dX2_leave_70 rfl⟩
theorem gT130_71 : sG l g D H0 mT 130 71 (s_getf 130 74 5 14) := ⟨ok_getf _ _ _ _, so_getfN mT130 cl5 (k := 14) (by decide) dX2_leave_71 q594 (fs_rf rfl)⟩
theorem gT130_74 : sG l g D H0 mT 130 74 (s_load vI 130 75 2) := ⟨ok_load _ _ _ _, so_iload_n mT130 dX2_leave_74 rfl⟩
theorem gT130_75 : sG l g D H0 mT 130 75 (s_const 130 76 (.int 0)) := ⟨ok_const _ _ _, so_iconst mT130 dX2_leave_75 (by decide)⟩
theorem gT130_76 : sG l g D H0 mT 130 76 (s_ast g (fun _ v => vZ v) 130 77 21) := ⟨ok_ast _ _ _ _ _, so_zast mT130 a21 dX2_leave_76⟩
theorem gT130_77 : sG l g D H0 mT 130 77 (s_iinc 130 80 2 1) := ⟨ok_iinc _ _ _ _, so_iinc mT130 dX2_leave_77 (by decide)⟩
theorem gT130_80 : sG l g D H0 mT 130 80 (s_goto 130 64) := ⟨ok_goto _ _, so_goto mT130 dX2_leave_80 (by decide)⟩
theorem gT130_83 : sG l g D H0 mT 130 83 (s_load vRf 130 84 0) := ⟨ok_load _ _ _ _, so_aload_n mT130 dX2_leave_83 rfl⟩
theorem gT130_84 : sG l g D H0 mT 130 84 (s_getf 130 87 1 4) := ⟨ok_getf _ _ _ _, so_getf mT130 cl1 (k := 4) (by decide) dX2_leave_84 q136 (fs_rf rfl)⟩
theorem gT130_87 : sG l g D H0 mT 130 87 (s_load vRf 130 88 1) := ⟨ok_load _ _ _ _, so_aload_n mT130 dX2_leave_87 rfl⟩
theorem gT130_88 : sG l g D H0 mT 130 88 (s_acmpn 130 91 95) := ⟨ok_acmpn _ _ _, so_acmp_ne mT130 dX2_leave_88 (by decide)⟩
theorem gT130_91 : sG l g D H0 mT 130 91 (s_load vRf 130 92 0) := ⟨ok_load _ _ _ _, so_aload_n mT130 dX2_leave_91 rfl⟩
theorem gT130_92 : sG l g D H0 mT 130 92 (s_callvk 130 95 127 1 [] 1) := ⟨ok_callvk _ _ _ _ _ _, sk_callv (by decide) (so_callV mT130 mo127 (by decide) (t := 1) (C := "HyperVane$Machine") (by decide) rfl rfl dX2_leave_92 q794 q796 qs24 q55)⟩
theorem gT130_95 : sG l g D H0 mT 130 95 (s_vret) := ⟨ok_vret, so_vret mT130 dX2_leave_95⟩
theorem gT130 (pc : Nat) : sG l g D H0 mT 130 pc (tT130 g pc) := sG_cond (sG_cond (sG_cond (sG_cond (sG_cond (sG_leaf gT130_0) (sG_cond (sG_leaf gT130_1) (sG_leaf gT130_2))) (sG_cond (sG_leaf gT130_5) (sG_cond (sG_leaf gT130_6) (sG_leaf gT130_7)))) (sG_cond (sG_cond (sG_leaf gT130_10) (sG_cond (sG_leaf gT130_11) (sG_leaf gT130_12))) (sG_cond (sG_leaf gT130_15) (sG_cond (sG_leaf gT130_16) (sG_leaf gT130_17))))) (sG_cond (sG_cond (sG_cond (sG_leaf gT130_20) (sG_cond (sG_leaf gT130_21) (sG_leaf gT130_24))) (sG_cond (sG_leaf gT130_27) (sG_cond (sG_leaf gT130_28) (sG_leaf gT130_29)))) (sG_cond (sG_cond (sG_leaf gT130_34) (sG_cond (sG_leaf gT130_37) (sG_leaf gT130_38))) (sG_cond (sG_leaf gT130_43) (sG_cond (sG_leaf gT130_46) (sG_leaf gT130_47)))))) (sG_cond (sG_cond (sG_cond (sG_cond (sG_leaf gT130_48) (sG_cond (sG_leaf gT130_51) (sG_leaf gT130_52))) (sG_cond (sG_leaf gT130_55) (sG_cond (sG_leaf gT130_56) (sG_leaf gT130_59)))) (sG_cond (sG_cond (sG_leaf gT130_62) (sG_cond (sG_leaf gT130_63) (sG_leaf gT130_64))) (sG_cond (sG_leaf gT130_65) (sG_cond (sG_leaf gT130_67) (sG_leaf gT130_70))))) (sG_cond (sG_cond (sG_cond (sG_leaf gT130_71) (sG_cond (sG_leaf gT130_74) (sG_leaf gT130_75))) (sG_cond (sG_leaf gT130_76) (sG_cond (sG_leaf gT130_77) (sG_leaf gT130_80)))) (sG_cond (sG_cond (sG_leaf gT130_83) (sG_cond (sG_leaf gT130_84) (sG_leaf gT130_87))) (sG_cond (sG_cond (sG_leaf gT130_88) (sG_leaf gT130_91)) (sG_cond (sG_leaf gT130_92) (sG_leaf gT130_95))))))
theorem gT131_0 : sG l g D H0 mT 131 0 (s_load vRf 131 1 1) := ⟨ok_load _ _ _ _, so_aload_n mT131 dX2_startMove_0 rfl⟩
theorem gT131_1 : sG l g D H0 mT 131 1 (s_const 131 3 (.int 6)) := ⟨ok_const _ _ _, so_bipush mT131 dX2_startMove_1 (by decide)⟩
theorem gT131_3 : sG l g D H0 mT 131 3 (s_newa g 131 5 21 (.int 0)) := ⟨ok_newa _ _ _ _ _, so_newa mT131 (t := 21) (by decide) rfl rfl (by decide) dX2_startMove_3 q659⟩
theorem gT131_5 : sG l g D H0 mT 131 5 (s_putf g pR 131 8 5 16) := ⟨ok_putf _ _ _ _ _ _, so_putfN mT131 cl5 (k := 16) (by decide) fA rfl dX2_startMove_5 q600 (fs_rf rfl)⟩
theorem gT131_8 : sG l g D H0 mT 131 8 (s_const 131 9 (.int 0)) := ⟨ok_const _ _ _, so_iconst mT131 dX2_startMove_8 (by decide)⟩
theorem gT131_9 : sG l g D H0 mT 131 9 (s_store vI 131 10 3) := ⟨ok_store _ _ _ _, so_istore_n mT131 dX2_startMove_9 rfl⟩
theorem gT131_10 : sG l g D H0 mT 131 10 (s_load vI 131 11 3) := ⟨ok_load _ _ _ _, so_iload_n mT131 dX2_startMove_10 rfl⟩
theorem gT131_11 : sG l g D H0 mT 131 11 (s_const 131 13 (.int 6)) := ⟨ok_const _ _ _, so_bipush mT131 dX2_startMove_11 (by decide)⟩
theorem gT131_13 : sG l g D H0 mT 131 13 (s_icmp 131 16 51 (fun a b => b ≤ a)) := ⟨ok_icmp _ _ _ _, so_icmp_ge mT131 dX2_startMove_13 (by decide)⟩
theorem gT131_16 : sG l g D H0 mT 131 16 (s_load vRf 131 17 1) := ⟨ok_load _ _ _ _, so_aload_n mT131 dX2_startMove_16 rfl⟩
theorem gT131_17 : sG l g D H0 mT 131 17 (s_getf 131 20 5 16) := ⟨ok_getf _ _ _ _, so_getfN mT131 cl5 (k := 16) (by decide) dX2_startMove_17 q600 (fs_rf rfl)⟩
theorem gT131_20 : sG l g D H0 mT 131 20 (s_load vI 131 21 3) := ⟨ok_load _ _ _ _, so_iload_n mT131 dX2_startMove_20 rfl⟩
theorem gT131_21 : sG l g D H0 mT 131 21 (s_load vRf 131 22 1) := ⟨ok_load _ _ _ _, so_aload_n mT131 dX2_startMove_21 rfl⟩
theorem gT131_22 : sG l g D H0 mT 131 22 (s_getf 131 25 5 14) := ⟨ok_getf _ _ _ _, so_getfN mT131 cl5 (k := 14) (by decide) dX2_startMove_22 q594 (fs_rf rfl)⟩
theorem gT131_25 : sG l g D H0 mT 131 25 (s_load vI 131 26 3) := ⟨ok_load _ _ _ _, so_iload_n mT131 dX2_startMove_25 rfl⟩
theorem gT131_26 : sG l g D H0 mT 131 26 (s_ald 131 27 21) := ⟨ok_ald _ _ _, so_zald mT131 a21 dX2_startMove_26⟩
theorem gT131_27 : sG l g D H0 mT 131 27 (s_if 131 39 30 (fun a => a = 0)) := ⟨ok_if _ _ _ _, so_if_ne mT131 dX2_startMove_27 (by decide)⟩
theorem gT131_30 : sG l g D H0 mT 131 30 (s_load vRf 131 31 0) := ⟨ok_load _ _ _ _, so_aload_n mT131 dX2_startMove_30 rfl⟩
theorem gT131_31 : sG l g D H0 mT 131 31 (s_load vRf 131 32 1) := ⟨ok_load _ _ _ _, so_aload_n mT131 dX2_startMove_31 rfl⟩
theorem gT131_32 : sG l g D H0 mT 131 32 (s_load vI 131 33 3) := ⟨ok_load _ _ _ _, so_iload_n mT131 dX2_startMove_32 rfl⟩
theorem gT131_33 : sG l g D H0 mT 131 33 (s_callvk 131 36 111 1 [1, 0] 5) := ⟨ok_callvk _ _ _ _ _ _, sk_callv (by decide) (so_callV mT131 mo111 (by decide) (t := 1) (C := "HyperVane$Machine") (by decide) rfl rfl dX2_startMove_33 q741 q378 q379 q55)⟩
theorem gT131_36 : sG l g D H0 mT 131 36 (s_ifnull 131 39 43) := ⟨ok_ifnull _ _ _, so_ifnull mT131 dX2_startMove_36 (by decide)⟩
theorem gT131_39 : sG l g D H0 mT 131 39 (s_const 131 40 (.int 1)) := ⟨ok_const _ _ _, so_iconst mT131 dX2_startMove_39 (by decide)⟩
theorem gT131_40 : sG l g D H0 mT 131 40 (s_goto 131 44) := ⟨ok_goto _ _, so_goto mT131 dX2_startMove_40 (by decide)⟩
theorem gT131_43 : sG l g D H0 mT 131 43 (s_const 131 44 (.int 0)) := ⟨ok_const _ _ _, so_iconst mT131 dX2_startMove_43 (by decide)⟩
theorem gT131_44 : sG l g D H0 mT 131 44 (s_ast g (fun _ v => vZ v) 131 45 21) := ⟨ok_ast _ _ _ _ _, so_zast mT131 a21 dX2_startMove_44⟩
theorem gT131_45 : sG l g D H0 mT 131 45 (s_iinc 131 48 3 1) := ⟨ok_iinc _ _ _ _, so_iinc mT131 dX2_startMove_45 (by decide)⟩
theorem gT131_48 : sG l g D H0 mT 131 48 (s_goto 131 10) := ⟨ok_goto _ _, so_goto mT131 dX2_startMove_48 (by decide)⟩
theorem gT131_51 : sG l g D H0 mT 131 51 (s_load vRf 131 52 1) := ⟨ok_load _ _ _ _, so_aload_n mT131 dX2_startMove_51 rfl⟩
theorem gT131_52 : sG l g D H0 mT 131 52 (s_load vI 131 53 2) := ⟨ok_load _ _ _ _, so_iload_n mT131 dX2_startMove_52 rfl⟩
theorem gT131_53 : sG l g D H0 mT 131 53 (s_putf g pI 131 56 5 17) := ⟨ok_putf _ _ _ _ _ _, so_putfN mT131 cl5 (k := 17) (by decide) fI rfl dX2_startMove_53 q603 (fs_rf rfl)⟩
theorem gT131_56 : sG l g D H0 mT 131 56 (s_load vRf 131 57 1) := ⟨ok_load _ _ _ _, so_aload_n mT131 dX2_startMove_56 rfl⟩
theorem gT131_57 : sG l g D H0 mT 131 57 (s_load vRf 131 58 0) := ⟨ok_load _ _ _ _, so_aload_n mT131 dX2_startMove_57 rfl⟩
theorem gT131_58 : sG l g D H0 mT 131 58 (s_getf 131 61 1 2) := ⟨ok_getf _ _ _ _, so_getf mT131 cl1 (k := 2) (by decide) dX2_startMove_58 q132 (fs_rf rfl)⟩
theorem gT131_61 : sG l g D H0 mT 131 61 (s_putf g pI 131 64 5 18) := ⟨ok_putf _ _ _ _ _ _, so_putfN mT131 cl5 (k := 18) (by decide) fI rfl dX2_startMove_61 q605 (fs_rf rfl)⟩
theorem gT131_64 : sG l g D H0 mT 131 64 (s_load vRf 131 65 1) := ⟨ok_load _ _ _ _, so_aload_n mT131 dX2_startMove_64 rfl⟩
theorem gT131_65 : sG l g D H0 mT 131 65 (s_callvk 131 68 193 5 [] 3) := ⟨ok_callvk _ _ _ _ _ _, sk_callv (by decide) (so_callV mT131 mo193 (by decide) (t := 5) (C := "HyperVane$Guest") (by decide) rfl rfl dX2_startMove_65 q810 q387 q388 q73)⟩
theorem gT131_68 : sG l g D H0 mT 131 68 (s_ret pI) := ⟨ok_ret _, so_iret mT131 dX2_startMove_68⟩
theorem gT131 (pc : Nat) : sG l g D H0 mT 131 pc (tT131 g pc) := sG_cond (sG_cond (sG_cond (sG_cond (sG_cond (sG_leaf gT131_0) (sG_leaf gT131_1)) (sG_cond (sG_leaf gT131_3) (sG_leaf gT131_5))) (sG_cond (sG_cond (sG_leaf gT131_8) (sG_leaf gT131_9)) (sG_cond (sG_leaf gT131_10) (sG_cond (sG_leaf gT131_11) (sG_leaf gT131_13))))) (sG_cond (sG_cond (sG_cond (sG_leaf gT131_16) (sG_leaf gT131_17)) (sG_cond (sG_leaf gT131_20) (sG_cond (sG_leaf gT131_21) (sG_leaf gT131_22)))) (sG_cond (sG_cond (sG_leaf gT131_25) (sG_leaf gT131_26)) (sG_cond (sG_leaf gT131_27) (sG_cond (sG_leaf gT131_30) (sG_leaf gT131_31)))))) (sG_cond (sG_cond (sG_cond (sG_cond (sG_leaf gT131_32) (sG_leaf gT131_33)) (sG_cond (sG_leaf gT131_36) (sG_leaf gT131_39))) (sG_cond (sG_cond (sG_leaf gT131_40) (sG_leaf gT131_43)) (sG_cond (sG_leaf gT131_44) (sG_cond (sG_leaf gT131_45) (sG_leaf gT131_48))))) (sG_cond (sG_cond (sG_cond (sG_leaf gT131_51) (sG_leaf gT131_52)) (sG_cond (sG_leaf gT131_53) (sG_cond (sG_leaf gT131_56) (sG_leaf gT131_57)))) (sG_cond (sG_cond (sG_leaf gT131_58) (sG_leaf gT131_61)) (sG_cond (sG_leaf gT131_64) (sG_cond (sG_leaf gT131_65) (sG_leaf gT131_68))))))
theorem gT132_0 : sG l g D H0 mT 132 0 (s_const 132 1 (.int 0)) := ⟨ok_const _ _ _, so_iconst mT132 dX2_giveUp_0 (by decide)⟩
theorem gT132_1 : sG l g D H0 mT 132 1 (s_store vI 132 2 3) := ⟨ok_store _ _ _ _, so_istore_n mT132 dX2_giveUp_1 rfl⟩
theorem gT132_2 : sG l g D H0 mT 132 2 (s_const 132 3 (.int 0)) := ⟨ok_const _ _ _, so_iconst mT132 dX2_giveUp_2 (by decide)⟩
theorem gT132_3 : sG l g D H0 mT 132 3 (s_store vI 132 5 4) := ⟨ok_store _ _ _ _, so_istore mT132 dX2_giveUp_3⟩
theorem gT132_5 : sG l g D H0 mT 132 5 (s_load vI 132 7 4) := ⟨ok_load _ _ _ _, so_iload mT132 dX2_giveUp_5⟩
theorem gT132_7 : sG l g D H0 mT 132 7 (s_load vI 132 8 2) := ⟨ok_load _ _ _ _, so_iload_n mT132 dX2_giveUp_7 rfl⟩
theorem gT132_8 : sG l g D H0 mT 132 8 (s_icmp 132 11 88 (fun a b => b ≤ a)) := ⟨ok_icmp _ _ _ _, so_icmp_ge mT132 dX2_giveUp_8 (by decide)⟩
theorem gT132_11 : sG l g D H0 mT 132 11 (s_const 132 12 .null) := ⟨ok_const _ _ _, so_null mT132 dX2_giveUp_11⟩
theorem gT132_12 : sG l g D H0 mT 132 12 (s_store vRf 132 14 5) := ⟨ok_store _ _ _ _, so_astore mT132 dX2_giveUp_12⟩
theorem gT132_14 : sG l g D H0 mT 132 14 (s_const 132 15 (.int 0)) := ⟨ok_const _ _ _, so_iconst mT132 dX2_giveUp_14 (by decide)⟩
theorem gT132_15 : sG l g D H0 mT 132 15 (s_store vI 132 17 6) := ⟨ok_store _ _ _ _, so_istore mT132 dX2_giveUp_15⟩
theorem gT132_17 : sG l g D H0 mT 132 17 (s_load vI 132 19 6) := ⟨ok_load _ _ _ _, so_iload mT132 dX2_giveUp_17⟩
theorem gT132_19 : sG l g D H0 mT 132 19 (s_const 132 21 (.int 6)) := ⟨ok_const _ _ _, so_bipush mT132 dX2_giveUp_19 (by decide)⟩
theorem gT132_21 : sG l g D H0 mT 132 21 (s_icmp 132 24 66 (fun a b => b ≤ a)) := ⟨ok_icmp _ _ _ _, so_icmp_ge mT132 dX2_giveUp_21 (by decide)⟩
theorem gT132_24 : sG l g D H0 mT 132 24 (s_load vRf 132 25 0) := ⟨ok_load _ _ _ _, so_aload_n mT132 dX2_giveUp_24 rfl⟩
theorem gT132_25 : sG l g D H0 mT 132 25 (s_load vRf 132 26 1) := ⟨ok_load _ _ _ _, so_aload_n mT132 dX2_giveUp_25 rfl⟩
theorem gT132_26 : sG l g D H0 mT 132 26 (s_load vI 132 28 6) := ⟨ok_load _ _ _ _, so_iload mT132 dX2_giveUp_26⟩
theorem gT132_28 : sG l g D H0 mT 132 28 (s_callvk 132 31 111 1 [1, 0] 5) := ⟨ok_callvk _ _ _ _ _ _, sk_callv (by decide) (so_callV mT132 mo111 (by decide) (t := 1) (C := "HyperVane$Machine") (by decide) rfl rfl dX2_giveUp_28 q741 q378 q379 q55)⟩
theorem gT132_31 : sG l g D H0 mT 132 31 (s_store vRf 132 33 7) := ⟨ok_store _ _ _ _, so_astore mT132 dX2_giveUp_31⟩
theorem gT132_33 : sG l g D H0 mT 132 33 (s_load vRf 132 35 7) := ⟨ok_load _ _ _ _, so_aload mT132 dX2_giveUp_33⟩
theorem gT132_35 : sG l g D H0 mT 132 35 (s_ifnull 132 38 60) := ⟨ok_ifnull _ _ _, so_ifnull mT132 dX2_giveUp_35 (by decide)⟩
theorem gT132_38 : sG l g D H0 mT 132 38 (s_load vRf 132 40 5) := ⟨ok_load _ _ _ _, so_aload mT132 dX2_giveUp_38⟩
theorem gT132_40 : sG l g D H0 mT 132 40 (s_ifnull 132 43 56) := ⟨ok_ifnull _ _ _, so_ifnull mT132 dX2_giveUp_40 (by decide)⟩
theorem gT132_43 : sG l g D H0 mT 132 43 (s_load vRf 132 45 7) := ⟨ok_load _ _ _ _, so_aload mT132 dX2_giveUp_43⟩
theorem gT132_45 : sG l g D H0 mT 132 45 (s_getf 132 48 2 2) := ⟨ok_getf _ _ _ _, so_getfN mT132 cl2 (k := 2) (by decide) dX2_giveUp_45 q218 (fs_rf rfl)⟩
theorem gT132_48 : sG l g D H0 mT 132 48 (s_load vRf 132 50 5) := ⟨ok_load _ _ _ _, so_aload mT132 dX2_giveUp_48⟩
theorem gT132_50 : sG l g D H0 mT 132 50 (s_getf 132 53 2 2) := ⟨ok_getf _ _ _ _, so_getfN mT132 cl2 (k := 2) (by decide) dX2_giveUp_50 q218 (fs_rf rfl)⟩
theorem gT132_53 : sG l g D H0 mT 132 53 (s_icmp 132 56 60 (fun a b => b ≤ a)) := ⟨ok_icmp _ _ _ _, so_icmp_ge mT132 dX2_giveUp_53 (by decide)⟩
theorem gT132_56 : sG l g D H0 mT 132 56 (s_load vRf 132 58 7) := ⟨ok_load _ _ _ _, so_aload mT132 dX2_giveUp_56⟩
theorem gT132_58 : sG l g D H0 mT 132 58 (s_store vRf 132 60 5) := ⟨ok_store _ _ _ _, so_astore mT132 dX2_giveUp_58⟩
theorem gT132_60 : sG l g D H0 mT 132 60 (s_iinc 132 63 6 1) := ⟨ok_iinc _ _ _ _, so_iinc mT132 dX2_giveUp_60 (by decide)⟩
theorem gT132_63 : sG l g D H0 mT 132 63 (s_goto 132 17) := ⟨ok_goto _ _, so_goto mT132 dX2_giveUp_63 (by decide)⟩
theorem gT132_66 : sG l g D H0 mT 132 66 (s_load vRf 132 68 5) := ⟨ok_load _ _ _ _, so_aload mT132 dX2_giveUp_66⟩
theorem gT132_68 : sG l g D H0 mT 132 68 (s_ifnn 132 71 73) := ⟨ok_ifnn _ _ _, so_ifnonnull mT132 dX2_giveUp_68 (by decide)⟩
theorem gT132_71 : sG l g D H0 mT 132 71 (s_load vI 132 72 3) := ⟨ok_load _ _ _ _, so_iload_n mT132 dX2_giveUp_71 rfl⟩
theorem gT132_72 : sG l g D H0 mT 132 72 (s_ret pI) := ⟨ok_ret _, so_iret mT132 dX2_giveUp_72⟩
theorem gT132_73 : sG l g D H0 mT 132 73 (s_load vRf 132 74 1) := ⟨ok_load _ _ _ _, so_aload_n mT132 dX2_giveUp_73 rfl⟩
theorem gT132_74 : sG l g D H0 mT 132 74 (s_load vRf 132 76 5) := ⟨ok_load _ _ _ _, so_aload mT132 dX2_giveUp_74⟩
theorem gT132_76 : sG l g D H0 mT 132 76 (s_callk 132 79 133 [1, 1] 3) := ⟨ok_callk _ _ _ _ _, sk_call (by decide) (so_callS mT132 mo133 (by decide) dX2_giveUp_76 q1069 q1070 q55)⟩
theorem gT132_79 : sG l g D H0 mT 132 79 (s_iinc 132 82 3 1) := ⟨ok_iinc _ _ _ _, so_iinc mT132 dX2_giveUp_79 (by decide)⟩
theorem gT132_82 : sG l g D H0 mT 132 82 (s_iinc 132 85 4 1) := ⟨ok_iinc _ _ _ _, so_iinc mT132 dX2_giveUp_82 (by decide)⟩
theorem gT132_85 : sG l g D H0 mT 132 85 (s_goto 132 5) := ⟨ok_goto _ _, so_goto mT132 dX2_giveUp_85 (by decide)⟩
theorem gT132_88 : sG l g D H0 mT 132 88 (s_load vI 132 89 3) := ⟨ok_load _ _ _ _, so_iload_n mT132 dX2_giveUp_88 rfl⟩
theorem gT132_89 : sG l g D H0 mT 132 89 (s_ret pI) := ⟨ok_ret _, so_iret mT132 dX2_giveUp_89⟩
theorem gT132 (pc : Nat) : sG l g D H0 mT 132 pc (tT132 g pc) := sG_cond (sG_cond (sG_cond (sG_cond (sG_cond (sG_leaf gT132_0) (sG_leaf gT132_1)) (sG_cond (sG_leaf gT132_2) (sG_cond (sG_leaf gT132_3) (sG_leaf gT132_5)))) (sG_cond (sG_cond (sG_leaf gT132_7) (sG_cond (sG_leaf gT132_8) (sG_leaf gT132_11))) (sG_cond (sG_leaf gT132_12) (sG_cond (sG_leaf gT132_14) (sG_leaf gT132_15))))) (sG_cond (sG_cond (sG_cond (sG_leaf gT132_17) (sG_leaf gT132_19)) (sG_cond (sG_leaf gT132_21) (sG_cond (sG_leaf gT132_24) (sG_leaf gT132_25)))) (sG_cond (sG_cond (sG_leaf gT132_26) (sG_cond (sG_leaf gT132_28) (sG_leaf gT132_31))) (sG_cond (sG_leaf gT132_33) (sG_cond (sG_leaf gT132_35) (sG_leaf gT132_38)))))) (sG_cond (sG_cond (sG_cond (sG_cond (sG_leaf gT132_40) (sG_leaf gT132_43)) (sG_cond (sG_leaf gT132_45) (sG_cond (sG_leaf gT132_48) (sG_leaf gT132_50)))) (sG_cond (sG_cond (sG_leaf gT132_53) (sG_cond (sG_leaf gT132_56) (sG_leaf gT132_58))) (sG_cond (sG_leaf gT132_60) (sG_cond (sG_leaf gT132_63) (sG_leaf gT132_66))))) (sG_cond (sG_cond (sG_cond (sG_leaf gT132_68) (sG_leaf gT132_71)) (sG_cond (sG_leaf gT132_72) (sG_cond (sG_leaf gT132_73) (sG_leaf gT132_74)))) (sG_cond (sG_cond (sG_leaf gT132_76) (sG_cond (sG_leaf gT132_79) (sG_leaf gT132_82))) (sG_cond (sG_leaf gT132_85) (sG_cond (sG_leaf gT132_88) (sG_leaf gT132_89))))))
theorem gT133_0 : sG l g D H0 mT 133 0 (s_load vRf 133 1 1) := ⟨ok_load _ _ _ _, so_aload_n mT133 dX2_giveUp_2_0 rfl⟩
theorem gT133_1 : sG l g D H0 mT 133 1 (s_getf 133 4 2 1) := ⟨ok_getf _ _ _ _, so_getfN mT133 cl2 (k := 1) (by decide) dX2_giveUp_2_1 q215 (fs_rf rfl)⟩
theorem gT133_4 : sG l g D H0 mT 133 4 (s_store vI 133 5 2) := ⟨ok_store _ _ _ _, so_istore_n mT133 dX2_giveUp_2_4 rfl⟩
theorem gT133_5 : sG l g D H0 mT 133 5 (s_load vRf 133 6 1) := ⟨ok_load _ _ _ _, so_aload_n mT133 dX2_giveUp_2_5 rfl⟩
theorem gT133_6 : sG l g D H0 mT 133 6 (s_callvk 133 9 134 2 [] 1) := ⟨ok_callvk _ _ _ _ _ _, sk_callv (by decide) (so_callV mT133 mo134 (by decide) (t := 2) (C := "HyperVane$Frame") (by decide) rfl rfl dX2_giveUp_2_6 q198 q199 q200 q62)⟩
theorem gT133_9 : sG l g D H0 mT 133 9 (s_load vRf 133 10 0) := ⟨ok_load _ _ _ _, so_aload_n mT133 dX2_giveUp_2_9 rfl⟩
theorem gT133_10 : sG l g D H0 mT 133 10 (s_getf 133 13 5 15) := ⟨ok_getf _ _ _ _, so_getfN mT133 cl5 (k := 15) (by decide) dX2_giveUp_2_10 q597 (fs_rf rfl)⟩
theorem gT133_13 : sG l g D H0 mT 133 13 (s_load vI 133 14 2) := ⟨ok_load _ _ _ _, so_iload_n mT133 dX2_giveUp_2_13 rfl⟩
theorem gT133_14 : sG l g D H0 mT 133 14 (s_const 133 15 (.int 1)) := ⟨ok_const _ _ _, so_iconst mT133 dX2_giveUp_2_14 (by decide)⟩
theorem gT133_15 : sG l g D H0 mT 133 15 (s_ast g (fun _ v => vZ v) 133 16 21) := ⟨ok_ast _ _ _ _ _, so_zast mT133 a21 dX2_giveUp_2_15⟩
theorem gT133_16 : sG l g D H0 mT 133 16 (s_load vRf 133 17 0) := ⟨ok_load _ _ _ _, so_aload_n mT133 dX2_giveUp_2_16 rfl⟩
theorem gT133_17 : sG l g D H0 mT 133 17 (s_getf 133 20 5 2) := ⟨ok_getf _ _ _ _, so_getfN mT133 cl5 (k := 2) (by decide) dX2_giveUp_2_17 q559 (fs_rf rfl)⟩
theorem gT133_20 : sG l g D H0 mT 133 20 (s_getf 133 23 6 1) := ⟨ok_getf _ _ _ _, so_getfN mT133 cl6 (k := 1) (by decide) dX2_giveUp_2_20 q471 (fs_rf rfl)⟩
theorem gT133_23 : sG l g D H0 mT 133 23 (s_load vI 133 24 2) := ⟨ok_load _ _ _ _, so_iload_n mT133 dX2_giveUp_2_23 rfl⟩
theorem gT133_24 : sG l g D H0 mT 133 24 (s_const 133 25 (.int 0)) := ⟨ok_const _ _ _, so_iconst mT133 dX2_giveUp_2_24 (by decide)⟩
theorem gT133_25 : sG l g D H0 mT 133 25 (s_ast g (fun _ v => vI v = true) 133 26 20) := ⟨ok_ast _ _ _ _ _, so_iast mT133 a20 dX2_giveUp_2_25⟩
theorem gT133_26 : sG l g D H0 mT 133 26 (s_load vRf 133 27 0) := ⟨ok_load _ _ _ _, so_aload_n mT133 dX2_giveUp_2_26 rfl⟩
theorem gT133_27 : sG l g D H0 mT 133 27 (s_callvk 133 30 194 5 [] 1) := ⟨ok_callvk _ _ _ _ _ _, sk_callv (by decide) (so_callV mT133 mo194 (by decide) (t := 5) (C := "HyperVane$Guest") (by decide) rfl rfl dX2_giveUp_2_27 q742 q391 q392 q73)⟩
theorem gT133_30 : sG l g D H0 mT 133 30 (s_if 133 33 40 (fun a => a = 0)) := ⟨ok_if _ _ _ _, so_if_eq mT133 dX2_giveUp_2_30 (by decide)⟩
theorem gT133_33 : sG l g D H0 mT 133 33 (s_load vRf 133 34 0) := ⟨ok_load _ _ _ _, so_aload_n mT133 dX2_giveUp_2_33 rfl⟩
theorem gT133_34 : sG l g D H0 mT 133 34 (s_getf 133 37 5 16) := ⟨ok_getf _ _ _ _, so_getfN mT133 cl5 (k := 16) (by decide) dX2_giveUp_2_34 q600 (fs_rf rfl)⟩
theorem gT133_37 : sG l g D H0 mT 133 37 (s_load vI 133 38 2) := ⟨ok_load _ _ _ _, so_iload_n mT133 dX2_giveUp_2_37 rfl⟩
theorem gT133_38 : sG l g D H0 mT 133 38 (s_const 133 39 (.int 0)) := ⟨ok_const _ _ _, so_iconst mT133 dX2_giveUp_2_38 (by decide)⟩
theorem gT133_39 : sG l g D H0 mT 133 39 (s_ast g (fun _ v => vZ v) 133 40 21) := ⟨ok_ast _ _ _ _ _, so_zast mT133 a21 dX2_giveUp_2_39⟩
theorem gT133_40 : sG l g D H0 mT 133 40 (s_load vRf 133 41 0) := ⟨ok_load _ _ _ _, so_aload_n mT133 dX2_giveUp_2_40 rfl⟩
theorem gT133_41 : sG l g D H0 mT 133 41 (s_getf 133 44 5 21) := ⟨ok_getf _ _ _ _, so_getfN mT133 cl5 (k := 21) (by decide) dX2_giveUp_2_41 q612 (fs_rf rfl)⟩
theorem gT133_44 : sG l g D H0 mT 133 44 (s_ifnull 133 47 75) := ⟨ok_ifnull _ _ _, so_ifnull mT133 dX2_giveUp_2_44 (by decide)⟩
theorem gT133_47 : sG l g D H0 mT 133 47 (s_load vRf 133 48 0) := ⟨ok_load _ _ _ _, so_aload_n mT133 dX2_giveUp_2_47 rfl⟩
theorem gT133_48 : sG l g D H0 mT 133 48 (s_getf 133 51 5 21) := ⟨ok_getf _ _ _ _, so_getfN mT133 cl5 (k := 21) (by decide) dX2_giveUp_2_48 q612 (fs_rf rfl)⟩
theorem gT133_51 : sG l g D H0 mT 133 51 (s_getf 133 54 9 2) := ⟨ok_getf _ _ _ _, so_getfN mT133 cl9 (k := 2) (by decide) dX2_giveUp_2_51 q684 (fs_rf rfl)⟩
theorem gT133_54 : sG l g D H0 mT 133 54 (s_const 133 55 (.int 2)) := ⟨ok_const _ _ _, so_iconst mT133 dX2_giveUp_2_54 (by decide)⟩
theorem gT133_55 : sG l g D H0 mT 133 55 (s_newa g 133 57 20 (.int 0)) := ⟨ok_newa _ _ _ _ _, so_newa mT133 (t := 20) (by decide) rfl rfl (by decide) dX2_giveUp_2_55 q486⟩
theorem gT133_57 : sG l g D H0 mT 133 57 (s_dup 133 58) := ⟨ok_dup _ _, so_dup mT133 dX2_giveUp_2_57⟩
theorem gT133_58 : sG l g D H0 mT 133 58 (s_const 133 59 (.int 0)) := ⟨ok_const _ _ _, so_iconst mT133 dX2_giveUp_2_58 (by decide)⟩
theorem gT133_59 : sG l g D H0 mT 133 59 (s_load vRf 133 60 0) := ⟨ok_load _ _ _ _, so_aload_n mT133 dX2_giveUp_2_59 rfl⟩
theorem gT133_60 : sG l g D H0 mT 133 60 (s_getf 133 63 5 21) := ⟨ok_getf _ _ _ _, so_getfN mT133 cl5 (k := 21) (by decide) dX2_giveUp_2_60 q612 (fs_rf rfl)⟩
theorem gT133_63 : sG l g D H0 mT 133 63 (s_getf 133 66 9 3) := ⟨ok_getf _ _ _ _, so_getfN mT133 cl9 (k := 3) (by decide) dX2_giveUp_2_63 q686 (fs_rf rfl)⟩
theorem gT133_66 : sG l g D H0 mT 133 66 (s_ast g (fun _ v => vI v = true) 133 67 20) := ⟨ok_ast _ _ _ _ _, so_iast mT133 a20 dX2_giveUp_2_66⟩
theorem gT133_67 : sG l g D H0 mT 133 67 (s_dup 133 68) := ⟨ok_dup _ _, so_dup mT133 dX2_giveUp_2_67⟩
theorem gT133_68 : sG l g D H0 mT 133 68 (s_const 133 69 (.int 1)) := ⟨ok_const _ _ _, so_iconst mT133 dX2_giveUp_2_68 (by decide)⟩
theorem gT133_69 : sG l g D H0 mT 133 69 (s_load vI 133 70 2) := ⟨ok_load _ _ _ _, so_iload_n mT133 dX2_giveUp_2_69 rfl⟩
theorem gT133_70 : sG l g D H0 mT 133 70 (s_ast g (fun _ v => vI v = true) 133 71 20) := ⟨ok_ast _ _ _ _ _, so_iast mT133 a20 dX2_giveUp_2_70⟩
theorem gT133_71 : sG l g D H0 mT 133 71 (s_callvk 133 74 18 10 [1] 2) := ⟨ok_callvk _ _ _ _ _ _, sk_callv (by decide) (so_callV mT133 mo18 (by decide) (t := 10) (C := "java/util/ArrayList") (by decide) rfl rfl dX2_giveUp_2_71 q227 q228 q229 q58)⟩
theorem gT133_74 : sG l g D H0 mT 133 74 (s_pop 133 75) := ⟨ok_pop _ _, so_pop mT133 dX2_giveUp_2_74⟩
theorem gT133_75 : sG l g D H0 mT 133 75 (s_vret) := ⟨ok_vret, so_vret mT133 dX2_giveUp_2_75⟩
theorem gT133 (pc : Nat) : sG l g D H0 mT 133 pc (tT133 g pc) := sG_cond (sG_cond (sG_cond (sG_cond (sG_cond (sG_leaf gT133_0) (sG_leaf gT133_1)) (sG_cond (sG_leaf gT133_4) (sG_cond (sG_leaf gT133_5) (sG_leaf gT133_6)))) (sG_cond (sG_cond (sG_leaf gT133_9) (sG_cond (sG_leaf gT133_10) (sG_leaf gT133_13))) (sG_cond (sG_leaf gT133_14) (sG_cond (sG_leaf gT133_15) (sG_leaf gT133_16))))) (sG_cond (sG_cond (sG_cond (sG_leaf gT133_17) (sG_leaf gT133_20)) (sG_cond (sG_leaf gT133_23) (sG_cond (sG_leaf gT133_24) (sG_leaf gT133_25)))) (sG_cond (sG_cond (sG_leaf gT133_26) (sG_cond (sG_leaf gT133_27) (sG_leaf gT133_30))) (sG_cond (sG_leaf gT133_33) (sG_cond (sG_leaf gT133_34) (sG_leaf gT133_37)))))) (sG_cond (sG_cond (sG_cond (sG_cond (sG_leaf gT133_38) (sG_leaf gT133_39)) (sG_cond (sG_leaf gT133_40) (sG_cond (sG_leaf gT133_41) (sG_leaf gT133_44)))) (sG_cond (sG_cond (sG_leaf gT133_47) (sG_cond (sG_leaf gT133_48) (sG_leaf gT133_51))) (sG_cond (sG_leaf gT133_54) (sG_cond (sG_leaf gT133_55) (sG_leaf gT133_57))))) (sG_cond (sG_cond (sG_cond (sG_leaf gT133_58) (sG_cond (sG_leaf gT133_59) (sG_leaf gT133_60))) (sG_cond (sG_leaf gT133_63) (sG_cond (sG_leaf gT133_66) (sG_leaf gT133_67)))) (sG_cond (sG_cond (sG_leaf gT133_68) (sG_cond (sG_leaf gT133_69) (sG_leaf gT133_70))) (sG_cond (sG_leaf gT133_71) (sG_cond (sG_leaf gT133_74) (sG_leaf gT133_75))))))
end SND
