/-! the tables are right over the machine: printed by gen.py -/
section SND
variable {l : Launch} {g : GC} {D : va_G} {H0 : Heap}
theorem gT0_0 : sG l g D H0 mT 0 0 (s_load vRf 0 1 0) := ⟨ok_load _ _ _ _, so_aload_n mT0 dJ0_init_0 rfl⟩
theorem gT0_1 : sG l g D H0 mT 0 1 (s_oinit 0 4) := ⟨ok_oinit _ _, so_oinit mT0 (by decide) dJ0_init_1 q110 q91 q92⟩
theorem gT0_4 : sG l g D H0 mT 0 4 (s_vret) := ⟨ok_vret, so_vret mT0 dJ0_init_4⟩
theorem gT0 (pc : Nat) : sG l g D H0 mT 0 pc (tT0 g pc) := sG_cond (sG_leaf gT0_0) (sG_cond (sG_leaf gT0_1) (sG_leaf gT0_4))
theorem gT1_0 : sG l g D H0 mT 1 0 (s_load vRf 1 1 0) := ⟨ok_load _ _ _ _, so_aload_n mT1 dJ1_init_0 rfl⟩
theorem gT1_1 : sG l g D H0 mT 1 1 (s_callik 1 4 0 [] 1) := ⟨ok_callik _ _ _ _ _, sk_calli (by decide) (so_callI mT1 mo0 (by decide) rfl dJ1_init_1 q107 q108 q56)⟩
theorem gT1_4 : sG l g D H0 mT 1 4 (s_load vRf 1 5 0) := ⟨ok_load _ _ _ _, so_aload_n mT1 dJ1_init_4 rfl⟩
theorem gT1_5 : sG l g D H0 mT 1 5 (s_const 1 6 (.int 0)) := ⟨ok_const _ _ _, so_iconst mT1 dJ1_init_5 (by decide)⟩
theorem gT1_6 : sG l g D H0 mT 1 6 (s_putf g pI 1 9 10 0) := ⟨ok_putf _ _ _ _ _ _, so_putf mT1 cl10 (k := 0) (by decide) fI rfl dJ1_init_6 q117 (fs_rf rfl)⟩
theorem gT1_9 : sG l g D H0 mT 1 9 (s_vret) := ⟨ok_vret, so_vret mT1 dJ1_init_9⟩
theorem gT1 (pc : Nat) : sG l g D H0 mT 1 pc (tT1 g pc) := sG_cond (sG_cond (sG_leaf gT1_0) (sG_cond (sG_leaf gT1_1) (sG_leaf gT1_4))) (sG_cond (sG_leaf gT1_5) (sG_cond (sG_leaf gT1_6) (sG_leaf gT1_9)))
theorem gT2_0 : sG l g D H0 mT 2 0 (s_load vRf 2 1 0) := ⟨ok_load _ _ _ _, so_aload_n mT2 dJ16_init_0 rfl⟩
theorem gT2_1 : sG l g D H0 mT 2 1 (s_load vRf 2 2 1) := ⟨ok_load _ _ _ _, so_aload_n mT2 dJ16_init_1 rfl⟩
theorem gT2_2 : sG l g D H0 mT 2 2 (s_putf g pR 2 5 11 3) := ⟨ok_putf _ _ _ _ _ _, so_putfF mT2 cl11 (k := 3) (by decide) fR rfl rfl rfl dJ16_init_2 q315 (fs_rf rfl)⟩
theorem gT2_5 : sG l g D H0 mT 2 5 (s_load vRf 2 6 0) := ⟨ok_load _ _ _ _, so_aload_n mT2 dJ16_init_5 rfl⟩
theorem gT2_6 : sG l g D H0 mT 2 6 (s_oinit 2 9) := ⟨ok_oinit _ _, so_oinit mT2 (by decide) dJ16_init_6 q311 q91 q92⟩
theorem gT2_9 : sG l g D H0 mT 2 9 (s_load vRf 2 10 0) := ⟨ok_load _ _ _ _, so_aload_n mT2 dJ16_init_9 rfl⟩
theorem gT2_10 : sG l g D H0 mT 2 10 (s_const 2 11 (.int (-1))) := ⟨ok_const _ _ _, so_iconst mT2 dJ16_init_10 (by decide)⟩
theorem gT2_11 : sG l g D H0 mT 2 11 (s_putf g pI 2 14 11 1) := ⟨ok_putf _ _ _ _ _ _, so_putf mT2 cl11 (k := 1) (by decide) fI rfl dJ16_init_11 q313 (fs_rf rfl)⟩
theorem gT2_14 : sG l g D H0 mT 2 14 (s_load vRf 2 15 0) := ⟨ok_load _ _ _ _, so_aload_n mT2 dJ16_init_14 rfl⟩
theorem gT2_15 : sG l g D H0 mT 2 15 (s_load vRf 2 16 0) := ⟨ok_load _ _ _ _, so_aload_n mT2 dJ16_init_15 rfl⟩
theorem gT2_16 : sG l g D H0 mT 2 16 (s_getf 2 19 11 3) := ⟨ok_getf _ _ _ _, so_getf mT2 cl11 (k := 3) (by decide) dJ16_init_16 q315 (fs_rf rfl)⟩
theorem gT2_19 : sG l g D H0 mT 2 19 (s_getf 2 22 10 0) := ⟨ok_getf _ _ _ _, so_getf mT2 cl10 (k := 0) (by decide) dJ16_init_19 q118 (fs_mod rfl)⟩
theorem gT2_22 : sG l g D H0 mT 2 22 (s_putf g pI 2 25 11 2) := ⟨ok_putf _ _ _ _ _ _, so_putf mT2 cl11 (k := 2) (by decide) fI rfl dJ16_init_22 q314 (fs_rf rfl)⟩
theorem gT2_25 : sG l g D H0 mT 2 25 (s_vret) := ⟨ok_vret, so_vret mT2 dJ16_init_25⟩
theorem gT2 (pc : Nat) : sG l g D H0 mT 2 pc (tT2 g pc) := sG_cond (sG_cond (sG_cond (sG_leaf gT2_0) (sG_cond (sG_leaf gT2_1) (sG_leaf gT2_2))) (sG_cond (sG_cond (sG_leaf gT2_5) (sG_leaf gT2_6)) (sG_cond (sG_leaf gT2_9) (sG_leaf gT2_10)))) (sG_cond (sG_cond (sG_leaf gT2_11) (sG_cond (sG_leaf gT2_14) (sG_leaf gT2_15))) (sG_cond (sG_cond (sG_leaf gT2_16) (sG_leaf gT2_19)) (sG_cond (sG_leaf gT2_22) (sG_leaf gT2_25))))
theorem gT3_0 : sG l g D H0 mT 3 0 (s_load vRf 3 1 0) := ⟨ok_load _ _ _ _, so_aload_n mT3 dJ16_hasNext_0 rfl⟩
theorem gT3_1 : sG l g D H0 mT 3 1 (s_getf 3 4 11 0) := ⟨ok_getf _ _ _ _, so_getf mT3 cl11 (k := 0) (by decide) dJ16_hasNext_1 q312 (fs_rf rfl)⟩
theorem gT3_4 : sG l g D H0 mT 3 4 (s_load vRf 3 5 0) := ⟨ok_load _ _ _ _, so_aload_n mT3 dJ16_hasNext_4 rfl⟩
theorem gT3_5 : sG l g D H0 mT 3 5 (s_getf 3 8 11 3) := ⟨ok_getf _ _ _ _, so_getf mT3 cl11 (k := 3) (by decide) dJ16_hasNext_5 q315 (fs_rf rfl)⟩
theorem gT3_8 : sG l g D H0 mT 3 8 (s_getf 3 11 10 2) := ⟨ok_getf _ _ _ _, so_getfN mT3 cl10 (k := 2) (by decide) dJ16_hasNext_8 q115 (fs_rf rfl)⟩
theorem gT3_11 : sG l g D H0 mT 3 11 (s_icmp 3 14 18 (fun a b => a = b)) := ⟨ok_icmp _ _ _ _, so_icmp_eq mT3 dJ16_hasNext_11 (by decide)⟩
theorem gT3_14 : sG l g D H0 mT 3 14 (s_const 3 15 (.int 1)) := ⟨ok_const _ _ _, so_iconst mT3 dJ16_hasNext_14 (by decide)⟩
theorem gT3_15 : sG l g D H0 mT 3 15 (s_goto 3 19) := ⟨ok_goto _ _, so_goto mT3 dJ16_hasNext_15 (by decide)⟩
theorem gT3_18 : sG l g D H0 mT 3 18 (s_const 3 19 (.int 0)) := ⟨ok_const _ _ _, so_iconst mT3 dJ16_hasNext_18 (by decide)⟩
theorem gT3_19 : sG l g D H0 mT 3 19 (s_ret vZ) := ⟨ok_ret _, so_zret mT3 dJ16_hasNext_19⟩
theorem gT3 (pc : Nat) : sG l g D H0 mT 3 pc (tT3 g pc) := sG_cond (sG_cond (sG_cond (sG_leaf gT3_0) (sG_leaf gT3_1)) (sG_cond (sG_leaf gT3_4) (sG_cond (sG_leaf gT3_5) (sG_leaf gT3_8)))) (sG_cond (sG_cond (sG_leaf gT3_11) (sG_leaf gT3_14)) (sG_cond (sG_leaf gT3_15) (sG_cond (sG_leaf gT3_18) (sG_leaf gT3_19))))
theorem gT4_0 : sG l g D H0 mT 4 0 (s_load vRf 4 1 0) := ⟨ok_load _ _ _ _, so_aload_n mT4 dJ16_next_0 rfl⟩
theorem gT4_1 : sG l g D H0 mT 4 1 (s_callvk 4 4 5 11 [] 1) := ⟨ok_callvk _ _ _ _ _ _, sk_callv (by decide) (so_callV mT4 mo5 (by decide) (t := 11) (C := "java/util/ArrayList$Itr") (by decide) rfl rfl dJ16_next_1 q344 q345 q346 q80)⟩
theorem gT4_4 : sG l g D H0 mT 4 4 (s_load vRf 4 5 0) := ⟨ok_load _ _ _ _, so_aload_n mT4 dJ16_next_4 rfl⟩
theorem gT4_5 : sG l g D H0 mT 4 5 (s_getf 4 8 11 0) := ⟨ok_getf _ _ _ _, so_getf mT4 cl11 (k := 0) (by decide) dJ16_next_5 q312 (fs_rf rfl)⟩
theorem gT4_8 : sG l g D H0 mT 4 8 (s_store vI 4 9 1) := ⟨ok_store _ _ _ _, so_istore_n mT4 dJ16_next_8 rfl⟩
theorem gT4_9 : sG l g D H0 mT 4 9 (s_load vI 4 10 1) := ⟨ok_load _ _ _ _, so_iload_n mT4 dJ16_next_9 rfl⟩
theorem gT4_10 : sG l g D H0 mT 4 10 (s_load vRf 4 11 0) := ⟨ok_load _ _ _ _, so_aload_n mT4 dJ16_next_10 rfl⟩
theorem gT4_11 : sG l g D H0 mT 4 11 (s_getf 4 14 11 3) := ⟨ok_getf _ _ _ _, so_getf mT4 cl11 (k := 3) (by decide) dJ16_next_11 q315 (fs_rf rfl)⟩
theorem gT4_14 : sG l g D H0 mT 4 14 (s_getf 4 17 10 2) := ⟨ok_getf _ _ _ _, so_getfN mT4 cl10 (k := 2) (by decide) dJ16_next_14 q115 (fs_rf rfl)⟩
theorem gT4_17 : sG l g D H0 mT 4 17 (s_icmp 4 20 28 (fun a b => a < b)) := ⟨ok_icmp _ _ _ _, so_icmp_lt mT4 dJ16_next_17 (by decide)⟩
theorem gT4_23 : sG l g D H0 mT 4 23 (s_dup 4 24) := ⟨ok_dup _ _, so_dup mT4 dJ16_next_23⟩
theorem gT4_28 : sG l g D H0 mT 4 28 (s_load vRf 4 29 0) := ⟨ok_load _ _ _ _, so_aload_n mT4 dJ16_next_28 rfl⟩
theorem gT4_29 : sG l g D H0 mT 4 29 (s_getf 4 32 11 3) := ⟨ok_getf _ _ _ _, so_getf mT4 cl11 (k := 3) (by decide) dJ16_next_29 q315 (fs_rf rfl)⟩
theorem gT4_32 : sG l g D H0 mT 4 32 (s_getf 4 35 10 1) := ⟨ok_getf _ _ _ _, so_getf mT4 cl10 (k := 1) (by decide) dJ16_next_32 q114 (fs_rf rfl)⟩
theorem gT4_35 : sG l g D H0 mT 4 35 (s_store vRf 4 36 2) := ⟨ok_store _ _ _ _, so_astore_n mT4 dJ16_next_35 rfl⟩
theorem gT4_36 : sG l g D H0 mT 4 36 (s_load vI 4 37 1) := ⟨ok_load _ _ _ _, so_iload_n mT4 dJ16_next_36 rfl⟩
theorem gT4_37 : sG l g D H0 mT 4 37 (s_load vRf 4 38 2) := ⟨ok_load _ _ _ _, so_aload_n mT4 dJ16_next_37 rfl⟩
theorem gT4_38 : sG l g D H0 mT 4 38 (s_alen 4 39 24) := ⟨ok_alen _ _ _, so_alen mT4 a24 dJ16_next_38⟩
theorem gT4_39 : sG l g D H0 mT 4 39 (s_icmp 4 42 50 (fun a b => a < b)) := ⟨ok_icmp _ _ _ _, so_icmp_lt mT4 dJ16_next_39 (by decide)⟩
theorem gT4_45 : sG l g D H0 mT 4 45 (s_dup 4 46) := ⟨ok_dup _ _, so_dup mT4 dJ16_next_45⟩
theorem gT4_50 : sG l g D H0 mT 4 50 (s_load vRf 4 51 0) := ⟨ok_load _ _ _ _, so_aload_n mT4 dJ16_next_50 rfl⟩
theorem gT4_51 : sG l g D H0 mT 4 51 (s_load vI 4 52 1) := ⟨ok_load _ _ _ _, so_iload_n mT4 dJ16_next_51 rfl⟩
theorem gT4_52 : sG l g D H0 mT 4 52 (s_const 4 53 (.int 1)) := ⟨ok_const _ _ _, so_iconst mT4 dJ16_next_52 (by decide)⟩
theorem gT4_53 : sG l g D H0 mT 4 53 (s_bin 4 54 (fun a b => a + b)) := ⟨ok_bin _ _ _, so_iadd mT4 dJ16_next_53⟩
theorem gT4_54 : sG l g D H0 mT 4 54 (s_putf g pI 4 57 11 0) := ⟨ok_putf _ _ _ _ _ _, so_putf mT4 cl11 (k := 0) (by decide) fI rfl dJ16_next_54 q312 (fs_rf rfl)⟩
theorem gT4_57 : sG l g D H0 mT 4 57 (s_load vRf 4 58 2) := ⟨ok_load _ _ _ _, so_aload_n mT4 dJ16_next_57 rfl⟩
theorem gT4_58 : sG l g D H0 mT 4 58 (s_load vRf 4 59 0) := ⟨ok_load _ _ _ _, so_aload_n mT4 dJ16_next_58 rfl⟩
theorem gT4_59 : sG l g D H0 mT 4 59 (s_load vI 4 60 1) := ⟨ok_load _ _ _ _, so_iload_n mT4 dJ16_next_59 rfl⟩
theorem gT4_60 : sG l g D H0 mT 4 60 (s_dupx1 4 61) := ⟨ok_dupx1 _ _, so_dupx1 mT4 dJ16_next_60⟩
theorem gT4_61 : sG l g D H0 mT 4 61 (s_putf g pI 4 64 11 1) := ⟨ok_putf _ _ _ _ _ _, so_putf mT4 cl11 (k := 1) (by decide) fI rfl dJ16_next_61 q313 (fs_rf rfl)⟩
theorem gT4_64 : sG l g D H0 mT 4 64 (s_ald 4 65 24) := ⟨ok_ald _ _ _, so_aald mT4 a24 rfl dJ16_next_64⟩
theorem gT4_65 : sG l g D H0 mT 4 65 (s_ret pR) := ⟨ok_ret _, so_aret mT4 dJ16_next_65 (Or.inl ⟨_, rfl⟩)⟩
theorem gT4 (pc : Nat) : sG l g D H0 mT 4 pc (tT4 g pc) := sG_cond (sG_cond (sG_cond (sG_cond (sG_cond (sG_leaf gT4_0) (sG_leaf gT4_1)) (sG_cond (sG_leaf gT4_4) (sG_leaf gT4_5))) (sG_cond (sG_cond (sG_leaf gT4_8) (sG_leaf gT4_9)) (sG_cond (sG_leaf gT4_10) (sG_leaf gT4_11)))) (sG_cond (sG_cond (sG_cond (sG_leaf gT4_14) (sG_leaf gT4_17)) (sG_cond (sG_leaf gT4_23) (sG_leaf gT4_28))) (sG_cond (sG_cond (sG_leaf gT4_29) (sG_leaf gT4_32)) (sG_cond (sG_leaf gT4_35) (sG_leaf gT4_36))))) (sG_cond (sG_cond (sG_cond (sG_cond (sG_leaf gT4_37) (sG_leaf gT4_38)) (sG_cond (sG_leaf gT4_39) (sG_leaf gT4_45))) (sG_cond (sG_cond (sG_leaf gT4_50) (sG_leaf gT4_51)) (sG_cond (sG_leaf gT4_52) (sG_leaf gT4_53)))) (sG_cond (sG_cond (sG_cond (sG_leaf gT4_54) (sG_leaf gT4_57)) (sG_cond (sG_leaf gT4_58) (sG_leaf gT4_59))) (sG_cond (sG_cond (sG_leaf gT4_60) (sG_leaf gT4_61)) (sG_cond (sG_leaf gT4_64) (sG_leaf gT4_65)))))
theorem gT5_0 : sG l g D H0 mT 5 0 (s_load vRf 5 1 0) := ⟨ok_load _ _ _ _, so_aload_n mT5 dJ16_checkForComodification_0 rfl⟩
theorem gT5_1 : sG l g D H0 mT 5 1 (s_getf 5 4 11 3) := ⟨ok_getf _ _ _ _, so_getf mT5 cl11 (k := 3) (by decide) dJ16_checkForComodification_1 q315 (fs_rf rfl)⟩
theorem gT5_4 : sG l g D H0 mT 5 4 (s_getf 5 7 10 0) := ⟨ok_getf _ _ _ _, so_getf mT5 cl10 (k := 0) (by decide) dJ16_checkForComodification_4 q118 (fs_mod rfl)⟩
theorem gT5_7 : sG l g D H0 mT 5 7 (s_load vRf 5 8 0) := ⟨ok_load _ _ _ _, so_aload_n mT5 dJ16_checkForComodification_7 rfl⟩
theorem gT5_8 : sG l g D H0 mT 5 8 (s_getf 5 11 11 2) := ⟨ok_getf _ _ _ _, so_getf mT5 cl11 (k := 2) (by decide) dJ16_checkForComodification_8 q314 (fs_rf rfl)⟩
theorem gT5_11 : sG l g D H0 mT 5 11 (s_icmp 5 14 22 (fun a b => a = b)) := ⟨ok_icmp _ _ _ _, so_icmp_eq mT5 dJ16_checkForComodification_11 (by decide)⟩
theorem gT5_17 : sG l g D H0 mT 5 17 (s_dup 5 18) := ⟨ok_dup _ _, so_dup mT5 dJ16_checkForComodification_17⟩
theorem gT5_22 : sG l g D H0 mT 5 22 (s_vret) := ⟨ok_vret, so_vret mT5 dJ16_checkForComodification_22⟩
theorem gT5 (pc : Nat) : sG l g D H0 mT 5 pc (tT5 g pc) := sG_cond (sG_cond (sG_cond (sG_leaf gT5_0) (sG_leaf gT5_1)) (sG_cond (sG_leaf gT5_4) (sG_leaf gT5_7))) (sG_cond (sG_cond (sG_leaf gT5_8) (sG_leaf gT5_11)) (sG_cond (sG_leaf gT5_17) (sG_leaf gT5_22)))
theorem gT6_0 : sG l g D H0 mT 6 0 (s_load vRf 6 1 0) := ⟨ok_load _ _ _ _, so_aload_n mT6 dJ17_init_0 rfl⟩
theorem gT6_1 : sG l g D H0 mT 6 1 (s_oinit 6 4) := ⟨ok_oinit _ _, so_oinit mT6 (by decide) dJ17_init_1 q784 q91 q92⟩
theorem gT6_4 : sG l g D H0 mT 6 4 (s_vret) := ⟨ok_vret, so_vret mT6 dJ17_init_4⟩
theorem gT6 (pc : Nat) : sG l g D H0 mT 6 pc (tT6 g pc) := sG_cond (sG_leaf gT6_0) (sG_cond (sG_leaf gT6_1) (sG_leaf gT6_4))
theorem gT7_0 : sG l g D H0 mT 7 0 (s_load vRf 7 1 1) := ⟨ok_load _ _ _ _, so_aload_n mT7 dJ18_equals_0 rfl⟩
theorem gT7_4 : sG l g D H0 mT 7 4 (s_if 7 7 27 (fun a => a = 0)) := ⟨ok_if _ _ _ _, so_if_eq mT7 dJ18_equals_4 (by decide)⟩
theorem gT7_7 : sG l g D H0 mT 7 7 (s_load vRf 7 8 0) := ⟨ok_load _ _ _ _, so_aload_n mT7 dJ18_equals_7 rfl⟩
theorem gT7_8 : sG l g D H0 mT 7 8 (s_getf 7 11 12 0) := ⟨ok_getf _ _ _ _, so_getf mT7 cl12 (k := 0) (by decide) dJ18_equals_8 q785 (fs_rf rfl)⟩
theorem gT7_11 : sG l g D H0 mT 7 11 (s_load vRf 7 12 1) := ⟨ok_load _ _ _ _, so_aload_n mT7 dJ18_equals_11 rfl⟩
theorem gT7_12 : sG l g D H0 mT 7 12 (s_cast 7 15 [12]) := ⟨ok_cast _ _ _, so_cast mT7 (T := "java/lang/Integer") (ts := [12]) (by intro u hu; rw [List.mem_singleton] at hu; subst hu; exact ⟨by decide, Or.inl rfl⟩) dJ18_equals_12 q428⟩
theorem gT7_15 : sG l g D H0 mT 7 15 (s_callvk 7 18 8 12 [] 1) := ⟨ok_callvk _ _ _ _ _ _, sk_callv (by decide) (so_callV mT7 mo8 (by decide) (t := 12) (C := "java/lang/Integer") (by decide) rfl rfl dJ18_equals_15 q429 q430 q431 q82)⟩
theorem gT7_18 : sG l g D H0 mT 7 18 (s_icmp 7 25 21 (fun a b => a = b)) := ⟨ok_icmp _ _ _ _, so_icmp_ne mT7 dJ18_equals_18 (by decide)⟩
theorem gT7_21 : sG l g D H0 mT 7 21 (s_const 7 22 (.int 1)) := ⟨ok_const _ _ _, so_iconst mT7 dJ18_equals_21 (by decide)⟩
theorem gT7_22 : sG l g D H0 mT 7 22 (s_goto 7 26) := ⟨ok_goto _ _, so_goto mT7 dJ18_equals_22 (by decide)⟩
theorem gT7_25 : sG l g D H0 mT 7 25 (s_const 7 26 (.int 0)) := ⟨ok_const _ _ _, so_iconst mT7 dJ18_equals_25 (by decide)⟩
theorem gT7_26 : sG l g D H0 mT 7 26 (s_ret vZ) := ⟨ok_ret _, so_zret mT7 dJ18_equals_26⟩
theorem gT7_27 : sG l g D H0 mT 7 27 (s_const 7 28 (.int 0)) := ⟨ok_const _ _ _, so_iconst mT7 dJ18_equals_27 (by decide)⟩
theorem gT7_28 : sG l g D H0 mT 7 28 (s_ret vZ) := ⟨ok_ret _, so_zret mT7 dJ18_equals_28⟩
theorem gT7 (pc : Nat) : sG l g D H0 mT 7 pc (tT7 g pc) := sG_cond (sG_cond (sG_cond (sG_leaf gT7_0) (sG_cond (sG_leaf gT7_4) (sG_leaf gT7_7))) (sG_cond (sG_cond (sG_leaf gT7_8) (sG_leaf gT7_11)) (sG_cond (sG_leaf gT7_12) (sG_leaf gT7_15)))) (sG_cond (sG_cond (sG_leaf gT7_18) (sG_cond (sG_leaf gT7_21) (sG_leaf gT7_22))) (sG_cond (sG_cond (sG_leaf gT7_25) (sG_leaf gT7_26)) (sG_cond (sG_leaf gT7_27) (sG_leaf gT7_28))))
theorem gT8_0 : sG l g D H0 mT 8 0 (s_load vRf 8 1 0) := ⟨ok_load _ _ _ _, so_aload_n mT8 dJ18_intValue_0 rfl⟩
theorem gT8_1 : sG l g D H0 mT 8 1 (s_getf 8 4 12 0) := ⟨ok_getf _ _ _ _, so_getf mT8 cl12 (k := 0) (by decide) dJ18_intValue_1 q785 (fs_rf rfl)⟩
theorem gT8_4 : sG l g D H0 mT 8 4 (s_ret pI) := ⟨ok_ret _, so_iret mT8 dJ18_intValue_4⟩
theorem gT8 (pc : Nat) : sG l g D H0 mT 8 pc (tT8 g pc) := sG_cond (sG_leaf gT8_0) (sG_cond (sG_leaf gT8_1) (sG_leaf gT8_4))
theorem gT9_0 : sG l g D H0 mT 9 0 (s_load vI 9 1 0) := ⟨ok_load _ _ _ _, so_iload_n mT9 dJ18_valueOf_0 rfl⟩
theorem gT9_1 : sG l g D H0 mT 9 1 (s_const 9 3 (.int (-128))) := ⟨ok_const _ _ _, so_bipush mT9 dJ18_valueOf_1 (by decide)⟩
theorem gT9_3 : sG l g D H0 mT 9 3 (s_icmp 9 6 23 (fun a b => a < b)) := ⟨ok_icmp _ _ _ _, so_icmp_lt mT9 dJ18_valueOf_3 (by decide)⟩
theorem gT9_6 : sG l g D H0 mT 9 6 (s_load vI 9 7 0) := ⟨ok_load _ _ _ _, so_iload_n mT9 dJ18_valueOf_6 rfl⟩
theorem gT9_7 : sG l g D H0 mT 9 7 (s_const 9 10 (.int 127)) := ⟨ok_const _ _ _, so_gets3 mT9 dJ18_valueOf_7 q773⟩
theorem gT9_10 : sG l g D H0 mT 9 10 (s_icmp 9 13 23 (fun a b => b < a)) := ⟨ok_icmp _ _ _ _, so_icmp_gt mT9 dJ18_valueOf_10 (by decide)⟩
theorem gT9_13 : sG l g D H0 mT 9 13 (s_const 9 16 (.ref (gV g 2))) := ⟨ok_const _ _ _, so_gets2 mT9 dJ18_valueOf_13 q775⟩
theorem gT9_16 : sG l g D H0 mT 9 16 (s_load vI 9 17 0) := ⟨ok_load _ _ _ _, so_iload_n mT9 dJ18_valueOf_16 rfl⟩
theorem gT9_17 : sG l g D H0 mT 9 17 (s_const 9 20 (.int 128)) := ⟨ok_const _ _ _, so_sipush mT9 dJ18_valueOf_17 (by decide)⟩
theorem gT9_20 : sG l g D H0 mT 9 20 (s_bin 9 21 (fun a b => a + b)) := ⟨ok_bin _ _ _, so_iadd mT9 dJ18_valueOf_20⟩
theorem gT9_21 : sG l g D H0 mT 9 21 (s_ald 9 22 26) := ⟨ok_ald _ _ _, so_aald mT9 a26 rfl dJ18_valueOf_21⟩
theorem gT9_22 : sG l g D H0 mT 9 22 (s_ret pR) := ⟨ok_ret _, so_aret mT9 dJ18_valueOf_22 (Or.inl ⟨_, rfl⟩)⟩
theorem gT9_23 : sG l g D H0 mT 9 23 (s_new g 9 26 12 1 (fun k => defaultValue (tyJ18 k))) := ⟨ok_new _ _ _ _ _ _, so_new mT9 cl12 (fun _ _ => rfl) dJ18_valueOf_23 q428 q777 q82⟩
theorem gT9_26 : sG l g D H0 mT 9 26 (s_dup 9 27) := ⟨ok_dup _ _, so_dup mT9 dJ18_valueOf_26⟩
theorem gT9_27 : sG l g D H0 mT 9 27 (s_load vI 9 28 0) := ⟨ok_load _ _ _ _, so_iload_n mT9 dJ18_valueOf_27 rfl⟩
theorem gT9_28 : sG l g D H0 mT 9 28 (s_callik 9 31 10 [0] 2) := ⟨ok_callik _ _ _ _ _, sk_calli (by decide) (so_callI mT9 mo10 (by decide) rfl dJ18_valueOf_28 q778 q779 q82)⟩
theorem gT9_31 : sG l g D H0 mT 9 31 (s_ret pR) := ⟨ok_ret _, so_aret mT9 dJ18_valueOf_31 (Or.inl ⟨_, rfl⟩)⟩
theorem gT9 (pc : Nat) : sG l g D H0 mT 9 pc (tT9 g pc) := sG_cond (sG_cond (sG_cond (sG_cond (sG_leaf gT9_0) (sG_leaf gT9_1)) (sG_cond (sG_leaf gT9_3) (sG_leaf gT9_6))) (sG_cond (sG_cond (sG_leaf gT9_7) (sG_leaf gT9_10)) (sG_cond (sG_leaf gT9_13) (sG_leaf gT9_16)))) (sG_cond (sG_cond (sG_cond (sG_leaf gT9_17) (sG_leaf gT9_20)) (sG_cond (sG_leaf gT9_21) (sG_leaf gT9_22))) (sG_cond (sG_cond (sG_leaf gT9_23) (sG_leaf gT9_26)) (sG_cond (sG_leaf gT9_27) (sG_cond (sG_leaf gT9_28) (sG_leaf gT9_31)))))
theorem gT10_0 : sG l g D H0 mT 10 0 (s_load vRf 10 1 0) := ⟨ok_load _ _ _ _, so_aload_n mT10 dJ18_init_0 rfl⟩
theorem gT10_1 : sG l g D H0 mT 10 1 (s_callik 10 4 6 [] 1) := ⟨ok_callik _ _ _ _ _, sk_calli (by decide) (so_callI mT10 mo6 (by decide) rfl dJ18_init_1 q781 q782 q81)⟩
theorem gT10_4 : sG l g D H0 mT 10 4 (s_load vRf 10 5 0) := ⟨ok_load _ _ _ _, so_aload_n mT10 dJ18_init_4 rfl⟩
theorem gT10_5 : sG l g D H0 mT 10 5 (s_load vI 10 6 1) := ⟨ok_load _ _ _ _, so_iload_n mT10 dJ18_init_5 rfl⟩
theorem gT10_6 : sG l g D H0 mT 10 6 (s_putf g pI 10 9 12 0) := ⟨ok_putf _ _ _ _ _ _, so_putfF mT10 cl12 (k := 0) (by decide) fI rfl rfl rfl dJ18_init_6 q785 (fs_rf rfl)⟩
theorem gT10_9 : sG l g D H0 mT 10 9 (s_vret) := ⟨ok_vret, so_vret mT10 dJ18_init_9⟩
theorem gT10 (pc : Nat) : sG l g D H0 mT 10 pc (tT10 g pc) := sG_cond (sG_cond (sG_leaf gT10_0) (sG_cond (sG_leaf gT10_1) (sG_leaf gT10_4))) (sG_cond (sG_leaf gT10_5) (sG_cond (sG_leaf gT10_6) (sG_leaf gT10_9)))
theorem gT11_0 : sG l g D H0 mT 11 0 (s_load vI 11 1 0) := ⟨ok_load _ _ _ _, so_iload_n mT11 dJ18_bitCount_0 rfl⟩
theorem gT11_1 : sG l g D H0 mT 11 1 (s_load vI 11 2 0) := ⟨ok_load _ _ _ _, so_iload_n mT11 dJ18_bitCount_1 rfl⟩
theorem gT11_2 : sG l g D H0 mT 11 2 (s_const 11 3 (.int 1)) := ⟨ok_const _ _ _, so_iconst mT11 dJ18_bitCount_2 (by decide)⟩
theorem gT11_3 : sG l g D H0 mT 11 3 (s_bin 11 4 (fun a b => (a.toUInt32 >>> (b.toUInt32 &&& Int32.toUInt32 31)).toInt32)) := ⟨ok_bin _ _ _, so_iushr mT11 dJ18_bitCount_3⟩
theorem gT11_4 : sG l g D H0 mT 11 4 (s_const 11 7 (.int 1431655765)) := ⟨ok_const _ _ _, so_ldcw mT11 dJ18_bitCount_4 q1482⟩
theorem gT11_7 : sG l g D H0 mT 11 7 (s_bin 11 8 (fun a b => a &&& b)) := ⟨ok_bin _ _ _, so_iand mT11 dJ18_bitCount_7⟩
theorem gT11_8 : sG l g D H0 mT 11 8 (s_bin 11 9 (fun a b => a - b)) := ⟨ok_bin _ _ _, so_isub mT11 dJ18_bitCount_8⟩
theorem gT11_9 : sG l g D H0 mT 11 9 (s_store vI 11 10 0) := ⟨ok_store _ _ _ _, so_istore_n mT11 dJ18_bitCount_9 rfl⟩
theorem gT11_10 : sG l g D H0 mT 11 10 (s_load vI 11 11 0) := ⟨ok_load _ _ _ _, so_iload_n mT11 dJ18_bitCount_10 rfl⟩
theorem gT11_11 : sG l g D H0 mT 11 11 (s_const 11 14 (.int 858993459)) := ⟨ok_const _ _ _, so_ldcw mT11 dJ18_bitCount_11 q1483⟩
theorem gT11_14 : sG l g D H0 mT 11 14 (s_bin 11 15 (fun a b => a &&& b)) := ⟨ok_bin _ _ _, so_iand mT11 dJ18_bitCount_14⟩
theorem gT11_15 : sG l g D H0 mT 11 15 (s_load vI 11 16 0) := ⟨ok_load _ _ _ _, so_iload_n mT11 dJ18_bitCount_15 rfl⟩
theorem gT11_16 : sG l g D H0 mT 11 16 (s_const 11 17 (.int 2)) := ⟨ok_const _ _ _, so_iconst mT11 dJ18_bitCount_16 (by decide)⟩
theorem gT11_17 : sG l g D H0 mT 11 17 (s_bin 11 18 (fun a b => (a.toUInt32 >>> (b.toUInt32 &&& Int32.toUInt32 31)).toInt32)) := ⟨ok_bin _ _ _, so_iushr mT11 dJ18_bitCount_17⟩
theorem gT11_18 : sG l g D H0 mT 11 18 (s_const 11 21 (.int 858993459)) := ⟨ok_const _ _ _, so_ldcw mT11 dJ18_bitCount_18 q1483⟩
theorem gT11_21 : sG l g D H0 mT 11 21 (s_bin 11 22 (fun a b => a &&& b)) := ⟨ok_bin _ _ _, so_iand mT11 dJ18_bitCount_21⟩
theorem gT11_22 : sG l g D H0 mT 11 22 (s_bin 11 23 (fun a b => a + b)) := ⟨ok_bin _ _ _, so_iadd mT11 dJ18_bitCount_22⟩
theorem gT11_23 : sG l g D H0 mT 11 23 (s_store vI 11 24 0) := ⟨ok_store _ _ _ _, so_istore_n mT11 dJ18_bitCount_23 rfl⟩
theorem gT11_24 : sG l g D H0 mT 11 24 (s_load vI 11 25 0) := ⟨ok_load _ _ _ _, so_iload_n mT11 dJ18_bitCount_24 rfl⟩
theorem gT11_25 : sG l g D H0 mT 11 25 (s_load vI 11 26 0) := ⟨ok_load _ _ _ _, so_iload_n mT11 dJ18_bitCount_25 rfl⟩
theorem gT11_26 : sG l g D H0 mT 11 26 (s_const 11 27 (.int 4)) := ⟨ok_const _ _ _, so_iconst mT11 dJ18_bitCount_26 (by decide)⟩
theorem gT11_27 : sG l g D H0 mT 11 27 (s_bin 11 28 (fun a b => (a.toUInt32 >>> (b.toUInt32 &&& Int32.toUInt32 31)).toInt32)) := ⟨ok_bin _ _ _, so_iushr mT11 dJ18_bitCount_27⟩
theorem gT11_28 : sG l g D H0 mT 11 28 (s_bin 11 29 (fun a b => a + b)) := ⟨ok_bin _ _ _, so_iadd mT11 dJ18_bitCount_28⟩
theorem gT11_29 : sG l g D H0 mT 11 29 (s_const 11 32 (.int 252645135)) := ⟨ok_const _ _ _, so_ldcw mT11 dJ18_bitCount_29 q1484⟩
theorem gT11_32 : sG l g D H0 mT 11 32 (s_bin 11 33 (fun a b => a &&& b)) := ⟨ok_bin _ _ _, so_iand mT11 dJ18_bitCount_32⟩
theorem gT11_33 : sG l g D H0 mT 11 33 (s_store vI 11 34 0) := ⟨ok_store _ _ _ _, so_istore_n mT11 dJ18_bitCount_33 rfl⟩
theorem gT11_34 : sG l g D H0 mT 11 34 (s_load vI 11 35 0) := ⟨ok_load _ _ _ _, so_iload_n mT11 dJ18_bitCount_34 rfl⟩
theorem gT11_35 : sG l g D H0 mT 11 35 (s_load vI 11 36 0) := ⟨ok_load _ _ _ _, so_iload_n mT11 dJ18_bitCount_35 rfl⟩
theorem gT11_36 : sG l g D H0 mT 11 36 (s_const 11 38 (.int 8)) := ⟨ok_const _ _ _, so_bipush mT11 dJ18_bitCount_36 (by decide)⟩
theorem gT11_38 : sG l g D H0 mT 11 38 (s_bin 11 39 (fun a b => (a.toUInt32 >>> (b.toUInt32 &&& Int32.toUInt32 31)).toInt32)) := ⟨ok_bin _ _ _, so_iushr mT11 dJ18_bitCount_38⟩
theorem gT11_39 : sG l g D H0 mT 11 39 (s_bin 11 40 (fun a b => a + b)) := ⟨ok_bin _ _ _, so_iadd mT11 dJ18_bitCount_39⟩
theorem gT11_40 : sG l g D H0 mT 11 40 (s_store vI 11 41 0) := ⟨ok_store _ _ _ _, so_istore_n mT11 dJ18_bitCount_40 rfl⟩
theorem gT11_41 : sG l g D H0 mT 11 41 (s_load vI 11 42 0) := ⟨ok_load _ _ _ _, so_iload_n mT11 dJ18_bitCount_41 rfl⟩
theorem gT11_42 : sG l g D H0 mT 11 42 (s_load vI 11 43 0) := ⟨ok_load _ _ _ _, so_iload_n mT11 dJ18_bitCount_42 rfl⟩
theorem gT11_43 : sG l g D H0 mT 11 43 (s_const 11 45 (.int 16)) := ⟨ok_const _ _ _, so_bipush mT11 dJ18_bitCount_43 (by decide)⟩
theorem gT11_45 : sG l g D H0 mT 11 45 (s_bin 11 46 (fun a b => (a.toUInt32 >>> (b.toUInt32 &&& Int32.toUInt32 31)).toInt32)) := ⟨ok_bin _ _ _, so_iushr mT11 dJ18_bitCount_45⟩
theorem gT11_46 : sG l g D H0 mT 11 46 (s_bin 11 47 (fun a b => a + b)) := ⟨ok_bin _ _ _, so_iadd mT11 dJ18_bitCount_46⟩
theorem gT11_47 : sG l g D H0 mT 11 47 (s_store vI 11 48 0) := ⟨ok_store _ _ _ _, so_istore_n mT11 dJ18_bitCount_47 rfl⟩
theorem gT11_48 : sG l g D H0 mT 11 48 (s_load vI 11 49 0) := ⟨ok_load _ _ _ _, so_iload_n mT11 dJ18_bitCount_48 rfl⟩
theorem gT11_49 : sG l g D H0 mT 11 49 (s_const 11 51 (.int 63)) := ⟨ok_const _ _ _, so_bipush mT11 dJ18_bitCount_49 (by decide)⟩
theorem gT11_51 : sG l g D H0 mT 11 51 (s_bin 11 52 (fun a b => a &&& b)) := ⟨ok_bin _ _ _, so_iand mT11 dJ18_bitCount_51⟩
theorem gT11_52 : sG l g D H0 mT 11 52 (s_ret pI) := ⟨ok_ret _, so_iret mT11 dJ18_bitCount_52⟩
theorem gT11 (pc : Nat) : sG l g D H0 mT 11 pc (tT11 g pc) := sG_cond (sG_cond (sG_cond (sG_cond (sG_cond (sG_leaf gT11_0) (sG_leaf gT11_1)) (sG_cond (sG_leaf gT11_2) (sG_cond (sG_leaf gT11_3) (sG_leaf gT11_4)))) (sG_cond (sG_cond (sG_leaf gT11_7) (sG_leaf gT11_8)) (sG_cond (sG_leaf gT11_9) (sG_cond (sG_leaf gT11_10) (sG_leaf gT11_11))))) (sG_cond (sG_cond (sG_cond (sG_leaf gT11_14) (sG_leaf gT11_15)) (sG_cond (sG_leaf gT11_16) (sG_cond (sG_leaf gT11_17) (sG_leaf gT11_18)))) (sG_cond (sG_cond (sG_leaf gT11_21) (sG_cond (sG_leaf gT11_22) (sG_leaf gT11_23))) (sG_cond (sG_leaf gT11_24) (sG_cond (sG_leaf gT11_25) (sG_leaf gT11_26)))))) (sG_cond (sG_cond (sG_cond (sG_cond (sG_leaf gT11_27) (sG_leaf gT11_28)) (sG_cond (sG_leaf gT11_29) (sG_cond (sG_leaf gT11_32) (sG_leaf gT11_33)))) (sG_cond (sG_cond (sG_leaf gT11_34) (sG_leaf gT11_35)) (sG_cond (sG_leaf gT11_36) (sG_cond (sG_leaf gT11_38) (sG_leaf gT11_39))))) (sG_cond (sG_cond (sG_cond (sG_leaf gT11_40) (sG_leaf gT11_41)) (sG_cond (sG_leaf gT11_42) (sG_cond (sG_leaf gT11_43) (sG_leaf gT11_45)))) (sG_cond (sG_cond (sG_leaf gT11_46) (sG_cond (sG_leaf gT11_47) (sG_leaf gT11_48))) (sG_cond (sG_leaf gT11_49) (sG_cond (sG_leaf gT11_51) (sG_leaf gT11_52))))))
theorem gT12_0 : sG l g D H0 mT 12 0 (s_vret) := ⟨ok_vret, so_vret mT12 dJ19_init_0⟩
theorem gT12 (pc : Nat) : sG l g D H0 mT 12 pc (tT12 g pc) := sG_leaf gT12_0
theorem gT13_0 : sG l g D H0 mT 13 0 (s_load vRf 13 1 0) := ⟨ok_load _ _ _ _, so_aload_n mT13 dJ19_equals_0 rfl⟩
theorem gT13_1 : sG l g D H0 mT 13 1 (s_load vRf 13 2 1) := ⟨ok_load _ _ _ _, so_aload_n mT13 dJ19_equals_1 rfl⟩
theorem gT13_2 : sG l g D H0 mT 13 2 (s_acmpn 13 5 9) := ⟨ok_acmpn _ _ _, so_acmp_ne mT13 dJ19_equals_2 (by decide)⟩
theorem gT13_5 : sG l g D H0 mT 13 5 (s_const 13 6 (.int 1)) := ⟨ok_const _ _ _, so_iconst mT13 dJ19_equals_5 (by decide)⟩
theorem gT13_6 : sG l g D H0 mT 13 6 (s_goto 13 10) := ⟨ok_goto _ _, so_goto mT13 dJ19_equals_6 (by decide)⟩
theorem gT13_9 : sG l g D H0 mT 13 9 (s_const 13 10 (.int 0)) := ⟨ok_const _ _ _, so_iconst mT13 dJ19_equals_9 (by decide)⟩
theorem gT13_10 : sG l g D H0 mT 13 10 (s_ret vZ) := ⟨ok_ret _, so_zret mT13 dJ19_equals_10⟩
theorem gT13 (pc : Nat) : sG l g D H0 mT 13 pc (tT13 g pc) := sG_cond (sG_cond (sG_leaf gT13_0) (sG_cond (sG_leaf gT13_1) (sG_leaf gT13_2))) (sG_cond (sG_cond (sG_leaf gT13_5) (sG_leaf gT13_6)) (sG_cond (sG_leaf gT13_9) (sG_leaf gT13_10)))
theorem gT14_0 : sG l g D H0 mT 14 0 (s_load vRf 14 1 0) := ⟨ok_load _ _ _ _, so_aload_n mT14 dJ2_init_0 rfl⟩
theorem gT14_1 : sG l g D H0 mT 14 1 (s_callik 14 4 1 [] 1) := ⟨ok_callik _ _ _ _ _, sk_calli (by decide) (so_callI mT14 mo1 (by decide) rfl dJ2_init_1 q104 q105 q57)⟩
theorem gT14_4 : sG l g D H0 mT 14 4 (s_load vRf 14 5 0) := ⟨ok_load _ _ _ _, so_aload_n mT14 dJ2_init_4 rfl⟩
theorem gT14_5 : sG l g D H0 mT 14 5 (s_const 14 8 (.ref (gV g 0))) := ⟨ok_const _ _ _, so_gets0 mT14 dJ2_init_5 q111⟩
theorem gT14_8 : sG l g D H0 mT 14 8 (s_putf g pR 14 11 10 1) := ⟨ok_putf _ _ _ _ _ _, so_putf mT14 cl10 (k := 1) (by decide) fA rfl dJ2_init_8 q113 (fs_rf rfl)⟩
theorem gT14_11 : sG l g D H0 mT 14 11 (s_vret) := ⟨ok_vret, so_vret mT14 dJ2_init_11⟩
theorem gT14 (pc : Nat) : sG l g D H0 mT 14 pc (tT14 g pc) := sG_cond (sG_cond (sG_leaf gT14_0) (sG_cond (sG_leaf gT14_1) (sG_leaf gT14_4))) (sG_cond (sG_leaf gT14_5) (sG_cond (sG_leaf gT14_8) (sG_leaf gT14_11)))
theorem gT15_0 : sG l g D H0 mT 15 0 (s_load vRf 15 1 0) := ⟨ok_load _ _ _ _, so_aload_n mT15 dJ2_size_0 rfl⟩
theorem gT15_1 : sG l g D H0 mT 15 1 (s_getf 15 4 10 2) := ⟨ok_getf _ _ _ _, so_getf mT15 cl10 (k := 2) (by decide) dJ2_size_1 q116 (fs_rf rfl)⟩
theorem gT15_4 : sG l g D H0 mT 15 4 (s_ret pI) := ⟨ok_ret _, so_iret mT15 dJ2_size_4⟩
theorem gT15 (pc : Nat) : sG l g D H0 mT 15 pc (tT15 g pc) := sG_cond (sG_leaf gT15_0) (sG_cond (sG_leaf gT15_1) (sG_leaf gT15_4))
theorem gT16_0 : sG l g D H0 mT 16 0 (s_load vI 16 1 1) := ⟨ok_load _ _ _ _, so_iload_n mT16 dJ2_remove_0 rfl⟩
theorem gT16_1 : sG l g D H0 mT 16 1 (s_load vRf 16 2 0) := ⟨ok_load _ _ _ _, so_aload_n mT16 dJ2_remove_1 rfl⟩
theorem gT16_2 : sG l g D H0 mT 16 2 (s_getf 16 5 10 2) := ⟨ok_getf _ _ _ _, so_getf mT16 cl10 (k := 2) (by decide) dJ2_remove_2 q116 (fs_rf rfl)⟩
theorem gT16_5 : sG l g D H0 mT 16 5 (s_callk 16 8 30 [0, 0] 2) := ⟨ok_callk _ _ _ _ _, sk_call (by decide) (so_callS mT16 mo30 (by decide) dJ2_remove_5 q180 q181 q59)⟩
theorem gT16_8 : sG l g D H0 mT 16 8 (s_pop 16 9) := ⟨ok_pop _ _, so_pop mT16 dJ2_remove_8⟩
theorem gT16_9 : sG l g D H0 mT 16 9 (s_load vRf 16 10 0) := ⟨ok_load _ _ _ _, so_aload_n mT16 dJ2_remove_9 rfl⟩
theorem gT16_10 : sG l g D H0 mT 16 10 (s_getf 16 13 10 1) := ⟨ok_getf _ _ _ _, so_getf mT16 cl10 (k := 1) (by decide) dJ2_remove_10 q113 (fs_rf rfl)⟩
theorem gT16_13 : sG l g D H0 mT 16 13 (s_store vRf 16 14 2) := ⟨ok_store _ _ _ _, so_astore_n mT16 dJ2_remove_13 rfl⟩
theorem gT16_14 : sG l g D H0 mT 16 14 (s_load vRf 16 15 2) := ⟨ok_load _ _ _ _, so_aload_n mT16 dJ2_remove_14 rfl⟩
theorem gT16_15 : sG l g D H0 mT 16 15 (s_load vI 16 16 1) := ⟨ok_load _ _ _ _, so_iload_n mT16 dJ2_remove_15 rfl⟩
theorem gT16_16 : sG l g D H0 mT 16 16 (s_ald 16 17 24) := ⟨ok_ald _ _ _, so_aald mT16 a24 rfl dJ2_remove_16⟩
theorem gT16_17 : sG l g D H0 mT 16 17 (s_store vRf 16 18 3) := ⟨ok_store _ _ _ _, so_astore_n mT16 dJ2_remove_17 rfl⟩
theorem gT16_18 : sG l g D H0 mT 16 18 (s_load vRf 16 19 0) := ⟨ok_load _ _ _ _, so_aload_n mT16 dJ2_remove_18 rfl⟩
theorem gT16_19 : sG l g D H0 mT 16 19 (s_load vRf 16 20 2) := ⟨ok_load _ _ _ _, so_aload_n mT16 dJ2_remove_19 rfl⟩
theorem gT16_20 : sG l g D H0 mT 16 20 (s_load vI 16 21 1) := ⟨ok_load _ _ _ _, so_iload_n mT16 dJ2_remove_20 rfl⟩
theorem gT16_21 : sG l g D H0 mT 16 21 (s_callvk 16 24 17 10 [1, 0] 4) := ⟨ok_callvk _ _ _ _ _ _, sk_callv (by decide) (so_callV mT16 mo17 (by decide) (t := 10) (C := "java/util/ArrayList") (by decide) rfl rfl dJ2_remove_21 q186 q188 qs0 q58)⟩
theorem gT16_24 : sG l g D H0 mT 16 24 (s_load vRf 16 25 3) := ⟨ok_load _ _ _ _, so_aload_n mT16 dJ2_remove_24 rfl⟩
theorem gT16_25 : sG l g D H0 mT 16 25 (s_ret pR) := ⟨ok_ret _, so_aret mT16 dJ2_remove_25 (Or.inl ⟨_, rfl⟩)⟩
theorem gT16 (pc : Nat) : sG l g D H0 mT 16 pc (tT16 g pc) := sG_cond (sG_cond (sG_cond (sG_cond (sG_leaf gT16_0) (sG_leaf gT16_1)) (sG_cond (sG_leaf gT16_2) (sG_leaf gT16_5))) (sG_cond (sG_cond (sG_leaf gT16_8) (sG_leaf gT16_9)) (sG_cond (sG_leaf gT16_10) (sG_cond (sG_leaf gT16_13) (sG_leaf gT16_14))))) (sG_cond (sG_cond (sG_cond (sG_leaf gT16_15) (sG_leaf gT16_16)) (sG_cond (sG_leaf gT16_17) (sG_leaf gT16_18))) (sG_cond (sG_cond (sG_leaf gT16_19) (sG_leaf gT16_20)) (sG_cond (sG_leaf gT16_21) (sG_cond (sG_leaf gT16_24) (sG_leaf gT16_25)))))
theorem gT17_0 : sG l g D H0 mT 17 0 (s_load vRf 17 1 0) := ⟨ok_load _ _ _ _, so_aload_n mT17 dJ2_fastRemove_0 rfl⟩
theorem gT17_1 : sG l g D H0 mT 17 1 (s_dup 17 2) := ⟨ok_dup _ _, so_dup mT17 dJ2_fastRemove_1⟩
theorem gT17_2 : sG l g D H0 mT 17 2 (s_getf 17 5 10 0) := ⟨ok_getf _ _ _ _, so_getf mT17 cl10 (k := 0) (by decide) dJ2_fastRemove_2 q120 (fs_mod rfl)⟩
theorem gT17_5 : sG l g D H0 mT 17 5 (s_const 17 6 (.int 1)) := ⟨ok_const _ _ _, so_iconst mT17 dJ2_fastRemove_5 (by decide)⟩
theorem gT17_6 : sG l g D H0 mT 17 6 (s_bin 17 7 (fun a b => a + b)) := ⟨ok_bin _ _ _, so_iadd mT17 dJ2_fastRemove_6⟩
theorem gT17_7 : sG l g D H0 mT 17 7 (s_putf g pI 17 10 10 0) := ⟨ok_putf _ _ _ _ _ _, so_putf mT17 cl10 (k := 0) (by decide) fI rfl dJ2_fastRemove_7 q120 (fs_mod rfl)⟩
theorem gT17_10 : sG l g D H0 mT 17 10 (s_load vRf 17 11 0) := ⟨ok_load _ _ _ _, so_aload_n mT17 dJ2_fastRemove_10 rfl⟩
theorem gT17_11 : sG l g D H0 mT 17 11 (s_getf 17 14 10 2) := ⟨ok_getf _ _ _ _, so_getf mT17 cl10 (k := 2) (by decide) dJ2_fastRemove_11 q116 (fs_rf rfl)⟩
theorem gT17_14 : sG l g D H0 mT 17 14 (s_const 17 15 (.int 1)) := ⟨ok_const _ _ _, so_iconst mT17 dJ2_fastRemove_14 (by decide)⟩
theorem gT17_15 : sG l g D H0 mT 17 15 (s_bin 17 16 (fun a b => a - b)) := ⟨ok_bin _ _ _, so_isub mT17 dJ2_fastRemove_15⟩
theorem gT17_16 : sG l g D H0 mT 17 16 (s_dup 17 17) := ⟨ok_dup _ _, so_dup mT17 dJ2_fastRemove_16⟩
theorem gT17_17 : sG l g D H0 mT 17 17 (s_store vI 17 18 3) := ⟨ok_store _ _ _ _, so_istore_n mT17 dJ2_fastRemove_17 rfl⟩
theorem gT17_18 : sG l g D H0 mT 17 18 (s_load vI 17 19 2) := ⟨ok_load _ _ _ _, so_iload_n mT17 dJ2_fastRemove_18 rfl⟩
theorem gT17_19 : sG l g D H0 mT 17 19 (s_icmp 17 22 34 (fun a b => a ≤ b)) := ⟨ok_icmp _ _ _ _, so_icmp_le mT17 dJ2_fastRemove_19 (by decide)⟩
theorem gT17_22 : sG l g D H0 mT 17 22 (s_load vRf 17 23 1) := ⟨ok_load _ _ _ _, so_aload_n mT17 dJ2_fastRemove_22 rfl⟩
theorem gT17_23 : sG l g D H0 mT 17 23 (s_load vI 17 24 2) := ⟨ok_load _ _ _ _, so_iload_n mT17 dJ2_fastRemove_23 rfl⟩
theorem gT17_24 : sG l g D H0 mT 17 24 (s_const 17 25 (.int 1)) := ⟨ok_const _ _ _, so_iconst mT17 dJ2_fastRemove_24 (by decide)⟩
theorem gT17_25 : sG l g D H0 mT 17 25 (s_bin 17 26 (fun a b => a + b)) := ⟨ok_bin _ _ _, so_iadd mT17 dJ2_fastRemove_25⟩
theorem gT17_26 : sG l g D H0 mT 17 26 (s_load vRf 17 27 1) := ⟨ok_load _ _ _ _, so_aload_n mT17 dJ2_fastRemove_26 rfl⟩
theorem gT17_27 : sG l g D H0 mT 17 27 (s_load vI 17 28 2) := ⟨ok_load _ _ _ _, so_iload_n mT17 dJ2_fastRemove_27 rfl⟩
theorem gT17_28 : sG l g D H0 mT 17 28 (s_load vI 17 29 3) := ⟨ok_load _ _ _ _, so_iload_n mT17 dJ2_fastRemove_28 rfl⟩
theorem gT17_29 : sG l g D H0 mT 17 29 (s_load vI 17 30 2) := ⟨ok_load _ _ _ _, so_iload_n mT17 dJ2_fastRemove_29 rfl⟩
theorem gT17_30 : sG l g D H0 mT 17 30 (s_bin 17 31 (fun a b => a - b)) := ⟨ok_bin _ _ _, so_isub mT17 dJ2_fastRemove_30⟩
theorem gT17_31 : sG l g D H0 mT 17 31 (s_acopy g vOb 17 34 24) := ⟨ok_acopy _ _ _ _ _, so_acopy mT17 (by decide) a24 e24 dJ2_fastRemove_31 q190 q192 q191 q61⟩
theorem gT17_34 : sG l g D H0 mT 17 34 (s_load vRf 17 35 1) := ⟨ok_load _ _ _ _, so_aload_n mT17 dJ2_fastRemove_34 rfl⟩
theorem gT17_35 : sG l g D H0 mT 17 35 (s_load vRf 17 36 0) := ⟨ok_load _ _ _ _, so_aload_n mT17 dJ2_fastRemove_35 rfl⟩
theorem gT17_36 : sG l g D H0 mT 17 36 (s_load vI 17 37 3) := ⟨ok_load _ _ _ _, so_iload_n mT17 dJ2_fastRemove_36 rfl⟩
theorem gT17_37 : sG l g D H0 mT 17 37 (s_dupx1 17 38) := ⟨ok_dupx1 _ _, so_dupx1 mT17 dJ2_fastRemove_37⟩
theorem gT17_38 : sG l g D H0 mT 17 38 (s_putf g pI 17 41 10 2) := ⟨ok_putf _ _ _ _ _ _, so_putf mT17 cl10 (k := 2) (by decide) fI rfl dJ2_fastRemove_38 q116 (fs_rf rfl)⟩
theorem gT17_41 : sG l g D H0 mT 17 41 (s_const 17 42 .null) := ⟨ok_const _ _ _, so_null mT17 dJ2_fastRemove_41⟩
theorem gT17_42 : sG l g D H0 mT 17 42 (s_ast g vOb 17 43 24) := ⟨ok_ast _ _ _ _ _, so_aastN mT17 dJ2_fastRemove_42⟩
theorem gT17_43 : sG l g D H0 mT 17 43 (s_vret) := ⟨ok_vret, so_vret mT17 dJ2_fastRemove_43⟩
theorem gT17 (pc : Nat) : sG l g D H0 mT 17 pc (tT17 g pc) := sG_cond (sG_cond (sG_cond (sG_cond (sG_cond (sG_leaf gT17_0) (sG_leaf gT17_1)) (sG_cond (sG_leaf gT17_2) (sG_leaf gT17_5))) (sG_cond (sG_cond (sG_leaf gT17_6) (sG_leaf gT17_7)) (sG_cond (sG_leaf gT17_10) (sG_leaf gT17_11)))) (sG_cond (sG_cond (sG_cond (sG_leaf gT17_14) (sG_leaf gT17_15)) (sG_cond (sG_leaf gT17_16) (sG_leaf gT17_17))) (sG_cond (sG_cond (sG_leaf gT17_18) (sG_leaf gT17_19)) (sG_cond (sG_leaf gT17_22) (sG_leaf gT17_23))))) (sG_cond (sG_cond (sG_cond (sG_cond (sG_leaf gT17_24) (sG_leaf gT17_25)) (sG_cond (sG_leaf gT17_26) (sG_leaf gT17_27))) (sG_cond (sG_cond (sG_leaf gT17_28) (sG_leaf gT17_29)) (sG_cond (sG_leaf gT17_30) (sG_leaf gT17_31)))) (sG_cond (sG_cond (sG_cond (sG_leaf gT17_34) (sG_leaf gT17_35)) (sG_cond (sG_leaf gT17_36) (sG_leaf gT17_37))) (sG_cond (sG_cond (sG_leaf gT17_38) (sG_leaf gT17_41)) (sG_cond (sG_leaf gT17_42) (sG_leaf gT17_43)))))
theorem gT18_0 : sG l g D H0 mT 18 0 (s_load vRf 18 1 0) := ⟨ok_load _ _ _ _, so_aload_n mT18 dJ2_add_0 rfl⟩
theorem gT18_1 : sG l g D H0 mT 18 1 (s_dup 18 2) := ⟨ok_dup _ _, so_dup mT18 dJ2_add_1⟩
theorem gT18_2 : sG l g D H0 mT 18 2 (s_getf 18 5 10 0) := ⟨ok_getf _ _ _ _, so_getf mT18 cl10 (k := 0) (by decide) dJ2_add_2 q120 (fs_mod rfl)⟩
theorem gT18_5 : sG l g D H0 mT 18 5 (s_const 18 6 (.int 1)) := ⟨ok_const _ _ _, so_iconst mT18 dJ2_add_5 (by decide)⟩
theorem gT18_6 : sG l g D H0 mT 18 6 (s_bin 18 7 (fun a b => a + b)) := ⟨ok_bin _ _ _, so_iadd mT18 dJ2_add_6⟩
theorem gT18_7 : sG l g D H0 mT 18 7 (s_putf g pI 18 10 10 0) := ⟨ok_putf _ _ _ _ _ _, so_putf mT18 cl10 (k := 0) (by decide) fI rfl dJ2_add_7 q120 (fs_mod rfl)⟩
theorem gT18_10 : sG l g D H0 mT 18 10 (s_load vRf 18 11 0) := ⟨ok_load _ _ _ _, so_aload_n mT18 dJ2_add_10 rfl⟩
theorem gT18_11 : sG l g D H0 mT 18 11 (s_load vRf 18 12 1) := ⟨ok_load _ _ _ _, so_aload_n mT18 dJ2_add_11 rfl⟩
theorem gT18_12 : sG l g D H0 mT 18 12 (s_load vRf 18 13 0) := ⟨ok_load _ _ _ _, so_aload_n mT18 dJ2_add_12 rfl⟩
theorem gT18_13 : sG l g D H0 mT 18 13 (s_getf 18 16 10 1) := ⟨ok_getf _ _ _ _, so_getf mT18 cl10 (k := 1) (by decide) dJ2_add_13 q113 (fs_rf rfl)⟩
theorem gT18_16 : sG l g D H0 mT 18 16 (s_load vRf 18 17 0) := ⟨ok_load _ _ _ _, so_aload_n mT18 dJ2_add_16 rfl⟩
theorem gT18_17 : sG l g D H0 mT 18 17 (s_getf 18 20 10 2) := ⟨ok_getf _ _ _ _, so_getf mT18 cl10 (k := 2) (by decide) dJ2_add_17 q116 (fs_rf rfl)⟩
theorem gT18_20 : sG l g D H0 mT 18 20 (s_callvk 18 23 19 10 [1, 1, 0] 4) := ⟨ok_callvk _ _ _ _ _ _, sk_callv (by decide) (so_callV mT18 mo19 (by decide) (t := 10) (C := "java/util/ArrayList") (by decide) rfl rfl dJ2_add_20 q231 q233 qs2 q58)⟩
theorem gT18_23 : sG l g D H0 mT 18 23 (s_const 18 24 (.int 1)) := ⟨ok_const _ _ _, so_iconst mT18 dJ2_add_23 (by decide)⟩
theorem gT18_24 : sG l g D H0 mT 18 24 (s_ret vZ) := ⟨ok_ret _, so_zret mT18 dJ2_add_24⟩
theorem gT18 (pc : Nat) : sG l g D H0 mT 18 pc (tT18 g pc) := sG_cond (sG_cond (sG_cond (sG_leaf gT18_0) (sG_cond (sG_leaf gT18_1) (sG_leaf gT18_2))) (sG_cond (sG_cond (sG_leaf gT18_5) (sG_leaf gT18_6)) (sG_cond (sG_leaf gT18_7) (sG_leaf gT18_10)))) (sG_cond (sG_cond (sG_cond (sG_leaf gT18_11) (sG_leaf gT18_12)) (sG_cond (sG_leaf gT18_13) (sG_leaf gT18_16))) (sG_cond (sG_cond (sG_leaf gT18_17) (sG_leaf gT18_20)) (sG_cond (sG_leaf gT18_23) (sG_leaf gT18_24))))
theorem gT19_0 : sG l g D H0 mT 19 0 (s_load vI 19 1 3) := ⟨ok_load _ _ _ _, so_iload_n mT19 dJ2_add_2_0 rfl⟩
theorem gT19_1 : sG l g D H0 mT 19 1 (s_load vRf 19 2 2) := ⟨ok_load _ _ _ _, so_aload_n mT19 dJ2_add_2_1 rfl⟩
theorem gT19_2 : sG l g D H0 mT 19 2 (s_alen 19 3 24) := ⟨ok_alen _ _ _, so_alen mT19 a24 dJ2_add_2_2⟩
theorem gT19_3 : sG l g D H0 mT 19 3 (s_icmp 19 11 6 (fun a b => a = b)) := ⟨ok_icmp _ _ _ _, so_icmp_ne mT19 dJ2_add_2_3 (by decide)⟩
theorem gT19_6 : sG l g D H0 mT 19 6 (s_load vRf 19 7 0) := ⟨ok_load _ _ _ _, so_aload_n mT19 dJ2_add_2_6 rfl⟩
theorem gT19_7 : sG l g D H0 mT 19 7 (s_callvk 19 10 20 10 [] 1) := ⟨ok_callvk _ _ _ _ _ _, sk_callv (by decide) (so_callV mT19 mo20 (by decide) (t := 10) (C := "java/util/ArrayList") (by decide) rfl rfl dJ2_add_2_7 q235 q237 qs3 q58)⟩
theorem gT19_10 : sG l g D H0 mT 19 10 (s_store vRf 19 11 2) := ⟨ok_store _ _ _ _, so_astore_n mT19 dJ2_add_2_10 rfl⟩
theorem gT19_11 : sG l g D H0 mT 19 11 (s_load vRf 19 12 2) := ⟨ok_load _ _ _ _, so_aload_n mT19 dJ2_add_2_11 rfl⟩
theorem gT19_12 : sG l g D H0 mT 19 12 (s_load vI 19 13 3) := ⟨ok_load _ _ _ _, so_iload_n mT19 dJ2_add_2_12 rfl⟩
theorem gT19_13 : sG l g D H0 mT 19 13 (s_load vRf 19 14 1) := ⟨ok_load _ _ _ _, so_aload_n mT19 dJ2_add_2_13 rfl⟩
theorem gT19_14 : sG l g D H0 mT 19 14 (s_ast g vOb 19 15 24) := ⟨ok_ast _ _ _ _ _, so_aastN mT19 dJ2_add_2_14⟩
theorem gT19_15 : sG l g D H0 mT 19 15 (s_load vRf 19 16 0) := ⟨ok_load _ _ _ _, so_aload_n mT19 dJ2_add_2_15 rfl⟩
theorem gT19_16 : sG l g D H0 mT 19 16 (s_load vI 19 17 3) := ⟨ok_load _ _ _ _, so_iload_n mT19 dJ2_add_2_16 rfl⟩
theorem gT19_17 : sG l g D H0 mT 19 17 (s_const 19 18 (.int 1)) := ⟨ok_const _ _ _, so_iconst mT19 dJ2_add_2_17 (by decide)⟩
theorem gT19_18 : sG l g D H0 mT 19 18 (s_bin 19 19 (fun a b => a + b)) := ⟨ok_bin _ _ _, so_iadd mT19 dJ2_add_2_18⟩
theorem gT19_19 : sG l g D H0 mT 19 19 (s_putf g pI 19 22 10 2) := ⟨ok_putf _ _ _ _ _ _, so_putf mT19 cl10 (k := 2) (by decide) fI rfl dJ2_add_2_19 q116 (fs_rf rfl)⟩
theorem gT19_22 : sG l g D H0 mT 19 22 (s_vret) := ⟨ok_vret, so_vret mT19 dJ2_add_2_22⟩
theorem gT19 (pc : Nat) : sG l g D H0 mT 19 pc (tT19 g pc) := sG_cond (sG_cond (sG_cond (sG_cond (sG_leaf gT19_0) (sG_leaf gT19_1)) (sG_cond (sG_leaf gT19_2) (sG_leaf gT19_3))) (sG_cond (sG_cond (sG_leaf gT19_6) (sG_leaf gT19_7)) (sG_cond (sG_leaf gT19_10) (sG_leaf gT19_11)))) (sG_cond (sG_cond (sG_cond (sG_leaf gT19_12) (sG_leaf gT19_13)) (sG_cond (sG_leaf gT19_14) (sG_leaf gT19_15))) (sG_cond (sG_cond (sG_leaf gT19_16) (sG_leaf gT19_17)) (sG_cond (sG_leaf gT19_18) (sG_cond (sG_leaf gT19_19) (sG_leaf gT19_22)))))
theorem gT20_0 : sG l g D H0 mT 20 0 (s_load vRf 20 1 0) := ⟨ok_load _ _ _ _, so_aload_n mT20 dJ2_grow_0 rfl⟩
theorem gT20_1 : sG l g D H0 mT 20 1 (s_load vRf 20 2 0) := ⟨ok_load _ _ _ _, so_aload_n mT20 dJ2_grow_1 rfl⟩
theorem gT20_2 : sG l g D H0 mT 20 2 (s_getf 20 5 10 2) := ⟨ok_getf _ _ _ _, so_getf mT20 cl10 (k := 2) (by decide) dJ2_grow_2 q116 (fs_rf rfl)⟩
theorem gT20_5 : sG l g D H0 mT 20 5 (s_const 20 6 (.int 1)) := ⟨ok_const _ _ _, so_iconst mT20 dJ2_grow_5 (by decide)⟩
theorem gT20_6 : sG l g D H0 mT 20 6 (s_bin 20 7 (fun a b => a + b)) := ⟨ok_bin _ _ _, so_iadd mT20 dJ2_grow_6⟩
theorem gT20_7 : sG l g D H0 mT 20 7 (s_callvk 20 10 21 10 [0] 4) := ⟨ok_callvk _ _ _ _ _ _, sk_callv (by decide) (so_callV mT20 mo21 (by decide) (t := 10) (C := "java/util/ArrayList") (by decide) rfl rfl dJ2_grow_7 q239 q241 qs4 q58)⟩
theorem gT20_10 : sG l g D H0 mT 20 10 (s_ret pR) := ⟨ok_ret _, so_aret mT20 dJ2_grow_10 (Or.inr ⟨_, rfl⟩)⟩
theorem gT20 (pc : Nat) : sG l g D H0 mT 20 pc (tT20 g pc) := sG_cond (sG_cond (sG_leaf gT20_0) (sG_cond (sG_leaf gT20_1) (sG_leaf gT20_2))) (sG_cond (sG_cond (sG_leaf gT20_5) (sG_leaf gT20_6)) (sG_cond (sG_leaf gT20_7) (sG_leaf gT20_10)))
theorem gT21_0 : sG l g D H0 mT 21 0 (s_load vRf 21 1 0) := ⟨ok_load _ _ _ _, so_aload_n mT21 dJ2_grow_2_0 rfl⟩
theorem gT21_1 : sG l g D H0 mT 21 1 (s_getf 21 4 10 1) := ⟨ok_getf _ _ _ _, so_getf mT21 cl10 (k := 1) (by decide) dJ2_grow_2_1 q113 (fs_rf rfl)⟩
theorem gT21_4 : sG l g D H0 mT 21 4 (s_alen 21 5 24) := ⟨ok_alen _ _ _, so_alen mT21 a24 dJ2_grow_2_4⟩
theorem gT21_5 : sG l g D H0 mT 21 5 (s_store vI 21 6 2) := ⟨ok_store _ _ _ _, so_istore_n mT21 dJ2_grow_2_5 rfl⟩
theorem gT21_6 : sG l g D H0 mT 21 6 (s_load vI 21 7 2) := ⟨ok_load _ _ _ _, so_iload_n mT21 dJ2_grow_2_6 rfl⟩
theorem gT21_7 : sG l g D H0 mT 21 7 (s_if 21 10 20 (fun a => 0 < a)) := ⟨ok_if _ _ _ _, so_if_gt mT21 dJ2_grow_2_7 (by decide)⟩
theorem gT21_10 : sG l g D H0 mT 21 10 (s_load vRf 21 11 0) := ⟨ok_load _ _ _ _, so_aload_n mT21 dJ2_grow_2_10 rfl⟩
theorem gT21_11 : sG l g D H0 mT 21 11 (s_getf 21 14 10 1) := ⟨ok_getf _ _ _ _, so_getf mT21 cl10 (k := 1) (by decide) dJ2_grow_2_11 q113 (fs_rf rfl)⟩
theorem gT21_14 : sG l g D H0 mT 21 14 (s_const 21 17 (.ref (gV g 0))) := ⟨ok_const _ _ _, so_gets0 mT21 dJ2_grow_2_14 q111⟩
theorem gT21_17 : sG l g D H0 mT 21 17 (s_acmp 21 20 45) := ⟨ok_acmp _ _ _, so_acmp_eq mT21 dJ2_grow_2_17 (by decide)⟩
theorem gT21_20 : sG l g D H0 mT 21 20 (s_load vI 21 21 2) := ⟨ok_load _ _ _ _, so_iload_n mT21 dJ2_grow_2_20 rfl⟩
theorem gT21_21 : sG l g D H0 mT 21 21 (s_load vI 21 22 1) := ⟨ok_load _ _ _ _, so_iload_n mT21 dJ2_grow_2_21 rfl⟩
theorem gT21_22 : sG l g D H0 mT 21 22 (s_load vI 21 23 2) := ⟨ok_load _ _ _ _, so_iload_n mT21 dJ2_grow_2_22 rfl⟩
theorem gT21_23 : sG l g D H0 mT 21 23 (s_bin 21 24 (fun a b => a - b)) := ⟨ok_bin _ _ _, so_isub mT21 dJ2_grow_2_23⟩
theorem gT21_24 : sG l g D H0 mT 21 24 (s_load vI 21 25 2) := ⟨ok_load _ _ _ _, so_iload_n mT21 dJ2_grow_2_24 rfl⟩
theorem gT21_25 : sG l g D H0 mT 21 25 (s_const 21 26 (.int 1)) := ⟨ok_const _ _ _, so_iconst mT21 dJ2_grow_2_25 (by decide)⟩
theorem gT21_26 : sG l g D H0 mT 21 26 (s_bin 21 27 (fun a b => a >>> (b &&& 31))) := ⟨ok_bin _ _ _, so_ishr mT21 dJ2_grow_2_26⟩
theorem gT21_27 : sG l g D H0 mT 21 27 (s_callk 21 30 32 [0, 0, 0] 4) := ⟨ok_callk _ _ _ _ _, sk_call (by decide) (so_callS mT21 mo32 (by decide) dJ2_grow_2_27 q243 q244 q63)⟩
theorem gT21_30 : sG l g D H0 mT 21 30 (s_store vI 21 31 3) := ⟨ok_store _ _ _ _, so_istore_n mT21 dJ2_grow_2_30 rfl⟩
theorem gT21_31 : sG l g D H0 mT 21 31 (s_load vRf 21 32 0) := ⟨ok_load _ _ _ _, so_aload_n mT21 dJ2_grow_2_31 rfl⟩
theorem gT21_32 : sG l g D H0 mT 21 32 (s_load vRf 21 33 0) := ⟨ok_load _ _ _ _, so_aload_n mT21 dJ2_grow_2_32 rfl⟩
theorem gT21_33 : sG l g D H0 mT 21 33 (s_getf 21 36 10 1) := ⟨ok_getf _ _ _ _, so_getf mT21 cl10 (k := 1) (by decide) dJ2_grow_2_33 q113 (fs_rf rfl)⟩
theorem gT21_36 : sG l g D H0 mT 21 36 (s_load vI 21 37 3) := ⟨ok_load _ _ _ _, so_iload_n mT21 dJ2_grow_2_36 rfl⟩
theorem gT21_37 : sG l g D H0 mT 21 37 (s_callk 21 40 36 [1, 0] 2) := ⟨ok_callk _ _ _ _ _, sk_call (by decide) (so_callS mT21 mo36 (by decide) dJ2_grow_2_37 q253 q254 q65)⟩
theorem gT21_40 : sG l g D H0 mT 21 40 (s_dupx1 21 41) := ⟨ok_dupx1 _ _, so_dupx1 mT21 dJ2_grow_2_40⟩
theorem gT21_41 : sG l g D H0 mT 21 41 (s_putf g pR 21 44 10 1) := ⟨ok_putf _ _ _ _ _ _, so_putf mT21 cl10 (k := 1) (by decide) fA rfl dJ2_grow_2_41 q113 (fs_rf rfl)⟩
theorem gT21_44 : sG l g D H0 mT 21 44 (s_ret pR) := ⟨ok_ret _, so_aret mT21 dJ2_grow_2_44 (Or.inr ⟨_, rfl⟩)⟩
theorem gT21_45 : sG l g D H0 mT 21 45 (s_load vRf 21 46 0) := ⟨ok_load _ _ _ _, so_aload_n mT21 dJ2_grow_2_45 rfl⟩
theorem gT21_46 : sG l g D H0 mT 21 46 (s_const 21 48 (.int 10)) := ⟨ok_const _ _ _, so_bipush mT21 dJ2_grow_2_46 (by decide)⟩
theorem gT21_48 : sG l g D H0 mT 21 48 (s_load vI 21 49 1) := ⟨ok_load _ _ _ _, so_iload_n mT21 dJ2_grow_2_48 rfl⟩
theorem gT21_49 : sG l g D H0 mT 21 49 (s_callk 21 52 34 [0, 0] 2) := ⟨ok_callk _ _ _ _ _, sk_call (by decide) (so_callS mT21 mo34 (by decide) dJ2_grow_2_49 q287 q247 q64)⟩
theorem gT21_52 : sG l g D H0 mT 21 52 (s_newa g 21 55 24 (.null)) := ⟨ok_newa _ _ _ _ _, so_anewO mT21 dJ2_grow_2_52 q288⟩
theorem gT21_55 : sG l g D H0 mT 21 55 (s_dupx1 21 56) := ⟨ok_dupx1 _ _, so_dupx1 mT21 dJ2_grow_2_55⟩
theorem gT21_56 : sG l g D H0 mT 21 56 (s_putf g pR 21 59 10 1) := ⟨ok_putf _ _ _ _ _ _, so_putf mT21 cl10 (k := 1) (by decide) fA rfl dJ2_grow_2_56 q113 (fs_rf rfl)⟩
theorem gT21_59 : sG l g D H0 mT 21 59 (s_ret pR) := ⟨ok_ret _, so_aret mT21 dJ2_grow_2_59 (Or.inr ⟨_, rfl⟩)⟩
theorem gT21 (pc : Nat) : sG l g D H0 mT 21 pc (tT21 g pc) := sG_cond (sG_cond (sG_cond (sG_cond (sG_cond (sG_leaf gT21_0) (sG_leaf gT21_1)) (sG_cond (sG_leaf gT21_4) (sG_leaf gT21_5))) (sG_cond (sG_cond (sG_leaf gT21_6) (sG_leaf gT21_7)) (sG_cond (sG_leaf gT21_10) (sG_leaf gT21_11)))) (sG_cond (sG_cond (sG_cond (sG_leaf gT21_14) (sG_leaf gT21_17)) (sG_cond (sG_leaf gT21_20) (sG_leaf gT21_21))) (sG_cond (sG_cond (sG_leaf gT21_22) (sG_leaf gT21_23)) (sG_cond (sG_leaf gT21_24) (sG_cond (sG_leaf gT21_25) (sG_leaf gT21_26)))))) (sG_cond (sG_cond (sG_cond (sG_cond (sG_leaf gT21_27) (sG_leaf gT21_30)) (sG_cond (sG_leaf gT21_31) (sG_leaf gT21_32))) (sG_cond (sG_cond (sG_leaf gT21_33) (sG_leaf gT21_36)) (sG_cond (sG_leaf gT21_37) (sG_cond (sG_leaf gT21_40) (sG_leaf gT21_41))))) (sG_cond (sG_cond (sG_cond (sG_leaf gT21_44) (sG_leaf gT21_45)) (sG_cond (sG_leaf gT21_46) (sG_leaf gT21_48))) (sG_cond (sG_cond (sG_leaf gT21_49) (sG_leaf gT21_52)) (sG_cond (sG_leaf gT21_55) (sG_cond (sG_leaf gT21_56) (sG_leaf gT21_59))))))
theorem gT22_0 : sG l g D H0 mT 22 0 (s_new g 22 3 11 4 (fun k => defaultValue (tyJ16 k))) := ⟨ok_new _ _ _ _ _ _, so_new mT22 cl11 (fun _ _ => rfl) dJ2_iterator_0 q306 q307 q80⟩
theorem gT22_3 : sG l g D H0 mT 22 3 (s_dup 22 4) := ⟨ok_dup _ _, so_dup mT22 dJ2_iterator_3⟩
theorem gT22_4 : sG l g D H0 mT 22 4 (s_load vRf 22 5 0) := ⟨ok_load _ _ _ _, so_aload_n mT22 dJ2_iterator_4 rfl⟩
theorem gT22_5 : sG l g D H0 mT 22 5 (s_callik 22 8 2 [1] 2) := ⟨ok_callik _ _ _ _ _, sk_calli (by decide) (so_callI mT22 mo2 (by decide) rfl dJ2_iterator_5 q308 q309 q80)⟩
theorem gT22_8 : sG l g D H0 mT 22 8 (s_ret pR) := ⟨ok_ret _, so_aret mT22 dJ2_iterator_8 (Or.inl ⟨_, rfl⟩)⟩
theorem gT22 (pc : Nat) : sG l g D H0 mT 22 pc (tT22 g pc) := sG_cond (sG_cond (sG_leaf gT22_0) (sG_leaf gT22_3)) (sG_cond (sG_leaf gT22_4) (sG_cond (sG_leaf gT22_5) (sG_leaf gT22_8)))
theorem gT23_0 : sG l g D H0 mT 23 0 (s_load vRf 23 1 0) := ⟨ok_load _ _ _ _, so_aload_n mT23 dJ2_indexOf_0 rfl⟩
theorem gT23_1 : sG l g D H0 mT 23 1 (s_load vRf 23 2 1) := ⟨ok_load _ _ _ _, so_aload_n mT23 dJ2_indexOf_1 rfl⟩
theorem gT23_2 : sG l g D H0 mT 23 2 (s_const 23 3 (.int 0)) := ⟨ok_const _ _ _, so_iconst mT23 dJ2_indexOf_2 (by decide)⟩
theorem gT23_3 : sG l g D H0 mT 23 3 (s_load vRf 23 4 0) := ⟨ok_load _ _ _ _, so_aload_n mT23 dJ2_indexOf_3 rfl⟩
theorem gT23_4 : sG l g D H0 mT 23 4 (s_getf 23 7 10 2) := ⟨ok_getf _ _ _ _, so_getf mT23 cl10 (k := 2) (by decide) dJ2_indexOf_4 q116 (fs_rf rfl)⟩
theorem gT23_7 : sG l g D H0 mT 23 7 (s_callvk 23 10 24 10 [1, 0, 0] 6) := ⟨ok_callvk _ _ _ _ _ _, sk_callv (by decide) (so_callV mT23 mo24 (by decide) (t := 10) (C := "java/util/ArrayList") (by decide) rfl rfl dJ2_indexOf_7 q403 q404 q405 q58)⟩
theorem gT23_10 : sG l g D H0 mT 23 10 (s_ret pI) := ⟨ok_ret _, so_iret mT23 dJ2_indexOf_10⟩
theorem gT23 (pc : Nat) : sG l g D H0 mT 23 pc (tT23 g pc) := sG_cond (sG_cond (sG_leaf gT23_0) (sG_cond (sG_leaf gT23_1) (sG_leaf gT23_2))) (sG_cond (sG_cond (sG_leaf gT23_3) (sG_leaf gT23_4)) (sG_cond (sG_leaf gT23_7) (sG_leaf gT23_10)))
theorem gT24_0 : sG l g D H0 mT 24 0 (s_load vRf 24 1 0) := ⟨ok_load _ _ _ _, so_aload_n mT24 dJ2_indexOfRange_0 rfl⟩
theorem gT24_1 : sG l g D H0 mT 24 1 (s_getf 24 4 10 1) := ⟨ok_getf _ _ _ _, so_getf mT24 cl10 (k := 1) (by decide) dJ2_indexOfRange_1 q113 (fs_rf rfl)⟩
theorem gT24_4 : sG l g D H0 mT 24 4 (s_store vRf 24 6 4) := ⟨ok_store _ _ _ _, so_astore mT24 dJ2_indexOfRange_4⟩
theorem gT24_6 : sG l g D H0 mT 24 6 (s_load vRf 24 7 1) := ⟨ok_load _ _ _ _, so_aload_n mT24 dJ2_indexOfRange_6 rfl⟩
theorem gT24_7 : sG l g D H0 mT 24 7 (s_ifnn 24 10 39) := ⟨ok_ifnn _ _ _, so_ifnonnull mT24 dJ2_indexOfRange_7 (by decide)⟩
theorem gT24_10 : sG l g D H0 mT 24 10 (s_load vI 24 11 2) := ⟨ok_load _ _ _ _, so_iload_n mT24 dJ2_indexOfRange_10 rfl⟩
theorem gT24_11 : sG l g D H0 mT 24 11 (s_store vI 24 13 5) := ⟨ok_store _ _ _ _, so_istore mT24 dJ2_indexOfRange_11⟩
theorem gT24_13 : sG l g D H0 mT 24 13 (s_load vI 24 15 5) := ⟨ok_load _ _ _ _, so_iload mT24 dJ2_indexOfRange_13⟩
theorem gT24_15 : sG l g D H0 mT 24 15 (s_load vI 24 16 3) := ⟨ok_load _ _ _ _, so_iload_n mT24 dJ2_indexOfRange_15 rfl⟩
theorem gT24_16 : sG l g D H0 mT 24 16 (s_icmp 24 19 36 (fun a b => b ≤ a)) := ⟨ok_icmp _ _ _ _, so_icmp_ge mT24 dJ2_indexOfRange_16 (by decide)⟩
theorem gT24_19 : sG l g D H0 mT 24 19 (s_load vRf 24 21 4) := ⟨ok_load _ _ _ _, so_aload mT24 dJ2_indexOfRange_19⟩
theorem gT24_21 : sG l g D H0 mT 24 21 (s_load vI 24 23 5) := ⟨ok_load _ _ _ _, so_iload mT24 dJ2_indexOfRange_21⟩
theorem gT24_23 : sG l g D H0 mT 24 23 (s_ald 24 24 24) := ⟨ok_ald _ _ _, so_aald mT24 a24 rfl dJ2_indexOfRange_23⟩
theorem gT24_24 : sG l g D H0 mT 24 24 (s_ifnn 24 27 30) := ⟨ok_ifnn _ _ _, so_ifnonnull mT24 dJ2_indexOfRange_24 (by decide)⟩
theorem gT24_27 : sG l g D H0 mT 24 27 (s_load vI 24 29 5) := ⟨ok_load _ _ _ _, so_iload mT24 dJ2_indexOfRange_27⟩
theorem gT24_29 : sG l g D H0 mT 24 29 (s_ret pI) := ⟨ok_ret _, so_iret mT24 dJ2_indexOfRange_29⟩
theorem gT24_30 : sG l g D H0 mT 24 30 (s_iinc 24 33 5 1) := ⟨ok_iinc _ _ _ _, so_iinc mT24 dJ2_indexOfRange_30 (by decide)⟩
theorem gT24_33 : sG l g D H0 mT 24 33 (s_goto 24 13) := ⟨ok_goto _ _, so_goto mT24 dJ2_indexOfRange_33 (by decide)⟩
theorem gT24_36 : sG l g D H0 mT 24 36 (s_goto 24 69) := ⟨ok_goto _ _, so_goto mT24 dJ2_indexOfRange_36 (by decide)⟩
theorem gT24_39 : sG l g D H0 mT 24 39 (s_load vI 24 40 2) := ⟨ok_load _ _ _ _, so_iload_n mT24 dJ2_indexOfRange_39 rfl⟩
theorem gT24_40 : sG l g D H0 mT 24 40 (s_store vI 24 42 5) := ⟨ok_store _ _ _ _, so_istore mT24 dJ2_indexOfRange_40⟩
theorem gT24_42 : sG l g D H0 mT 24 42 (s_load vI 24 44 5) := ⟨ok_load _ _ _ _, so_iload mT24 dJ2_indexOfRange_42⟩
theorem gT24_44 : sG l g D H0 mT 24 44 (s_load vI 24 45 3) := ⟨ok_load _ _ _ _, so_iload_n mT24 dJ2_indexOfRange_44 rfl⟩
theorem gT24_45 : sG l g D H0 mT 24 45 (s_icmp 24 48 69 (fun a b => b ≤ a)) := ⟨ok_icmp _ _ _ _, so_icmp_ge mT24 dJ2_indexOfRange_45 (by decide)⟩
theorem gT24_48 : sG l g D H0 mT 24 48 (s_load vRf 24 49 1) := ⟨ok_load _ _ _ _, so_aload_n mT24 dJ2_indexOfRange_48 rfl⟩
theorem gT24_49 : sG l g D H0 mT 24 49 (s_load vRf 24 51 4) := ⟨ok_load _ _ _ _, so_aload mT24 dJ2_indexOfRange_49⟩
theorem gT24_51 : sG l g D H0 mT 24 51 (s_load vI 24 53 5) := ⟨ok_load _ _ _ _, so_iload mT24 dJ2_indexOfRange_51⟩
theorem gT24_53 : sG l g D H0 mT 24 53 (s_ald 24 54 24) := ⟨ok_ald _ _ _, so_aald mT24 a24 rfl dJ2_indexOfRange_53⟩
theorem gT24_54 : sG l g D H0 mT 24 54 (s_callvk 24 57 13 2 [1] 2) := ⟨ok_callvk _ _ _ _ _ _, sk_callv (by decide) (so_callU mT24 mo13 (by decide) (t := 2) (C := "HyperVane$Frame") (owner := "java/lang/Object") (by decide) rfl rfl dJ2_indexOfRange_54 q408 q410 q409 q412 q1698)⟩
theorem gT24_57 : sG l g D H0 mT 24 57 (s_if 24 60 63 (fun a => a = 0)) := ⟨ok_if _ _ _ _, so_if_eq mT24 dJ2_indexOfRange_57 (by decide)⟩
theorem gT24_60 : sG l g D H0 mT 24 60 (s_load vI 24 62 5) := ⟨ok_load _ _ _ _, so_iload mT24 dJ2_indexOfRange_60⟩
theorem gT24_62 : sG l g D H0 mT 24 62 (s_ret pI) := ⟨ok_ret _, so_iret mT24 dJ2_indexOfRange_62⟩
theorem gT24_63 : sG l g D H0 mT 24 63 (s_iinc 24 66 5 1) := ⟨ok_iinc _ _ _ _, so_iinc mT24 dJ2_indexOfRange_63 (by decide)⟩
theorem gT24_66 : sG l g D H0 mT 24 66 (s_goto 24 42) := ⟨ok_goto _ _, so_goto mT24 dJ2_indexOfRange_66 (by decide)⟩
theorem gT24_69 : sG l g D H0 mT 24 69 (s_const 24 70 (.int (-1))) := ⟨ok_const _ _ _, so_iconst mT24 dJ2_indexOfRange_69 (by decide)⟩
theorem gT24_70 : sG l g D H0 mT 24 70 (s_ret pI) := ⟨ok_ret _, so_iret mT24 dJ2_indexOfRange_70⟩
theorem gT24 (pc : Nat) : sG l g D H0 mT 24 pc (tT24 g pc) := sG_cond (sG_cond (sG_cond (sG_cond (sG_cond (sG_leaf gT24_0) (sG_leaf gT24_1)) (sG_cond (sG_leaf gT24_4) (sG_leaf gT24_6))) (sG_cond (sG_cond (sG_leaf gT24_7) (sG_leaf gT24_10)) (sG_cond (sG_leaf gT24_11) (sG_cond (sG_leaf gT24_13) (sG_leaf gT24_15))))) (sG_cond (sG_cond (sG_cond (sG_leaf gT24_16) (sG_leaf gT24_19)) (sG_cond (sG_leaf gT24_21) (sG_leaf gT24_23))) (sG_cond (sG_cond (sG_leaf gT24_24) (sG_leaf gT24_27)) (sG_cond (sG_leaf gT24_29) (sG_cond (sG_leaf gT24_30) (sG_leaf gT24_33)))))) (sG_cond (sG_cond (sG_cond (sG_cond (sG_leaf gT24_36) (sG_leaf gT24_39)) (sG_cond (sG_leaf gT24_40) (sG_leaf gT24_42))) (sG_cond (sG_cond (sG_leaf gT24_44) (sG_leaf gT24_45)) (sG_cond (sG_leaf gT24_48) (sG_cond (sG_leaf gT24_49) (sG_leaf gT24_51))))) (sG_cond (sG_cond (sG_cond (sG_leaf gT24_53) (sG_leaf gT24_54)) (sG_cond (sG_leaf gT24_57) (sG_leaf gT24_60))) (sG_cond (sG_cond (sG_leaf gT24_62) (sG_leaf gT24_63)) (sG_cond (sG_leaf gT24_66) (sG_cond (sG_leaf gT24_69) (sG_leaf gT24_70))))))
theorem gT25_0 : sG l g D H0 mT 25 0 (s_load vI 25 1 1) := ⟨ok_load _ _ _ _, so_iload_n mT25 dJ2_get_0 rfl⟩
theorem gT25_1 : sG l g D H0 mT 25 1 (s_load vRf 25 2 0) := ⟨ok_load _ _ _ _, so_aload_n mT25 dJ2_get_1 rfl⟩
theorem gT25_2 : sG l g D H0 mT 25 2 (s_getf 25 5 10 2) := ⟨ok_getf _ _ _ _, so_getf mT25 cl10 (k := 2) (by decide) dJ2_get_2 q116 (fs_rf rfl)⟩
theorem gT25_5 : sG l g D H0 mT 25 5 (s_callk 25 8 30 [0, 0] 2) := ⟨ok_callk _ _ _ _ _, sk_call (by decide) (so_callS mT25 mo30 (by decide) dJ2_get_5 q180 q181 q59)⟩
theorem gT25_8 : sG l g D H0 mT 25 8 (s_pop 25 9) := ⟨ok_pop _ _, so_pop mT25 dJ2_get_8⟩
theorem gT25_9 : sG l g D H0 mT 25 9 (s_load vRf 25 10 0) := ⟨ok_load _ _ _ _, so_aload_n mT25 dJ2_get_9 rfl⟩
theorem gT25_10 : sG l g D H0 mT 25 10 (s_load vI 25 11 1) := ⟨ok_load _ _ _ _, so_iload_n mT25 dJ2_get_10 rfl⟩
theorem gT25_11 : sG l g D H0 mT 25 11 (s_callvk 25 14 26 10 [0] 2) := ⟨ok_callvk _ _ _ _ _ _, sk_callv (by decide) (so_callV mT25 mo26 (by decide) (t := 10) (C := "java/util/ArrayList") (by decide) rfl rfl dJ2_get_11 q442 q443 q444 q58)⟩
theorem gT25_14 : sG l g D H0 mT 25 14 (s_ret pR) := ⟨ok_ret _, so_aret mT25 dJ2_get_14 (Or.inl ⟨_, rfl⟩)⟩
theorem gT25 (pc : Nat) : sG l g D H0 mT 25 pc (tT25 g pc) := sG_cond (sG_cond (sG_cond (sG_leaf gT25_0) (sG_leaf gT25_1)) (sG_cond (sG_leaf gT25_2) (sG_leaf gT25_5))) (sG_cond (sG_cond (sG_leaf gT25_8) (sG_leaf gT25_9)) (sG_cond (sG_leaf gT25_10) (sG_cond (sG_leaf gT25_11) (sG_leaf gT25_14))))
theorem gT26_0 : sG l g D H0 mT 26 0 (s_load vRf 26 1 0) := ⟨ok_load _ _ _ _, so_aload_n mT26 dJ2_elementData_0 rfl⟩
theorem gT26_1 : sG l g D H0 mT 26 1 (s_getf 26 4 10 1) := ⟨ok_getf _ _ _ _, so_getf mT26 cl10 (k := 1) (by decide) dJ2_elementData_1 q113 (fs_rf rfl)⟩
theorem gT26_4 : sG l g D H0 mT 26 4 (s_load vI 26 5 1) := ⟨ok_load _ _ _ _, so_iload_n mT26 dJ2_elementData_4 rfl⟩
theorem gT26_5 : sG l g D H0 mT 26 5 (s_ald 26 6 24) := ⟨ok_ald _ _ _, so_aald mT26 a24 rfl dJ2_elementData_5⟩
theorem gT26_6 : sG l g D H0 mT 26 6 (s_ret pR) := ⟨ok_ret _, so_aret mT26 dJ2_elementData_6 (Or.inl ⟨_, rfl⟩)⟩
theorem gT26 (pc : Nat) : sG l g D H0 mT 26 pc (tT26 g pc) := sG_cond (sG_cond (sG_leaf gT26_0) (sG_leaf gT26_1)) (sG_cond (sG_leaf gT26_4) (sG_cond (sG_leaf gT26_5) (sG_leaf gT26_6)))
theorem gT27_0 : sG l g D H0 mT 27 0 (s_load vRf 27 1 1) := ⟨ok_load _ _ _ _, so_aload_n mT27 dJ2_addAll_0 rfl⟩
theorem gT27_1 : sG l g D H0 mT 27 1 (s_callvk 27 6 28 10 [] 1) := ⟨ok_callvk _ _ _ _ _ _, sk_callv (by decide) (so_callF mT27 mo28 (by decide) (t := 10) (C := "java/util/ArrayList") (by decide) rfl (by decide +kernel) ⟨by decide, by decide, by decide +kernel⟩ dJ2_addAll_1 q492 q498 q496 q58)⟩
theorem gT27_6 : sG l g D H0 mT 27 6 (s_store vRf 27 7 2) := ⟨ok_store _ _ _ _, so_astore_n mT27 dJ2_addAll_6 rfl⟩
theorem gT27_7 : sG l g D H0 mT 27 7 (s_load vRf 27 8 0) := ⟨ok_load _ _ _ _, so_aload_n mT27 dJ2_addAll_7 rfl⟩
theorem gT27_8 : sG l g D H0 mT 27 8 (s_dup 27 9) := ⟨ok_dup _ _, so_dup mT27 dJ2_addAll_8⟩
theorem gT27_9 : sG l g D H0 mT 27 9 (s_getf 27 12 10 0) := ⟨ok_getf _ _ _ _, so_getf mT27 cl10 (k := 0) (by decide) dJ2_addAll_9 q120 (fs_mod rfl)⟩
theorem gT27_12 : sG l g D H0 mT 27 12 (s_const 27 13 (.int 1)) := ⟨ok_const _ _ _, so_iconst mT27 dJ2_addAll_12 (by decide)⟩
theorem gT27_13 : sG l g D H0 mT 27 13 (s_bin 27 14 (fun a b => a + b)) := ⟨ok_bin _ _ _, so_iadd mT27 dJ2_addAll_13⟩
theorem gT27_14 : sG l g D H0 mT 27 14 (s_putf g pI 27 17 10 0) := ⟨ok_putf _ _ _ _ _ _, so_putf mT27 cl10 (k := 0) (by decide) fI rfl dJ2_addAll_14 q120 (fs_mod rfl)⟩
theorem gT27_17 : sG l g D H0 mT 27 17 (s_load vRf 27 18 2) := ⟨ok_load _ _ _ _, so_aload_n mT27 dJ2_addAll_17 rfl⟩
theorem gT27_18 : sG l g D H0 mT 27 18 (s_alen 27 19 24) := ⟨ok_alen _ _ _, so_alen mT27 a24 dJ2_addAll_18⟩
theorem gT27_19 : sG l g D H0 mT 27 19 (s_store vI 27 20 3) := ⟨ok_store _ _ _ _, so_istore_n mT27 dJ2_addAll_19 rfl⟩
theorem gT27_20 : sG l g D H0 mT 27 20 (s_load vI 27 21 3) := ⟨ok_load _ _ _ _, so_iload_n mT27 dJ2_addAll_20 rfl⟩
theorem gT27_21 : sG l g D H0 mT 27 21 (s_if 27 26 24 (fun a => a = 0)) := ⟨ok_if _ _ _ _, so_if_ne mT27 dJ2_addAll_21 (by decide)⟩
theorem gT27_24 : sG l g D H0 mT 27 24 (s_const 27 25 (.int 0)) := ⟨ok_const _ _ _, so_iconst mT27 dJ2_addAll_24 (by decide)⟩
theorem gT27_25 : sG l g D H0 mT 27 25 (s_ret vZ) := ⟨ok_ret _, so_zret mT27 dJ2_addAll_25⟩
theorem gT27_26 : sG l g D H0 mT 27 26 (s_load vI 27 27 3) := ⟨ok_load _ _ _ _, so_iload_n mT27 dJ2_addAll_26 rfl⟩
theorem gT27_27 : sG l g D H0 mT 27 27 (s_load vRf 27 28 0) := ⟨ok_load _ _ _ _, so_aload_n mT27 dJ2_addAll_27 rfl⟩
theorem gT27_28 : sG l g D H0 mT 27 28 (s_getf 27 31 10 1) := ⟨ok_getf _ _ _ _, so_getf mT27 cl10 (k := 1) (by decide) dJ2_addAll_28 q113 (fs_rf rfl)⟩
theorem gT27_31 : sG l g D H0 mT 27 31 (s_dup 27 32) := ⟨ok_dup _ _, so_dup mT27 dJ2_addAll_31⟩
theorem gT27_32 : sG l g D H0 mT 27 32 (s_store vRf 27 34 4) := ⟨ok_store _ _ _ _, so_astore mT27 dJ2_addAll_32⟩
theorem gT27_34 : sG l g D H0 mT 27 34 (s_alen 27 35 24) := ⟨ok_alen _ _ _, so_alen mT27 a24 dJ2_addAll_34⟩
theorem gT27_35 : sG l g D H0 mT 27 35 (s_load vRf 27 36 0) := ⟨ok_load _ _ _ _, so_aload_n mT27 dJ2_addAll_35 rfl⟩
theorem gT27_36 : sG l g D H0 mT 27 36 (s_getf 27 39 10 2) := ⟨ok_getf _ _ _ _, so_getf mT27 cl10 (k := 2) (by decide) dJ2_addAll_36 q116 (fs_rf rfl)⟩
theorem gT27_39 : sG l g D H0 mT 27 39 (s_dup 27 40) := ⟨ok_dup _ _, so_dup mT27 dJ2_addAll_39⟩
theorem gT27_40 : sG l g D H0 mT 27 40 (s_store vI 27 42 5) := ⟨ok_store _ _ _ _, so_istore mT27 dJ2_addAll_40⟩
theorem gT27_42 : sG l g D H0 mT 27 42 (s_bin 27 43 (fun a b => a - b)) := ⟨ok_bin _ _ _, so_isub mT27 dJ2_addAll_42⟩
theorem gT27_43 : sG l g D H0 mT 27 43 (s_icmp 27 46 56 (fun a b => a ≤ b)) := ⟨ok_icmp _ _ _ _, so_icmp_le mT27 dJ2_addAll_43 (by decide)⟩
theorem gT27_46 : sG l g D H0 mT 27 46 (s_load vRf 27 47 0) := ⟨ok_load _ _ _ _, so_aload_n mT27 dJ2_addAll_46 rfl⟩
theorem gT27_47 : sG l g D H0 mT 27 47 (s_load vI 27 49 5) := ⟨ok_load _ _ _ _, so_iload mT27 dJ2_addAll_47⟩
theorem gT27_49 : sG l g D H0 mT 27 49 (s_load vI 27 50 3) := ⟨ok_load _ _ _ _, so_iload_n mT27 dJ2_addAll_49 rfl⟩
theorem gT27_50 : sG l g D H0 mT 27 50 (s_bin 27 51 (fun a b => a + b)) := ⟨ok_bin _ _ _, so_iadd mT27 dJ2_addAll_50⟩
theorem gT27_51 : sG l g D H0 mT 27 51 (s_callvk 27 54 21 10 [0] 4) := ⟨ok_callvk _ _ _ _ _ _, sk_callv (by decide) (so_callV mT27 mo21 (by decide) (t := 10) (C := "java/util/ArrayList") (by decide) rfl rfl dJ2_addAll_51 q239 q241 qs4 q58)⟩
theorem gT27_54 : sG l g D H0 mT 27 54 (s_store vRf 27 56 4) := ⟨ok_store _ _ _ _, so_astore mT27 dJ2_addAll_54⟩
theorem gT27_56 : sG l g D H0 mT 27 56 (s_load vRf 27 57 2) := ⟨ok_load _ _ _ _, so_aload_n mT27 dJ2_addAll_56 rfl⟩
theorem gT27_57 : sG l g D H0 mT 27 57 (s_const 27 58 (.int 0)) := ⟨ok_const _ _ _, so_iconst mT27 dJ2_addAll_57 (by decide)⟩
theorem gT27_58 : sG l g D H0 mT 27 58 (s_load vRf 27 60 4) := ⟨ok_load _ _ _ _, so_aload mT27 dJ2_addAll_58⟩
theorem gT27_60 : sG l g D H0 mT 27 60 (s_load vI 27 62 5) := ⟨ok_load _ _ _ _, so_iload mT27 dJ2_addAll_60⟩
theorem gT27_62 : sG l g D H0 mT 27 62 (s_load vI 27 63 3) := ⟨ok_load _ _ _ _, so_iload_n mT27 dJ2_addAll_62 rfl⟩
theorem gT27_63 : sG l g D H0 mT 27 63 (s_acopy g vOb 27 66 24) := ⟨ok_acopy _ _ _ _ _, so_acopy mT27 (by decide) a24 e24 dJ2_addAll_63 q190 q192 q191 q61⟩
theorem gT27_66 : sG l g D H0 mT 27 66 (s_load vRf 27 67 0) := ⟨ok_load _ _ _ _, so_aload_n mT27 dJ2_addAll_66 rfl⟩
theorem gT27_67 : sG l g D H0 mT 27 67 (s_load vI 27 69 5) := ⟨ok_load _ _ _ _, so_iload mT27 dJ2_addAll_67⟩
theorem gT27_69 : sG l g D H0 mT 27 69 (s_load vI 27 70 3) := ⟨ok_load _ _ _ _, so_iload_n mT27 dJ2_addAll_69 rfl⟩
theorem gT27_70 : sG l g D H0 mT 27 70 (s_bin 27 71 (fun a b => a + b)) := ⟨ok_bin _ _ _, so_iadd mT27 dJ2_addAll_70⟩
theorem gT27_71 : sG l g D H0 mT 27 71 (s_putf g pI 27 74 10 2) := ⟨ok_putf _ _ _ _ _ _, so_putf mT27 cl10 (k := 2) (by decide) fI rfl dJ2_addAll_71 q116 (fs_rf rfl)⟩
theorem gT27_74 : sG l g D H0 mT 27 74 (s_const 27 75 (.int 1)) := ⟨ok_const _ _ _, so_iconst mT27 dJ2_addAll_74 (by decide)⟩
theorem gT27_75 : sG l g D H0 mT 27 75 (s_ret vZ) := ⟨ok_ret _, so_zret mT27 dJ2_addAll_75⟩
theorem gT27 (pc : Nat) : sG l g D H0 mT 27 pc (tT27 g pc) := sG_cond (sG_cond (sG_cond (sG_cond (sG_cond (sG_leaf gT27_0) (sG_leaf gT27_1)) (sG_cond (sG_leaf gT27_6) (sG_cond (sG_leaf gT27_7) (sG_leaf gT27_8)))) (sG_cond (sG_cond (sG_leaf gT27_9) (sG_cond (sG_leaf gT27_12) (sG_leaf gT27_13))) (sG_cond (sG_leaf gT27_14) (sG_cond (sG_leaf gT27_17) (sG_leaf gT27_18))))) (sG_cond (sG_cond (sG_cond (sG_leaf gT27_19) (sG_cond (sG_leaf gT27_20) (sG_leaf gT27_21))) (sG_cond (sG_leaf gT27_24) (sG_cond (sG_leaf gT27_25) (sG_leaf gT27_26)))) (sG_cond (sG_cond (sG_leaf gT27_27) (sG_cond (sG_leaf gT27_28) (sG_leaf gT27_31))) (sG_cond (sG_leaf gT27_32) (sG_cond (sG_leaf gT27_34) (sG_leaf gT27_35)))))) (sG_cond (sG_cond (sG_cond (sG_cond (sG_leaf gT27_36) (sG_cond (sG_leaf gT27_39) (sG_leaf gT27_40))) (sG_cond (sG_leaf gT27_42) (sG_cond (sG_leaf gT27_43) (sG_leaf gT27_46)))) (sG_cond (sG_cond (sG_leaf gT27_47) (sG_cond (sG_leaf gT27_49) (sG_leaf gT27_50))) (sG_cond (sG_leaf gT27_51) (sG_cond (sG_leaf gT27_54) (sG_leaf gT27_56))))) (sG_cond (sG_cond (sG_cond (sG_leaf gT27_57) (sG_cond (sG_leaf gT27_58) (sG_leaf gT27_60))) (sG_cond (sG_leaf gT27_62) (sG_cond (sG_leaf gT27_63) (sG_leaf gT27_66)))) (sG_cond (sG_cond (sG_leaf gT27_67) (sG_cond (sG_leaf gT27_69) (sG_leaf gT27_70))) (sG_cond (sG_leaf gT27_71) (sG_cond (sG_leaf gT27_74) (sG_leaf gT27_75))))))
theorem gT28_0 : sG l g D H0 mT 28 0 (s_load vRf 28 1 0) := ⟨ok_load _ _ _ _, so_aload_n mT28 dJ2_toArray_0 rfl⟩
theorem gT28_1 : sG l g D H0 mT 28 1 (s_getf 28 4 10 1) := ⟨ok_getf _ _ _ _, so_getf mT28 cl10 (k := 1) (by decide) dJ2_toArray_1 q113 (fs_rf rfl)⟩
theorem gT28_4 : sG l g D H0 mT 28 4 (s_load vRf 28 5 0) := ⟨ok_load _ _ _ _, so_aload_n mT28 dJ2_toArray_4 rfl⟩
theorem gT28_5 : sG l g D H0 mT 28 5 (s_getf 28 8 10 2) := ⟨ok_getf _ _ _ _, so_getf mT28 cl10 (k := 2) (by decide) dJ2_toArray_5 q116 (fs_rf rfl)⟩
theorem gT28_8 : sG l g D H0 mT 28 8 (s_callk 28 11 36 [1, 0] 2) := ⟨ok_callk _ _ _ _ _, sk_call (by decide) (so_callS mT28 mo36 (by decide) dJ2_toArray_8 q253 q254 q65)⟩
theorem gT28_11 : sG l g D H0 mT 28 11 (s_ret pR) := ⟨ok_ret _, so_aret mT28 dJ2_toArray_11 (Or.inr ⟨_, rfl⟩)⟩
theorem gT28 (pc : Nat) : sG l g D H0 mT 28 pc (tT28 g pc) := sG_cond (sG_cond (sG_leaf gT28_0) (sG_cond (sG_leaf gT28_1) (sG_leaf gT28_4))) (sG_cond (sG_leaf gT28_5) (sG_cond (sG_leaf gT28_8) (sG_leaf gT28_11)))
theorem gT29_0 : sG l g D H0 mT 29 0 (s_load vRf 29 1 0) := ⟨ok_load _ _ _ _, so_aload_n mT29 dJ2_init_2_0 rfl⟩
theorem gT29_1 : sG l g D H0 mT 29 1 (s_callik 29 4 1 [] 1) := ⟨ok_callik _ _ _ _ _, sk_calli (by decide) (so_callI mT29 mo1 (by decide) rfl dJ2_init_2_1 q104 q105 q57)⟩
theorem gT29_4 : sG l g D H0 mT 29 4 (s_load vRf 29 5 1) := ⟨ok_load _ _ _ _, so_aload_n mT29 dJ2_init_2_4 rfl⟩
theorem gT29_5 : sG l g D H0 mT 29 5 (s_callvk 29 10 28 10 [] 1) := ⟨ok_callvk _ _ _ _ _ _, sk_callv (by decide) (so_callF mT29 mo28 (by decide) (t := 10) (C := "java/util/ArrayList") (by decide) rfl (by decide +kernel) ⟨by decide, by decide, by decide +kernel⟩ dJ2_init_2_5 q492 q498 q496 q58)⟩
theorem gT29_10 : sG l g D H0 mT 29 10 (s_store vRf 29 11 2) := ⟨ok_store _ _ _ _, so_astore_n mT29 dJ2_init_2_10 rfl⟩
theorem gT29_11 : sG l g D H0 mT 29 11 (s_load vRf 29 12 0) := ⟨ok_load _ _ _ _, so_aload_n mT29 dJ2_init_2_11 rfl⟩
theorem gT29_12 : sG l g D H0 mT 29 12 (s_load vRf 29 13 2) := ⟨ok_load _ _ _ _, so_aload_n mT29 dJ2_init_2_12 rfl⟩
theorem gT29_13 : sG l g D H0 mT 29 13 (s_alen 29 14 24) := ⟨ok_alen _ _ _, so_alen mT29 a24 dJ2_init_2_13⟩
theorem gT29_14 : sG l g D H0 mT 29 14 (s_dupx1 29 15) := ⟨ok_dupx1 _ _, so_dupx1 mT29 dJ2_init_2_14⟩
theorem gT29_15 : sG l g D H0 mT 29 15 (s_putf g pI 29 18 10 2) := ⟨ok_putf _ _ _ _ _ _, so_putf mT29 cl10 (k := 2) (by decide) fI rfl dJ2_init_2_15 q116 (fs_rf rfl)⟩
theorem gT29_18 : sG l g D H0 mT 29 18 (s_if 29 21 57 (fun a => a = 0)) := ⟨ok_if _ _ _ _, so_if_eq mT29 dJ2_init_2_18 (by decide)⟩
theorem gT29_21 : sG l g D H0 mT 29 21 (s_load vRf 29 22 1) := ⟨ok_load _ _ _ _, so_aload_n mT29 dJ2_init_2_21 rfl⟩
theorem gT29_22 : sG l g D H0 mT 29 22 (s_getc 29 27 10 (gV g 4)) := ⟨ok_getc _ _ _ _, so_getcL mT29 (by decide) dJ2_init_2_22 q1660 q274 q257 q276⟩
theorem gT29_27 : sG l g D H0 mT 29 27 (s_const 29 29 (.ref (gV g 4))) := ⟨ok_const _ _ _, so_ldcN mT29 dJ2_init_2_27 q1665⟩
theorem gT29_29 : sG l g D H0 mT 29 29 (s_acmpn 29 32 40) := ⟨ok_acmpn _ _ _, so_acmp_ne mT29 dJ2_init_2_29 (by decide)⟩
theorem gT29_32 : sG l g D H0 mT 29 32 (s_load vRf 29 33 0) := ⟨ok_load _ _ _ _, so_aload_n mT29 dJ2_init_2_32 rfl⟩
theorem gT29_33 : sG l g D H0 mT 29 33 (s_load vRf 29 34 2) := ⟨ok_load _ _ _ _, so_aload_n mT29 dJ2_init_2_33 rfl⟩
theorem gT29_34 : sG l g D H0 mT 29 34 (s_putf g pR 29 37 10 1) := ⟨ok_putf _ _ _ _ _ _, so_putf mT29 cl10 (k := 1) (by decide) fA rfl dJ2_init_2_34 q113 (fs_rf rfl)⟩
theorem gT29_37 : sG l g D H0 mT 29 37 (s_goto 29 64) := ⟨ok_goto _ _, so_goto mT29 dJ2_init_2_37 (by decide)⟩
theorem gT29_40 : sG l g D H0 mT 29 40 (s_load vRf 29 41 0) := ⟨ok_load _ _ _ _, so_aload_n mT29 dJ2_init_2_40 rfl⟩
theorem gT29_41 : sG l g D H0 mT 29 41 (s_load vRf 29 42 2) := ⟨ok_load _ _ _ _, so_aload_n mT29 dJ2_init_2_41 rfl⟩
theorem gT29_42 : sG l g D H0 mT 29 42 (s_load vRf 29 43 0) := ⟨ok_load _ _ _ _, so_aload_n mT29 dJ2_init_2_42 rfl⟩
theorem gT29_43 : sG l g D H0 mT 29 43 (s_getf 29 46 10 2) := ⟨ok_getf _ _ _ _, so_getf mT29 cl10 (k := 2) (by decide) dJ2_init_2_43 q116 (fs_rf rfl)⟩
theorem gT29_46 : sG l g D H0 mT 29 46 (s_const 29 48 (.ref (gV g 3))) := ⟨ok_const _ _ _, so_ldcM mT29 dJ2_init_2_46 q1666⟩
theorem gT29_48 : sG l g D H0 mT 29 48 (s_callk 29 51 37 [1, 0, 1] 4) := ⟨ok_callk _ _ _ _ _, sk_call (by decide) (so_callS mT29 mo37 (by decide) dJ2_init_2_48 q1667 q278 q65)⟩
theorem gT29_51 : sG l g D H0 mT 29 51 (s_putf g pR 29 54 10 1) := ⟨ok_putf _ _ _ _ _ _, so_putf mT29 cl10 (k := 1) (by decide) fA rfl dJ2_init_2_51 q113 (fs_rf rfl)⟩
theorem gT29_54 : sG l g D H0 mT 29 54 (s_goto 29 64) := ⟨ok_goto _ _, so_goto mT29 dJ2_init_2_54 (by decide)⟩
theorem gT29_57 : sG l g D H0 mT 29 57 (s_load vRf 29 58 0) := ⟨ok_load _ _ _ _, so_aload_n mT29 dJ2_init_2_57 rfl⟩
theorem gT29_58 : sG l g D H0 mT 29 58 (s_const 29 61 (.ref (gV g 1))) := ⟨ok_const _ _ _, so_gets1 mT29 dJ2_init_2_58 q1668⟩
theorem gT29_61 : sG l g D H0 mT 29 61 (s_putf g pR 29 64 10 1) := ⟨ok_putf _ _ _ _ _ _, so_putf mT29 cl10 (k := 1) (by decide) fA rfl dJ2_init_2_61 q113 (fs_rf rfl)⟩
theorem gT29_64 : sG l g D H0 mT 29 64 (s_vret) := ⟨ok_vret, so_vret mT29 dJ2_init_2_64⟩
theorem gT29 (pc : Nat) : sG l g D H0 mT 29 pc (tT29 g pc) := sG_cond (sG_cond (sG_cond (sG_cond (sG_leaf gT29_0) (sG_cond (sG_leaf gT29_1) (sG_leaf gT29_4))) (sG_cond (sG_cond (sG_leaf gT29_5) (sG_leaf gT29_10)) (sG_cond (sG_leaf gT29_11) (sG_leaf gT29_12)))) (sG_cond (sG_cond (sG_cond (sG_leaf gT29_13) (sG_leaf gT29_14)) (sG_cond (sG_leaf gT29_15) (sG_leaf gT29_18))) (sG_cond (sG_cond (sG_leaf gT29_21) (sG_leaf gT29_22)) (sG_cond (sG_leaf gT29_27) (sG_leaf gT29_29))))) (sG_cond (sG_cond (sG_cond (sG_cond (sG_leaf gT29_32) (sG_leaf gT29_33)) (sG_cond (sG_leaf gT29_34) (sG_leaf gT29_37))) (sG_cond (sG_cond (sG_leaf gT29_40) (sG_leaf gT29_41)) (sG_cond (sG_leaf gT29_42) (sG_leaf gT29_43)))) (sG_cond (sG_cond (sG_cond (sG_leaf gT29_46) (sG_leaf gT29_48)) (sG_cond (sG_leaf gT29_51) (sG_leaf gT29_54))) (sG_cond (sG_cond (sG_leaf gT29_57) (sG_leaf gT29_58)) (sG_cond (sG_leaf gT29_61) (sG_leaf gT29_64)))))
theorem gT30_0 : sG l g D H0 mT 30 0 (s_load vI 30 1 0) := ⟨ok_load _ _ _ _, so_iload_n mT30 dJ3_checkIndex_0 rfl⟩
theorem gT30_1 : sG l g D H0 mT 30 1 (s_load vI 30 2 1) := ⟨ok_load _ _ _ _, so_iload_n mT30 dJ3_checkIndex_1 rfl⟩
theorem gT30_2 : sG l g D H0 mT 30 2 (s_const 30 3 .null) := ⟨ok_const _ _ _, so_null mT30 dJ3_checkIndex_2⟩
theorem gT30_3 : sG l g D H0 mT 30 3 (s_callk 30 6 31 [0, 0, 1] 3) := ⟨ok_callk _ _ _ _ _, sk_call (by decide) (so_callS mT30 mo31 (by decide) dJ3_checkIndex_3 q183 q184 q60)⟩
theorem gT30_6 : sG l g D H0 mT 30 6 (s_ret pI) := ⟨ok_ret _, so_iret mT30 dJ3_checkIndex_6⟩
theorem gT30 (pc : Nat) : sG l g D H0 mT 30 pc (tT30 g pc) := sG_cond (sG_cond (sG_leaf gT30_0) (sG_leaf gT30_1)) (sG_cond (sG_leaf gT30_2) (sG_cond (sG_leaf gT30_3) (sG_leaf gT30_6)))
theorem gT31_0 : sG l g D H0 mT 31 0 (s_load vI 31 1 0) := ⟨ok_load _ _ _ _, so_iload_n mT31 dJ4_checkIndex_0 rfl⟩
theorem gT31_1 : sG l g D H0 mT 31 1 (s_if 31 4 9 (fun a => a < 0)) := ⟨ok_if _ _ _ _, so_if_lt mT31 dJ4_checkIndex_1 (by decide)⟩
theorem gT31_4 : sG l g D H0 mT 31 4 (s_load vI 31 5 0) := ⟨ok_load _ _ _ _, so_iload_n mT31 dJ4_checkIndex_4 rfl⟩
theorem gT31_5 : sG l g D H0 mT 31 5 (s_load vI 31 6 1) := ⟨ok_load _ _ _ _, so_iload_n mT31 dJ4_checkIndex_5 rfl⟩
theorem gT31_6 : sG l g D H0 mT 31 6 (s_icmp 31 9 16 (fun a b => a < b)) := ⟨ok_icmp _ _ _ _, so_icmp_lt mT31 dJ4_checkIndex_6 (by decide)⟩
theorem gT31_9 : sG l g D H0 mT 31 9 (s_load vRf 31 10 2) := ⟨ok_load _ _ _ _, so_aload_n mT31 dJ4_checkIndex_9 rfl⟩
theorem gT31_10 : sG l g D H0 mT 31 10 (s_load vI 31 11 0) := ⟨ok_load _ _ _ _, so_iload_n mT31 dJ4_checkIndex_10 rfl⟩
theorem gT31_11 : sG l g D H0 mT 31 11 (s_load vI 31 12 1) := ⟨ok_load _ _ _ _, so_iload_n mT31 dJ4_checkIndex_11 rfl⟩
theorem gT31_16 : sG l g D H0 mT 31 16 (s_load vI 31 17 0) := ⟨ok_load _ _ _ _, so_iload_n mT31 dJ4_checkIndex_16 rfl⟩
theorem gT31_17 : sG l g D H0 mT 31 17 (s_ret pI) := ⟨ok_ret _, so_iret mT31 dJ4_checkIndex_17⟩
theorem gT31 (pc : Nat) : sG l g D H0 mT 31 pc (tT31 g pc) := sG_cond (sG_cond (sG_cond (sG_leaf gT31_0) (sG_leaf gT31_1)) (sG_cond (sG_leaf gT31_4) (sG_cond (sG_leaf gT31_5) (sG_leaf gT31_6)))) (sG_cond (sG_cond (sG_leaf gT31_9) (sG_leaf gT31_10)) (sG_cond (sG_leaf gT31_11) (sG_cond (sG_leaf gT31_16) (sG_leaf gT31_17))))
theorem gT32_0 : sG l g D H0 mT 32 0 (s_load vI 32 1 0) := ⟨ok_load _ _ _ _, so_iload_n mT32 dJ5_newLength_0 rfl⟩
theorem gT32_1 : sG l g D H0 mT 32 1 (s_load vI 32 2 1) := ⟨ok_load _ _ _ _, so_iload_n mT32 dJ5_newLength_1 rfl⟩
theorem gT32_2 : sG l g D H0 mT 32 2 (s_load vI 32 3 2) := ⟨ok_load _ _ _ _, so_iload_n mT32 dJ5_newLength_2 rfl⟩
theorem gT32_3 : sG l g D H0 mT 32 3 (s_callk 32 6 34 [0, 0] 2) := ⟨ok_callk _ _ _ _ _, sk_call (by decide) (so_callS mT32 mo34 (by decide) dJ5_newLength_3 q246 q247 q64)⟩
theorem gT32_6 : sG l g D H0 mT 32 6 (s_bin 32 7 (fun a b => a + b)) := ⟨ok_bin _ _ _, so_iadd mT32 dJ5_newLength_6⟩
theorem gT32_7 : sG l g D H0 mT 32 7 (s_store vI 32 8 3) := ⟨ok_store _ _ _ _, so_istore_n mT32 dJ5_newLength_7 rfl⟩
theorem gT32_8 : sG l g D H0 mT 32 8 (s_const 32 9 (.int 0)) := ⟨ok_const _ _ _, so_iconst mT32 dJ5_newLength_8 (by decide)⟩
theorem gT32_9 : sG l g D H0 mT 32 9 (s_load vI 32 10 3) := ⟨ok_load _ _ _ _, so_iload_n mT32 dJ5_newLength_9 rfl⟩
theorem gT32_10 : sG l g D H0 mT 32 10 (s_icmp 32 13 21 (fun a b => b ≤ a)) := ⟨ok_icmp _ _ _ _, so_icmp_ge mT32 dJ5_newLength_10 (by decide)⟩
theorem gT32_13 : sG l g D H0 mT 32 13 (s_load vI 32 14 3) := ⟨ok_load _ _ _ _, so_iload_n mT32 dJ5_newLength_13 rfl⟩
theorem gT32_14 : sG l g D H0 mT 32 14 (s_const 32 16 (.int 2147483639)) := ⟨ok_const _ _ _, so_ldc mT32 dJ5_newLength_14 q249⟩
theorem gT32_16 : sG l g D H0 mT 32 16 (s_icmp 32 19 21 (fun a b => b < a)) := ⟨ok_icmp _ _ _ _, so_icmp_gt mT32 dJ5_newLength_16 (by decide)⟩
theorem gT32_19 : sG l g D H0 mT 32 19 (s_load vI 32 20 3) := ⟨ok_load _ _ _ _, so_iload_n mT32 dJ5_newLength_19 rfl⟩
theorem gT32_20 : sG l g D H0 mT 32 20 (s_ret pI) := ⟨ok_ret _, so_iret mT32 dJ5_newLength_20⟩
theorem gT32_21 : sG l g D H0 mT 32 21 (s_load vI 32 22 0) := ⟨ok_load _ _ _ _, so_iload_n mT32 dJ5_newLength_21 rfl⟩
theorem gT32_22 : sG l g D H0 mT 32 22 (s_load vI 32 23 1) := ⟨ok_load _ _ _ _, so_iload_n mT32 dJ5_newLength_22 rfl⟩
theorem gT32_23 : sG l g D H0 mT 32 23 (s_callk 32 26 33 [0, 0] 3) := ⟨ok_callk _ _ _ _ _, sk_call (by decide) (so_callS mT32 mo33 (by decide) dJ5_newLength_23 q250 q251 q63)⟩
theorem gT32_26 : sG l g D H0 mT 32 26 (s_ret pI) := ⟨ok_ret _, so_iret mT32 dJ5_newLength_26⟩
theorem gT32 (pc : Nat) : sG l g D H0 mT 32 pc (tT32 g pc) := sG_cond (sG_cond (sG_cond (sG_cond (sG_leaf gT32_0) (sG_leaf gT32_1)) (sG_cond (sG_leaf gT32_2) (sG_leaf gT32_3))) (sG_cond (sG_cond (sG_leaf gT32_6) (sG_leaf gT32_7)) (sG_cond (sG_leaf gT32_8) (sG_cond (sG_leaf gT32_9) (sG_leaf gT32_10))))) (sG_cond (sG_cond (sG_cond (sG_leaf gT32_13) (sG_leaf gT32_14)) (sG_cond (sG_leaf gT32_16) (sG_leaf gT32_19))) (sG_cond (sG_cond (sG_leaf gT32_20) (sG_leaf gT32_21)) (sG_cond (sG_leaf gT32_22) (sG_cond (sG_leaf gT32_23) (sG_leaf gT32_26)))))
theorem gT33_0 : sG l g D H0 mT 33 0 (s_load vI 33 1 0) := ⟨ok_load _ _ _ _, so_iload_n mT33 dJ5_hugeLength_0 rfl⟩
theorem gT33_1 : sG l g D H0 mT 33 1 (s_load vI 33 2 1) := ⟨ok_load _ _ _ _, so_iload_n mT33 dJ5_hugeLength_1 rfl⟩
theorem gT33_2 : sG l g D H0 mT 33 2 (s_bin 33 3 (fun a b => a + b)) := ⟨ok_bin _ _ _, so_iadd mT33 dJ5_hugeLength_2⟩
theorem gT33_3 : sG l g D H0 mT 33 3 (s_store vI 33 4 2) := ⟨ok_store _ _ _ _, so_istore_n mT33 dJ5_hugeLength_3 rfl⟩
theorem gT33_4 : sG l g D H0 mT 33 4 (s_load vI 33 5 2) := ⟨ok_load _ _ _ _, so_iload_n mT33 dJ5_hugeLength_4 rfl⟩
theorem gT33_5 : sG l g D H0 mT 33 5 (s_if 33 8 49 (fun a => 0 ≤ a)) := ⟨ok_if _ _ _ _, so_if_ge mT33 dJ5_hugeLength_5 (by decide)⟩
theorem gT33_11 : sG l g D H0 mT 33 11 (s_dup 33 12) := ⟨ok_dup _ _, so_dup mT33 dJ5_hugeLength_11⟩
theorem gT33_15 : sG l g D H0 mT 33 15 (s_dup 33 16) := ⟨ok_dup _ _, so_dup mT33 dJ5_hugeLength_15⟩
theorem gT33_24 : sG l g D H0 mT 33 24 (s_load vI 33 25 0) := ⟨ok_load _ _ _ _, so_iload_n mT33 dJ5_hugeLength_24 rfl⟩
theorem gT33_33 : sG l g D H0 mT 33 33 (s_load vI 33 34 1) := ⟨ok_load _ _ _ _, so_iload_n mT33 dJ5_hugeLength_33 rfl⟩
theorem gT33_49 : sG l g D H0 mT 33 49 (s_load vI 33 50 2) := ⟨ok_load _ _ _ _, so_iload_n mT33 dJ5_hugeLength_49 rfl⟩
theorem gT33_50 : sG l g D H0 mT 33 50 (s_const 33 52 (.int 2147483639)) := ⟨ok_const _ _ _, so_ldc mT33 dJ5_hugeLength_50 q249⟩
theorem gT33_52 : sG l g D H0 mT 33 52 (s_icmp 33 55 58 (fun a b => b < a)) := ⟨ok_icmp _ _ _ _, so_icmp_gt mT33 dJ5_hugeLength_52 (by decide)⟩
theorem gT33_55 : sG l g D H0 mT 33 55 (s_const 33 57 (.int 2147483639)) := ⟨ok_const _ _ _, so_ldc mT33 dJ5_hugeLength_55 q249⟩
theorem gT33_57 : sG l g D H0 mT 33 57 (s_ret pI) := ⟨ok_ret _, so_iret mT33 dJ5_hugeLength_57⟩
theorem gT33_58 : sG l g D H0 mT 33 58 (s_load vI 33 59 2) := ⟨ok_load _ _ _ _, so_iload_n mT33 dJ5_hugeLength_58 rfl⟩
theorem gT33_59 : sG l g D H0 mT 33 59 (s_ret pI) := ⟨ok_ret _, so_iret mT33 dJ5_hugeLength_59⟩
theorem gT33 (pc : Nat) : sG l g D H0 mT 33 pc (tT33 g pc) := sG_cond (sG_cond (sG_cond (sG_cond (sG_leaf gT33_0) (sG_leaf gT33_1)) (sG_cond (sG_leaf gT33_2) (sG_leaf gT33_3))) (sG_cond (sG_cond (sG_leaf gT33_4) (sG_leaf gT33_5)) (sG_cond (sG_leaf gT33_11) (sG_leaf gT33_15)))) (sG_cond (sG_cond (sG_cond (sG_leaf gT33_24) (sG_leaf gT33_33)) (sG_cond (sG_leaf gT33_49) (sG_leaf gT33_50))) (sG_cond (sG_cond (sG_leaf gT33_52) (sG_leaf gT33_55)) (sG_cond (sG_leaf gT33_57) (sG_cond (sG_leaf gT33_58) (sG_leaf gT33_59)))))
theorem gT34_0 : sG l g D H0 mT 34 0 (s_load vI 34 1 0) := ⟨ok_load _ _ _ _, so_iload_n mT34 dJ6_max_0 rfl⟩
theorem gT34_1 : sG l g D H0 mT 34 1 (s_load vI 34 2 1) := ⟨ok_load _ _ _ _, so_iload_n mT34 dJ6_max_1 rfl⟩
theorem gT34_2 : sG l g D H0 mT 34 2 (s_icmp 34 5 9 (fun a b => a < b)) := ⟨ok_icmp _ _ _ _, so_icmp_lt mT34 dJ6_max_2 (by decide)⟩
theorem gT34_5 : sG l g D H0 mT 34 5 (s_load vI 34 6 0) := ⟨ok_load _ _ _ _, so_iload_n mT34 dJ6_max_5 rfl⟩
theorem gT34_6 : sG l g D H0 mT 34 6 (s_goto 34 10) := ⟨ok_goto _ _, so_goto mT34 dJ6_max_6 (by decide)⟩
theorem gT34_9 : sG l g D H0 mT 34 9 (s_load vI 34 10 1) := ⟨ok_load _ _ _ _, so_iload_n mT34 dJ6_max_9 rfl⟩
theorem gT34_10 : sG l g D H0 mT 34 10 (s_ret pI) := ⟨ok_ret _, so_iret mT34 dJ6_max_10⟩
theorem gT34 (pc : Nat) : sG l g D H0 mT 34 pc (tT34 g pc) := sG_cond (sG_cond (sG_leaf gT34_0) (sG_cond (sG_leaf gT34_1) (sG_leaf gT34_2))) (sG_cond (sG_cond (sG_leaf gT34_5) (sG_leaf gT34_6)) (sG_cond (sG_leaf gT34_9) (sG_leaf gT34_10)))
theorem gT35_0 : sG l g D H0 mT 35 0 (s_load vI 35 1 0) := ⟨ok_load _ _ _ _, so_iload_n mT35 dJ6_min_0 rfl⟩
theorem gT35_1 : sG l g D H0 mT 35 1 (s_load vI 35 2 1) := ⟨ok_load _ _ _ _, so_iload_n mT35 dJ6_min_1 rfl⟩
theorem gT35_2 : sG l g D H0 mT 35 2 (s_icmp 35 5 9 (fun a b => b < a)) := ⟨ok_icmp _ _ _ _, so_icmp_gt mT35 dJ6_min_2 (by decide)⟩
theorem gT35_5 : sG l g D H0 mT 35 5 (s_load vI 35 6 0) := ⟨ok_load _ _ _ _, so_iload_n mT35 dJ6_min_5 rfl⟩
theorem gT35_6 : sG l g D H0 mT 35 6 (s_goto 35 10) := ⟨ok_goto _ _, so_goto mT35 dJ6_min_6 (by decide)⟩
theorem gT35_9 : sG l g D H0 mT 35 9 (s_load vI 35 10 1) := ⟨ok_load _ _ _ _, so_iload_n mT35 dJ6_min_9 rfl⟩
theorem gT35_10 : sG l g D H0 mT 35 10 (s_ret pI) := ⟨ok_ret _, so_iret mT35 dJ6_min_10⟩
theorem gT35 (pc : Nat) : sG l g D H0 mT 35 pc (tT35 g pc) := sG_cond (sG_cond (sG_leaf gT35_0) (sG_cond (sG_leaf gT35_1) (sG_leaf gT35_2))) (sG_cond (sG_cond (sG_leaf gT35_5) (sG_leaf gT35_6)) (sG_cond (sG_leaf gT35_9) (sG_leaf gT35_10)))
theorem gT36_0 : sG l g D H0 mT 36 0 (s_load vRf 36 1 0) := ⟨ok_load _ _ _ _, so_aload_n mT36 dJ7_copyOf_0 rfl⟩
theorem gT36_1 : sG l g D H0 mT 36 1 (s_load vI 36 2 1) := ⟨ok_load _ _ _ _, so_iload_n mT36 dJ7_copyOf_1 rfl⟩
theorem gT36_2 : sG l g D H0 mT 36 2 (s_load vRf 36 3 0) := ⟨ok_load _ _ _ _, so_aload_n mT36 dJ7_copyOf_2 rfl⟩
theorem gT36_3 : sG l g D H0 mT 36 3 (s_getc 36 6 24 (gV g 3)) := ⟨ok_getc _ _ _ _, so_getcA mT36 (by decide) dJ7_copyOf_3 q256 q1720 q257 q276⟩
theorem gT36_6 : sG l g D H0 mT 36 6 (s_callk 36 9 37 [1, 0, 1] 4) := ⟨ok_callk _ _ _ _ _, sk_call (by decide) (so_callS mT36 mo37 (by decide) dJ7_copyOf_6 q277 q278 q65)⟩
theorem gT36_9 : sG l g D H0 mT 36 9 (s_ret pR) := ⟨ok_ret _, so_aret mT36 dJ7_copyOf_9 (Or.inr ⟨_, rfl⟩)⟩
theorem gT36 (pc : Nat) : sG l g D H0 mT 36 pc (tT36 g pc) := sG_cond (sG_cond (sG_leaf gT36_0) (sG_cond (sG_leaf gT36_1) (sG_leaf gT36_2))) (sG_cond (sG_leaf gT36_3) (sG_cond (sG_leaf gT36_6) (sG_leaf gT36_9)))
theorem gT37_0 : sG l g D H0 mT 37 0 (s_load vRf 37 1 2) := ⟨ok_load _ _ _ _, so_aload_n mT37 dJ7_copyOf_2_0 rfl⟩
theorem gT37_1 : sG l g D H0 mT 37 1 (s_const 37 3 (.ref (gV g 3))) := ⟨ok_const _ _ _, so_ldcM mT37 dJ7_copyOf_2_1 q280⟩
theorem gT37_3 : sG l g D H0 mT 37 3 (s_acmpn 37 6 13) := ⟨ok_acmpn _ _ _, so_acmp_ne mT37 dJ7_copyOf_2_3 (by decide)⟩
theorem gT37_6 : sG l g D H0 mT 37 6 (s_load vI 37 7 1) := ⟨ok_load _ _ _ _, so_iload_n mT37 dJ7_copyOf_2_6 rfl⟩
theorem gT37_7 : sG l g D H0 mT 37 7 (s_newa g 37 10 24 (.null)) := ⟨ok_newa _ _ _ _ _, so_anewO mT37 dJ7_copyOf_2_7 q282⟩
theorem gT37_10 : sG l g D H0 mT 37 10 (s_goto 37 24) := ⟨ok_goto _ _, so_goto mT37 dJ7_copyOf_2_10 (by decide)⟩
theorem gT37_13 : sG l g D H0 mT 37 13 (s_load vRf 37 14 2) := ⟨ok_load _ _ _ _, so_aload_n mT37 dJ7_copyOf_2_13 rfl⟩
theorem gT37_17 : sG l g D H0 mT 37 17 (s_load vI 37 18 1) := ⟨ok_load _ _ _ _, so_iload_n mT37 dJ7_copyOf_2_17 rfl⟩
theorem gT37_21 : sG l g D H0 mT 37 21 (s_cast 37 24 [24]) := ⟨ok_cast _ _ _, so_cast mT37 (T := "[Ljava/lang/Object;") (ts := [24]) (by intro u hu; rw [List.mem_singleton] at hu; subst hu; exact ⟨by decide, Or.inl rfl⟩) dJ7_copyOf_2_21 q280⟩
theorem gT37_24 : sG l g D H0 mT 37 24 (s_store vRf 37 25 3) := ⟨ok_store _ _ _ _, so_astore_n mT37 dJ7_copyOf_2_24 rfl⟩
theorem gT37_25 : sG l g D H0 mT 37 25 (s_load vRf 37 26 0) := ⟨ok_load _ _ _ _, so_aload_n mT37 dJ7_copyOf_2_25 rfl⟩
theorem gT37_26 : sG l g D H0 mT 37 26 (s_const 37 27 (.int 0)) := ⟨ok_const _ _ _, so_iconst mT37 dJ7_copyOf_2_26 (by decide)⟩
theorem gT37_27 : sG l g D H0 mT 37 27 (s_load vRf 37 28 3) := ⟨ok_load _ _ _ _, so_aload_n mT37 dJ7_copyOf_2_27 rfl⟩
theorem gT37_28 : sG l g D H0 mT 37 28 (s_const 37 29 (.int 0)) := ⟨ok_const _ _ _, so_iconst mT37 dJ7_copyOf_2_28 (by decide)⟩
theorem gT37_29 : sG l g D H0 mT 37 29 (s_load vRf 37 30 0) := ⟨ok_load _ _ _ _, so_aload_n mT37 dJ7_copyOf_2_29 rfl⟩
theorem gT37_30 : sG l g D H0 mT 37 30 (s_alen 37 31 24) := ⟨ok_alen _ _ _, so_alen mT37 a24 dJ7_copyOf_2_30⟩
theorem gT37_31 : sG l g D H0 mT 37 31 (s_load vI 37 32 1) := ⟨ok_load _ _ _ _, so_iload_n mT37 dJ7_copyOf_2_31 rfl⟩
theorem gT37_32 : sG l g D H0 mT 37 32 (s_callk 37 35 35 [0, 0] 2) := ⟨ok_callk _ _ _ _ _, sk_call (by decide) (so_callS mT37 mo35 (by decide) dJ7_copyOf_2_32 q283 q284 q64)⟩
theorem gT37_35 : sG l g D H0 mT 37 35 (s_acopy g vOb 37 38 24) := ⟨ok_acopy _ _ _ _ _, so_acopy mT37 (by decide) a24 e24 dJ7_copyOf_2_35 q286 q192 q191 q61⟩
theorem gT37_38 : sG l g D H0 mT 37 38 (s_load vRf 37 39 3) := ⟨ok_load _ _ _ _, so_aload_n mT37 dJ7_copyOf_2_38 rfl⟩
theorem gT37_39 : sG l g D H0 mT 37 39 (s_ret pR) := ⟨ok_ret _, so_aret mT37 dJ7_copyOf_2_39 (Or.inr ⟨_, rfl⟩)⟩
theorem gT37 (pc : Nat) : sG l g D H0 mT 37 pc (tT37 g pc) := sG_cond (sG_cond (sG_cond (sG_cond (sG_leaf gT37_0) (sG_leaf gT37_1)) (sG_cond (sG_leaf gT37_3) (sG_cond (sG_leaf gT37_6) (sG_leaf gT37_7)))) (sG_cond (sG_cond (sG_leaf gT37_10) (sG_leaf gT37_13)) (sG_cond (sG_leaf gT37_17) (sG_cond (sG_leaf gT37_21) (sG_leaf gT37_24))))) (sG_cond (sG_cond (sG_cond (sG_leaf gT37_25) (sG_leaf gT37_26)) (sG_cond (sG_leaf gT37_27) (sG_cond (sG_leaf gT37_28) (sG_leaf gT37_29)))) (sG_cond (sG_cond (sG_leaf gT37_30) (sG_cond (sG_leaf gT37_31) (sG_leaf gT37_32))) (sG_cond (sG_leaf gT37_35) (sG_cond (sG_leaf gT37_38) (sG_leaf gT37_39)))))
theorem gT103_0 : sG l g D H0 mT 103 0 (s_load vI 103 1 1) := ⟨ok_load _ _ _ _, so_iload_n mT103 dX10_replay_0 rfl⟩
theorem gT103_1 : sG l g D H0 mT 103 1 (s_load vRf 103 2 0) := ⟨ok_load _ _ _ _, so_aload_n mT103 dX10_replay_1 rfl⟩
theorem gT103_2 : sG l g D H0 mT 103 2 (s_getf 103 5 9 3) := ⟨ok_getf _ _ _ _, so_getf mT103 cl9 (k := 3) (by decide) dX10_replay_2 q685 (fs_rf rfl)⟩
theorem gT103_5 : sG l g D H0 mT 103 5 (s_icmp 103 8 10 (fun a b => a ≤ b)) := ⟨ok_icmp _ _ _ _, so_icmp_le mT103 dX10_replay_5 (by decide)⟩
theorem gT103_8 : sG l g D H0 mT 103 8 (s_const 103 9 .null) := ⟨ok_const _ _ _, so_null mT103 dX10_replay_8⟩
theorem gT103_9 : sG l g D H0 mT 103 9 (s_ret pR) := ⟨ok_ret _, so_aret mT103 dX10_replay_9 (Or.inl ⟨_, rfl⟩)⟩
theorem gT103_10 : sG l g D H0 mT 103 10 (s_load vRf 103 11 0) := ⟨ok_load _ _ _ _, so_aload_n mT103 dX10_replay_10 rfl⟩
theorem gT103_11 : sG l g D H0 mT 103 11 (s_getf 103 14 9 0) := ⟨ok_getf _ _ _ _, so_getf mT103 cl9 (k := 0) (by decide) dX10_replay_11 q680 (fs_rf rfl)⟩
theorem gT103_14 : sG l g D H0 mT 103 14 (s_callvk 103 17 201 6 [] 2) := ⟨ok_callvk _ _ _ _ _ _, sk_callv (by decide) (so_callV mT103 mo201 (by decide) (t := 6) (C := "HyperVane$Mind") (by decide) rfl rfl dX10_replay_14 q455 q456 q457 q74)⟩
theorem gT103_17 : sG l g D H0 mT 103 17 (s_store vRf 103 18 2) := ⟨ok_store _ _ _ _, so_astore_n mT103 dX10_replay_17 rfl⟩
theorem gT103_18 : sG l g D H0 mT 103 18 (s_const 103 19 (.int 0)) := ⟨ok_const _ _ _, so_iconst mT103 dX10_replay_18 (by decide)⟩
theorem gT103_19 : sG l g D H0 mT 103 19 (s_store vI 103 20 3) := ⟨ok_store _ _ _ _, so_istore_n mT103 dX10_replay_19 rfl⟩
theorem gT103_20 : sG l g D H0 mT 103 20 (s_load vRf 103 21 0) := ⟨ok_load _ _ _ _, so_aload_n mT103 dX10_replay_20 rfl⟩
theorem gT103_21 : sG l g D H0 mT 103 21 (s_load vRf 103 22 2) := ⟨ok_load _ _ _ _, so_aload_n mT103 dX10_replay_21 rfl⟩
theorem gT103_22 : sG l g D H0 mT 103 22 (s_const 103 23 (.int 0)) := ⟨ok_const _ _ _, so_iconst mT103 dX10_replay_22 (by decide)⟩
theorem gT103_23 : sG l g D H0 mT 103 23 (s_callvk 103 26 104 9 [1, 0] 5) := ⟨ok_callvk _ _ _ _ _ _, sk_callv (by decide) (so_callV mT103 mo104 (by decide) (t := 9) (C := "HyperVane$Past") (by decide) rfl rfl dX10_replay_23 q502 q504 qs11 q83)⟩
theorem gT103_26 : sG l g D H0 mT 103 26 (s_const 103 27 (.int 1)) := ⟨ok_const _ _ _, so_iconst mT103 dX10_replay_26 (by decide)⟩
theorem gT103_27 : sG l g D H0 mT 103 27 (s_store vI 103 29 4) := ⟨ok_store _ _ _ _, so_istore mT103 dX10_replay_27⟩
theorem gT103_29 : sG l g D H0 mT 103 29 (s_load vI 103 31 4) := ⟨ok_load _ _ _ _, so_iload mT103 dX10_replay_29⟩
theorem gT103_31 : sG l g D H0 mT 103 31 (s_load vI 103 32 1) := ⟨ok_load _ _ _ _, so_iload_n mT103 dX10_replay_31 rfl⟩
theorem gT103_32 : sG l g D H0 mT 103 32 (s_icmp 103 35 125 (fun a b => b < a)) := ⟨ok_icmp _ _ _ _, so_icmp_gt mT103 dX10_replay_32 (by decide)⟩
theorem gT103_35 : sG l g D H0 mT 103 35 (s_load vRf 103 36 2) := ⟨ok_load _ _ _ _, so_aload_n mT103 dX10_replay_35 rfl⟩
theorem gT103_36 : sG l g D H0 mT 103 36 (s_callvk 103 39 203 6 [] 1) := ⟨ok_callvk _ _ _ _ _ _, sk_callv (by decide) (so_callV mT103 mo203 (by decide) (t := 6) (C := "HyperVane$Mind") (by decide) rfl rfl dX10_replay_36 q513 q514 q515 q74)⟩
theorem gT103_39 : sG l g D H0 mT 103 39 (s_getf 103 42 8 0) := ⟨ok_getf _ _ _ _, so_getfN mT103 cl8 (k := 0) (by decide) dX10_replay_39 q1021 (fs_rf rfl)⟩
theorem gT103_42 : sG l g D H0 mT 103 42 (s_const 103 43 (.int 4)) := ⟨ok_const _ _ _, so_iconst mT103 dX10_replay_42 (by decide)⟩
theorem gT103_43 : sG l g D H0 mT 103 43 (s_icmp 103 46 57 (fun a b => a = b)) := ⟨ok_icmp _ _ _ _, so_icmp_eq mT103 dX10_replay_43 (by decide)⟩
theorem gT103_46 : sG l g D H0 mT 103 46 (s_load vRf 103 47 2) := ⟨ok_load _ _ _ _, so_aload_n mT103 dX10_replay_46 rfl⟩
theorem gT103_47 : sG l g D H0 mT 103 47 (s_callvk 103 50 203 6 [] 1) := ⟨ok_callvk _ _ _ _ _ _, sk_callv (by decide) (so_callV mT103 mo203 (by decide) (t := 6) (C := "HyperVane$Mind") (by decide) rfl rfl dX10_replay_47 q513 q514 q515 q74)⟩
theorem gT103_50 : sG l g D H0 mT 103 50 (s_getf 103 53 8 0) := ⟨ok_getf _ _ _ _, so_getfN mT103 cl8 (k := 0) (by decide) dX10_replay_50 q1021 (fs_rf rfl)⟩
theorem gT103_53 : sG l g D H0 mT 103 53 (s_const 103 54 (.int 5)) := ⟨ok_const _ _ _, so_iconst mT103 dX10_replay_53 (by decide)⟩
theorem gT103_54 : sG l g D H0 mT 103 54 (s_icmp 103 61 57 (fun a b => a = b)) := ⟨ok_icmp _ _ _ _, so_icmp_ne mT103 dX10_replay_54 (by decide)⟩
theorem gT103_57 : sG l g D H0 mT 103 57 (s_const 103 58 (.int 1)) := ⟨ok_const _ _ _, so_iconst mT103 dX10_replay_57 (by decide)⟩
theorem gT103_58 : sG l g D H0 mT 103 58 (s_goto 103 62) := ⟨ok_goto _ _, so_goto mT103 dX10_replay_58 (by decide)⟩
theorem gT103_61 : sG l g D H0 mT 103 61 (s_const 103 62 (.int 0)) := ⟨ok_const _ _ _, so_iconst mT103 dX10_replay_61 (by decide)⟩
theorem gT103_62 : sG l g D H0 mT 103 62 (s_store vI 103 64 5) := ⟨ok_store _ _ _ _, so_istore mT103 dX10_replay_62⟩
theorem gT103_64 : sG l g D H0 mT 103 64 (s_load vI 103 66 5) := ⟨ok_load _ _ _ _, so_iload mT103 dX10_replay_64⟩
theorem gT103_66 : sG l g D H0 mT 103 66 (s_if 103 69 82 (fun a => a = 0)) := ⟨ok_if _ _ _ _, so_if_eq mT103 dX10_replay_66 (by decide)⟩
theorem gT103_69 : sG l g D H0 mT 103 69 (s_load vI 103 70 3) := ⟨ok_load _ _ _ _, so_iload_n mT103 dX10_replay_69 rfl⟩
theorem gT103_70 : sG l g D H0 mT 103 70 (s_load vRf 103 71 0) := ⟨ok_load _ _ _ _, so_aload_n mT103 dX10_replay_70 rfl⟩
theorem gT103_71 : sG l g D H0 mT 103 71 (s_getf 103 74 9 1) := ⟨ok_getf _ _ _ _, so_getf mT103 cl9 (k := 1) (by decide) dX10_replay_71 q681 (fs_rf rfl)⟩
theorem gT103_74 : sG l g D H0 mT 103 74 (s_callvk 103 77 15 10 [] 1) := ⟨ok_callvk _ _ _ _ _ _, sk_callv (by decide) (so_callV mT103 mo15 (by decide) (t := 10) (C := "java/util/ArrayList") (by decide) rfl rfl dX10_replay_74 q519 q173 q174 q58)⟩
theorem gT103_77 : sG l g D H0 mT 103 77 (s_icmp 103 82 80 (fun a b => a = b)) := ⟨ok_icmp _ _ _ _, so_icmp_ne mT103 dX10_replay_77 (by decide)⟩
theorem gT103_80 : sG l g D H0 mT 103 80 (s_const 103 81 .null) := ⟨ok_const _ _ _, so_null mT103 dX10_replay_80⟩
theorem gT103_81 : sG l g D H0 mT 103 81 (s_ret pR) := ⟨ok_ret _, so_aret mT103 dX10_replay_81 (Or.inl ⟨_, rfl⟩)⟩
theorem gT103_82 : sG l g D H0 mT 103 82 (s_load vRf 103 83 2) := ⟨ok_load _ _ _ _, so_aload_n mT103 dX10_replay_82 rfl⟩
theorem gT103_83 : sG l g D H0 mT 103 83 (s_load vI 103 85 5) := ⟨ok_load _ _ _ _, so_iload mT103 dX10_replay_83⟩
theorem gT103_85 : sG l g D H0 mT 103 85 (s_if 103 88 108 (fun a => a = 0)) := ⟨ok_if _ _ _ _, so_if_eq mT103 dX10_replay_85 (by decide)⟩
theorem gT103_88 : sG l g D H0 mT 103 88 (s_load vRf 103 89 0) := ⟨ok_load _ _ _ _, so_aload_n mT103 dX10_replay_88 rfl⟩
theorem gT103_89 : sG l g D H0 mT 103 89 (s_getf 103 92 9 1) := ⟨ok_getf _ _ _ _, so_getf mT103 cl9 (k := 1) (by decide) dX10_replay_89 q681 (fs_rf rfl)⟩
theorem gT103_92 : sG l g D H0 mT 103 92 (s_load vI 103 93 3) := ⟨ok_load _ _ _ _, so_iload_n mT103 dX10_replay_92 rfl⟩
theorem gT103_93 : sG l g D H0 mT 103 93 (s_iinc 103 96 3 1) := ⟨ok_iinc _ _ _ _, so_iinc mT103 dX10_replay_93 (by decide)⟩
theorem gT103_96 : sG l g D H0 mT 103 96 (s_callvk 103 99 25 10 [0] 2) := ⟨ok_callvk _ _ _ _ _ _, sk_callv (by decide) (so_callV mT103 mo25 (by decide) (t := 10) (C := "java/util/ArrayList") (by decide) rfl rfl dX10_replay_96 q520 q439 q440 q58)⟩
theorem gT103_99 : sG l g D H0 mT 103 99 (s_cast 103 102 [12]) := ⟨ok_cast _ _ _, so_cast mT103 (T := "java/lang/Integer") (ts := [12]) (by intro u hu; rw [List.mem_singleton] at hu; subst hu; exact ⟨by decide, Or.inl rfl⟩) dX10_replay_99 q521⟩
theorem gT103_102 : sG l g D H0 mT 103 102 (s_callvk 103 105 8 12 [] 1) := ⟨ok_callvk _ _ _ _ _ _, sk_callv (by decide) (so_callV mT103 mo8 (by decide) (t := 12) (C := "java/lang/Integer") (by decide) rfl rfl dX10_replay_102 q522 q430 q431 q82)⟩
theorem gT103_105 : sG l g D H0 mT 103 105 (s_goto 103 109) := ⟨ok_goto _ _, so_goto mT103 dX10_replay_105 (by decide)⟩
theorem gT103_108 : sG l g D H0 mT 103 108 (s_const 103 109 (.int 0)) := ⟨ok_const _ _ _, so_iconst mT103 dX10_replay_108 (by decide)⟩
theorem gT103_109 : sG l g D H0 mT 103 109 (s_callvk 103 112 204 6 [0] 3) := ⟨ok_callvk _ _ _ _ _ _, sk_callv (by decide) (so_callV mT103 mo204 (by decide) (t := 6) (C := "HyperVane$Mind") (by decide) rfl rfl dX10_replay_109 q523 q524 q525 q74)⟩
theorem gT103_112 : sG l g D H0 mT 103 112 (s_load vRf 103 113 0) := ⟨ok_load _ _ _ _, so_aload_n mT103 dX10_replay_112 rfl⟩
theorem gT103_113 : sG l g D H0 mT 103 113 (s_load vRf 103 114 2) := ⟨ok_load _ _ _ _, so_aload_n mT103 dX10_replay_113 rfl⟩
theorem gT103_114 : sG l g D H0 mT 103 114 (s_load vI 103 116 4) := ⟨ok_load _ _ _ _, so_iload mT103 dX10_replay_114⟩
theorem gT103_116 : sG l g D H0 mT 103 116 (s_callvk 103 119 104 9 [1, 0] 5) := ⟨ok_callvk _ _ _ _ _ _, sk_callv (by decide) (so_callV mT103 mo104 (by decide) (t := 9) (C := "HyperVane$Past") (by decide) rfl rfl dX10_replay_116 q502 q504 qs11 q83)⟩
theorem gT103_119 : sG l g D H0 mT 103 119 (s_iinc 103 122 4 1) := ⟨ok_iinc _ _ _ _, so_iinc mT103 dX10_replay_119 (by decide)⟩
theorem gT103_122 : sG l g D H0 mT 103 122 (s_goto 103 29) := ⟨ok_goto _ _, so_goto mT103 dX10_replay_122 (by decide)⟩
theorem gT103_125 : sG l g D H0 mT 103 125 (s_load vRf 103 126 2) := ⟨ok_load _ _ _ _, so_aload_n mT103 dX10_replay_125 rfl⟩
theorem gT103_126 : sG l g D H0 mT 103 126 (s_ret pR) := ⟨ok_ret _, so_aret mT103 dX10_replay_126 (Or.inl ⟨_, rfl⟩)⟩
theorem gT103 (pc : Nat) : sG l g D H0 mT 103 pc (tT103 g pc) := sG_cond (sG_cond (sG_cond (sG_cond (sG_cond (sG_cond (sG_leaf gT103_0) (sG_leaf gT103_1)) (sG_cond (sG_leaf gT103_2) (sG_leaf gT103_5))) (sG_cond (sG_cond (sG_leaf gT103_8) (sG_leaf gT103_9)) (sG_cond (sG_leaf gT103_10) (sG_leaf gT103_11)))) (sG_cond (sG_cond (sG_cond (sG_leaf gT103_14) (sG_leaf gT103_17)) (sG_cond (sG_leaf gT103_18) (sG_leaf gT103_19))) (sG_cond (sG_cond (sG_leaf gT103_20) (sG_leaf gT103_21)) (sG_cond (sG_leaf gT103_22) (sG_leaf gT103_23))))) (sG_cond (sG_cond (sG_cond (sG_cond (sG_leaf gT103_26) (sG_leaf gT103_27)) (sG_cond (sG_leaf gT103_29) (sG_leaf gT103_31))) (sG_cond (sG_cond (sG_leaf gT103_32) (sG_leaf gT103_35)) (sG_cond (sG_leaf gT103_36) (sG_leaf gT103_39)))) (sG_cond (sG_cond (sG_cond (sG_leaf gT103_42) (sG_leaf gT103_43)) (sG_cond (sG_leaf gT103_46) (sG_leaf gT103_47))) (sG_cond (sG_cond (sG_leaf gT103_50) (sG_leaf gT103_53)) (sG_cond (sG_leaf gT103_54) (sG_leaf gT103_57)))))) (sG_cond (sG_cond (sG_cond (sG_cond (sG_cond (sG_leaf gT103_58) (sG_leaf gT103_61)) (sG_cond (sG_leaf gT103_62) (sG_leaf gT103_64))) (sG_cond (sG_cond (sG_leaf gT103_66) (sG_leaf gT103_69)) (sG_cond (sG_leaf gT103_70) (sG_leaf gT103_71)))) (sG_cond (sG_cond (sG_cond (sG_leaf gT103_74) (sG_leaf gT103_77)) (sG_cond (sG_leaf gT103_80) (sG_leaf gT103_81))) (sG_cond (sG_cond (sG_leaf gT103_82) (sG_leaf gT103_83)) (sG_cond (sG_leaf gT103_85) (sG_leaf gT103_88))))) (sG_cond (sG_cond (sG_cond (sG_cond (sG_leaf gT103_89) (sG_leaf gT103_92)) (sG_cond (sG_leaf gT103_93) (sG_leaf gT103_96))) (sG_cond (sG_cond (sG_leaf gT103_99) (sG_leaf gT103_102)) (sG_cond (sG_leaf gT103_105) (sG_leaf gT103_108)))) (sG_cond (sG_cond (sG_cond (sG_leaf gT103_109) (sG_leaf gT103_112)) (sG_cond (sG_leaf gT103_113) (sG_leaf gT103_114))) (sG_cond (sG_cond (sG_leaf gT103_116) (sG_leaf gT103_119)) (sG_cond (sG_leaf gT103_122) (sG_cond (sG_leaf gT103_125) (sG_leaf gT103_126)))))))
theorem gT104_0 : sG l g D H0 mT 104 0 (s_load vRf 104 1 0) := ⟨ok_load _ _ _ _, so_aload_n mT104 dX10_giveUp_0 rfl⟩
theorem gT104_1 : sG l g D H0 mT 104 1 (s_getf 104 4 9 2) := ⟨ok_getf _ _ _ _, so_getf mT104 cl9 (k := 2) (by decide) dX10_giveUp_1 q683 (fs_rf rfl)⟩
theorem gT104_4 : sG l g D H0 mT 104 4 (s_callvk 104 7 22 10 [] 1) := ⟨ok_callvk _ _ _ _ _ _, sk_callv (by decide) (so_callV mT104 mo22 (by decide) (t := 10) (C := "java/util/ArrayList") (by decide) rfl rfl dX10_giveUp_4 q507 q303 q304 q58)⟩
theorem gT104_7 : sG l g D H0 mT 104 7 (s_store vRf 104 8 3) := ⟨ok_store _ _ _ _, so_astore_n mT104 dX10_giveUp_7 rfl⟩
theorem gT104_8 : sG l g D H0 mT 104 8 (s_load vRf 104 9 3) := ⟨ok_load _ _ _ _, so_aload_n mT104 dX10_giveUp_8 rfl⟩
theorem gT104_9 : sG l g D H0 mT 104 9 (s_callvk 104 14 3 11 [] 1) := ⟨ok_callvk _ _ _ _ _ _, sk_callv (by decide) (so_callF mT104 mo3 (by decide) (t := 11) (C := "java/util/ArrayList$Itr") (by decide) rfl (by decide +kernel) ⟨by decide, by decide, by decide +kernel⟩ dX10_giveUp_9 q509 q332 q330 q80)⟩
theorem gT104_14 : sG l g D H0 mT 104 14 (s_if 104 17 49 (fun a => a = 0)) := ⟨ok_if _ _ _ _, so_if_eq mT104 dX10_giveUp_14 (by decide)⟩
theorem gT104_17 : sG l g D H0 mT 104 17 (s_load vRf 104 18 3) := ⟨ok_load _ _ _ _, so_aload_n mT104 dX10_giveUp_17 rfl⟩
theorem gT104_18 : sG l g D H0 mT 104 18 (s_callvk 104 23 4 11 [] 3) := ⟨ok_callvk _ _ _ _ _ _, sk_callv (by decide) (so_callF mT104 mo4 (by decide) (t := 11) (C := "java/util/ArrayList$Itr") (by decide) rfl (by decide +kernel) ⟨by decide, by decide, by decide +kernel⟩ dX10_giveUp_18 q511 q341 q339 q80)⟩
theorem gT104_23 : sG l g D H0 mT 104 23 (s_cast 104 26 [20]) := ⟨ok_cast _ _ _, so_cast mT104 (T := "[I") (ts := [20]) (by intro u hu; rw [List.mem_singleton] at hu; subst hu; exact ⟨by decide, Or.inl rfl⟩) dX10_giveUp_23 q512⟩
theorem gT104_26 : sG l g D H0 mT 104 26 (s_store vRf 104 28 4) := ⟨ok_store _ _ _ _, so_astore mT104 dX10_giveUp_26⟩
theorem gT104_28 : sG l g D H0 mT 104 28 (s_load vRf 104 30 4) := ⟨ok_load _ _ _ _, so_aload mT104 dX10_giveUp_28⟩
theorem gT104_30 : sG l g D H0 mT 104 30 (s_const 104 31 (.int 0)) := ⟨ok_const _ _ _, so_iconst mT104 dX10_giveUp_30 (by decide)⟩
theorem gT104_31 : sG l g D H0 mT 104 31 (s_ald 104 32 20) := ⟨ok_ald _ _ _, so_iald mT104 a20 dX10_giveUp_31⟩
theorem gT104_32 : sG l g D H0 mT 104 32 (s_load vI 104 33 2) := ⟨ok_load _ _ _ _, so_iload_n mT104 dX10_giveUp_32 rfl⟩
theorem gT104_33 : sG l g D H0 mT 104 33 (s_icmp 104 46 36 (fun a b => a = b)) := ⟨ok_icmp _ _ _ _, so_icmp_ne mT104 dX10_giveUp_33 (by decide)⟩
theorem gT104_36 : sG l g D H0 mT 104 36 (s_load vRf 104 37 1) := ⟨ok_load _ _ _ _, so_aload_n mT104 dX10_giveUp_36 rfl⟩
theorem gT104_37 : sG l g D H0 mT 104 37 (s_getf 104 40 6 1) := ⟨ok_getf _ _ _ _, so_getfN mT104 cl6 (k := 1) (by decide) dX10_giveUp_37 q470 (fs_rf rfl)⟩
theorem gT104_40 : sG l g D H0 mT 104 40 (s_load vRf 104 42 4) := ⟨ok_load _ _ _ _, so_aload mT104 dX10_giveUp_40⟩
theorem gT104_42 : sG l g D H0 mT 104 42 (s_const 104 43 (.int 1)) := ⟨ok_const _ _ _, so_iconst mT104 dX10_giveUp_42 (by decide)⟩
theorem gT104_43 : sG l g D H0 mT 104 43 (s_ald 104 44 20) := ⟨ok_ald _ _ _, so_iald mT104 a20 dX10_giveUp_43⟩
theorem gT104_44 : sG l g D H0 mT 104 44 (s_const 104 45 (.int 0)) := ⟨ok_const _ _ _, so_iconst mT104 dX10_giveUp_44 (by decide)⟩
theorem gT104_45 : sG l g D H0 mT 104 45 (s_ast g (fun _ v => vI v = true) 104 46 20) := ⟨ok_ast _ _ _ _ _, so_iast mT104 a20 dX10_giveUp_45⟩
theorem gT104_46 : sG l g D H0 mT 104 46 (s_goto 104 8) := ⟨ok_goto _ _, so_goto mT104 dX10_giveUp_46 (by decide)⟩
theorem gT104_49 : sG l g D H0 mT 104 49 (s_vret) := ⟨ok_vret, so_vret mT104 dX10_giveUp_49⟩
theorem gT104 (pc : Nat) : sG l g D H0 mT 104 pc (tT104 g pc) := sG_cond (sG_cond (sG_cond (sG_cond (sG_leaf gT104_0) (sG_cond (sG_leaf gT104_1) (sG_leaf gT104_4))) (sG_cond (sG_leaf gT104_7) (sG_cond (sG_leaf gT104_8) (sG_leaf gT104_9)))) (sG_cond (sG_cond (sG_leaf gT104_14) (sG_cond (sG_leaf gT104_17) (sG_leaf gT104_18))) (sG_cond (sG_leaf gT104_23) (sG_cond (sG_leaf gT104_26) (sG_leaf gT104_28))))) (sG_cond (sG_cond (sG_cond (sG_leaf gT104_30) (sG_cond (sG_leaf gT104_31) (sG_leaf gT104_32))) (sG_cond (sG_leaf gT104_33) (sG_cond (sG_leaf gT104_36) (sG_leaf gT104_37)))) (sG_cond (sG_cond (sG_leaf gT104_40) (sG_cond (sG_leaf gT104_42) (sG_leaf gT104_43))) (sG_cond (sG_cond (sG_leaf gT104_44) (sG_leaf gT104_45)) (sG_cond (sG_leaf gT104_46) (sG_leaf gT104_49)))))
theorem gT105_0 : sG l g D H0 mT 105 0 (s_new g 105 3 9 5 (fun k => defaultValue (tyX10 k))) := ⟨ok_new _ _ _ _ _ _, so_new mT105 cl9 (fun _ _ => rfl) dX10_copy_0 q673 q505 q83⟩
theorem gT105_3 : sG l g D H0 mT 105 3 (s_dup 105 4) := ⟨ok_dup _ _, so_dup mT105 dX10_copy_3⟩
theorem gT105_4 : sG l g D H0 mT 105 4 (s_load vRf 105 5 0) := ⟨ok_load _ _ _ _, so_aload_n mT105 dX10_copy_4 rfl⟩
theorem gT105_5 : sG l g D H0 mT 105 5 (s_getf 105 8 9 0) := ⟨ok_getf _ _ _ _, so_getf mT105 cl9 (k := 0) (by decide) dX10_copy_5 q680 (fs_rf rfl)⟩
theorem gT105_8 : sG l g D H0 mT 105 8 (s_callik 105 11 106 [1] 2) := ⟨ok_callik _ _ _ _ _, sk_calli (by decide) (so_callI mT105 mo106 (by decide) rfl dX10_copy_8 q674 q675 q83)⟩
theorem gT105_11 : sG l g D H0 mT 105 11 (s_store vRf 105 12 1) := ⟨ok_store _ _ _ _, so_astore_n mT105 dX10_copy_11 rfl⟩
theorem gT105_12 : sG l g D H0 mT 105 12 (s_load vRf 105 13 1) := ⟨ok_load _ _ _ _, so_aload_n mT105 dX10_copy_12 rfl⟩
theorem gT105_13 : sG l g D H0 mT 105 13 (s_getf 105 16 9 1) := ⟨ok_getf _ _ _ _, so_getf mT105 cl9 (k := 1) (by decide) dX10_copy_13 q681 (fs_rf rfl)⟩
theorem gT105_16 : sG l g D H0 mT 105 16 (s_load vRf 105 17 0) := ⟨ok_load _ _ _ _, so_aload_n mT105 dX10_copy_16 rfl⟩
theorem gT105_17 : sG l g D H0 mT 105 17 (s_getf 105 20 9 1) := ⟨ok_getf _ _ _ _, so_getf mT105 cl9 (k := 1) (by decide) dX10_copy_17 q681 (fs_rf rfl)⟩
theorem gT105_20 : sG l g D H0 mT 105 20 (s_callvk 105 23 27 10 [1] 6) := ⟨ok_callvk _ _ _ _ _ _, sk_callv (by decide) (so_callV mT105 mo27 (by decide) (t := 10) (C := "java/util/ArrayList") (by decide) rfl rfl dX10_copy_20 q699 q488 q489 q58)⟩
theorem gT105_23 : sG l g D H0 mT 105 23 (s_pop 105 24) := ⟨ok_pop _ _, so_pop mT105 dX10_copy_23⟩
theorem gT105_24 : sG l g D H0 mT 105 24 (s_load vRf 105 25 1) := ⟨ok_load _ _ _ _, so_aload_n mT105 dX10_copy_24 rfl⟩
theorem gT105_25 : sG l g D H0 mT 105 25 (s_getf 105 28 9 2) := ⟨ok_getf _ _ _ _, so_getf mT105 cl9 (k := 2) (by decide) dX10_copy_25 q683 (fs_rf rfl)⟩
theorem gT105_28 : sG l g D H0 mT 105 28 (s_load vRf 105 29 0) := ⟨ok_load _ _ _ _, so_aload_n mT105 dX10_copy_28 rfl⟩
theorem gT105_29 : sG l g D H0 mT 105 29 (s_getf 105 32 9 2) := ⟨ok_getf _ _ _ _, so_getf mT105 cl9 (k := 2) (by decide) dX10_copy_29 q683 (fs_rf rfl)⟩
theorem gT105_32 : sG l g D H0 mT 105 32 (s_callvk 105 35 27 10 [1] 6) := ⟨ok_callvk _ _ _ _ _ _, sk_callv (by decide) (so_callV mT105 mo27 (by decide) (t := 10) (C := "java/util/ArrayList") (by decide) rfl rfl dX10_copy_32 q699 q488 q489 q58)⟩
theorem gT105_35 : sG l g D H0 mT 105 35 (s_pop 105 36) := ⟨ok_pop _ _, so_pop mT105 dX10_copy_35⟩
theorem gT105_36 : sG l g D H0 mT 105 36 (s_load vRf 105 37 1) := ⟨ok_load _ _ _ _, so_aload_n mT105 dX10_copy_36 rfl⟩
theorem gT105_37 : sG l g D H0 mT 105 37 (s_load vRf 105 38 0) := ⟨ok_load _ _ _ _, so_aload_n mT105 dX10_copy_37 rfl⟩
theorem gT105_38 : sG l g D H0 mT 105 38 (s_getf 105 41 9 3) := ⟨ok_getf _ _ _ _, so_getf mT105 cl9 (k := 3) (by decide) dX10_copy_38 q685 (fs_rf rfl)⟩
theorem gT105_41 : sG l g D H0 mT 105 41 (s_putf g pI 105 44 9 3) := ⟨ok_putf _ _ _ _ _ _, so_putf mT105 cl9 (k := 3) (by decide) fI rfl dX10_copy_41 q685 (fs_rf rfl)⟩
theorem gT105_44 : sG l g D H0 mT 105 44 (s_load vRf 105 45 1) := ⟨ok_load _ _ _ _, so_aload_n mT105 dX10_copy_44 rfl⟩
theorem gT105_45 : sG l g D H0 mT 105 45 (s_load vRf 105 46 0) := ⟨ok_load _ _ _ _, so_aload_n mT105 dX10_copy_45 rfl⟩
theorem gT105_46 : sG l g D H0 mT 105 46 (s_getf 105 49 9 4) := ⟨ok_getf _ _ _ _, so_getf mT105 cl9 (k := 4) (by decide) dX10_copy_46 q687 (fs_rf rfl)⟩
theorem gT105_49 : sG l g D H0 mT 105 49 (s_putf g vZ 105 52 9 4) := ⟨ok_putf _ _ _ _ _ _, so_putf mT105 cl9 (k := 4) (by decide) fZ rfl dX10_copy_49 q687 (fs_rf rfl)⟩
theorem gT105_52 : sG l g D H0 mT 105 52 (s_load vRf 105 53 1) := ⟨ok_load _ _ _ _, so_aload_n mT105 dX10_copy_52 rfl⟩
theorem gT105_53 : sG l g D H0 mT 105 53 (s_ret pR) := ⟨ok_ret _, so_aret mT105 dX10_copy_53 (Or.inl ⟨_, rfl⟩)⟩
theorem gT105 (pc : Nat) : sG l g D H0 mT 105 pc (tT105 g pc) := sG_cond (sG_cond (sG_cond (sG_cond (sG_leaf gT105_0) (sG_cond (sG_leaf gT105_3) (sG_leaf gT105_4))) (sG_cond (sG_cond (sG_leaf gT105_5) (sG_leaf gT105_8)) (sG_cond (sG_leaf gT105_11) (sG_leaf gT105_12)))) (sG_cond (sG_cond (sG_leaf gT105_13) (sG_cond (sG_leaf gT105_16) (sG_leaf gT105_17))) (sG_cond (sG_cond (sG_leaf gT105_20) (sG_leaf gT105_23)) (sG_cond (sG_leaf gT105_24) (sG_leaf gT105_25))))) (sG_cond (sG_cond (sG_cond (sG_leaf gT105_28) (sG_cond (sG_leaf gT105_29) (sG_leaf gT105_32))) (sG_cond (sG_cond (sG_leaf gT105_35) (sG_leaf gT105_36)) (sG_cond (sG_leaf gT105_37) (sG_leaf gT105_38)))) (sG_cond (sG_cond (sG_leaf gT105_41) (sG_cond (sG_leaf gT105_44) (sG_leaf gT105_45))) (sG_cond (sG_cond (sG_leaf gT105_46) (sG_leaf gT105_49)) (sG_cond (sG_leaf gT105_52) (sG_leaf gT105_53)))))
theorem gT106_0 : sG l g D H0 mT 106 0 (s_load vRf 106 1 0) := ⟨ok_load _ _ _ _, so_aload_n mT106 dX10_init_0 rfl⟩
theorem gT106_1 : sG l g D H0 mT 106 1 (s_oinit 106 4) := ⟨ok_oinit _ _, so_oinit mT106 (by decide) dX10_init_1 q677 q91 q92⟩
theorem gT106_4 : sG l g D H0 mT 106 4 (s_load vRf 106 5 0) := ⟨ok_load _ _ _ _, so_aload_n mT106 dX10_init_4 rfl⟩
theorem gT106_5 : sG l g D H0 mT 106 5 (s_new g 106 8 10 3 (fun k => defaultValue (tyJ2 k))) := ⟨ok_new _ _ _ _ _ _, so_new mT106 cl10 (fun _ _ => rfl) dX10_init_5 q678 q100 q58⟩
theorem gT106_8 : sG l g D H0 mT 106 8 (s_dup 106 9) := ⟨ok_dup _ _, so_dup mT106 dX10_init_8⟩
theorem gT106_9 : sG l g D H0 mT 106 9 (s_callik 106 12 14 [] 1) := ⟨ok_callik _ _ _ _ _, sk_calli (by decide) (so_callI mT106 mo14 (by decide) rfl dX10_init_9 q679 q102 q58)⟩
theorem gT106_12 : sG l g D H0 mT 106 12 (s_putf g pR 106 15 9 1) := ⟨ok_putf _ _ _ _ _ _, so_putfF mT106 cl9 (k := 1) (by decide) fR rfl rfl rfl dX10_init_12 q681 (fs_rf rfl)⟩
theorem gT106_15 : sG l g D H0 mT 106 15 (s_load vRf 106 16 0) := ⟨ok_load _ _ _ _, so_aload_n mT106 dX10_init_15 rfl⟩
theorem gT106_16 : sG l g D H0 mT 106 16 (s_new g 106 19 10 3 (fun k => defaultValue (tyJ2 k))) := ⟨ok_new _ _ _ _ _ _, so_new mT106 cl10 (fun _ _ => rfl) dX10_init_16 q678 q100 q58⟩
theorem gT106_19 : sG l g D H0 mT 106 19 (s_dup 106 20) := ⟨ok_dup _ _, so_dup mT106 dX10_init_19⟩
theorem gT106_20 : sG l g D H0 mT 106 20 (s_callik 106 23 14 [] 1) := ⟨ok_callik _ _ _ _ _, sk_calli (by decide) (so_callI mT106 mo14 (by decide) rfl dX10_init_20 q679 q102 q58)⟩
theorem gT106_23 : sG l g D H0 mT 106 23 (s_putf g pR 106 26 9 2) := ⟨ok_putf _ _ _ _ _ _, so_putfF mT106 cl9 (k := 2) (by decide) fR rfl rfl rfl dX10_init_23 q683 (fs_rf rfl)⟩
theorem gT106_26 : sG l g D H0 mT 106 26 (s_load vRf 106 27 0) := ⟨ok_load _ _ _ _, so_aload_n mT106 dX10_init_26 rfl⟩
theorem gT106_27 : sG l g D H0 mT 106 27 (s_load vRf 106 28 1) := ⟨ok_load _ _ _ _, so_aload_n mT106 dX10_init_27 rfl⟩
theorem gT106_28 : sG l g D H0 mT 106 28 (s_putf g pR 106 31 9 0) := ⟨ok_putf _ _ _ _ _ _, so_putfF mT106 cl9 (k := 0) (by decide) fR rfl rfl rfl dX10_init_28 q680 (fs_rf rfl)⟩
theorem gT106_31 : sG l g D H0 mT 106 31 (s_vret) := ⟨ok_vret, so_vret mT106 dX10_init_31⟩
theorem gT106 (pc : Nat) : sG l g D H0 mT 106 pc (tT106 g pc) := sG_cond (sG_cond (sG_cond (sG_cond (sG_leaf gT106_0) (sG_leaf gT106_1)) (sG_cond (sG_leaf gT106_4) (sG_leaf gT106_5))) (sG_cond (sG_cond (sG_leaf gT106_8) (sG_leaf gT106_9)) (sG_cond (sG_leaf gT106_12) (sG_leaf gT106_15)))) (sG_cond (sG_cond (sG_cond (sG_leaf gT106_16) (sG_leaf gT106_19)) (sG_cond (sG_leaf gT106_20) (sG_leaf gT106_23))) (sG_cond (sG_cond (sG_leaf gT106_26) (sG_leaf gT106_27)) (sG_cond (sG_leaf gT106_28) (sG_leaf gT106_31))))
theorem gT107_0 : sG l g D H0 mT 107 0 (s_load vRf 107 1 0) := ⟨ok_load _ _ _ _, so_aload_n mT107 dX10_add_0 rfl⟩
theorem gT107_1 : sG l g D H0 mT 107 1 (s_getf 107 4 9 1) := ⟨ok_getf _ _ _ _, so_getf mT107 cl9 (k := 1) (by decide) dX10_add_1 q681 (fs_rf rfl)⟩
theorem gT107_4 : sG l g D H0 mT 107 4 (s_callvk 107 7 15 10 [] 1) := ⟨ok_callvk _ _ _ _ _ _, sk_callv (by decide) (so_callV mT107 mo15 (by decide) (t := 10) (C := "java/util/ArrayList") (by decide) rfl rfl dX10_add_4 q519 q173 q174 q58)⟩
theorem gT107_7 : sG l g D H0 mT 107 7 (s_const 107 9 (.int 60)) := ⟨ok_const _ _ _, so_bipush mT107 dX10_add_7 (by decide)⟩
theorem gT107_9 : sG l g D H0 mT 107 9 (s_icmp 107 20 12 (fun a b => a = b)) := ⟨ok_icmp _ _ _ _, so_icmp_ne mT107 dX10_add_9 (by decide)⟩
theorem gT107_12 : sG l g D H0 mT 107 12 (s_load vRf 107 13 0) := ⟨ok_load _ _ _ _, so_aload_n mT107 dX10_add_12 rfl⟩
theorem gT107_13 : sG l g D H0 mT 107 13 (s_const 107 14 (.int 1)) := ⟨ok_const _ _ _, so_iconst mT107 dX10_add_13 (by decide)⟩
theorem gT107_14 : sG l g D H0 mT 107 14 (s_putf g vZ 107 17 9 4) := ⟨ok_putf _ _ _ _ _ _, so_putf mT107 cl9 (k := 4) (by decide) fZ rfl dX10_add_14 q687 (fs_rf rfl)⟩
theorem gT107_17 : sG l g D H0 mT 107 17 (s_goto 107 39) := ⟨ok_goto _ _, so_goto mT107 dX10_add_17 (by decide)⟩
theorem gT107_20 : sG l g D H0 mT 107 20 (s_load vRf 107 21 0) := ⟨ok_load _ _ _ _, so_aload_n mT107 dX10_add_20 rfl⟩
theorem gT107_21 : sG l g D H0 mT 107 21 (s_getf 107 24 9 4) := ⟨ok_getf _ _ _ _, so_getf mT107 cl9 (k := 4) (by decide) dX10_add_21 q687 (fs_rf rfl)⟩
theorem gT107_24 : sG l g D H0 mT 107 24 (s_if 107 39 27 (fun a => a = 0)) := ⟨ok_if _ _ _ _, so_if_ne mT107 dX10_add_24 (by decide)⟩
theorem gT107_27 : sG l g D H0 mT 107 27 (s_load vRf 107 28 0) := ⟨ok_load _ _ _ _, so_aload_n mT107 dX10_add_27 rfl⟩
theorem gT107_28 : sG l g D H0 mT 107 28 (s_getf 107 31 9 1) := ⟨ok_getf _ _ _ _, so_getf mT107 cl9 (k := 1) (by decide) dX10_add_28 q681 (fs_rf rfl)⟩
theorem gT107_31 : sG l g D H0 mT 107 31 (s_load vI 107 32 1) := ⟨ok_load _ _ _ _, so_iload_n mT107 dX10_add_31 rfl⟩
theorem gT107_32 : sG l g D H0 mT 107 32 (s_callk 107 35 9 [0] 1) := ⟨ok_callk _ _ _ _ _, sk_call (by decide) (so_callS mT107 mo9 (by decide) dX10_add_32 q770 q771 q82)⟩
theorem gT107_35 : sG l g D H0 mT 107 35 (s_callvk 107 38 18 10 [1] 2) := ⟨ok_callvk _ _ _ _ _ _, sk_callv (by decide) (so_callV mT107 mo18 (by decide) (t := 10) (C := "java/util/ArrayList") (by decide) rfl rfl dX10_add_35 q789 q228 q229 q58)⟩
theorem gT107_38 : sG l g D H0 mT 107 38 (s_pop 107 39) := ⟨ok_pop _ _, so_pop mT107 dX10_add_38⟩
theorem gT107_39 : sG l g D H0 mT 107 39 (s_vret) := ⟨ok_vret, so_vret mT107 dX10_add_39⟩
theorem gT107 (pc : Nat) : sG l g D H0 mT 107 pc (tT107 g pc) := sG_cond (sG_cond (sG_cond (sG_cond (sG_leaf gT107_0) (sG_leaf gT107_1)) (sG_cond (sG_leaf gT107_4) (sG_leaf gT107_7))) (sG_cond (sG_cond (sG_leaf gT107_9) (sG_leaf gT107_12)) (sG_cond (sG_leaf gT107_13) (sG_cond (sG_leaf gT107_14) (sG_leaf gT107_17))))) (sG_cond (sG_cond (sG_cond (sG_leaf gT107_20) (sG_leaf gT107_21)) (sG_cond (sG_leaf gT107_24) (sG_cond (sG_leaf gT107_27) (sG_leaf gT107_28)))) (sG_cond (sG_cond (sG_leaf gT107_31) (sG_leaf gT107_32)) (sG_cond (sG_leaf gT107_35) (sG_cond (sG_leaf gT107_38) (sG_leaf gT107_39)))))
theorem gT134_0 : sG l g D H0 mT 134 0 (s_load vRf 134 1 0) := ⟨ok_load _ _ _ _, so_aload_n mT134 dX3_free_0 rfl⟩
theorem gT134_1 : sG l g D H0 mT 134 1 (s_const 134 2 .null) := ⟨ok_const _ _ _, so_null mT134 dX3_free_1⟩
theorem gT134_2 : sG l g D H0 mT 134 2 (s_const 134 3 (.int (-1))) := ⟨ok_const _ _ _, so_iconst mT134 dX3_free_2 (by decide)⟩
theorem gT134_3 : sG l g D H0 mT 134 3 (s_const 134 4 (.int (-1))) := ⟨ok_const _ _ _, so_iconst mT134 dX3_free_3 (by decide)⟩
theorem gT134_4 : sG l g D H0 mT 134 4 (s_callvk 134 7 135 2 [1, 0, 0] 4) := ⟨ok_callvk _ _ _ _ _ _, sk_callv (by decide) (so_callV mT134 mo135 (by decide) (t := 2) (C := "HyperVane$Frame") (by decide) rfl rfl dX3_free_4 q202 q203 q204 q62)⟩
theorem gT134_7 : sG l g D H0 mT 134 7 (s_vret) := ⟨ok_vret, so_vret mT134 dX3_free_7⟩
theorem gT134 (pc : Nat) : sG l g D H0 mT 134 pc (tT134 g pc) := sG_cond (sG_cond (sG_leaf gT134_0) (sG_cond (sG_leaf gT134_1) (sG_leaf gT134_2))) (sG_cond (sG_leaf gT134_3) (sG_cond (sG_leaf gT134_4) (sG_leaf gT134_7)))
theorem gT135_0 : sG l g D H0 mT 135 0 (s_load vRf 135 1 0) := ⟨ok_load _ _ _ _, so_aload_n mT135 dX3_set_0 rfl⟩
theorem gT135_1 : sG l g D H0 mT 135 1 (s_load vRf 135 2 1) := ⟨ok_load _ _ _ _, so_aload_n mT135 dX3_set_1 rfl⟩
theorem gT135_2 : sG l g D H0 mT 135 2 (s_putf g pR 135 5 2 0) := ⟨ok_putf _ _ _ _ _ _, so_putf mT135 cl2 (k := 0) (by decide) fR rfl dX3_set_2 q211 (fs_rf rfl)⟩
theorem gT135_5 : sG l g D H0 mT 135 5 (s_load vRf 135 6 0) := ⟨ok_load _ _ _ _, so_aload_n mT135 dX3_set_5 rfl⟩
theorem gT135_6 : sG l g D H0 mT 135 6 (s_load vI 135 7 2) := ⟨ok_load _ _ _ _, so_iload_n mT135 dX3_set_6 rfl⟩
theorem gT135_7 : sG l g D H0 mT 135 7 (s_putf g pI 135 10 2 1) := ⟨ok_putf _ _ _ _ _ _, so_putf mT135 cl2 (k := 1) (by decide) fI rfl dX3_set_7 q214 (fs_rf rfl)⟩
theorem gT135_10 : sG l g D H0 mT 135 10 (s_load vRf 135 11 0) := ⟨ok_load _ _ _ _, so_aload_n mT135 dX3_set_10 rfl⟩
theorem gT135_11 : sG l g D H0 mT 135 11 (s_load vI 135 12 3) := ⟨ok_load _ _ _ _, so_iload_n mT135 dX3_set_11 rfl⟩
theorem gT135_12 : sG l g D H0 mT 135 12 (s_putf g pI 135 15 2 2) := ⟨ok_putf _ _ _ _ _ _, so_putf mT135 cl2 (k := 2) (by decide) fI rfl dX3_set_12 q217 (fs_rf rfl)⟩
theorem gT135_15 : sG l g D H0 mT 135 15 (s_vret) := ⟨ok_vret, so_vret mT135 dX3_set_15⟩
theorem gT135 (pc : Nat) : sG l g D H0 mT 135 pc (tT135 g pc) := sG_cond (sG_cond (sG_cond (sG_leaf gT135_0) (sG_leaf gT135_1)) (sG_cond (sG_leaf gT135_2) (sG_cond (sG_leaf gT135_5) (sG_leaf gT135_6)))) (sG_cond (sG_cond (sG_leaf gT135_7) (sG_leaf gT135_10)) (sG_cond (sG_leaf gT135_11) (sG_cond (sG_leaf gT135_12) (sG_leaf gT135_15))))
theorem gT136_0 : sG l g D H0 mT 136 0 (s_load vRf 136 1 0) := ⟨ok_load _ _ _ _, so_aload_n mT136 dX3_init_0 rfl⟩
theorem gT136_1 : sG l g D H0 mT 136 1 (s_oinit 136 4) := ⟨ok_oinit _ _, so_oinit mT136 (by decide) dX3_init_1 q210 q91 q92⟩
theorem gT136_4 : sG l g D H0 mT 136 4 (s_load vRf 136 5 0) := ⟨ok_load _ _ _ _, so_aload_n mT136 dX3_init_4 rfl⟩
theorem gT136_5 : sG l g D H0 mT 136 5 (s_const 136 6 (.int (-1))) := ⟨ok_const _ _ _, so_iconst mT136 dX3_init_5 (by decide)⟩
theorem gT136_6 : sG l g D H0 mT 136 6 (s_putf g pI 136 9 2 1) := ⟨ok_putf _ _ _ _ _ _, so_putf mT136 cl2 (k := 1) (by decide) fI rfl dX3_init_6 q214 (fs_rf rfl)⟩
theorem gT136_9 : sG l g D H0 mT 136 9 (s_load vRf 136 10 0) := ⟨ok_load _ _ _ _, so_aload_n mT136 dX3_init_9 rfl⟩
theorem gT136_10 : sG l g D H0 mT 136 10 (s_const 136 11 (.int (-1))) := ⟨ok_const _ _ _, so_iconst mT136 dX3_init_10 (by decide)⟩
theorem gT136_11 : sG l g D H0 mT 136 11 (s_putf g pI 136 14 2 2) := ⟨ok_putf _ _ _ _ _ _, so_putf mT136 cl2 (k := 2) (by decide) fI rfl dX3_init_11 q217 (fs_rf rfl)⟩
theorem gT136_14 : sG l g D H0 mT 136 14 (s_vret) := ⟨ok_vret, so_vret mT136 dX3_init_14⟩
theorem gT136 (pc : Nat) : sG l g D H0 mT 136 pc (tT136 g pc) := sG_cond (sG_cond (sG_cond (sG_leaf gT136_0) (sG_leaf gT136_1)) (sG_cond (sG_leaf gT136_4) (sG_leaf gT136_5))) (sG_cond (sG_cond (sG_leaf gT136_6) (sG_leaf gT136_9)) (sG_cond (sG_leaf gT136_10) (sG_cond (sG_leaf gT136_11) (sG_leaf gT136_14))))
theorem gT193_0 : sG l g D H0 mT 193 0 (s_const 193 1 (.int 0)) := ⟨ok_const _ _ _, so_iconst mT193 dX6_manyLeft_0 (by decide)⟩
theorem gT193_1 : sG l g D H0 mT 193 1 (s_store vI 193 2 1) := ⟨ok_store _ _ _ _, so_istore_n mT193 dX6_manyLeft_1 rfl⟩
theorem gT193_2 : sG l g D H0 mT 193 2 (s_const 193 3 (.int 0)) := ⟨ok_const _ _ _, so_iconst mT193 dX6_manyLeft_2 (by decide)⟩
theorem gT193_3 : sG l g D H0 mT 193 3 (s_store vI 193 4 2) := ⟨ok_store _ _ _ _, so_istore_n mT193 dX6_manyLeft_3 rfl⟩
theorem gT193_4 : sG l g D H0 mT 193 4 (s_load vRf 193 5 0) := ⟨ok_load _ _ _ _, so_aload_n mT193 dX6_manyLeft_4 rfl⟩
theorem gT193_5 : sG l g D H0 mT 193 5 (s_callvk 193 8 194 5 [] 1) := ⟨ok_callvk _ _ _ _ _ _, sk_callv (by decide) (so_callV mT193 mo194 (by decide) (t := 5) (C := "HyperVane$Guest") (by decide) rfl rfl dX6_manyLeft_5 q390 q391 q392 q73)⟩
theorem gT193_8 : sG l g D H0 mT 193 8 (s_if 193 11 35 (fun a => a = 0)) := ⟨ok_if _ _ _ _, so_if_eq mT193 dX6_manyLeft_8 (by decide)⟩
theorem gT193_11 : sG l g D H0 mT 193 11 (s_load vI 193 12 2) := ⟨ok_load _ _ _ _, so_iload_n mT193 dX6_manyLeft_11 rfl⟩
theorem gT193_12 : sG l g D H0 mT 193 12 (s_const 193 14 (.int 6)) := ⟨ok_const _ _ _, so_bipush mT193 dX6_manyLeft_12 (by decide)⟩
theorem gT193_14 : sG l g D H0 mT 193 14 (s_icmp 193 17 35 (fun a b => b ≤ a)) := ⟨ok_icmp _ _ _ _, so_icmp_ge mT193 dX6_manyLeft_14 (by decide)⟩
theorem gT193_17 : sG l g D H0 mT 193 17 (s_load vI 193 18 1) := ⟨ok_load _ _ _ _, so_iload_n mT193 dX6_manyLeft_17 rfl⟩
theorem gT193_18 : sG l g D H0 mT 193 18 (s_load vRf 193 19 0) := ⟨ok_load _ _ _ _, so_aload_n mT193 dX6_manyLeft_18 rfl⟩
theorem gT193_19 : sG l g D H0 mT 193 19 (s_getf 193 22 5 16) := ⟨ok_getf _ _ _ _, so_getf mT193 cl5 (k := 16) (by decide) dX6_manyLeft_19 q599 (fs_rf rfl)⟩
theorem gT193_22 : sG l g D H0 mT 193 22 (s_load vI 193 23 2) := ⟨ok_load _ _ _ _, so_iload_n mT193 dX6_manyLeft_22 rfl⟩
theorem gT193_23 : sG l g D H0 mT 193 23 (s_ald 193 24 21) := ⟨ok_ald _ _ _, so_zald mT193 a21 dX6_manyLeft_23⟩
theorem gT193_24 : sG l g D H0 mT 193 24 (s_callk 193 27 61 [0] 1) := ⟨ok_callk _ _ _ _ _, sk_call (by decide) (so_callSN mT193 mo61 (by decide) dX6_manyLeft_24 q394 q350 q54)⟩
theorem gT193_27 : sG l g D H0 mT 193 27 (s_bin 193 28 (fun a b => a + b)) := ⟨ok_bin _ _ _, so_iadd mT193 dX6_manyLeft_27⟩
theorem gT193_28 : sG l g D H0 mT 193 28 (s_store vI 193 29 1) := ⟨ok_store _ _ _ _, so_istore_n mT193 dX6_manyLeft_28 rfl⟩
theorem gT193_29 : sG l g D H0 mT 193 29 (s_iinc 193 32 2 1) := ⟨ok_iinc _ _ _ _, so_iinc mT193 dX6_manyLeft_29 (by decide)⟩
theorem gT193_32 : sG l g D H0 mT 193 32 (s_goto 193 4) := ⟨ok_goto _ _, so_goto mT193 dX6_manyLeft_32 (by decide)⟩
theorem gT193_35 : sG l g D H0 mT 193 35 (s_load vRf 193 36 0) := ⟨ok_load _ _ _ _, so_aload_n mT193 dX6_manyLeft_35 rfl⟩
theorem gT193_36 : sG l g D H0 mT 193 36 (s_callvk 193 39 194 5 [] 1) := ⟨ok_callvk _ _ _ _ _ _, sk_callv (by decide) (so_callV mT193 mo194 (by decide) (t := 5) (C := "HyperVane$Guest") (by decide) rfl rfl dX6_manyLeft_36 q390 q391 q392 q73)⟩
theorem gT193_39 : sG l g D H0 mT 193 39 (s_if 193 42 46 (fun a => a = 0)) := ⟨ok_if _ _ _ _, so_if_eq mT193 dX6_manyLeft_39 (by decide)⟩
theorem gT193_42 : sG l g D H0 mT 193 42 (s_load vI 193 43 1) := ⟨ok_load _ _ _ _, so_iload_n mT193 dX6_manyLeft_42 rfl⟩
theorem gT193_43 : sG l g D H0 mT 193 43 (s_goto 193 47) := ⟨ok_goto _ _, so_goto mT193 dX6_manyLeft_43 (by decide)⟩
theorem gT193_46 : sG l g D H0 mT 193 46 (s_const 193 47 (.int (-1))) := ⟨ok_const _ _ _, so_iconst mT193 dX6_manyLeft_46 (by decide)⟩
theorem gT193_47 : sG l g D H0 mT 193 47 (s_ret pI) := ⟨ok_ret _, so_iret mT193 dX6_manyLeft_47⟩
theorem gT193 (pc : Nat) : sG l g D H0 mT 193 pc (tT193 g pc) := sG_cond (sG_cond (sG_cond (sG_cond (sG_leaf gT193_0) (sG_cond (sG_leaf gT193_1) (sG_leaf gT193_2))) (sG_cond (sG_leaf gT193_3) (sG_cond (sG_leaf gT193_4) (sG_leaf gT193_5)))) (sG_cond (sG_cond (sG_leaf gT193_8) (sG_cond (sG_leaf gT193_11) (sG_leaf gT193_12))) (sG_cond (sG_cond (sG_leaf gT193_14) (sG_leaf gT193_17)) (sG_cond (sG_leaf gT193_18) (sG_leaf gT193_19))))) (sG_cond (sG_cond (sG_cond (sG_leaf gT193_22) (sG_cond (sG_leaf gT193_23) (sG_leaf gT193_24))) (sG_cond (sG_cond (sG_leaf gT193_27) (sG_leaf gT193_28)) (sG_cond (sG_leaf gT193_29) (sG_leaf gT193_32)))) (sG_cond (sG_cond (sG_leaf gT193_35) (sG_cond (sG_leaf gT193_36) (sG_leaf gT193_39))) (sG_cond (sG_cond (sG_leaf gT193_42) (sG_leaf gT193_43)) (sG_cond (sG_leaf gT193_46) (sG_leaf gT193_47)))))
theorem gT194_0 : sG l g D H0 mT 194 0 (s_load vRf 194 1 0) := ⟨ok_load _ _ _ _, so_aload_n mT194 dX6_isMoved_0 rfl⟩
theorem gT194_1 : sG l g D H0 mT 194 1 (s_getf 194 4 5 16) := ⟨ok_getf _ _ _ _, so_getf mT194 cl5 (k := 16) (by decide) dX6_isMoved_1 q599 (fs_rf rfl)⟩
theorem gT194_4 : sG l g D H0 mT 194 4 (s_ifnull 194 7 11) := ⟨ok_ifnull _ _ _, so_ifnull mT194 dX6_isMoved_4 (by decide)⟩
theorem gT194_7 : sG l g D H0 mT 194 7 (s_const 194 8 (.int 1)) := ⟨ok_const _ _ _, so_iconst mT194 dX6_isMoved_7 (by decide)⟩
theorem gT194_8 : sG l g D H0 mT 194 8 (s_goto 194 12) := ⟨ok_goto _ _, so_goto mT194 dX6_isMoved_8 (by decide)⟩
theorem gT194_11 : sG l g D H0 mT 194 11 (s_const 194 12 (.int 0)) := ⟨ok_const _ _ _, so_iconst mT194 dX6_isMoved_11 (by decide)⟩
theorem gT194_12 : sG l g D H0 mT 194 12 (s_ret vZ) := ⟨ok_ret _, so_zret mT194 dX6_isMoved_12⟩
theorem gT194 (pc : Nat) : sG l g D H0 mT 194 pc (tT194 g pc) := sG_cond (sG_cond (sG_leaf gT194_0) (sG_cond (sG_leaf gT194_1) (sG_leaf gT194_4))) (sG_cond (sG_cond (sG_leaf gT194_7) (sG_leaf gT194_8)) (sG_cond (sG_leaf gT194_11) (sG_leaf gT194_12)))
theorem gT195_0 : sG l g D H0 mT 195 0 (s_new g 195 3 5 22 (fun k => defaultValue (tyX6 k))) := ⟨ok_new _ _ _ _ _ _, so_new mT195 cl5 (fun _ _ => rfl) dX6_copy_0 q544 q545 q73⟩
theorem gT195_3 : sG l g D H0 mT 195 3 (s_dup 195 4) := ⟨ok_dup _ _, so_dup mT195 dX6_copy_3⟩
theorem gT195_4 : sG l g D H0 mT 195 4 (s_load vRf 195 5 0) := ⟨ok_load _ _ _ _, so_aload_n mT195 dX6_copy_4 rfl⟩
theorem gT195_5 : sG l g D H0 mT 195 5 (s_getf 195 8 5 0) := ⟨ok_getf _ _ _ _, so_getf mT195 cl5 (k := 0) (by decide) dX6_copy_5 q552 (fs_rf rfl)⟩
theorem gT195_8 : sG l g D H0 mT 195 8 (s_load vRf 195 9 0) := ⟨ok_load _ _ _ _, so_aload_n mT195 dX6_copy_8 rfl⟩
theorem gT195_9 : sG l g D H0 mT 195 9 (s_getf 195 12 5 1) := ⟨ok_getf _ _ _ _, so_getf mT195 cl5 (k := 1) (by decide) dX6_copy_9 q555 (fs_rf rfl)⟩
theorem gT195_12 : sG l g D H0 mT 195 12 (s_callik 195 15 196 [0, 0] 3) := ⟨ok_callik _ _ _ _ _, sk_calli (by decide) (so_callI mT195 mo196 (by decide) rfl dX6_copy_12 q546 q547 q73)⟩
theorem gT195_15 : sG l g D H0 mT 195 15 (s_store vRf 195 16 1) := ⟨ok_store _ _ _ _, so_astore_n mT195 dX6_copy_15 rfl⟩
theorem gT195_16 : sG l g D H0 mT 195 16 (s_load vRf 195 17 1) := ⟨ok_load _ _ _ _, so_aload_n mT195 dX6_copy_16 rfl⟩
theorem gT195_17 : sG l g D H0 mT 195 17 (s_load vRf 195 18 0) := ⟨ok_load _ _ _ _, so_aload_n mT195 dX6_copy_17 rfl⟩
theorem gT195_18 : sG l g D H0 mT 195 18 (s_getf 195 21 5 2) := ⟨ok_getf _ _ _ _, so_getf mT195 cl5 (k := 2) (by decide) dX6_copy_18 q558 (fs_rf rfl)⟩
theorem gT195_21 : sG l g D H0 mT 195 21 (s_callvk 195 24 201 6 [] 2) := ⟨ok_callvk _ _ _ _ _ _, sk_callv (by decide) (so_callV mT195 mo201 (by decide) (t := 6) (C := "HyperVane$Mind") (by decide) rfl rfl dX6_copy_21 q660 q456 q457 q74)⟩
theorem gT195_24 : sG l g D H0 mT 195 24 (s_putf g pR 195 27 5 2) := ⟨ok_putf _ _ _ _ _ _, so_putf mT195 cl5 (k := 2) (by decide) fR rfl dX6_copy_24 q558 (fs_rf rfl)⟩
theorem gT195_27 : sG l g D H0 mT 195 27 (s_load vRf 195 28 1) := ⟨ok_load _ _ _ _, so_aload_n mT195 dX6_copy_27 rfl⟩
theorem gT195_28 : sG l g D H0 mT 195 28 (s_load vRf 195 29 0) := ⟨ok_load _ _ _ _, so_aload_n mT195 dX6_copy_28 rfl⟩
theorem gT195_29 : sG l g D H0 mT 195 29 (s_getf 195 32 5 3) := ⟨ok_getf _ _ _ _, so_getf mT195 cl5 (k := 3) (by decide) dX6_copy_29 q561 (fs_rf rfl)⟩
theorem gT195_32 : sG l g D H0 mT 195 32 (s_putf g pI 195 35 5 3) := ⟨ok_putf _ _ _ _ _ _, so_putf mT195 cl5 (k := 3) (by decide) fI rfl dX6_copy_32 q561 (fs_rf rfl)⟩
theorem gT195_35 : sG l g D H0 mT 195 35 (s_load vRf 195 36 1) := ⟨ok_load _ _ _ _, so_aload_n mT195 dX6_copy_35 rfl⟩
theorem gT195_36 : sG l g D H0 mT 195 36 (s_load vRf 195 37 0) := ⟨ok_load _ _ _ _, so_aload_n mT195 dX6_copy_36 rfl⟩
theorem gT195_37 : sG l g D H0 mT 195 37 (s_getf 195 40 5 4) := ⟨ok_getf _ _ _ _, so_getf mT195 cl5 (k := 4) (by decide) dX6_copy_37 q564 (fs_rf rfl)⟩
theorem gT195_40 : sG l g D H0 mT 195 40 (s_putf g pI 195 43 5 4) := ⟨ok_putf _ _ _ _ _ _, so_putf mT195 cl5 (k := 4) (by decide) fI rfl dX6_copy_40 q564 (fs_rf rfl)⟩
theorem gT195_43 : sG l g D H0 mT 195 43 (s_load vRf 195 44 1) := ⟨ok_load _ _ _ _, so_aload_n mT195 dX6_copy_43 rfl⟩
theorem gT195_44 : sG l g D H0 mT 195 44 (s_load vRf 195 45 0) := ⟨ok_load _ _ _ _, so_aload_n mT195 dX6_copy_44 rfl⟩
theorem gT195_45 : sG l g D H0 mT 195 45 (s_getf 195 48 5 5) := ⟨ok_getf _ _ _ _, so_getf mT195 cl5 (k := 5) (by decide) dX6_copy_45 q566 (fs_rf rfl)⟩
theorem gT195_48 : sG l g D H0 mT 195 48 (s_putf g vZ 195 51 5 5) := ⟨ok_putf _ _ _ _ _ _, so_putf mT195 cl5 (k := 5) (by decide) fZ rfl dX6_copy_48 q566 (fs_rf rfl)⟩
theorem gT195_51 : sG l g D H0 mT 195 51 (s_load vRf 195 52 1) := ⟨ok_load _ _ _ _, so_aload_n mT195 dX6_copy_51 rfl⟩
theorem gT195_52 : sG l g D H0 mT 195 52 (s_load vRf 195 53 0) := ⟨ok_load _ _ _ _, so_aload_n mT195 dX6_copy_52 rfl⟩
theorem gT195_53 : sG l g D H0 mT 195 53 (s_getf 195 56 5 6) := ⟨ok_getf _ _ _ _, so_getf mT195 cl5 (k := 6) (by decide) dX6_copy_53 q569 (fs_rf rfl)⟩
theorem gT195_56 : sG l g D H0 mT 195 56 (s_putf g pI 195 59 5 6) := ⟨ok_putf _ _ _ _ _ _, so_putf mT195 cl5 (k := 6) (by decide) fI rfl dX6_copy_56 q569 (fs_rf rfl)⟩
theorem gT195_59 : sG l g D H0 mT 195 59 (s_load vRf 195 60 1) := ⟨ok_load _ _ _ _, so_aload_n mT195 dX6_copy_59 rfl⟩
theorem gT195_60 : sG l g D H0 mT 195 60 (s_load vRf 195 61 0) := ⟨ok_load _ _ _ _, so_aload_n mT195 dX6_copy_60 rfl⟩
theorem gT195_61 : sG l g D H0 mT 195 61 (s_getf 195 64 5 7) := ⟨ok_getf _ _ _ _, so_getf mT195 cl5 (k := 7) (by decide) dX6_copy_61 q572 (fs_rf rfl)⟩
theorem gT195_64 : sG l g D H0 mT 195 64 (s_putf g pI 195 67 5 7) := ⟨ok_putf _ _ _ _ _ _, so_putf mT195 cl5 (k := 7) (by decide) fI rfl dX6_copy_64 q572 (fs_rf rfl)⟩
theorem gT195_67 : sG l g D H0 mT 195 67 (s_load vRf 195 68 1) := ⟨ok_load _ _ _ _, so_aload_n mT195 dX6_copy_67 rfl⟩
theorem gT195_68 : sG l g D H0 mT 195 68 (s_load vRf 195 69 0) := ⟨ok_load _ _ _ _, so_aload_n mT195 dX6_copy_68 rfl⟩
theorem gT195_69 : sG l g D H0 mT 195 69 (s_getf 195 72 5 8) := ⟨ok_getf _ _ _ _, so_getf mT195 cl5 (k := 8) (by decide) dX6_copy_69 q575 (fs_rf rfl)⟩
theorem gT195_72 : sG l g D H0 mT 195 72 (s_putf g pI 195 75 5 8) := ⟨ok_putf _ _ _ _ _ _, so_putf mT195 cl5 (k := 8) (by decide) fI rfl dX6_copy_72 q575 (fs_rf rfl)⟩
theorem gT195_75 : sG l g D H0 mT 195 75 (s_load vRf 195 76 1) := ⟨ok_load _ _ _ _, so_aload_n mT195 dX6_copy_75 rfl⟩
theorem gT195_76 : sG l g D H0 mT 195 76 (s_load vRf 195 77 0) := ⟨ok_load _ _ _ _, so_aload_n mT195 dX6_copy_76 rfl⟩
theorem gT195_77 : sG l g D H0 mT 195 77 (s_getf 195 80 5 9) := ⟨ok_getf _ _ _ _, so_getf mT195 cl5 (k := 9) (by decide) dX6_copy_77 q578 (fs_rf rfl)⟩
theorem gT195_80 : sG l g D H0 mT 195 80 (s_putf g pI 195 83 5 9) := ⟨ok_putf _ _ _ _ _ _, so_putf mT195 cl5 (k := 9) (by decide) fI rfl dX6_copy_80 q578 (fs_rf rfl)⟩
theorem gT195_83 : sG l g D H0 mT 195 83 (s_load vRf 195 84 1) := ⟨ok_load _ _ _ _, so_aload_n mT195 dX6_copy_83 rfl⟩
theorem gT195_84 : sG l g D H0 mT 195 84 (s_load vRf 195 85 0) := ⟨ok_load _ _ _ _, so_aload_n mT195 dX6_copy_84 rfl⟩
theorem gT195_85 : sG l g D H0 mT 195 85 (s_getf 195 88 5 10) := ⟨ok_getf _ _ _ _, so_getf mT195 cl5 (k := 10) (by decide) dX6_copy_85 q581 (fs_rf rfl)⟩
theorem gT195_88 : sG l g D H0 mT 195 88 (s_putf g pI 195 91 5 10) := ⟨ok_putf _ _ _ _ _ _, so_putf mT195 cl5 (k := 10) (by decide) fI rfl dX6_copy_88 q581 (fs_rf rfl)⟩
theorem gT195_91 : sG l g D H0 mT 195 91 (s_load vRf 195 92 1) := ⟨ok_load _ _ _ _, so_aload_n mT195 dX6_copy_91 rfl⟩
theorem gT195_92 : sG l g D H0 mT 195 92 (s_load vRf 195 93 0) := ⟨ok_load _ _ _ _, so_aload_n mT195 dX6_copy_92 rfl⟩
theorem gT195_93 : sG l g D H0 mT 195 93 (s_getf 195 96 5 11) := ⟨ok_getf _ _ _ _, so_getf mT195 cl5 (k := 11) (by decide) dX6_copy_93 q584 (fs_rf rfl)⟩
theorem gT195_96 : sG l g D H0 mT 195 96 (s_putf g pI 195 99 5 11) := ⟨ok_putf _ _ _ _ _ _, so_putf mT195 cl5 (k := 11) (by decide) fI rfl dX6_copy_96 q584 (fs_rf rfl)⟩
theorem gT195_99 : sG l g D H0 mT 195 99 (s_load vRf 195 100 1) := ⟨ok_load _ _ _ _, so_aload_n mT195 dX6_copy_99 rfl⟩
theorem gT195_100 : sG l g D H0 mT 195 100 (s_load vRf 195 101 0) := ⟨ok_load _ _ _ _, so_aload_n mT195 dX6_copy_100 rfl⟩
theorem gT195_101 : sG l g D H0 mT 195 101 (s_getf 195 104 5 12) := ⟨ok_getf _ _ _ _, so_getf mT195 cl5 (k := 12) (by decide) dX6_copy_101 q587 (fs_rf rfl)⟩
theorem gT195_104 : sG l g D H0 mT 195 104 (s_putf g pI 195 107 5 12) := ⟨ok_putf _ _ _ _ _ _, so_putf mT195 cl5 (k := 12) (by decide) fI rfl dX6_copy_104 q587 (fs_rf rfl)⟩
theorem gT195_107 : sG l g D H0 mT 195 107 (s_load vRf 195 108 0) := ⟨ok_load _ _ _ _, so_aload_n mT195 dX6_copy_107 rfl⟩
theorem gT195_108 : sG l g D H0 mT 195 108 (s_getf 195 111 5 13) := ⟨ok_getf _ _ _ _, so_getf mT195 cl5 (k := 13) (by decide) dX6_copy_108 q590 (fs_rf rfl)⟩
theorem gT195_111 : sG l g D H0 mT 195 111 (s_const 195 112 (.int 0)) := ⟨ok_const _ _ _, so_iconst mT195 dX6_copy_111 (by decide)⟩
theorem gT195_112 : sG l g D H0 mT 195 112 (s_load vRf 195 113 1) := ⟨ok_load _ _ _ _, so_aload_n mT195 dX6_copy_112 rfl⟩
theorem gT195_113 : sG l g D H0 mT 195 113 (s_getf 195 116 5 13) := ⟨ok_getf _ _ _ _, so_getf mT195 cl5 (k := 13) (by decide) dX6_copy_113 q590 (fs_rf rfl)⟩
theorem gT195_116 : sG l g D H0 mT 195 116 (s_const 195 117 (.int 0)) := ⟨ok_const _ _ _, so_iconst mT195 dX6_copy_116 (by decide)⟩
theorem gT195_117 : sG l g D H0 mT 195 117 (s_const 195 118 (.int 5)) := ⟨ok_const _ _ _, so_iconst mT195 dX6_copy_117 (by decide)⟩
theorem gT195_118 : sG l g D H0 mT 195 118 (s_acopy g (fun _ v => vI v = true) 195 121 20) := ⟨ok_acopy _ _ _ _ _, so_acopy mT195 (by decide) a20 e20 dX6_copy_118 q661 q192 q191 q61⟩
theorem gT195_121 : sG l g D H0 mT 195 121 (s_load vRf 195 122 0) := ⟨ok_load _ _ _ _, so_aload_n mT195 dX6_copy_121 rfl⟩
theorem gT195_122 : sG l g D H0 mT 195 122 (s_getf 195 125 5 14) := ⟨ok_getf _ _ _ _, so_getf mT195 cl5 (k := 14) (by decide) dX6_copy_122 q593 (fs_rf rfl)⟩
theorem gT195_125 : sG l g D H0 mT 195 125 (s_const 195 126 (.int 0)) := ⟨ok_const _ _ _, so_iconst mT195 dX6_copy_125 (by decide)⟩
theorem gT195_126 : sG l g D H0 mT 195 126 (s_load vRf 195 127 1) := ⟨ok_load _ _ _ _, so_aload_n mT195 dX6_copy_126 rfl⟩
theorem gT195_127 : sG l g D H0 mT 195 127 (s_getf 195 130 5 14) := ⟨ok_getf _ _ _ _, so_getf mT195 cl5 (k := 14) (by decide) dX6_copy_127 q593 (fs_rf rfl)⟩
theorem gT195_130 : sG l g D H0 mT 195 130 (s_const 195 131 (.int 0)) := ⟨ok_const _ _ _, so_iconst mT195 dX6_copy_130 (by decide)⟩
theorem gT195_131 : sG l g D H0 mT 195 131 (s_const 195 133 (.int 6)) := ⟨ok_const _ _ _, so_bipush mT195 dX6_copy_131 (by decide)⟩
theorem gT195_133 : sG l g D H0 mT 195 133 (s_acopy g (fun _ v => vZ v) 195 136 21) := ⟨ok_acopy _ _ _ _ _, so_acopy mT195 (by decide) a21 e21 dX6_copy_133 q661 q192 q191 q61⟩
theorem gT195_136 : sG l g D H0 mT 195 136 (s_load vRf 195 137 0) := ⟨ok_load _ _ _ _, so_aload_n mT195 dX6_copy_136 rfl⟩
theorem gT195_137 : sG l g D H0 mT 195 137 (s_getf 195 140 5 15) := ⟨ok_getf _ _ _ _, so_getf mT195 cl5 (k := 15) (by decide) dX6_copy_137 q596 (fs_rf rfl)⟩
theorem gT195_140 : sG l g D H0 mT 195 140 (s_const 195 141 (.int 0)) := ⟨ok_const _ _ _, so_iconst mT195 dX6_copy_140 (by decide)⟩
theorem gT195_141 : sG l g D H0 mT 195 141 (s_load vRf 195 142 1) := ⟨ok_load _ _ _ _, so_aload_n mT195 dX6_copy_141 rfl⟩
theorem gT195_142 : sG l g D H0 mT 195 142 (s_getf 195 145 5 15) := ⟨ok_getf _ _ _ _, so_getf mT195 cl5 (k := 15) (by decide) dX6_copy_142 q596 (fs_rf rfl)⟩
theorem gT195_145 : sG l g D H0 mT 195 145 (s_const 195 146 (.int 0)) := ⟨ok_const _ _ _, so_iconst mT195 dX6_copy_145 (by decide)⟩
theorem gT195_146 : sG l g D H0 mT 195 146 (s_const 195 148 (.int 6)) := ⟨ok_const _ _ _, so_bipush mT195 dX6_copy_146 (by decide)⟩
theorem gT195_148 : sG l g D H0 mT 195 148 (s_acopy g (fun _ v => vZ v) 195 151 21) := ⟨ok_acopy _ _ _ _ _, so_acopy mT195 (by decide) a21 e21 dX6_copy_148 q661 q192 q191 q61⟩
theorem gT195_151 : sG l g D H0 mT 195 151 (s_load vRf 195 152 1) := ⟨ok_load _ _ _ _, so_aload_n mT195 dX6_copy_151 rfl⟩
theorem gT195_152 : sG l g D H0 mT 195 152 (s_load vRf 195 153 0) := ⟨ok_load _ _ _ _, so_aload_n mT195 dX6_copy_152 rfl⟩
theorem gT195_153 : sG l g D H0 mT 195 153 (s_getf 195 156 5 16) := ⟨ok_getf _ _ _ _, so_getf mT195 cl5 (k := 16) (by decide) dX6_copy_153 q599 (fs_rf rfl)⟩
theorem gT195_156 : sG l g D H0 mT 195 156 (s_ifnn 195 159 163) := ⟨ok_ifnn _ _ _, so_ifnonnull mT195 dX6_copy_156 (by decide)⟩
theorem gT195_159 : sG l g D H0 mT 195 159 (s_const 195 160 .null) := ⟨ok_const _ _ _, so_null mT195 dX6_copy_159⟩
theorem gT195_160 : sG l g D H0 mT 195 160 (s_goto 195 173) := ⟨ok_goto _ _, so_goto mT195 dX6_copy_160 (by decide)⟩
theorem gT195_163 : sG l g D H0 mT 195 163 (s_load vRf 195 164 0) := ⟨ok_load _ _ _ _, so_aload_n mT195 dX6_copy_163 rfl⟩
theorem gT195_164 : sG l g D H0 mT 195 164 (s_getf 195 167 5 16) := ⟨ok_getf _ _ _ _, so_getf mT195 cl5 (k := 16) (by decide) dX6_copy_164 q599 (fs_rf rfl)⟩
theorem gT195_167 : sG l g D H0 mT 195 167 (s_clone g (fun _ v => vZ v) 195 170 21) := ⟨ok_clone _ _ _ _ _, so_clone mT195 (by decide) (by decide) a21 (fun _ v q => (fZ v q).2) rfl dX6_copy_167 q662 q663 q664 q665 q666 q667⟩
theorem gT195_170 : sG l g D H0 mT 195 170 (s_cast 195 173 [21]) := ⟨ok_cast _ _ _, so_cast mT195 (T := "[Z") (ts := [21]) (by intro u hu; rw [List.mem_singleton] at hu; subst hu; exact ⟨by decide, Or.inl rfl⟩) dX6_copy_170 q668⟩
theorem gT195_173 : sG l g D H0 mT 195 173 (s_putf g pR 195 176 5 16) := ⟨ok_putf _ _ _ _ _ _, so_putf mT195 cl5 (k := 16) (by decide) fA rfl dX6_copy_173 q599 (fs_rf rfl)⟩
theorem gT195_176 : sG l g D H0 mT 195 176 (s_load vRf 195 177 1) := ⟨ok_load _ _ _ _, so_aload_n mT195 dX6_copy_176 rfl⟩
theorem gT195_177 : sG l g D H0 mT 195 177 (s_load vRf 195 178 0) := ⟨ok_load _ _ _ _, so_aload_n mT195 dX6_copy_177 rfl⟩
theorem gT195_178 : sG l g D H0 mT 195 178 (s_getf 195 181 5 17) := ⟨ok_getf _ _ _ _, so_getf mT195 cl5 (k := 17) (by decide) dX6_copy_178 q602 (fs_rf rfl)⟩
theorem gT195_181 : sG l g D H0 mT 195 181 (s_putf g pI 195 184 5 17) := ⟨ok_putf _ _ _ _ _ _, so_putf mT195 cl5 (k := 17) (by decide) fI rfl dX6_copy_181 q602 (fs_rf rfl)⟩
theorem gT195_184 : sG l g D H0 mT 195 184 (s_load vRf 195 185 1) := ⟨ok_load _ _ _ _, so_aload_n mT195 dX6_copy_184 rfl⟩
theorem gT195_185 : sG l g D H0 mT 195 185 (s_load vRf 195 186 0) := ⟨ok_load _ _ _ _, so_aload_n mT195 dX6_copy_185 rfl⟩
theorem gT195_186 : sG l g D H0 mT 195 186 (s_getf 195 189 5 18) := ⟨ok_getf _ _ _ _, so_getf mT195 cl5 (k := 18) (by decide) dX6_copy_186 q604 (fs_rf rfl)⟩
theorem gT195_189 : sG l g D H0 mT 195 189 (s_putf g pI 195 192 5 18) := ⟨ok_putf _ _ _ _ _ _, so_putf mT195 cl5 (k := 18) (by decide) fI rfl dX6_copy_189 q604 (fs_rf rfl)⟩
theorem gT195_192 : sG l g D H0 mT 195 192 (s_load vRf 195 193 1) := ⟨ok_load _ _ _ _, so_aload_n mT195 dX6_copy_192 rfl⟩
theorem gT195_193 : sG l g D H0 mT 195 193 (s_load vRf 195 194 0) := ⟨ok_load _ _ _ _, so_aload_n mT195 dX6_copy_193 rfl⟩
theorem gT195_194 : sG l g D H0 mT 195 194 (s_getf 195 197 5 19) := ⟨ok_getf _ _ _ _, so_getf mT195 cl5 (k := 19) (by decide) dX6_copy_194 q606 (fs_rf rfl)⟩
theorem gT195_197 : sG l g D H0 mT 195 197 (s_putf g vZ 195 200 5 19) := ⟨ok_putf _ _ _ _ _ _, so_putf mT195 cl5 (k := 19) (by decide) fZ rfl dX6_copy_197 q606 (fs_rf rfl)⟩
theorem gT195_200 : sG l g D H0 mT 195 200 (s_load vRf 195 201 1) := ⟨ok_load _ _ _ _, so_aload_n mT195 dX6_copy_200 rfl⟩
theorem gT195_201 : sG l g D H0 mT 195 201 (s_load vRf 195 202 0) := ⟨ok_load _ _ _ _, so_aload_n mT195 dX6_copy_201 rfl⟩
theorem gT195_202 : sG l g D H0 mT 195 202 (s_getf 195 205 5 20) := ⟨ok_getf _ _ _ _, so_getf mT195 cl5 (k := 20) (by decide) dX6_copy_202 q608 (fs_rf rfl)⟩
theorem gT195_205 : sG l g D H0 mT 195 205 (s_putf g pI 195 208 5 20) := ⟨ok_putf _ _ _ _ _ _, so_putf mT195 cl5 (k := 20) (by decide) fI rfl dX6_copy_205 q608 (fs_rf rfl)⟩
theorem gT195_208 : sG l g D H0 mT 195 208 (s_load vRf 195 209 1) := ⟨ok_load _ _ _ _, so_aload_n mT195 dX6_copy_208 rfl⟩
theorem gT195_209 : sG l g D H0 mT 195 209 (s_load vRf 195 210 0) := ⟨ok_load _ _ _ _, so_aload_n mT195 dX6_copy_209 rfl⟩
theorem gT195_210 : sG l g D H0 mT 195 210 (s_getf 195 213 5 21) := ⟨ok_getf _ _ _ _, so_getf mT195 cl5 (k := 21) (by decide) dX6_copy_210 q611 (fs_rf rfl)⟩
theorem gT195_213 : sG l g D H0 mT 195 213 (s_ifnn 195 216 220) := ⟨ok_ifnn _ _ _, so_ifnonnull mT195 dX6_copy_213 (by decide)⟩
theorem gT195_216 : sG l g D H0 mT 195 216 (s_const 195 217 .null) := ⟨ok_const _ _ _, so_null mT195 dX6_copy_216⟩
theorem gT195_217 : sG l g D H0 mT 195 217 (s_goto 195 227) := ⟨ok_goto _ _, so_goto mT195 dX6_copy_217 (by decide)⟩
theorem gT195_220 : sG l g D H0 mT 195 220 (s_load vRf 195 221 0) := ⟨ok_load _ _ _ _, so_aload_n mT195 dX6_copy_220 rfl⟩
theorem gT195_221 : sG l g D H0 mT 195 221 (s_getf 195 224 5 21) := ⟨ok_getf _ _ _ _, so_getf mT195 cl5 (k := 21) (by decide) dX6_copy_221 q611 (fs_rf rfl)⟩
theorem gT195_224 : sG l g D H0 mT 195 224 (s_callvk 195 227 105 9 [] 2) := ⟨ok_callvk _ _ _ _ _ _, sk_callv (by decide) (so_callV mT195 mo105 (by decide) (t := 9) (C := "HyperVane$Past") (by decide) rfl rfl dX6_copy_224 q669 q670 q671 q83)⟩
theorem gT195_227 : sG l g D H0 mT 195 227 (s_putf g pR 195 230 5 21) := ⟨ok_putf _ _ _ _ _ _, so_putf mT195 cl5 (k := 21) (by decide) fR rfl dX6_copy_227 q611 (fs_rf rfl)⟩
theorem gT195_230 : sG l g D H0 mT 195 230 (s_load vRf 195 231 1) := ⟨ok_load _ _ _ _, so_aload_n mT195 dX6_copy_230 rfl⟩
theorem gT195_231 : sG l g D H0 mT 195 231 (s_ret pR) := ⟨ok_ret _, so_aret mT195 dX6_copy_231 (Or.inl ⟨_, rfl⟩)⟩
theorem gT195 (pc : Nat) : sG l g D H0 mT 195 pc (tT195 g pc) := sG_cond (sG_cond (sG_cond (sG_cond (sG_cond (sG_cond (sG_leaf gT195_0) (sG_cond (sG_leaf gT195_3) (sG_leaf gT195_4))) (sG_cond (sG_cond (sG_leaf gT195_5) (sG_leaf gT195_8)) (sG_cond (sG_leaf gT195_9) (sG_leaf gT195_12)))) (sG_cond (sG_cond (sG_leaf gT195_15) (sG_cond (sG_leaf gT195_16) (sG_leaf gT195_17))) (sG_cond (sG_cond (sG_leaf gT195_18) (sG_leaf gT195_21)) (sG_cond (sG_leaf gT195_24) (sG_leaf gT195_27))))) (sG_cond (sG_cond (sG_cond (sG_leaf gT195_28) (sG_cond (sG_leaf gT195_29) (sG_leaf gT195_32))) (sG_cond (sG_cond (sG_leaf gT195_35) (sG_leaf gT195_36)) (sG_cond (sG_leaf gT195_37) (sG_leaf gT195_40)))) (sG_cond (sG_cond (sG_cond (sG_leaf gT195_43) (sG_leaf gT195_44)) (sG_cond (sG_leaf gT195_45) (sG_leaf gT195_48))) (sG_cond (sG_cond (sG_leaf gT195_51) (sG_leaf gT195_52)) (sG_cond (sG_leaf gT195_53) (sG_leaf gT195_56)))))) (sG_cond (sG_cond (sG_cond (sG_cond (sG_leaf gT195_59) (sG_cond (sG_leaf gT195_60) (sG_leaf gT195_61))) (sG_cond (sG_cond (sG_leaf gT195_64) (sG_leaf gT195_67)) (sG_cond (sG_leaf gT195_68) (sG_leaf gT195_69)))) (sG_cond (sG_cond (sG_leaf gT195_72) (sG_cond (sG_leaf gT195_75) (sG_leaf gT195_76))) (sG_cond (sG_cond (sG_leaf gT195_77) (sG_leaf gT195_80)) (sG_cond (sG_leaf gT195_83) (sG_leaf gT195_84))))) (sG_cond (sG_cond (sG_cond (sG_leaf gT195_85) (sG_cond (sG_leaf gT195_88) (sG_leaf gT195_91))) (sG_cond (sG_cond (sG_leaf gT195_92) (sG_leaf gT195_93)) (sG_cond (sG_leaf gT195_96) (sG_leaf gT195_99)))) (sG_cond (sG_cond (sG_cond (sG_leaf gT195_100) (sG_leaf gT195_101)) (sG_cond (sG_leaf gT195_104) (sG_leaf gT195_107))) (sG_cond (sG_cond (sG_leaf gT195_108) (sG_leaf gT195_111)) (sG_cond (sG_leaf gT195_112) (sG_leaf gT195_113))))))) (sG_cond (sG_cond (sG_cond (sG_cond (sG_cond (sG_leaf gT195_116) (sG_cond (sG_leaf gT195_117) (sG_leaf gT195_118))) (sG_cond (sG_cond (sG_leaf gT195_121) (sG_leaf gT195_122)) (sG_cond (sG_leaf gT195_125) (sG_leaf gT195_126)))) (sG_cond (sG_cond (sG_leaf gT195_127) (sG_cond (sG_leaf gT195_130) (sG_leaf gT195_131))) (sG_cond (sG_cond (sG_leaf gT195_133) (sG_leaf gT195_136)) (sG_cond (sG_leaf gT195_137) (sG_leaf gT195_140))))) (sG_cond (sG_cond (sG_cond (sG_leaf gT195_141) (sG_cond (sG_leaf gT195_142) (sG_leaf gT195_145))) (sG_cond (sG_cond (sG_leaf gT195_146) (sG_leaf gT195_148)) (sG_cond (sG_leaf gT195_151) (sG_leaf gT195_152)))) (sG_cond (sG_cond (sG_cond (sG_leaf gT195_153) (sG_leaf gT195_156)) (sG_cond (sG_leaf gT195_159) (sG_leaf gT195_160))) (sG_cond (sG_cond (sG_leaf gT195_163) (sG_leaf gT195_164)) (sG_cond (sG_leaf gT195_167) (sG_leaf gT195_170)))))) (sG_cond (sG_cond (sG_cond (sG_cond (sG_leaf gT195_173) (sG_cond (sG_leaf gT195_176) (sG_leaf gT195_177))) (sG_cond (sG_cond (sG_leaf gT195_178) (sG_leaf gT195_181)) (sG_cond (sG_leaf gT195_184) (sG_leaf gT195_185)))) (sG_cond (sG_cond (sG_leaf gT195_186) (sG_cond (sG_leaf gT195_189) (sG_leaf gT195_192))) (sG_cond (sG_cond (sG_leaf gT195_193) (sG_leaf gT195_194)) (sG_cond (sG_leaf gT195_197) (sG_leaf gT195_200))))) (sG_cond (sG_cond (sG_cond (sG_leaf gT195_201) (sG_cond (sG_leaf gT195_202) (sG_leaf gT195_205))) (sG_cond (sG_cond (sG_leaf gT195_208) (sG_leaf gT195_209)) (sG_cond (sG_leaf gT195_210) (sG_leaf gT195_213)))) (sG_cond (sG_cond (sG_cond (sG_leaf gT195_216) (sG_leaf gT195_217)) (sG_cond (sG_leaf gT195_220) (sG_leaf gT195_221))) (sG_cond (sG_cond (sG_leaf gT195_224) (sG_leaf gT195_227)) (sG_cond (sG_leaf gT195_230) (sG_leaf gT195_231)))))))
theorem gT196_0 : sG l g D H0 mT 196 0 (s_load vRf 196 1 0) := ⟨ok_load _ _ _ _, so_aload_n mT196 dX6_init_0 rfl⟩
theorem gT196_1 : sG l g D H0 mT 196 1 (s_oinit 196 4) := ⟨ok_oinit _ _, so_oinit mT196 (by decide) dX6_init_1 q549 q91 q92⟩
theorem gT196_4 : sG l g D H0 mT 196 4 (s_load vRf 196 5 0) := ⟨ok_load _ _ _ _, so_aload_n mT196 dX6_init_4 rfl⟩
theorem gT196_5 : sG l g D H0 mT 196 5 (s_new g 196 8 6 4 (fun k => defaultValue (tyX7 k))) := ⟨ok_new _ _ _ _ _ _, so_new mT196 cl6 (fun _ _ => rfl) dX6_init_5 q550 q460 q74⟩
theorem gT196_8 : sG l g D H0 mT 196 8 (s_dup 196 9) := ⟨ok_dup _ _, so_dup mT196 dX6_init_8⟩
theorem gT196_9 : sG l g D H0 mT 196 9 (s_callik 196 12 202 [] 1) := ⟨ok_callik _ _ _ _ _, sk_calli (by decide) (so_callIN mT196 mo202 (by decide) rfl dX6_init_9 q551 q462 q74)⟩
theorem gT196_12 : sG l g D H0 mT 196 12 (s_putf g pR 196 15 5 2) := ⟨ok_putf _ _ _ _ _ _, so_putf mT196 cl5 (k := 2) (by decide) fR rfl dX6_init_12 q558 (fs_rf rfl)⟩
theorem gT196_15 : sG l g D H0 mT 196 15 (s_load vRf 196 16 0) := ⟨ok_load _ _ _ _, so_aload_n mT196 dX6_init_15 rfl⟩
theorem gT196_16 : sG l g D H0 mT 196 16 (s_const 196 17 (.int 5)) := ⟨ok_const _ _ _, so_iconst mT196 dX6_init_16 (by decide)⟩
theorem gT196_17 : sG l g D H0 mT 196 17 (s_putf g pI 196 20 5 3) := ⟨ok_putf _ _ _ _ _ _, so_putf mT196 cl5 (k := 3) (by decide) fI rfl dX6_init_17 q561 (fs_rf rfl)⟩
theorem gT196_20 : sG l g D H0 mT 196 20 (s_load vRf 196 21 0) := ⟨ok_load _ _ _ _, so_aload_n mT196 dX6_init_20 rfl⟩
theorem gT196_21 : sG l g D H0 mT 196 21 (s_const 196 22 (.int 5)) := ⟨ok_const _ _ _, so_iconst mT196 dX6_init_21 (by decide)⟩
theorem gT196_22 : sG l g D H0 mT 196 22 (s_putf g pI 196 25 5 4) := ⟨ok_putf _ _ _ _ _ _, so_putf mT196 cl5 (k := 4) (by decide) fI rfl dX6_init_22 q564 (fs_rf rfl)⟩
theorem gT196_25 : sG l g D H0 mT 196 25 (s_load vRf 196 26 0) := ⟨ok_load _ _ _ _, so_aload_n mT196 dX6_init_25 rfl⟩
theorem gT196_26 : sG l g D H0 mT 196 26 (s_const 196 27 (.int (-1))) := ⟨ok_const _ _ _, so_iconst mT196 dX6_init_26 (by decide)⟩
theorem gT196_27 : sG l g D H0 mT 196 27 (s_putf g pI 196 30 5 6) := ⟨ok_putf _ _ _ _ _ _, so_putf mT196 cl5 (k := 6) (by decide) fI rfl dX6_init_27 q569 (fs_rf rfl)⟩
theorem gT196_30 : sG l g D H0 mT 196 30 (s_load vRf 196 31 0) := ⟨ok_load _ _ _ _, so_aload_n mT196 dX6_init_30 rfl⟩
theorem gT196_31 : sG l g D H0 mT 196 31 (s_const 196 32 (.int 5)) := ⟨ok_const _ _ _, so_iconst mT196 dX6_init_31 (by decide)⟩
theorem gT196_32 : sG l g D H0 mT 196 32 (s_newa g 196 34 20 (.int 0)) := ⟨ok_newa _ _ _ _ _, so_newa mT196 (t := 20) (by decide) rfl rfl (by decide) dX6_init_32 q486⟩
theorem gT196_34 : sG l g D H0 mT 196 34 (s_putf g pR 196 37 5 13) := ⟨ok_putf _ _ _ _ _ _, so_putfF mT196 cl5 (k := 13) (by decide) fA rfl rfl rfl dX6_init_34 q590 (fs_rf rfl)⟩
theorem gT196_37 : sG l g D H0 mT 196 37 (s_load vRf 196 38 0) := ⟨ok_load _ _ _ _, so_aload_n mT196 dX6_init_37 rfl⟩
theorem gT196_38 : sG l g D H0 mT 196 38 (s_const 196 40 (.int 6)) := ⟨ok_const _ _ _, so_bipush mT196 dX6_init_38 (by decide)⟩
theorem gT196_40 : sG l g D H0 mT 196 40 (s_newa g 196 42 21 (.int 0)) := ⟨ok_newa _ _ _ _ _, so_newa mT196 (t := 21) (by decide) rfl rfl (by decide) dX6_init_40 q659⟩
theorem gT196_42 : sG l g D H0 mT 196 42 (s_putf g pR 196 45 5 14) := ⟨ok_putf _ _ _ _ _ _, so_putfF mT196 cl5 (k := 14) (by decide) fA rfl rfl rfl dX6_init_42 q593 (fs_rf rfl)⟩
theorem gT196_45 : sG l g D H0 mT 196 45 (s_load vRf 196 46 0) := ⟨ok_load _ _ _ _, so_aload_n mT196 dX6_init_45 rfl⟩
theorem gT196_46 : sG l g D H0 mT 196 46 (s_const 196 48 (.int 6)) := ⟨ok_const _ _ _, so_bipush mT196 dX6_init_46 (by decide)⟩
theorem gT196_48 : sG l g D H0 mT 196 48 (s_newa g 196 50 21 (.int 0)) := ⟨ok_newa _ _ _ _ _, so_newa mT196 (t := 21) (by decide) rfl rfl (by decide) dX6_init_48 q659⟩
theorem gT196_50 : sG l g D H0 mT 196 50 (s_putf g pR 196 53 5 15) := ⟨ok_putf _ _ _ _ _ _, so_putfF mT196 cl5 (k := 15) (by decide) fA rfl rfl rfl dX6_init_50 q596 (fs_rf rfl)⟩
theorem gT196_53 : sG l g D H0 mT 196 53 (s_load vRf 196 54 0) := ⟨ok_load _ _ _ _, so_aload_n mT196 dX6_init_53 rfl⟩
theorem gT196_54 : sG l g D H0 mT 196 54 (s_load vI 196 55 1) := ⟨ok_load _ _ _ _, so_iload_n mT196 dX6_init_54 rfl⟩
theorem gT196_55 : sG l g D H0 mT 196 55 (s_putf g pI 196 58 5 0) := ⟨ok_putf _ _ _ _ _ _, so_putfF mT196 cl5 (k := 0) (by decide) fI rfl rfl rfl dX6_init_55 q552 (fs_rf rfl)⟩
theorem gT196_58 : sG l g D H0 mT 196 58 (s_load vRf 196 59 0) := ⟨ok_load _ _ _ _, so_aload_n mT196 dX6_init_58 rfl⟩
theorem gT196_59 : sG l g D H0 mT 196 59 (s_load vI 196 60 2) := ⟨ok_load _ _ _ _, so_iload_n mT196 dX6_init_59 rfl⟩
theorem gT196_60 : sG l g D H0 mT 196 60 (s_putf g pI 196 63 5 1) := ⟨ok_putf _ _ _ _ _ _, so_putf mT196 cl5 (k := 1) (by decide) fI rfl dX6_init_60 q555 (fs_rf rfl)⟩
theorem gT196_63 : sG l g D H0 mT 196 63 (s_vret) := ⟨ok_vret, so_vret mT196 dX6_init_63⟩
theorem gT196 (pc : Nat) : sG l g D H0 mT 196 pc (tT196 g pc) := sG_cond (sG_cond (sG_cond (sG_cond (sG_cond (sG_leaf gT196_0) (sG_leaf gT196_1)) (sG_cond (sG_leaf gT196_4) (sG_leaf gT196_5))) (sG_cond (sG_cond (sG_leaf gT196_8) (sG_leaf gT196_9)) (sG_cond (sG_leaf gT196_12) (sG_leaf gT196_15)))) (sG_cond (sG_cond (sG_cond (sG_leaf gT196_16) (sG_leaf gT196_17)) (sG_cond (sG_leaf gT196_20) (sG_leaf gT196_21))) (sG_cond (sG_cond (sG_leaf gT196_22) (sG_leaf gT196_25)) (sG_cond (sG_leaf gT196_26) (sG_cond (sG_leaf gT196_27) (sG_leaf gT196_30)))))) (sG_cond (sG_cond (sG_cond (sG_cond (sG_leaf gT196_31) (sG_leaf gT196_32)) (sG_cond (sG_leaf gT196_34) (sG_leaf gT196_37))) (sG_cond (sG_cond (sG_leaf gT196_38) (sG_leaf gT196_40)) (sG_cond (sG_leaf gT196_42) (sG_cond (sG_leaf gT196_45) (sG_leaf gT196_46))))) (sG_cond (sG_cond (sG_cond (sG_leaf gT196_48) (sG_leaf gT196_50)) (sG_cond (sG_leaf gT196_53) (sG_leaf gT196_54))) (sG_cond (sG_cond (sG_leaf gT196_55) (sG_leaf gT196_58)) (sG_cond (sG_leaf gT196_59) (sG_cond (sG_leaf gT196_60) (sG_leaf gT196_63))))))
theorem gT197_0 : sG l g D H0 mT 197 0 (s_load vRf 197 1 0) := ⟨ok_load _ _ _ _, so_aload_n mT197 dX6_isAway_0 rfl⟩
theorem gT197_1 : sG l g D H0 mT 197 1 (s_getf 197 4 5 3) := ⟨ok_getf _ _ _ _, so_getf mT197 cl5 (k := 3) (by decide) dX6_isAway_1 q561 (fs_rf rfl)⟩
theorem gT197_4 : sG l g D H0 mT 197 4 (s_const 197 5 (.int 4)) := ⟨ok_const _ _ _, so_iconst mT197 dX6_isAway_4 (by decide)⟩
theorem gT197_5 : sG l g D H0 mT 197 5 (s_icmp 197 12 8 (fun a b => a = b)) := ⟨ok_icmp _ _ _ _, so_icmp_ne mT197 dX6_isAway_5 (by decide)⟩
theorem gT197_8 : sG l g D H0 mT 197 8 (s_const 197 9 (.int 1)) := ⟨ok_const _ _ _, so_iconst mT197 dX6_isAway_8 (by decide)⟩
theorem gT197_9 : sG l g D H0 mT 197 9 (s_goto 197 13) := ⟨ok_goto _ _, so_goto mT197 dX6_isAway_9 (by decide)⟩
theorem gT197_12 : sG l g D H0 mT 197 12 (s_const 197 13 (.int 0)) := ⟨ok_const _ _ _, so_iconst mT197 dX6_isAway_12 (by decide)⟩
theorem gT197_13 : sG l g D H0 mT 197 13 (s_ret vZ) := ⟨ok_ret _, so_zret mT197 dX6_isAway_13⟩
theorem gT197 (pc : Nat) : sG l g D H0 mT 197 pc (tT197 g pc) := sG_cond (sG_cond (sG_cond (sG_leaf gT197_0) (sG_leaf gT197_1)) (sG_cond (sG_leaf gT197_4) (sG_leaf gT197_5))) (sG_cond (sG_cond (sG_leaf gT197_8) (sG_leaf gT197_9)) (sG_cond (sG_leaf gT197_12) (sG_leaf gT197_13)))
theorem gT198_0 : sG l g D H0 mT 198 0 (s_load vRf 198 1 0) := ⟨ok_load _ _ _ _, so_aload_n mT198 dX6_wake_0 rfl⟩
theorem gT198_1 : sG l g D H0 mT 198 1 (s_getf 198 4 5 3) := ⟨ok_getf _ _ _ _, so_getf mT198 cl5 (k := 3) (by decide) dX6_wake_1 q561 (fs_rf rfl)⟩
theorem gT198_4 : sG l g D H0 mT 198 4 (s_const 198 5 (.int 2)) := ⟨ok_const _ _ _, so_iconst mT198 dX6_wake_4 (by decide)⟩
theorem gT198_5 : sG l g D H0 mT 198 5 (s_icmp 198 16 8 (fun a b => a = b)) := ⟨ok_icmp _ _ _ _, so_icmp_ne mT198 dX6_wake_5 (by decide)⟩
theorem gT198_8 : sG l g D H0 mT 198 8 (s_load vRf 198 9 0) := ⟨ok_load _ _ _ _, so_aload_n mT198 dX6_wake_8 rfl⟩
theorem gT198_9 : sG l g D H0 mT 198 9 (s_getf 198 12 5 6) := ⟨ok_getf _ _ _ _, so_getf mT198 cl5 (k := 6) (by decide) dX6_wake_9 q569 (fs_rf rfl)⟩
theorem gT198_12 : sG l g D H0 mT 198 12 (s_load vI 198 13 1) := ⟨ok_load _ _ _ _, so_iload_n mT198 dX6_wake_12 rfl⟩
theorem gT198_13 : sG l g D H0 mT 198 13 (s_icmp 198 16 17 (fun a b => a ≤ b)) := ⟨ok_icmp _ _ _ _, so_icmp_le mT198 dX6_wake_13 (by decide)⟩
theorem gT198_16 : sG l g D H0 mT 198 16 (s_vret) := ⟨ok_vret, so_vret mT198 dX6_wake_16⟩
theorem gT198_17 : sG l g D H0 mT 198 17 (s_load vRf 198 18 0) := ⟨ok_load _ _ _ _, so_aload_n mT198 dX6_wake_17 rfl⟩
theorem gT198_18 : sG l g D H0 mT 198 18 (s_const 198 19 (.int 0)) := ⟨ok_const _ _ _, so_iconst mT198 dX6_wake_18 (by decide)⟩
theorem gT198_19 : sG l g D H0 mT 198 19 (s_putf g pI 198 22 5 3) := ⟨ok_putf _ _ _ _ _ _, so_putf mT198 cl5 (k := 3) (by decide) fI rfl dX6_wake_19 q561 (fs_rf rfl)⟩
theorem gT198_22 : sG l g D H0 mT 198 22 (s_load vRf 198 23 0) := ⟨ok_load _ _ _ _, so_aload_n mT198 dX6_wake_22 rfl⟩
theorem gT198_23 : sG l g D H0 mT 198 23 (s_const 198 24 (.int (-1))) := ⟨ok_const _ _ _, so_iconst mT198 dX6_wake_23 (by decide)⟩
theorem gT198_24 : sG l g D H0 mT 198 24 (s_putf g pI 198 27 5 6) := ⟨ok_putf _ _ _ _ _ _, so_putf mT198 cl5 (k := 6) (by decide) fI rfl dX6_wake_24 q569 (fs_rf rfl)⟩
theorem gT198_27 : sG l g D H0 mT 198 27 (s_vret) := ⟨ok_vret, so_vret mT198 dX6_wake_27⟩
theorem gT198 (pc : Nat) : sG l g D H0 mT 198 pc (tT198 g pc) := sG_cond (sG_cond (sG_cond (sG_cond (sG_leaf gT198_0) (sG_leaf gT198_1)) (sG_cond (sG_leaf gT198_4) (sG_leaf gT198_5))) (sG_cond (sG_cond (sG_leaf gT198_8) (sG_leaf gT198_9)) (sG_cond (sG_leaf gT198_12) (sG_leaf gT198_13)))) (sG_cond (sG_cond (sG_cond (sG_leaf gT198_16) (sG_leaf gT198_17)) (sG_cond (sG_leaf gT198_18) (sG_leaf gT198_19))) (sG_cond (sG_cond (sG_leaf gT198_22) (sG_leaf gT198_23)) (sG_cond (sG_leaf gT198_24) (sG_leaf gT198_27))))
theorem gT199_0 : sG l g D H0 mT 199 0 (s_load vRf 199 1 0) := ⟨ok_load _ _ _ _, so_aload_n mT199 dX6_pause_0 rfl⟩
theorem gT199_1 : sG l g D H0 mT 199 1 (s_load vRf 199 2 0) := ⟨ok_load _ _ _ _, so_aload_n mT199 dX6_pause_1 rfl⟩
theorem gT199_2 : sG l g D H0 mT 199 2 (s_getf 199 5 5 3) := ⟨ok_getf _ _ _ _, so_getf mT199 cl5 (k := 3) (by decide) dX6_pause_2 q561 (fs_rf rfl)⟩
theorem gT199_5 : sG l g D H0 mT 199 5 (s_putf g pI 199 8 5 4) := ⟨ok_putf _ _ _ _ _ _, so_putf mT199 cl5 (k := 4) (by decide) fI rfl dX6_pause_5 q564 (fs_rf rfl)⟩
theorem gT199_8 : sG l g D H0 mT 199 8 (s_load vRf 199 9 0) := ⟨ok_load _ _ _ _, so_aload_n mT199 dX6_pause_8 rfl⟩
theorem gT199_9 : sG l g D H0 mT 199 9 (s_const 199 10 (.int 3)) := ⟨ok_const _ _ _, so_iconst mT199 dX6_pause_9 (by decide)⟩
theorem gT199_10 : sG l g D H0 mT 199 10 (s_putf g pI 199 13 5 3) := ⟨ok_putf _ _ _ _ _ _, so_putf mT199 cl5 (k := 3) (by decide) fI rfl dX6_pause_10 q561 (fs_rf rfl)⟩
theorem gT199_13 : sG l g D H0 mT 199 13 (s_vret) := ⟨ok_vret, so_vret mT199 dX6_pause_13⟩
theorem gT199 (pc : Nat) : sG l g D H0 mT 199 pc (tT199 g pc) := sG_cond (sG_cond (sG_cond (sG_leaf gT199_0) (sG_leaf gT199_1)) (sG_cond (sG_leaf gT199_2) (sG_leaf gT199_5))) (sG_cond (sG_cond (sG_leaf gT199_8) (sG_leaf gT199_9)) (sG_cond (sG_leaf gT199_10) (sG_leaf gT199_13)))
theorem gT200_0 : sG l g D H0 mT 200 0 (s_load vRf 200 1 0) := ⟨ok_load _ _ _ _, so_aload_n mT200 dX6_goOn_0 rfl⟩
theorem gT200_1 : sG l g D H0 mT 200 1 (s_load vRf 200 2 0) := ⟨ok_load _ _ _ _, so_aload_n mT200 dX6_goOn_1 rfl⟩
theorem gT200_2 : sG l g D H0 mT 200 2 (s_getf 200 5 5 4) := ⟨ok_getf _ _ _ _, so_getf mT200 cl5 (k := 4) (by decide) dX6_goOn_2 q564 (fs_rf rfl)⟩
theorem gT200_5 : sG l g D H0 mT 200 5 (s_putf g pI 200 8 5 3) := ⟨ok_putf _ _ _ _ _ _, so_putf mT200 cl5 (k := 3) (by decide) fI rfl dX6_goOn_5 q561 (fs_rf rfl)⟩
theorem gT200_8 : sG l g D H0 mT 200 8 (s_load vRf 200 9 0) := ⟨ok_load _ _ _ _, so_aload_n mT200 dX6_goOn_8 rfl⟩
theorem gT200_9 : sG l g D H0 mT 200 9 (s_getf 200 12 5 3) := ⟨ok_getf _ _ _ _, so_getf mT200 cl5 (k := 3) (by decide) dX6_goOn_9 q561 (fs_rf rfl)⟩
theorem gT200_12 : sG l g D H0 mT 200 12 (s_const 200 13 (.int 1)) := ⟨ok_const _ _ _, so_iconst mT200 dX6_goOn_12 (by decide)⟩
theorem gT200_13 : sG l g D H0 mT 200 13 (s_icmp 200 28 16 (fun a b => a = b)) := ⟨ok_icmp _ _ _ _, so_icmp_ne mT200 dX6_goOn_13 (by decide)⟩
theorem gT200_16 : sG l g D H0 mT 200 16 (s_load vRf 200 17 0) := ⟨ok_load _ _ _ _, so_aload_n mT200 dX6_goOn_16 rfl⟩
theorem gT200_17 : sG l g D H0 mT 200 17 (s_getf 200 20 5 8) := ⟨ok_getf _ _ _ _, so_getf mT200 cl5 (k := 8) (by decide) dX6_goOn_17 q575 (fs_rf rfl)⟩
theorem gT200_20 : sG l g D H0 mT 200 20 (s_if 200 23 28 (fun a => a ≤ 0)) := ⟨ok_if _ _ _ _, so_if_le mT200 dX6_goOn_20 (by decide)⟩
theorem gT200_23 : sG l g D H0 mT 200 23 (s_load vRf 200 24 0) := ⟨ok_load _ _ _ _, so_aload_n mT200 dX6_goOn_23 rfl⟩
theorem gT200_24 : sG l g D H0 mT 200 24 (s_const 200 25 (.int 0)) := ⟨ok_const _ _ _, so_iconst mT200 dX6_goOn_24 (by decide)⟩
theorem gT200_25 : sG l g D H0 mT 200 25 (s_putf g pI 200 28 5 3) := ⟨ok_putf _ _ _ _ _ _, so_putf mT200 cl5 (k := 3) (by decide) fI rfl dX6_goOn_25 q561 (fs_rf rfl)⟩
theorem gT200_28 : sG l g D H0 mT 200 28 (s_load vRf 200 29 0) := ⟨ok_load _ _ _ _, so_aload_n mT200 dX6_goOn_28 rfl⟩
theorem gT200_29 : sG l g D H0 mT 200 29 (s_load vI 200 30 1) := ⟨ok_load _ _ _ _, so_iload_n mT200 dX6_goOn_29 rfl⟩
theorem gT200_30 : sG l g D H0 mT 200 30 (s_callvk 200 33 198 5 [0] 2) := ⟨ok_callvk _ _ _ _ _ _, sk_callv (by decide) (so_callV mT200 mo198 (by decide) (t := 5) (C := "HyperVane$Guest") (by decide) rfl rfl dX6_goOn_30 q1050 q719 q720 q73)⟩
theorem gT200_33 : sG l g D H0 mT 200 33 (s_vret) := ⟨ok_vret, so_vret mT200 dX6_goOn_33⟩
theorem gT200 (pc : Nat) : sG l g D H0 mT 200 pc (tT200 g pc) := sG_cond (sG_cond (sG_cond (sG_cond (sG_leaf gT200_0) (sG_leaf gT200_1)) (sG_cond (sG_leaf gT200_2) (sG_leaf gT200_5))) (sG_cond (sG_cond (sG_leaf gT200_8) (sG_leaf gT200_9)) (sG_cond (sG_leaf gT200_12) (sG_cond (sG_leaf gT200_13) (sG_leaf gT200_16))))) (sG_cond (sG_cond (sG_cond (sG_leaf gT200_17) (sG_leaf gT200_20)) (sG_cond (sG_leaf gT200_23) (sG_leaf gT200_24))) (sG_cond (sG_cond (sG_leaf gT200_25) (sG_leaf gT200_28)) (sG_cond (sG_leaf gT200_29) (sG_cond (sG_leaf gT200_30) (sG_leaf gT200_33)))))
theorem gT201_0 : sG l g D H0 mT 201 0 (s_new g 201 3 6 4 (fun k => defaultValue (tyX7 k))) := ⟨ok_new _ _ _ _ _ _, so_new mT201 cl6 (fun _ _ => rfl) dX7_copy_0 q459 q460 q74⟩
theorem gT201_3 : sG l g D H0 mT 201 3 (s_dup 201 4) := ⟨ok_dup _ _, so_dup mT201 dX7_copy_3⟩
theorem gT201_4 : sG l g D H0 mT 201 4 (s_callik 201 7 202 [] 1) := ⟨ok_callik _ _ _ _ _, sk_calli (by decide) (so_callI mT201 mo202 (by decide) rfl dX7_copy_4 q461 q462 q74)⟩
theorem gT201_7 : sG l g D H0 mT 201 7 (s_store vRf 201 8 1) := ⟨ok_store _ _ _ _, so_astore_n mT201 dX7_copy_7 rfl⟩
theorem gT201_8 : sG l g D H0 mT 201 8 (s_load vRf 201 9 1) := ⟨ok_load _ _ _ _, so_aload_n mT201 dX7_copy_8 rfl⟩
theorem gT201_9 : sG l g D H0 mT 201 9 (s_getf 201 12 6 0) := ⟨ok_getf _ _ _ _, so_getf mT201 cl6 (k := 0) (by decide) dX7_copy_9 q467 (fs_rf rfl)⟩
theorem gT201_12 : sG l g D H0 mT 201 12 (s_load vRf 201 13 0) := ⟨ok_load _ _ _ _, so_aload_n mT201 dX7_copy_12 rfl⟩
theorem gT201_13 : sG l g D H0 mT 201 13 (s_getf 201 16 6 0) := ⟨ok_getf _ _ _ _, so_getf mT201 cl6 (k := 0) (by decide) dX7_copy_13 q467 (fs_rf rfl)⟩
theorem gT201_16 : sG l g D H0 mT 201 16 (s_callvk 201 19 27 10 [1] 6) := ⟨ok_callvk _ _ _ _ _ _, sk_callv (by decide) (so_callV mT201 mo27 (by decide) (t := 10) (C := "java/util/ArrayList") (by decide) rfl rfl dX7_copy_16 q487 q488 q489 q58)⟩
theorem gT201_19 : sG l g D H0 mT 201 19 (s_pop 201 20) := ⟨ok_pop _ _, so_pop mT201 dX7_copy_19⟩
theorem gT201_20 : sG l g D H0 mT 201 20 (s_load vRf 201 21 0) := ⟨ok_load _ _ _ _, so_aload_n mT201 dX7_copy_20 rfl⟩
theorem gT201_21 : sG l g D H0 mT 201 21 (s_getf 201 24 6 1) := ⟨ok_getf _ _ _ _, so_getf mT201 cl6 (k := 1) (by decide) dX7_copy_21 q469 (fs_rf rfl)⟩
theorem gT201_24 : sG l g D H0 mT 201 24 (s_const 201 25 (.int 0)) := ⟨ok_const _ _ _, so_iconst mT201 dX7_copy_24 (by decide)⟩
theorem gT201_25 : sG l g D H0 mT 201 25 (s_load vRf 201 26 1) := ⟨ok_load _ _ _ _, so_aload_n mT201 dX7_copy_25 rfl⟩
theorem gT201_26 : sG l g D H0 mT 201 26 (s_getf 201 29 6 1) := ⟨ok_getf _ _ _ _, so_getf mT201 cl6 (k := 1) (by decide) dX7_copy_26 q469 (fs_rf rfl)⟩
theorem gT201_29 : sG l g D H0 mT 201 29 (s_const 201 30 (.int 0)) := ⟨ok_const _ _ _, so_iconst mT201 dX7_copy_29 (by decide)⟩
theorem gT201_30 : sG l g D H0 mT 201 30 (s_const 201 32 (.int 6)) := ⟨ok_const _ _ _, so_bipush mT201 dX7_copy_30 (by decide)⟩
theorem gT201_32 : sG l g D H0 mT 201 32 (s_acopy g (fun _ v => vI v = true) 201 35 20) := ⟨ok_acopy _ _ _ _ _, so_acopy mT201 (by decide) a20 e20 dX7_copy_32 q501 q192 q191 q61⟩
theorem gT201_35 : sG l g D H0 mT 201 35 (s_load vRf 201 36 1) := ⟨ok_load _ _ _ _, so_aload_n mT201 dX7_copy_35 rfl⟩
theorem gT201_36 : sG l g D H0 mT 201 36 (s_load vRf 201 37 0) := ⟨ok_load _ _ _ _, so_aload_n mT201 dX7_copy_36 rfl⟩
theorem gT201_37 : sG l g D H0 mT 201 37 (s_getf 201 40 6 2) := ⟨ok_getf _ _ _ _, so_getf mT201 cl6 (k := 2) (by decide) dX7_copy_37 q473 (fs_rf rfl)⟩
theorem gT201_40 : sG l g D H0 mT 201 40 (s_putf g pI 201 43 6 2) := ⟨ok_putf _ _ _ _ _ _, so_putf mT201 cl6 (k := 2) (by decide) fI rfl dX7_copy_40 q473 (fs_rf rfl)⟩
theorem gT201_43 : sG l g D H0 mT 201 43 (s_load vRf 201 44 1) := ⟨ok_load _ _ _ _, so_aload_n mT201 dX7_copy_43 rfl⟩
theorem gT201_44 : sG l g D H0 mT 201 44 (s_load vRf 201 45 0) := ⟨ok_load _ _ _ _, so_aload_n mT201 dX7_copy_44 rfl⟩
theorem gT201_45 : sG l g D H0 mT 201 45 (s_getf 201 48 6 3) := ⟨ok_getf _ _ _ _, so_getf mT201 cl6 (k := 3) (by decide) dX7_copy_45 q475 (fs_rf rfl)⟩
theorem gT201_48 : sG l g D H0 mT 201 48 (s_putf g pI 201 51 6 3) := ⟨ok_putf _ _ _ _ _ _, so_putf mT201 cl6 (k := 3) (by decide) fI rfl dX7_copy_48 q475 (fs_rf rfl)⟩
theorem gT201_51 : sG l g D H0 mT 201 51 (s_load vRf 201 52 1) := ⟨ok_load _ _ _ _, so_aload_n mT201 dX7_copy_51 rfl⟩
theorem gT201_52 : sG l g D H0 mT 201 52 (s_ret pR) := ⟨ok_ret _, so_aret mT201 dX7_copy_52 (Or.inl ⟨_, rfl⟩)⟩
theorem gT201 (pc : Nat) : sG l g D H0 mT 201 pc (tT201 g pc) := sG_cond (sG_cond (sG_cond (sG_cond (sG_leaf gT201_0) (sG_cond (sG_leaf gT201_3) (sG_leaf gT201_4))) (sG_cond (sG_cond (sG_leaf gT201_7) (sG_leaf gT201_8)) (sG_cond (sG_leaf gT201_9) (sG_leaf gT201_12)))) (sG_cond (sG_cond (sG_leaf gT201_13) (sG_cond (sG_leaf gT201_16) (sG_leaf gT201_19))) (sG_cond (sG_cond (sG_leaf gT201_20) (sG_leaf gT201_21)) (sG_cond (sG_leaf gT201_24) (sG_leaf gT201_25))))) (sG_cond (sG_cond (sG_cond (sG_leaf gT201_26) (sG_cond (sG_leaf gT201_29) (sG_leaf gT201_30))) (sG_cond (sG_cond (sG_leaf gT201_32) (sG_leaf gT201_35)) (sG_cond (sG_leaf gT201_36) (sG_leaf gT201_37)))) (sG_cond (sG_cond (sG_leaf gT201_40) (sG_cond (sG_leaf gT201_43) (sG_leaf gT201_44))) (sG_cond (sG_cond (sG_leaf gT201_45) (sG_leaf gT201_48)) (sG_cond (sG_leaf gT201_51) (sG_leaf gT201_52)))))
theorem gT202_0 : sG l g D H0 mT 202 0 (s_load vRf 202 1 0) := ⟨ok_load _ _ _ _, so_aload_n mT202 dX7_init_0 rfl⟩
theorem gT202_1 : sG l g D H0 mT 202 1 (s_oinit 202 4) := ⟨ok_oinit _ _, so_oinit mT202 (by decide) dX7_init_1 q464 q91 q92⟩
theorem gT202_4 : sG l g D H0 mT 202 4 (s_load vRf 202 5 0) := ⟨ok_load _ _ _ _, so_aload_n mT202 dX7_init_4 rfl⟩
theorem gT202_5 : sG l g D H0 mT 202 5 (s_new g 202 8 10 3 (fun k => defaultValue (tyJ2 k))) := ⟨ok_new _ _ _ _ _ _, so_new mT202 cl10 (fun _ _ => rfl) dX7_init_5 q465 q100 q58⟩
theorem gT202_8 : sG l g D H0 mT 202 8 (s_dup 202 9) := ⟨ok_dup _ _, so_dup mT202 dX7_init_8⟩
theorem gT202_9 : sG l g D H0 mT 202 9 (s_callik 202 12 14 [] 1) := ⟨ok_callik _ _ _ _ _, sk_calli (by decide) (so_callI mT202 mo14 (by decide) rfl dX7_init_9 q466 q102 q58)⟩
theorem gT202_12 : sG l g D H0 mT 202 12 (s_putf g pR 202 15 6 0) := ⟨ok_putf _ _ _ _ _ _, so_putfF mT202 cl6 (k := 0) (by decide) fR rfl rfl rfl dX7_init_12 q467 (fs_rf rfl)⟩
theorem gT202_15 : sG l g D H0 mT 202 15 (s_load vRf 202 16 0) := ⟨ok_load _ _ _ _, so_aload_n mT202 dX7_init_15 rfl⟩
theorem gT202_16 : sG l g D H0 mT 202 16 (s_const 202 18 (.int 6)) := ⟨ok_const _ _ _, so_bipush mT202 dX7_init_16 (by decide)⟩
theorem gT202_18 : sG l g D H0 mT 202 18 (s_newa g 202 20 20 (.int 0)) := ⟨ok_newa _ _ _ _ _, so_newa mT202 (t := 20) (by decide) rfl rfl (by decide) dX7_init_18 q486⟩
theorem gT202_20 : sG l g D H0 mT 202 20 (s_putf g pR 202 23 6 1) := ⟨ok_putf _ _ _ _ _ _, so_putfF mT202 cl6 (k := 1) (by decide) fA rfl rfl rfl dX7_init_20 q469 (fs_rf rfl)⟩
theorem gT202_23 : sG l g D H0 mT 202 23 (s_vret) := ⟨ok_vret, so_vret mT202 dX7_init_23⟩
theorem gT202 (pc : Nat) : sG l g D H0 mT 202 pc (tT202 g pc) := sG_cond (sG_cond (sG_cond (sG_leaf gT202_0) (sG_cond (sG_leaf gT202_1) (sG_leaf gT202_4))) (sG_cond (sG_leaf gT202_5) (sG_cond (sG_leaf gT202_8) (sG_leaf gT202_9)))) (sG_cond (sG_cond (sG_leaf gT202_12) (sG_cond (sG_leaf gT202_15) (sG_leaf gT202_16))) (sG_cond (sG_leaf gT202_18) (sG_cond (sG_leaf gT202_20) (sG_leaf gT202_23))))
theorem gT203_0 : sG l g D H0 mT 203 0 (s_load vRf 203 1 0) := ⟨ok_load _ _ _ _, so_aload_n mT203 dX7_op_0 rfl⟩
theorem gT203_1 : sG l g D H0 mT 203 1 (s_getf 203 4 6 0) := ⟨ok_getf _ _ _ _, so_getf mT203 cl6 (k := 0) (by decide) dX7_op_1 q467 (fs_rf rfl)⟩
theorem gT203_4 : sG l g D H0 mT 203 4 (s_load vRf 203 5 0) := ⟨ok_load _ _ _ _, so_aload_n mT203 dX7_op_4 rfl⟩
theorem gT203_5 : sG l g D H0 mT 203 5 (s_getf 203 8 6 2) := ⟨ok_getf _ _ _ _, so_getf mT203 cl6 (k := 2) (by decide) dX7_op_5 q473 (fs_rf rfl)⟩
theorem gT203_8 : sG l g D H0 mT 203 8 (s_callvk 203 11 25 10 [0] 2) := ⟨ok_callvk _ _ _ _ _ _, sk_callv (by decide) (so_callV mT203 mo25 (by decide) (t := 10) (C := "java/util/ArrayList") (by decide) rfl rfl dX7_op_8 q517 q439 q440 q58)⟩
theorem gT203_11 : sG l g D H0 mT 203 11 (s_cast 203 14 [8]) := ⟨ok_cast _ _ _, so_cast mT203 (T := "HyperVane$Op") (ts := [8]) (by intro u hu; rw [List.mem_singleton] at hu; subst hu; exact ⟨by decide, Or.inl rfl⟩) dX7_op_11 q518⟩
theorem gT203_14 : sG l g D H0 mT 203 14 (s_ret pR) := ⟨ok_ret _, so_aret mT203 dX7_op_14 (Or.inl ⟨_, rfl⟩)⟩
theorem gT203 (pc : Nat) : sG l g D H0 mT 203 pc (tT203 g pc) := sG_cond (sG_cond (sG_leaf gT203_0) (sG_cond (sG_leaf gT203_1) (sG_leaf gT203_4))) (sG_cond (sG_cond (sG_leaf gT203_5) (sG_leaf gT203_8)) (sG_cond (sG_leaf gT203_11) (sG_leaf gT203_14)))
theorem gT204_0 : sG l g D H0 mT 204 0 (s_load vRf 204 1 0) := ⟨ok_load _ _ _ _, so_aload_n mT204 dX7_work_0 rfl⟩
theorem gT204_1 : sG l g D H0 mT 204 1 (s_callvk 204 4 203 6 [] 1) := ⟨ok_callvk _ _ _ _ _ _, sk_callv (by decide) (so_callV mT204 mo203 (by decide) (t := 6) (C := "HyperVane$Mind") (by decide) rfl rfl dX7_work_1 q527 q514 q515 q74)⟩
theorem gT204_4 : sG l g D H0 mT 204 4 (s_store vRf 204 5 2) := ⟨ok_store _ _ _ _, so_astore_n mT204 dX7_work_4 rfl⟩
theorem gT204_5 : sG l g D H0 mT 204 5 (s_load vRf 204 6 2) := ⟨ok_load _ _ _ _, so_aload_n mT204 dX7_work_5 rfl⟩
theorem gT204_6 : sG l g D H0 mT 204 6 (s_getf 204 9 8 0) := ⟨ok_getf _ _ _ _, so_getfN mT204 cl8 (k := 0) (by decide) dX7_work_6 q1020 (fs_rf rfl)⟩
theorem gT204_9 : sG l g D H0 mT 204 9 (s_tsw 204 (tswf 1 134 [44, 71, 134, 105, 122])) := ⟨ok_tsw _ _, so_tsw mT204 dX7_work_9 (by decide) (by decide) (by decide)⟩
theorem gT204_44 : sG l g D H0 mT 204 44 (s_load vRf 204 45 0) := ⟨ok_load _ _ _ _, so_aload_n mT204 dX7_work_44 rfl⟩
theorem gT204_45 : sG l g D H0 mT 204 45 (s_load vRf 204 46 0) := ⟨ok_load _ _ _ _, so_aload_n mT204 dX7_work_45 rfl⟩
theorem gT204_46 : sG l g D H0 mT 204 46 (s_getf 204 49 6 3) := ⟨ok_getf _ _ _ _, so_getf mT204 cl6 (k := 3) (by decide) dX7_work_46 q475 (fs_rf rfl)⟩
theorem gT204_49 : sG l g D H0 mT 204 49 (s_load vRf 204 50 0) := ⟨ok_load _ _ _ _, so_aload_n mT204 dX7_work_49 rfl⟩
theorem gT204_50 : sG l g D H0 mT 204 50 (s_getf 204 53 6 1) := ⟨ok_getf _ _ _ _, so_getf mT204 cl6 (k := 1) (by decide) dX7_work_50 q469 (fs_rf rfl)⟩
theorem gT204_53 : sG l g D H0 mT 204 53 (s_load vRf 204 54 2) := ⟨ok_load _ _ _ _, so_aload_n mT204 dX7_work_53 rfl⟩
theorem gT204_54 : sG l g D H0 mT 204 54 (s_getf 204 57 8 1) := ⟨ok_getf _ _ _ _, so_getfN mT204 cl8 (k := 1) (by decide) dX7_work_54 q1024 (fs_rf rfl)⟩
theorem gT204_57 : sG l g D H0 mT 204 57 (s_ald 204 58 20) := ⟨ok_ald _ _ _, so_iald mT204 a20 dX7_work_57⟩
theorem gT204_58 : sG l g D H0 mT 204 58 (s_bin 204 59 (fun a b => a + b)) := ⟨ok_bin _ _ _, so_iadd mT204 dX7_work_58⟩
theorem gT204_59 : sG l g D H0 mT 204 59 (s_const 204 60 (.int 1)) := ⟨ok_const _ _ _, so_iconst mT204 dX7_work_59 (by decide)⟩
theorem gT204_60 : sG l g D H0 mT 204 60 (s_bin 204 61 (fun a b => a + b)) := ⟨ok_bin _ _ _, so_iadd mT204 dX7_work_60⟩
theorem gT204_61 : sG l g D H0 mT 204 61 (s_const 204 64 (.int 1000)) := ⟨ok_const _ _ _, so_sipush mT204 dX7_work_61 (by decide)⟩
theorem gT204_64 : sG l g D H0 mT 204 64 (s_div 204 65 (fun a b => a - a / b * b)) := ⟨ok_div _ _ _, so_irem mT204 dX7_work_64⟩
theorem gT204_65 : sG l g D H0 mT 204 65 (s_putf g pI 204 68 6 3) := ⟨ok_putf _ _ _ _ _ _, so_putf mT204 cl6 (k := 3) (by decide) fI rfl dX7_work_65 q475 (fs_rf rfl)⟩
theorem gT204_68 : sG l g D H0 mT 204 68 (s_goto 204 134) := ⟨ok_goto _ _, so_goto mT204 dX7_work_68 (by decide)⟩
theorem gT204_71 : sG l g D H0 mT 204 71 (s_load vRf 204 72 0) := ⟨ok_load _ _ _ _, so_aload_n mT204 dX7_work_71 rfl⟩
theorem gT204_72 : sG l g D H0 mT 204 72 (s_getf 204 75 6 1) := ⟨ok_getf _ _ _ _, so_getf mT204 cl6 (k := 1) (by decide) dX7_work_72 q469 (fs_rf rfl)⟩
theorem gT204_75 : sG l g D H0 mT 204 75 (s_load vRf 204 76 2) := ⟨ok_load _ _ _ _, so_aload_n mT204 dX7_work_75 rfl⟩
theorem gT204_76 : sG l g D H0 mT 204 76 (s_getf 204 79 8 1) := ⟨ok_getf _ _ _ _, so_getfN mT204 cl8 (k := 1) (by decide) dX7_work_76 q1024 (fs_rf rfl)⟩
theorem gT204_79 : sG l g D H0 mT 204 79 (s_const 204 80 (.int 3)) := ⟨ok_const _ _ _, so_iconst mT204 dX7_work_79 (by decide)⟩
theorem gT204_80 : sG l g D H0 mT 204 80 (s_load vRf 204 81 0) := ⟨ok_load _ _ _ _, so_aload_n mT204 dX7_work_80 rfl⟩
theorem gT204_81 : sG l g D H0 mT 204 81 (s_getf 204 84 6 1) := ⟨ok_getf _ _ _ _, so_getf mT204 cl6 (k := 1) (by decide) dX7_work_81 q469 (fs_rf rfl)⟩
theorem gT204_84 : sG l g D H0 mT 204 84 (s_load vRf 204 85 2) := ⟨ok_load _ _ _ _, so_aload_n mT204 dX7_work_84 rfl⟩
theorem gT204_85 : sG l g D H0 mT 204 85 (s_getf 204 88 8 1) := ⟨ok_getf _ _ _ _, so_getfN mT204 cl8 (k := 1) (by decide) dX7_work_85 q1024 (fs_rf rfl)⟩
theorem gT204_88 : sG l g D H0 mT 204 88 (s_ald 204 89 20) := ⟨ok_ald _ _ _, so_iald mT204 a20 dX7_work_88⟩
theorem gT204_89 : sG l g D H0 mT 204 89 (s_bin 204 90 (fun a b => a * b)) := ⟨ok_bin _ _ _, so_imul mT204 dX7_work_89⟩
theorem gT204_90 : sG l g D H0 mT 204 90 (s_load vRf 204 91 0) := ⟨ok_load _ _ _ _, so_aload_n mT204 dX7_work_90 rfl⟩
theorem gT204_91 : sG l g D H0 mT 204 91 (s_getf 204 94 6 3) := ⟨ok_getf _ _ _ _, so_getf mT204 cl6 (k := 3) (by decide) dX7_work_91 q475 (fs_rf rfl)⟩
theorem gT204_94 : sG l g D H0 mT 204 94 (s_bin 204 95 (fun a b => a + b)) := ⟨ok_bin _ _ _, so_iadd mT204 dX7_work_94⟩
theorem gT204_95 : sG l g D H0 mT 204 95 (s_const 204 96 (.int 1)) := ⟨ok_const _ _ _, so_iconst mT204 dX7_work_95 (by decide)⟩
theorem gT204_96 : sG l g D H0 mT 204 96 (s_bin 204 97 (fun a b => a + b)) := ⟨ok_bin _ _ _, so_iadd mT204 dX7_work_96⟩
theorem gT204_97 : sG l g D H0 mT 204 97 (s_const 204 100 (.int 1000)) := ⟨ok_const _ _ _, so_sipush mT204 dX7_work_97 (by decide)⟩
theorem gT204_100 : sG l g D H0 mT 204 100 (s_div 204 101 (fun a b => a - a / b * b)) := ⟨ok_div _ _ _, so_irem mT204 dX7_work_100⟩
theorem gT204_101 : sG l g D H0 mT 204 101 (s_ast g (fun _ v => vI v = true) 204 102 20) := ⟨ok_ast _ _ _ _ _, so_iast mT204 a20 dX7_work_101⟩
theorem gT204_102 : sG l g D H0 mT 204 102 (s_goto 204 134) := ⟨ok_goto _ _, so_goto mT204 dX7_work_102 (by decide)⟩
theorem gT204_105 : sG l g D H0 mT 204 105 (s_load vRf 204 106 0) := ⟨ok_load _ _ _ _, so_aload_n mT204 dX7_work_105 rfl⟩
theorem gT204_106 : sG l g D H0 mT 204 106 (s_load vRf 204 107 0) := ⟨ok_load _ _ _ _, so_aload_n mT204 dX7_work_106 rfl⟩
theorem gT204_107 : sG l g D H0 mT 204 107 (s_getf 204 110 6 3) := ⟨ok_getf _ _ _ _, so_getf mT204 cl6 (k := 3) (by decide) dX7_work_107 q475 (fs_rf rfl)⟩
theorem gT204_110 : sG l g D H0 mT 204 110 (s_load vI 204 111 1) := ⟨ok_load _ _ _ _, so_iload_n mT204 dX7_work_110 rfl⟩
theorem gT204_111 : sG l g D H0 mT 204 111 (s_bin 204 112 (fun a b => a + b)) := ⟨ok_bin _ _ _, so_iadd mT204 dX7_work_111⟩
theorem gT204_112 : sG l g D H0 mT 204 112 (s_const 204 115 (.int 1000)) := ⟨ok_const _ _ _, so_sipush mT204 dX7_work_112 (by decide)⟩
theorem gT204_115 : sG l g D H0 mT 204 115 (s_div 204 116 (fun a b => a - a / b * b)) := ⟨ok_div _ _ _, so_irem mT204 dX7_work_115⟩
theorem gT204_116 : sG l g D H0 mT 204 116 (s_putf g pI 204 119 6 3) := ⟨ok_putf _ _ _ _ _ _, so_putf mT204 cl6 (k := 3) (by decide) fI rfl dX7_work_116 q475 (fs_rf rfl)⟩
theorem gT204_119 : sG l g D H0 mT 204 119 (s_goto 204 134) := ⟨ok_goto _ _, so_goto mT204 dX7_work_119 (by decide)⟩
theorem gT204_122 : sG l g D H0 mT 204 122 (s_load vRf 204 123 0) := ⟨ok_load _ _ _ _, so_aload_n mT204 dX7_work_122 rfl⟩
theorem gT204_123 : sG l g D H0 mT 204 123 (s_load vI 204 124 1) := ⟨ok_load _ _ _ _, so_iload_n mT204 dX7_work_123 rfl⟩
theorem gT204_124 : sG l g D H0 mT 204 124 (s_const 204 127 (.int 1000)) := ⟨ok_const _ _ _, so_sipush mT204 dX7_work_124 (by decide)⟩
theorem gT204_127 : sG l g D H0 mT 204 127 (s_div 204 128 (fun a b => a - a / b * b)) := ⟨ok_div _ _ _, so_irem mT204 dX7_work_127⟩
theorem gT204_128 : sG l g D H0 mT 204 128 (s_putf g pI 204 131 6 3) := ⟨ok_putf _ _ _ _ _ _, so_putf mT204 cl6 (k := 3) (by decide) fI rfl dX7_work_128 q475 (fs_rf rfl)⟩
theorem gT204_131 : sG l g D H0 mT 204 131 (s_goto 204 134) := ⟨ok_goto _ _, so_goto mT204 dX7_work_131 (by decide)⟩
theorem gT204_134 : sG l g D H0 mT 204 134 (s_load vRf 204 135 0) := ⟨ok_load _ _ _ _, so_aload_n mT204 dX7_work_134 rfl⟩
theorem gT204_135 : sG l g D H0 mT 204 135 (s_load vRf 204 136 0) := ⟨ok_load _ _ _ _, so_aload_n mT204 dX7_work_135 rfl⟩
theorem gT204_136 : sG l g D H0 mT 204 136 (s_getf 204 139 6 2) := ⟨ok_getf _ _ _ _, so_getf mT204 cl6 (k := 2) (by decide) dX7_work_136 q473 (fs_rf rfl)⟩
theorem gT204_139 : sG l g D H0 mT 204 139 (s_const 204 140 (.int 1)) := ⟨ok_const _ _ _, so_iconst mT204 dX7_work_139 (by decide)⟩
theorem gT204_140 : sG l g D H0 mT 204 140 (s_bin 204 141 (fun a b => a + b)) := ⟨ok_bin _ _ _, so_iadd mT204 dX7_work_140⟩
theorem gT204_141 : sG l g D H0 mT 204 141 (s_load vRf 204 142 0) := ⟨ok_load _ _ _ _, so_aload_n mT204 dX7_work_141 rfl⟩
theorem gT204_142 : sG l g D H0 mT 204 142 (s_getf 204 145 6 0) := ⟨ok_getf _ _ _ _, so_getf mT204 cl6 (k := 0) (by decide) dX7_work_142 q467 (fs_rf rfl)⟩
theorem gT204_145 : sG l g D H0 mT 204 145 (s_callvk 204 148 15 10 [] 1) := ⟨ok_callvk _ _ _ _ _ _, sk_callv (by decide) (so_callV mT204 mo15 (by decide) (t := 10) (C := "java/util/ArrayList") (by decide) rfl rfl dX7_work_145 q528 q173 q174 q58)⟩
theorem gT204_148 : sG l g D H0 mT 204 148 (s_div 204 149 (fun a b => a - a / b * b)) := ⟨ok_div _ _ _, so_irem mT204 dX7_work_148⟩
theorem gT204_149 : sG l g D H0 mT 204 149 (s_putf g pI 204 152 6 2) := ⟨ok_putf _ _ _ _ _ _, so_putf mT204 cl6 (k := 2) (by decide) fI rfl dX7_work_149 q473 (fs_rf rfl)⟩
theorem gT204_152 : sG l g D H0 mT 204 152 (s_vret) := ⟨ok_vret, so_vret mT204 dX7_work_152⟩
theorem gT204 (pc : Nat) : sG l g D H0 mT 204 pc (tT204 g pc) := sG_cond (sG_cond (sG_cond (sG_cond (sG_cond (sG_cond (sG_leaf gT204_0) (sG_leaf gT204_1)) (sG_cond (sG_leaf gT204_4) (sG_leaf gT204_5))) (sG_cond (sG_cond (sG_leaf gT204_6) (sG_leaf gT204_9)) (sG_cond (sG_leaf gT204_44) (sG_leaf gT204_45)))) (sG_cond (sG_cond (sG_cond (sG_leaf gT204_46) (sG_leaf gT204_49)) (sG_cond (sG_leaf gT204_50) (sG_leaf gT204_53))) (sG_cond (sG_cond (sG_leaf gT204_54) (sG_leaf gT204_57)) (sG_cond (sG_leaf gT204_58) (sG_leaf gT204_59))))) (sG_cond (sG_cond (sG_cond (sG_cond (sG_leaf gT204_60) (sG_leaf gT204_61)) (sG_cond (sG_leaf gT204_64) (sG_leaf gT204_65))) (sG_cond (sG_cond (sG_leaf gT204_68) (sG_leaf gT204_71)) (sG_cond (sG_leaf gT204_72) (sG_leaf gT204_75)))) (sG_cond (sG_cond (sG_cond (sG_leaf gT204_76) (sG_leaf gT204_79)) (sG_cond (sG_leaf gT204_80) (sG_leaf gT204_81))) (sG_cond (sG_cond (sG_leaf gT204_84) (sG_leaf gT204_85)) (sG_cond (sG_leaf gT204_88) (sG_cond (sG_leaf gT204_89) (sG_leaf gT204_90))))))) (sG_cond (sG_cond (sG_cond (sG_cond (sG_cond (sG_leaf gT204_91) (sG_leaf gT204_94)) (sG_cond (sG_leaf gT204_95) (sG_leaf gT204_96))) (sG_cond (sG_cond (sG_leaf gT204_97) (sG_leaf gT204_100)) (sG_cond (sG_leaf gT204_101) (sG_leaf gT204_102)))) (sG_cond (sG_cond (sG_cond (sG_leaf gT204_105) (sG_leaf gT204_106)) (sG_cond (sG_leaf gT204_107) (sG_leaf gT204_110))) (sG_cond (sG_cond (sG_leaf gT204_111) (sG_leaf gT204_112)) (sG_cond (sG_leaf gT204_115) (sG_cond (sG_leaf gT204_116) (sG_leaf gT204_119)))))) (sG_cond (sG_cond (sG_cond (sG_cond (sG_leaf gT204_122) (sG_leaf gT204_123)) (sG_cond (sG_leaf gT204_124) (sG_leaf gT204_127))) (sG_cond (sG_cond (sG_leaf gT204_128) (sG_leaf gT204_131)) (sG_cond (sG_leaf gT204_134) (sG_leaf gT204_135)))) (sG_cond (sG_cond (sG_cond (sG_leaf gT204_136) (sG_leaf gT204_139)) (sG_cond (sG_leaf gT204_140) (sG_leaf gT204_141))) (sG_cond (sG_cond (sG_leaf gT204_142) (sG_leaf gT204_145)) (sG_cond (sG_leaf gT204_148) (sG_cond (sG_leaf gT204_149) (sG_leaf gT204_152)))))))
theorem gT211_0 : sG l g D H0 mT 211 0 (s_load vRf 211 1 0) := ⟨ok_load _ _ _ _, so_aload_n mT211 dX9_init_0 rfl⟩
theorem gT211_1 : sG l g D H0 mT 211 1 (s_oinit 211 4) := ⟨ok_oinit _ _, so_oinit mT211 (by decide) dX9_init_1 q1018 q91 q92⟩
theorem gT211_4 : sG l g D H0 mT 211 4 (s_load vRf 211 5 0) := ⟨ok_load _ _ _ _, so_aload_n mT211 dX9_init_4 rfl⟩
theorem gT211_5 : sG l g D H0 mT 211 5 (s_load vI 211 6 1) := ⟨ok_load _ _ _ _, so_iload_n mT211 dX9_init_5 rfl⟩
theorem gT211_6 : sG l g D H0 mT 211 6 (s_putf g pI 211 9 8 0) := ⟨ok_putf _ _ _ _ _ _, so_putfF mT211 cl8 (k := 0) (by decide) fI rfl rfl rfl dX9_init_6 q1019 (fs_rf rfl)⟩
theorem gT211_9 : sG l g D H0 mT 211 9 (s_load vRf 211 10 0) := ⟨ok_load _ _ _ _, so_aload_n mT211 dX9_init_9 rfl⟩
theorem gT211_10 : sG l g D H0 mT 211 10 (s_load vI 211 11 2) := ⟨ok_load _ _ _ _, so_iload_n mT211 dX9_init_10 rfl⟩
theorem gT211_11 : sG l g D H0 mT 211 11 (s_putf g pI 211 14 8 1) := ⟨ok_putf _ _ _ _ _ _, so_putfF mT211 cl8 (k := 1) (by decide) fI rfl rfl rfl dX9_init_11 q1023 (fs_rf rfl)⟩
theorem gT211_14 : sG l g D H0 mT 211 14 (s_vret) := ⟨ok_vret, so_vret mT211 dX9_init_14⟩
theorem gT211 (pc : Nat) : sG l g D H0 mT 211 pc (tT211 g pc) := sG_cond (sG_cond (sG_cond (sG_leaf gT211_0) (sG_leaf gT211_1)) (sG_cond (sG_leaf gT211_4) (sG_leaf gT211_5))) (sG_cond (sG_cond (sG_leaf gT211_6) (sG_leaf gT211_9)) (sG_cond (sG_leaf gT211_10) (sG_cond (sG_leaf gT211_11) (sG_leaf gT211_14))))
end SND
