/-! the tables are right over the machine: printed by gen.py -/
section SND
variable {l : Launch} {g : GC} {D : va_G} {H0 : Heap}
theorem gT58_0 : sG l g D H0 mT 58 0 (s_load vRf 58 1 0) := ⟨ok_load _ _ _ _, so_aload_n mT58 dX1_init_0 rfl⟩
theorem gT58_1 : sG l g D H0 mT 58 1 (s_oinit 58 4) := ⟨ok_oinit _ _, so_oinit mT58 (by decide) dX1_init_1 q90 q91 q92⟩
theorem gT58_4 : sG l g D H0 mT 58 4 (s_load vRf 58 5 0) := ⟨ok_load _ _ _ _, so_aload_n mT58 dX1_init_4 rfl⟩
theorem gT58_5 : sG l g D H0 mT 58 5 (s_new g 58 8 1 10 (fun k => defaultValue (tyX2 k))) := ⟨ok_new _ _ _ _ _ _, so_new mT58 cl1 (fun _ _ => rfl) dX1_init_5 q93 q94 q55⟩
theorem gT58_8 : sG l g D H0 mT 58 8 (s_dup 58 9) := ⟨ok_dup _ _, so_dup mT58 dX1_init_8⟩
theorem gT58_9 : sG l g D H0 mT 58 9 (s_callik 58 12 108 [] 1) := ⟨ok_callik _ _ _ _ _, sk_calli (by decide) (so_callIN mT58 mo108 (by decide) rfl dX1_init_9 q95 q96 q55)⟩
theorem gT58_12 : sG l g D H0 mT 58 12 (s_putf g pR 58 15 0 0) := ⟨ok_putf _ _ _ _ _ _, so_putfF mT58 cl0 (k := 0) (by decide) fR rfl rfl rfl dX1_init_12 q289 (fs_rf rfl)⟩
theorem gT58_15 : sG l g D H0 mT 58 15 (s_load vRf 58 16 0) := ⟨ok_load _ _ _ _, so_aload_n mT58 dX1_init_15 rfl⟩
theorem gT58_16 : sG l g D H0 mT 58 16 (s_getf 58 19 0 0) := ⟨ok_getf _ _ _ _, so_getf mT58 cl0 (k := 0) (by decide) dX1_init_16 q289 (fs_rf rfl)⟩
theorem gT58_19 : sG l g D H0 mT 58 19 (s_const 58 20 (.int 4)) := ⟨ok_const _ _ _, so_iconst mT58 dX1_init_19 (by decide)⟩
theorem gT58_20 : sG l g D H0 mT 58 20 (s_callvk 58 23 109 1 [0] 4) := ⟨ok_callvk _ _ _ _ _ _, sk_callv (by decide) (so_callV mT58 mo109 (by decide) (t := 1) (C := "HyperVane$Machine") (by decide) rfl rfl dX1_init_20 q168 q169 q170 q55)⟩
theorem gT58_23 : sG l g D H0 mT 58 23 (s_pop 58 24) := ⟨ok_pop _ _, so_pop mT58 dX1_init_23⟩
theorem gT58_24 : sG l g D H0 mT 58 24 (s_vret) := ⟨ok_vret, so_vret mT58 dX1_init_24⟩
theorem gT58 (pc : Nat) : sG l g D H0 mT 58 pc (tT58 g pc) := sG_cond (sG_cond (sG_cond (sG_leaf gT58_0) (sG_cond (sG_leaf gT58_1) (sG_leaf gT58_4))) (sG_cond (sG_leaf gT58_5) (sG_cond (sG_leaf gT58_8) (sG_leaf gT58_9)))) (sG_cond (sG_cond (sG_leaf gT58_12) (sG_cond (sG_leaf gT58_15) (sG_leaf gT58_16))) (sG_cond (sG_cond (sG_leaf gT58_19) (sG_leaf gT58_20)) (sG_cond (sG_leaf gT58_23) (sG_leaf gT58_24))))
theorem gT59_0 : sG l g D H0 mT 59 0 (s_const 59 3 (.long 9609)) := ⟨ok_const _ _ _, so_ldc2 mT59 dX1_digest_0 q297⟩
theorem gT59_3 : sG l g D H0 mT 59 3 (s_store2 vL 59 4 1) := ⟨ok_store2 _ _ _ _, so_lstore_n mT59 dX1_digest_3 rfl⟩
theorem gT59_4 : sG l g D H0 mT 59 4 (s_const 59 5 (.int 0)) := ⟨ok_const _ _ _, so_iconst mT59 dX1_digest_4 (by decide)⟩
theorem gT59_5 : sG l g D H0 mT 59 5 (s_store vI 59 6 3) := ⟨ok_store _ _ _ _, so_istore_n mT59 dX1_digest_5 rfl⟩
theorem gT59_6 : sG l g D H0 mT 59 6 (s_load vI 59 7 3) := ⟨ok_load _ _ _ _, so_iload_n mT59 dX1_digest_6 rfl⟩
theorem gT59_7 : sG l g D H0 mT 59 7 (s_const 59 9 (.int 11)) := ⟨ok_const _ _ _, so_bipush mT59 dX1_digest_7 (by decide)⟩
theorem gT59_9 : sG l g D H0 mT 59 9 (s_icmp 59 12 29 (fun a b => b ≤ a)) := ⟨ok_icmp _ _ _ _, so_icmp_ge mT59 dX1_digest_9 (by decide)⟩
theorem gT59_12 : sG l g D H0 mT 59 12 (s_load vL 59 13 1) := ⟨ok_load _ _ _ _, so_lload_n mT59 dX1_digest_12 rfl⟩
theorem gT59_13 : sG l g D H0 mT 59 13 (s_load vRf 59 14 0) := ⟨ok_load _ _ _ _, so_aload_n mT59 dX1_digest_13 rfl⟩
theorem gT59_14 : sG l g D H0 mT 59 14 (s_load vI 59 15 3) := ⟨ok_load _ _ _ _, so_iload_n mT59 dX1_digest_14 rfl⟩
theorem gT59_15 : sG l g D H0 mT 59 15 (s_callvk 59 18 60 0 [0] 10) := ⟨ok_callvk _ _ _ _ _ _, sk_callv (by decide) (so_callV mT59 mo60 (by decide) (t := 0) (C := "HyperVane") (by decide) rfl rfl dX1_digest_15 q298 q300 qs5 q54)⟩
theorem gT59_18 : sG l g D H0 mT 59 18 (s_i2 59 19 (fun a => .long a.toInt64)) := ⟨ok_i2 _ _ _, so_i2l mT59 dX1_digest_18⟩
theorem gT59_19 : sG l g D H0 mT 59 19 (s_callk 59 22 63 [2, 2] 4) := ⟨ok_callk _ _ _ _ _, sk_call (by decide) (so_callS mT59 mo63 (by decide) dX1_digest_19 q357 q358 q54)⟩
theorem gT59_22 : sG l g D H0 mT 59 22 (s_store2 vL 59 23 1) := ⟨ok_store2 _ _ _ _, so_lstore_n mT59 dX1_digest_22 rfl⟩
theorem gT59_23 : sG l g D H0 mT 59 23 (s_iinc 59 26 3 1) := ⟨ok_iinc _ _ _ _, so_iinc mT59 dX1_digest_23 (by decide)⟩
theorem gT59_26 : sG l g D H0 mT 59 26 (s_goto 59 6) := ⟨ok_goto _ _, so_goto mT59 dX1_digest_26 (by decide)⟩
theorem gT59_29 : sG l g D H0 mT 59 29 (s_load vRf 59 30 0) := ⟨ok_load _ _ _ _, so_aload_n mT59 dX1_digest_29 rfl⟩
theorem gT59_30 : sG l g D H0 mT 59 30 (s_getf 59 33 0 0) := ⟨ok_getf _ _ _ _, so_getf mT59 cl0 (k := 0) (by decide) dX1_digest_30 q289 (fs_rf rfl)⟩
theorem gT59_33 : sG l g D H0 mT 59 33 (s_getf 59 36 1 0) := ⟨ok_getf _ _ _ _, so_getfN mT59 cl1 (k := 0) (by decide) dX1_digest_33 q129 (fs_rf rfl)⟩
theorem gT59_36 : sG l g D H0 mT 59 36 (s_callvk 59 39 22 10 [] 1) := ⟨ok_callvk _ _ _ _ _ _, sk_callv (by decide) (so_callV mT59 mo22 (by decide) (t := 10) (C := "java/util/ArrayList") (by decide) rfl rfl dX1_digest_36 q302 q303 q304 q58)⟩
theorem gT59_39 : sG l g D H0 mT 59 39 (s_store vRf 59 40 3) := ⟨ok_store _ _ _ _, so_astore_n mT59 dX1_digest_39 rfl⟩
theorem gT59_40 : sG l g D H0 mT 59 40 (s_load vRf 59 41 3) := ⟨ok_load _ _ _ _, so_aload_n mT59 dX1_digest_40 rfl⟩
theorem gT59_41 : sG l g D H0 mT 59 41 (s_callvk 59 46 3 11 [] 1) := ⟨ok_callvk _ _ _ _ _ _, sk_callv (by decide) (so_callF mT59 mo3 (by decide) (t := 11) (C := "java/util/ArrayList$Itr") (by decide) rfl (by decide +kernel) ⟨by decide, by decide, by decide +kernel⟩ dX1_digest_41 q326 q332 q330 q80)⟩
theorem gT59_46 : sG l g D H0 mT 59 46 (s_if 59 49 71 (fun a => a = 0)) := ⟨ok_if _ _ _ _, so_if_eq mT59 dX1_digest_46 (by decide)⟩
theorem gT59_49 : sG l g D H0 mT 59 49 (s_load vRf 59 50 3) := ⟨ok_load _ _ _ _, so_aload_n mT59 dX1_digest_49 rfl⟩
theorem gT59_50 : sG l g D H0 mT 59 50 (s_callvk 59 55 4 11 [] 3) := ⟨ok_callvk _ _ _ _ _ _, sk_callv (by decide) (so_callF mT59 mo4 (by decide) (t := 11) (C := "java/util/ArrayList$Itr") (by decide) rfl (by decide +kernel) ⟨by decide, by decide, by decide +kernel⟩ dX1_digest_50 q336 q341 q339 q80)⟩
theorem gT59_55 : sG l g D H0 mT 59 55 (s_cast 59 58 [5]) := ⟨ok_cast _ _ _, so_cast mT59 (T := "HyperVane$Guest") (ts := [5]) (by intro u hu; rw [List.mem_singleton] at hu; subst hu; exact ⟨by decide, Or.inl rfl⟩) dX1_digest_55 q352⟩
theorem gT59_58 : sG l g D H0 mT 59 58 (s_store vRf 59 60 4) := ⟨ok_store _ _ _ _, so_astore mT59 dX1_digest_58⟩
theorem gT59_60 : sG l g D H0 mT 59 60 (s_load vRf 59 61 0) := ⟨ok_load _ _ _ _, so_aload_n mT59 dX1_digest_60 rfl⟩
theorem gT59_61 : sG l g D H0 mT 59 61 (s_load vL 59 62 1) := ⟨ok_load _ _ _ _, so_lload_n mT59 dX1_digest_61 rfl⟩
theorem gT59_62 : sG l g D H0 mT 59 62 (s_load vRf 59 64 4) := ⟨ok_load _ _ _ _, so_aload mT59 dX1_digest_62⟩
theorem gT59_64 : sG l g D H0 mT 59 64 (s_callvk 59 67 64 0 [2, 1] 11) := ⟨ok_callvk _ _ _ _ _ _, sk_callv (by decide) (so_callV mT59 mo64 (by decide) (t := 0) (C := "HyperVane") (by decide) rfl rfl dX1_digest_64 q361 q363 qs6 q54)⟩
theorem gT59_67 : sG l g D H0 mT 59 67 (s_store2 vL 59 68 1) := ⟨ok_store2 _ _ _ _, so_lstore_n mT59 dX1_digest_67 rfl⟩
theorem gT59_68 : sG l g D H0 mT 59 68 (s_goto 59 40) := ⟨ok_goto _ _, so_goto mT59 dX1_digest_68 (by decide)⟩
theorem gT59_71 : sG l g D H0 mT 59 71 (s_load vRf 59 72 0) := ⟨ok_load _ _ _ _, so_aload_n mT59 dX1_digest_71 rfl⟩
theorem gT59_72 : sG l g D H0 mT 59 72 (s_getf 59 75 0 0) := ⟨ok_getf _ _ _ _, so_getf mT59 cl0 (k := 0) (by decide) dX1_digest_72 q289 (fs_rf rfl)⟩
theorem gT59_75 : sG l g D H0 mT 59 75 (s_getf 59 78 1 1) := ⟨ok_getf _ _ _ _, so_getfN mT59 cl1 (k := 1) (by decide) dX1_digest_75 q131 (fs_rf rfl)⟩
theorem gT59_78 : sG l g D H0 mT 59 78 (s_callvk 59 81 22 10 [] 1) := ⟨ok_callvk _ _ _ _ _ _, sk_callv (by decide) (so_callV mT59 mo22 (by decide) (t := 10) (C := "java/util/ArrayList") (by decide) rfl rfl dX1_digest_78 q302 q303 q304 q58)⟩
theorem gT59_81 : sG l g D H0 mT 59 81 (s_store vRf 59 82 3) := ⟨ok_store _ _ _ _, so_astore_n mT59 dX1_digest_81 rfl⟩
theorem gT59_82 : sG l g D H0 mT 59 82 (s_load vRf 59 83 3) := ⟨ok_load _ _ _ _, so_aload_n mT59 dX1_digest_82 rfl⟩
theorem gT59_83 : sG l g D H0 mT 59 83 (s_callvk 59 88 3 11 [] 1) := ⟨ok_callvk _ _ _ _ _ _, sk_callv (by decide) (so_callF mT59 mo3 (by decide) (t := 11) (C := "java/util/ArrayList$Itr") (by decide) rfl (by decide +kernel) ⟨by decide, by decide, by decide +kernel⟩ dX1_digest_83 q326 q332 q330 q80)⟩
theorem gT59_88 : sG l g D H0 mT 59 88 (s_if 59 91 133 (fun a => a = 0)) := ⟨ok_if _ _ _ _, so_if_eq mT59 dX1_digest_88 (by decide)⟩
theorem gT59_91 : sG l g D H0 mT 59 91 (s_load vRf 59 92 3) := ⟨ok_load _ _ _ _, so_aload_n mT59 dX1_digest_91 rfl⟩
theorem gT59_92 : sG l g D H0 mT 59 92 (s_callvk 59 97 4 11 [] 3) := ⟨ok_callvk _ _ _ _ _ _, sk_callv (by decide) (so_callF mT59 mo4 (by decide) (t := 11) (C := "java/util/ArrayList$Itr") (by decide) rfl (by decide +kernel) ⟨by decide, by decide, by decide +kernel⟩ dX1_digest_92 q336 q341 q339 q80)⟩
theorem gT59_97 : sG l g D H0 mT 59 97 (s_cast 59 100 [2]) := ⟨ok_cast _ _ _, so_cast mT59 (T := "HyperVane$Frame") (ts := [2]) (by intro u hu; rw [List.mem_singleton] at hu; subst hu; exact ⟨by decide, Or.inl rfl⟩) dX1_digest_97 q348⟩
theorem gT59_100 : sG l g D H0 mT 59 100 (s_store vRf 59 102 4) := ⟨ok_store _ _ _ _, so_astore mT59 dX1_digest_100⟩
theorem gT59_102 : sG l g D H0 mT 59 102 (s_const 59 103 (.int 0)) := ⟨ok_const _ _ _, so_iconst mT59 dX1_digest_102 (by decide)⟩
theorem gT59_103 : sG l g D H0 mT 59 103 (s_store vI 59 105 5) := ⟨ok_store _ _ _ _, so_istore mT59 dX1_digest_103⟩
theorem gT59_105 : sG l g D H0 mT 59 105 (s_load vI 59 107 5) := ⟨ok_load _ _ _ _, so_iload mT59 dX1_digest_105⟩
theorem gT59_107 : sG l g D H0 mT 59 107 (s_const 59 108 (.int 3)) := ⟨ok_const _ _ _, so_iconst mT59 dX1_digest_107 (by decide)⟩
theorem gT59_108 : sG l g D H0 mT 59 108 (s_icmp 59 111 130 (fun a b => b ≤ a)) := ⟨ok_icmp _ _ _ _, so_icmp_ge mT59 dX1_digest_108 (by decide)⟩
theorem gT59_111 : sG l g D H0 mT 59 111 (s_load vL 59 112 1) := ⟨ok_load _ _ _ _, so_lload_n mT59 dX1_digest_111 rfl⟩
theorem gT59_112 : sG l g D H0 mT 59 112 (s_load vRf 59 114 4) := ⟨ok_load _ _ _ _, so_aload mT59 dX1_digest_112⟩
theorem gT59_114 : sG l g D H0 mT 59 114 (s_load vI 59 116 5) := ⟨ok_load _ _ _ _, so_iload mT59 dX1_digest_114⟩
theorem gT59_116 : sG l g D H0 mT 59 116 (s_callk 59 119 74 [1, 0] 2) := ⟨ok_callk _ _ _ _ _, sk_call (by decide) (so_callS mT59 mo74 (by decide) dX1_digest_116 q827 q828 q54)⟩
theorem gT59_119 : sG l g D H0 mT 59 119 (s_i2 59 120 (fun a => .long a.toInt64)) := ⟨ok_i2 _ _ _, so_i2l mT59 dX1_digest_119⟩
theorem gT59_120 : sG l g D H0 mT 59 120 (s_callk 59 123 63 [2, 2] 4) := ⟨ok_callk _ _ _ _ _, sk_call (by decide) (so_callS mT59 mo63 (by decide) dX1_digest_120 q357 q358 q54)⟩
theorem gT59_123 : sG l g D H0 mT 59 123 (s_store2 vL 59 124 1) := ⟨ok_store2 _ _ _ _, so_lstore_n mT59 dX1_digest_123 rfl⟩
theorem gT59_124 : sG l g D H0 mT 59 124 (s_iinc 59 127 5 1) := ⟨ok_iinc _ _ _ _, so_iinc mT59 dX1_digest_124 (by decide)⟩
theorem gT59_127 : sG l g D H0 mT 59 127 (s_goto 59 105) := ⟨ok_goto _ _, so_goto mT59 dX1_digest_127 (by decide)⟩
theorem gT59_130 : sG l g D H0 mT 59 130 (s_goto 59 82) := ⟨ok_goto _ _, so_goto mT59 dX1_digest_130 (by decide)⟩
theorem gT59_133 : sG l g D H0 mT 59 133 (s_load vL 59 134 1) := ⟨ok_load _ _ _ _, so_lload_n mT59 dX1_digest_133 rfl⟩
theorem gT59_134 : sG l g D H0 mT 59 134 (s_ret pJ) := ⟨ok_ret _, so_lret mT59 dX1_digest_134⟩
theorem gT59 (pc : Nat) : sG l g D H0 mT 59 pc (tT59 g pc) := sG_cond (sG_cond (sG_cond (sG_cond (sG_cond (sG_leaf gT59_0) (sG_cond (sG_leaf gT59_3) (sG_leaf gT59_4))) (sG_cond (sG_cond (sG_leaf gT59_5) (sG_leaf gT59_6)) (sG_cond (sG_leaf gT59_7) (sG_leaf gT59_9)))) (sG_cond (sG_cond (sG_cond (sG_leaf gT59_12) (sG_leaf gT59_13)) (sG_cond (sG_leaf gT59_14) (sG_leaf gT59_15))) (sG_cond (sG_cond (sG_leaf gT59_18) (sG_leaf gT59_19)) (sG_cond (sG_leaf gT59_22) (sG_leaf gT59_23))))) (sG_cond (sG_cond (sG_cond (sG_cond (sG_leaf gT59_26) (sG_leaf gT59_29)) (sG_cond (sG_leaf gT59_30) (sG_leaf gT59_33))) (sG_cond (sG_cond (sG_leaf gT59_36) (sG_leaf gT59_39)) (sG_cond (sG_leaf gT59_40) (sG_leaf gT59_41)))) (sG_cond (sG_cond (sG_cond (sG_leaf gT59_46) (sG_leaf gT59_49)) (sG_cond (sG_leaf gT59_50) (sG_leaf gT59_55))) (sG_cond (sG_cond (sG_leaf gT59_58) (sG_leaf gT59_60)) (sG_cond (sG_leaf gT59_61) (sG_leaf gT59_62)))))) (sG_cond (sG_cond (sG_cond (sG_cond (sG_cond (sG_leaf gT59_64) (sG_leaf gT59_67)) (sG_cond (sG_leaf gT59_68) (sG_leaf gT59_71))) (sG_cond (sG_cond (sG_leaf gT59_72) (sG_leaf gT59_75)) (sG_cond (sG_leaf gT59_78) (sG_leaf gT59_81)))) (sG_cond (sG_cond (sG_cond (sG_leaf gT59_82) (sG_leaf gT59_83)) (sG_cond (sG_leaf gT59_88) (sG_leaf gT59_91))) (sG_cond (sG_cond (sG_leaf gT59_92) (sG_leaf gT59_97)) (sG_cond (sG_leaf gT59_100) (sG_leaf gT59_102))))) (sG_cond (sG_cond (sG_cond (sG_cond (sG_leaf gT59_103) (sG_leaf gT59_105)) (sG_cond (sG_leaf gT59_107) (sG_leaf gT59_108))) (sG_cond (sG_cond (sG_leaf gT59_111) (sG_leaf gT59_112)) (sG_cond (sG_leaf gT59_114) (sG_leaf gT59_116)))) (sG_cond (sG_cond (sG_cond (sG_leaf gT59_119) (sG_leaf gT59_120)) (sG_cond (sG_leaf gT59_123) (sG_leaf gT59_124))) (sG_cond (sG_cond (sG_leaf gT59_127) (sG_leaf gT59_130)) (sG_cond (sG_leaf gT59_133) (sG_leaf gT59_134))))))
theorem gT60_0 : sG l g D H0 mT 60 0 (s_const 60 1 (.int 0)) := ⟨ok_const _ _ _, so_iconst mT60 dX1_count_0 (by decide)⟩
theorem gT60_1 : sG l g D H0 mT 60 1 (s_store vI 60 2 2) := ⟨ok_store _ _ _ _, so_istore_n mT60 dX1_count_1 rfl⟩
theorem gT60_2 : sG l g D H0 mT 60 2 (s_const 60 3 (.int 0)) := ⟨ok_const _ _ _, so_iconst mT60 dX1_count_2 (by decide)⟩
theorem gT60_3 : sG l g D H0 mT 60 3 (s_store vI 60 4 3) := ⟨ok_store _ _ _ _, so_istore_n mT60 dX1_count_3 rfl⟩
theorem gT60_4 : sG l g D H0 mT 60 4 (s_load vRf 60 5 0) := ⟨ok_load _ _ _ _, so_aload_n mT60 dX1_count_4 rfl⟩
theorem gT60_5 : sG l g D H0 mT 60 5 (s_getf 60 8 0 0) := ⟨ok_getf _ _ _ _, so_getf mT60 cl0 (k := 0) (by decide) dX1_count_5 q289 (fs_rf rfl)⟩
theorem gT60_8 : sG l g D H0 mT 60 8 (s_getf 60 11 1 1) := ⟨ok_getf _ _ _ _, so_getfN mT60 cl1 (k := 1) (by decide) dX1_count_8 q131 (fs_rf rfl)⟩
theorem gT60_11 : sG l g D H0 mT 60 11 (s_callvk 60 14 22 10 [] 1) := ⟨ok_callvk _ _ _ _ _ _, sk_callv (by decide) (so_callV mT60 mo22 (by decide) (t := 10) (C := "java/util/ArrayList") (by decide) rfl rfl dX1_count_11 q302 q303 q304 q58)⟩
theorem gT60_14 : sG l g D H0 mT 60 14 (s_store vRf 60 16 4) := ⟨ok_store _ _ _ _, so_astore mT60 dX1_count_14⟩
theorem gT60_16 : sG l g D H0 mT 60 16 (s_load vRf 60 18 4) := ⟨ok_load _ _ _ _, so_aload mT60 dX1_count_16⟩
theorem gT60_18 : sG l g D H0 mT 60 18 (s_callvk 60 23 3 11 [] 1) := ⟨ok_callvk _ _ _ _ _ _, sk_callv (by decide) (so_callF mT60 mo3 (by decide) (t := 11) (C := "java/util/ArrayList$Itr") (by decide) rfl (by decide +kernel) ⟨by decide, by decide, by decide +kernel⟩ dX1_count_18 q326 q332 q330 q80)⟩
theorem gT60_23 : sG l g D H0 mT 60 23 (s_if 60 26 60 (fun a => a = 0)) := ⟨ok_if _ _ _ _, so_if_eq mT60 dX1_count_23 (by decide)⟩
theorem gT60_26 : sG l g D H0 mT 60 26 (s_load vRf 60 28 4) := ⟨ok_load _ _ _ _, so_aload mT60 dX1_count_26⟩
theorem gT60_28 : sG l g D H0 mT 60 28 (s_callvk 60 33 4 11 [] 3) := ⟨ok_callvk _ _ _ _ _ _, sk_callv (by decide) (so_callF mT60 mo4 (by decide) (t := 11) (C := "java/util/ArrayList$Itr") (by decide) rfl (by decide +kernel) ⟨by decide, by decide, by decide +kernel⟩ dX1_count_28 q336 q341 q339 q80)⟩
theorem gT60_33 : sG l g D H0 mT 60 33 (s_cast 60 36 [2]) := ⟨ok_cast _ _ _, so_cast mT60 (T := "HyperVane$Frame") (ts := [2]) (by intro u hu; rw [List.mem_singleton] at hu; subst hu; exact ⟨by decide, Or.inl rfl⟩) dX1_count_33 q348⟩
theorem gT60_36 : sG l g D H0 mT 60 36 (s_store vRf 60 38 5) := ⟨ok_store _ _ _ _, so_astore mT60 dX1_count_36⟩
theorem gT60_38 : sG l g D H0 mT 60 38 (s_load vI 60 39 2) := ⟨ok_load _ _ _ _, so_iload_n mT60 dX1_count_38 rfl⟩
theorem gT60_39 : sG l g D H0 mT 60 39 (s_load vRf 60 41 5) := ⟨ok_load _ _ _ _, so_aload mT60 dX1_count_39⟩
theorem gT60_41 : sG l g D H0 mT 60 41 (s_getf 60 44 2 0) := ⟨ok_getf _ _ _ _, so_getfN mT60 cl2 (k := 0) (by decide) dX1_count_41 q213 (fs_rf rfl)⟩
theorem gT60_44 : sG l g D H0 mT 60 44 (s_ifnn 60 47 51) := ⟨ok_ifnn _ _ _, so_ifnonnull mT60 dX1_count_44 (by decide)⟩
theorem gT60_47 : sG l g D H0 mT 60 47 (s_const 60 48 (.int 1)) := ⟨ok_const _ _ _, so_iconst mT60 dX1_count_47 (by decide)⟩
theorem gT60_48 : sG l g D H0 mT 60 48 (s_goto 60 52) := ⟨ok_goto _ _, so_goto mT60 dX1_count_48 (by decide)⟩
theorem gT60_51 : sG l g D H0 mT 60 51 (s_const 60 52 (.int 0)) := ⟨ok_const _ _ _, so_iconst mT60 dX1_count_51 (by decide)⟩
theorem gT60_52 : sG l g D H0 mT 60 52 (s_callk 60 55 61 [0] 1) := ⟨ok_callk _ _ _ _ _, sk_call (by decide) (so_callS mT60 mo61 (by decide) dX1_count_52 q349 q350 q54)⟩
theorem gT60_55 : sG l g D H0 mT 60 55 (s_bin 60 56 (fun a b => a + b)) := ⟨ok_bin _ _ _, so_iadd mT60 dX1_count_55⟩
theorem gT60_56 : sG l g D H0 mT 60 56 (s_store vI 60 57 2) := ⟨ok_store _ _ _ _, so_istore_n mT60 dX1_count_56 rfl⟩
theorem gT60_57 : sG l g D H0 mT 60 57 (s_goto 60 16) := ⟨ok_goto _ _, so_goto mT60 dX1_count_57 (by decide)⟩
theorem gT60_60 : sG l g D H0 mT 60 60 (s_load vRf 60 61 0) := ⟨ok_load _ _ _ _, so_aload_n mT60 dX1_count_60 rfl⟩
theorem gT60_61 : sG l g D H0 mT 60 61 (s_getf 60 64 0 0) := ⟨ok_getf _ _ _ _, so_getf mT60 cl0 (k := 0) (by decide) dX1_count_61 q289 (fs_rf rfl)⟩
theorem gT60_64 : sG l g D H0 mT 60 64 (s_getf 60 67 1 0) := ⟨ok_getf _ _ _ _, so_getfN mT60 cl1 (k := 0) (by decide) dX1_count_64 q129 (fs_rf rfl)⟩
theorem gT60_67 : sG l g D H0 mT 60 67 (s_callvk 60 70 22 10 [] 1) := ⟨ok_callvk _ _ _ _ _ _, sk_callv (by decide) (so_callV mT60 mo22 (by decide) (t := 10) (C := "java/util/ArrayList") (by decide) rfl rfl dX1_count_67 q302 q303 q304 q58)⟩
theorem gT60_70 : sG l g D H0 mT 60 70 (s_store vRf 60 72 4) := ⟨ok_store _ _ _ _, so_astore mT60 dX1_count_70⟩
theorem gT60_72 : sG l g D H0 mT 60 72 (s_load vRf 60 74 4) := ⟨ok_load _ _ _ _, so_aload mT60 dX1_count_72⟩
theorem gT60_74 : sG l g D H0 mT 60 74 (s_callvk 60 79 3 11 [] 1) := ⟨ok_callvk _ _ _ _ _ _, sk_callv (by decide) (so_callF mT60 mo3 (by decide) (t := 11) (C := "java/util/ArrayList$Itr") (by decide) rfl (by decide +kernel) ⟨by decide, by decide, by decide +kernel⟩ dX1_count_74 q326 q332 q330 q80)⟩
theorem gT60_79 : sG l g D H0 mT 60 79 (s_if 60 82 137 (fun a => a = 0)) := ⟨ok_if _ _ _ _, so_if_eq mT60 dX1_count_79 (by decide)⟩
theorem gT60_82 : sG l g D H0 mT 60 82 (s_load vRf 60 84 4) := ⟨ok_load _ _ _ _, so_aload mT60 dX1_count_82⟩
theorem gT60_84 : sG l g D H0 mT 60 84 (s_callvk 60 89 4 11 [] 3) := ⟨ok_callvk _ _ _ _ _ _, sk_callv (by decide) (so_callF mT60 mo4 (by decide) (t := 11) (C := "java/util/ArrayList$Itr") (by decide) rfl (by decide +kernel) ⟨by decide, by decide, by decide +kernel⟩ dX1_count_84 q336 q341 q339 q80)⟩
theorem gT60_89 : sG l g D H0 mT 60 89 (s_cast 60 92 [5]) := ⟨ok_cast _ _ _, so_cast mT60 (T := "HyperVane$Guest") (ts := [5]) (by intro u hu; rw [List.mem_singleton] at hu; subst hu; exact ⟨by decide, Or.inl rfl⟩) dX1_count_89 q352⟩
theorem gT60_92 : sG l g D H0 mT 60 92 (s_store vRf 60 94 5) := ⟨ok_store _ _ _ _, so_astore mT60 dX1_count_92⟩
theorem gT60_94 : sG l g D H0 mT 60 94 (s_load vRf 60 96 5) := ⟨ok_load _ _ _ _, so_aload mT60 dX1_count_94⟩
theorem gT60_96 : sG l g D H0 mT 60 96 (s_getf 60 99 5 13) := ⟨ok_getf _ _ _ _, so_getfN mT60 cl5 (k := 13) (by decide) dX1_count_96 q592 (fs_rf rfl)⟩
theorem gT60_99 : sG l g D H0 mT 60 99 (s_store vRf 60 101 6) := ⟨ok_store _ _ _ _, so_astore mT60 dX1_count_99⟩
theorem gT60_101 : sG l g D H0 mT 60 101 (s_load vRf 60 103 6) := ⟨ok_load _ _ _ _, so_aload mT60 dX1_count_101⟩
theorem gT60_103 : sG l g D H0 mT 60 103 (s_alen 60 104 20) := ⟨ok_alen _ _ _, so_alen mT60 a20 dX1_count_103⟩
theorem gT60_104 : sG l g D H0 mT 60 104 (s_store vI 60 106 7) := ⟨ok_store _ _ _ _, so_istore mT60 dX1_count_104⟩
theorem gT60_106 : sG l g D H0 mT 60 106 (s_const 60 107 (.int 0)) := ⟨ok_const _ _ _, so_iconst mT60 dX1_count_106 (by decide)⟩
theorem gT60_107 : sG l g D H0 mT 60 107 (s_store vI 60 109 8) := ⟨ok_store _ _ _ _, so_istore mT60 dX1_count_107⟩
theorem gT60_109 : sG l g D H0 mT 60 109 (s_load vI 60 111 8) := ⟨ok_load _ _ _ _, so_iload mT60 dX1_count_109⟩
theorem gT60_111 : sG l g D H0 mT 60 111 (s_load vI 60 113 7) := ⟨ok_load _ _ _ _, so_iload mT60 dX1_count_111⟩
theorem gT60_113 : sG l g D H0 mT 60 113 (s_icmp 60 116 134 (fun a b => b ≤ a)) := ⟨ok_icmp _ _ _ _, so_icmp_ge mT60 dX1_count_113 (by decide)⟩
theorem gT60_116 : sG l g D H0 mT 60 116 (s_load vRf 60 118 6) := ⟨ok_load _ _ _ _, so_aload mT60 dX1_count_116⟩
theorem gT60_118 : sG l g D H0 mT 60 118 (s_load vI 60 120 8) := ⟨ok_load _ _ _ _, so_iload mT60 dX1_count_118⟩
theorem gT60_120 : sG l g D H0 mT 60 120 (s_ald 60 121 20) := ⟨ok_ald _ _ _, so_iald mT60 a20 dX1_count_120⟩
theorem gT60_121 : sG l g D H0 mT 60 121 (s_store vI 60 123 9) := ⟨ok_store _ _ _ _, so_istore mT60 dX1_count_121⟩
theorem gT60_123 : sG l g D H0 mT 60 123 (s_load vI 60 124 3) := ⟨ok_load _ _ _ _, so_iload_n mT60 dX1_count_123 rfl⟩
theorem gT60_124 : sG l g D H0 mT 60 124 (s_load vI 60 126 9) := ⟨ok_load _ _ _ _, so_iload mT60 dX1_count_124⟩
theorem gT60_126 : sG l g D H0 mT 60 126 (s_bin 60 127 (fun a b => a + b)) := ⟨ok_bin _ _ _, so_iadd mT60 dX1_count_126⟩
theorem gT60_127 : sG l g D H0 mT 60 127 (s_store vI 60 128 3) := ⟨ok_store _ _ _ _, so_istore_n mT60 dX1_count_127 rfl⟩
theorem gT60_128 : sG l g D H0 mT 60 128 (s_iinc 60 131 8 1) := ⟨ok_iinc _ _ _ _, so_iinc mT60 dX1_count_128 (by decide)⟩
theorem gT60_131 : sG l g D H0 mT 60 131 (s_goto 60 109) := ⟨ok_goto _ _, so_goto mT60 dX1_count_131 (by decide)⟩
theorem gT60_134 : sG l g D H0 mT 60 134 (s_goto 60 72) := ⟨ok_goto _ _, so_goto mT60 dX1_count_134 (by decide)⟩
theorem gT60_137 : sG l g D H0 mT 60 137 (s_const 60 139 (.int 11)) := ⟨ok_const _ _ _, so_bipush mT60 dX1_count_137 (by decide)⟩
theorem gT60_139 : sG l g D H0 mT 60 139 (s_newa g 60 141 20 (.int 0)) := ⟨ok_newa _ _ _ _ _, so_newa mT60 (t := 20) (by decide) rfl rfl (by decide) dX1_count_139 q486⟩
theorem gT60_141 : sG l g D H0 mT 60 141 (s_dup 60 142) := ⟨ok_dup _ _, so_dup mT60 dX1_count_141⟩
theorem gT60_142 : sG l g D H0 mT 60 142 (s_const 60 143 (.int 0)) := ⟨ok_const _ _ _, so_iconst mT60 dX1_count_142 (by decide)⟩
theorem gT60_143 : sG l g D H0 mT 60 143 (s_load vRf 60 144 0) := ⟨ok_load _ _ _ _, so_aload_n mT60 dX1_count_143 rfl⟩
theorem gT60_144 : sG l g D H0 mT 60 144 (s_getf 60 147 0 0) := ⟨ok_getf _ _ _ _, so_getf mT60 cl0 (k := 0) (by decide) dX1_count_144 q289 (fs_rf rfl)⟩
theorem gT60_147 : sG l g D H0 mT 60 147 (s_getf 60 150 1 0) := ⟨ok_getf _ _ _ _, so_getfN mT60 cl1 (k := 0) (by decide) dX1_count_147 q129 (fs_rf rfl)⟩
theorem gT60_150 : sG l g D H0 mT 60 150 (s_callvk 60 153 15 10 [] 1) := ⟨ok_callvk _ _ _ _ _ _, sk_callv (by decide) (so_callV mT60 mo15 (by decide) (t := 10) (C := "java/util/ArrayList") (by decide) rfl rfl dX1_count_150 q353 q173 q174 q58)⟩
theorem gT60_153 : sG l g D H0 mT 60 153 (s_ast g (fun _ v => vI v = true) 60 154 20) := ⟨ok_ast _ _ _ _ _, so_iast mT60 a20 dX1_count_153⟩
theorem gT60_154 : sG l g D H0 mT 60 154 (s_dup 60 155) := ⟨ok_dup _ _, so_dup mT60 dX1_count_154⟩
theorem gT60_155 : sG l g D H0 mT 60 155 (s_const 60 156 (.int 1)) := ⟨ok_const _ _ _, so_iconst mT60 dX1_count_155 (by decide)⟩
theorem gT60_156 : sG l g D H0 mT 60 156 (s_load vRf 60 157 0) := ⟨ok_load _ _ _ _, so_aload_n mT60 dX1_count_156 rfl⟩
theorem gT60_157 : sG l g D H0 mT 60 157 (s_getf 60 160 0 0) := ⟨ok_getf _ _ _ _, so_getf mT60 cl0 (k := 0) (by decide) dX1_count_157 q289 (fs_rf rfl)⟩
theorem gT60_160 : sG l g D H0 mT 60 160 (s_getf 60 163 1 2) := ⟨ok_getf _ _ _ _, so_getfN mT60 cl1 (k := 2) (by decide) dX1_count_160 q133 (fs_rf rfl)⟩
theorem gT60_163 : sG l g D H0 mT 60 163 (s_ast g (fun _ v => vI v = true) 60 164 20) := ⟨ok_ast _ _ _ _ _, so_iast mT60 a20 dX1_count_163⟩
theorem gT60_164 : sG l g D H0 mT 60 164 (s_dup 60 165) := ⟨ok_dup _ _, so_dup mT60 dX1_count_164⟩
theorem gT60_165 : sG l g D H0 mT 60 165 (s_const 60 166 (.int 2)) := ⟨ok_const _ _ _, so_iconst mT60 dX1_count_165 (by decide)⟩
theorem gT60_166 : sG l g D H0 mT 60 166 (s_load vRf 60 167 0) := ⟨ok_load _ _ _ _, so_aload_n mT60 dX1_count_166 rfl⟩
theorem gT60_167 : sG l g D H0 mT 60 167 (s_getf 60 170 0 0) := ⟨ok_getf _ _ _ _, so_getf mT60 cl0 (k := 0) (by decide) dX1_count_167 q289 (fs_rf rfl)⟩
theorem gT60_170 : sG l g D H0 mT 60 170 (s_getf 60 173 1 1) := ⟨ok_getf _ _ _ _, so_getfN mT60 cl1 (k := 1) (by decide) dX1_count_170 q131 (fs_rf rfl)⟩
theorem gT60_173 : sG l g D H0 mT 60 173 (s_callvk 60 176 15 10 [] 1) := ⟨ok_callvk _ _ _ _ _ _, sk_callv (by decide) (so_callV mT60 mo15 (by decide) (t := 10) (C := "java/util/ArrayList") (by decide) rfl rfl dX1_count_173 q353 q173 q174 q58)⟩
theorem gT60_176 : sG l g D H0 mT 60 176 (s_ast g (fun _ v => vI v = true) 60 177 20) := ⟨ok_ast _ _ _ _ _, so_iast mT60 a20 dX1_count_176⟩
theorem gT60_177 : sG l g D H0 mT 60 177 (s_dup 60 178) := ⟨ok_dup _ _, so_dup mT60 dX1_count_177⟩
theorem gT60_178 : sG l g D H0 mT 60 178 (s_const 60 179 (.int 3)) := ⟨ok_const _ _ _, so_iconst mT60 dX1_count_178 (by decide)⟩
theorem gT60_179 : sG l g D H0 mT 60 179 (s_load vI 60 180 2) := ⟨ok_load _ _ _ _, so_iload_n mT60 dX1_count_179 rfl⟩
theorem gT60_180 : sG l g D H0 mT 60 180 (s_ast g (fun _ v => vI v = true) 60 181 20) := ⟨ok_ast _ _ _ _ _, so_iast mT60 a20 dX1_count_180⟩
theorem gT60_181 : sG l g D H0 mT 60 181 (s_dup 60 182) := ⟨ok_dup _ _, so_dup mT60 dX1_count_181⟩
theorem gT60_182 : sG l g D H0 mT 60 182 (s_const 60 183 (.int 4)) := ⟨ok_const _ _ _, so_iconst mT60 dX1_count_182 (by decide)⟩
theorem gT60_183 : sG l g D H0 mT 60 183 (s_load vRf 60 184 0) := ⟨ok_load _ _ _ _, so_aload_n mT60 dX1_count_183 rfl⟩
theorem gT60_184 : sG l g D H0 mT 60 184 (s_getf 60 187 0 0) := ⟨ok_getf _ _ _ _, so_getf mT60 cl0 (k := 0) (by decide) dX1_count_184 q289 (fs_rf rfl)⟩
theorem gT60_187 : sG l g D H0 mT 60 187 (s_getf 60 190 1 3) := ⟨ok_getf _ _ _ _, so_getfN mT60 cl1 (k := 3) (by decide) dX1_count_187 q135 (fs_rf rfl)⟩
theorem gT60_190 : sG l g D H0 mT 60 190 (s_callk 60 193 62 [1] 1) := ⟨ok_callk _ _ _ _ _, sk_call (by decide) (so_callS mT60 mo62 (by decide) dX1_count_190 q354 q355 q54)⟩
theorem gT60_193 : sG l g D H0 mT 60 193 (s_ast g (fun _ v => vI v = true) 60 194 20) := ⟨ok_ast _ _ _ _ _, so_iast mT60 a20 dX1_count_193⟩
theorem gT60_194 : sG l g D H0 mT 60 194 (s_dup 60 195) := ⟨ok_dup _ _, so_dup mT60 dX1_count_194⟩
theorem gT60_195 : sG l g D H0 mT 60 195 (s_const 60 196 (.int 5)) := ⟨ok_const _ _ _, so_iconst mT60 dX1_count_195 (by decide)⟩
theorem gT60_196 : sG l g D H0 mT 60 196 (s_load vRf 60 197 0) := ⟨ok_load _ _ _ _, so_aload_n mT60 dX1_count_196 rfl⟩
theorem gT60_197 : sG l g D H0 mT 60 197 (s_getf 60 200 0 0) := ⟨ok_getf _ _ _ _, so_getf mT60 cl0 (k := 0) (by decide) dX1_count_197 q289 (fs_rf rfl)⟩
theorem gT60_200 : sG l g D H0 mT 60 200 (s_getf 60 203 1 4) := ⟨ok_getf _ _ _ _, so_getfN mT60 cl1 (k := 4) (by decide) dX1_count_200 q137 (fs_rf rfl)⟩
theorem gT60_203 : sG l g D H0 mT 60 203 (s_callk 60 206 62 [1] 1) := ⟨ok_callk _ _ _ _ _, sk_call (by decide) (so_callS mT60 mo62 (by decide) dX1_count_203 q354 q355 q54)⟩
theorem gT60_206 : sG l g D H0 mT 60 206 (s_ast g (fun _ v => vI v = true) 60 207 20) := ⟨ok_ast _ _ _ _ _, so_iast mT60 a20 dX1_count_206⟩
theorem gT60_207 : sG l g D H0 mT 60 207 (s_dup 60 208) := ⟨ok_dup _ _, so_dup mT60 dX1_count_207⟩
theorem gT60_208 : sG l g D H0 mT 60 208 (s_const 60 210 (.int 6)) := ⟨ok_const _ _ _, so_bipush mT60 dX1_count_208 (by decide)⟩
theorem gT60_210 : sG l g D H0 mT 60 210 (s_load vRf 60 211 0) := ⟨ok_load _ _ _ _, so_aload_n mT60 dX1_count_210 rfl⟩
theorem gT60_211 : sG l g D H0 mT 60 211 (s_getf 60 214 0 0) := ⟨ok_getf _ _ _ _, so_getf mT60 cl0 (k := 0) (by decide) dX1_count_211 q289 (fs_rf rfl)⟩
theorem gT60_214 : sG l g D H0 mT 60 214 (s_getf 60 217 1 5) := ⟨ok_getf _ _ _ _, so_getfN mT60 cl1 (k := 5) (by decide) dX1_count_214 q139 (fs_rf rfl)⟩
theorem gT60_217 : sG l g D H0 mT 60 217 (s_ast g (fun _ v => vI v = true) 60 218 20) := ⟨ok_ast _ _ _ _ _, so_iast mT60 a20 dX1_count_217⟩
theorem gT60_218 : sG l g D H0 mT 60 218 (s_dup 60 219) := ⟨ok_dup _ _, so_dup mT60 dX1_count_218⟩
theorem gT60_219 : sG l g D H0 mT 60 219 (s_const 60 221 (.int 7)) := ⟨ok_const _ _ _, so_bipush mT60 dX1_count_219 (by decide)⟩
theorem gT60_221 : sG l g D H0 mT 60 221 (s_load vRf 60 222 0) := ⟨ok_load _ _ _ _, so_aload_n mT60 dX1_count_221 rfl⟩
theorem gT60_222 : sG l g D H0 mT 60 222 (s_getf 60 225 0 0) := ⟨ok_getf _ _ _ _, so_getf mT60 cl0 (k := 0) (by decide) dX1_count_222 q289 (fs_rf rfl)⟩
theorem gT60_225 : sG l g D H0 mT 60 225 (s_getf 60 228 1 7) := ⟨ok_getf _ _ _ _, so_getfN mT60 cl1 (k := 7) (by decide) dX1_count_225 q142 (fs_rf rfl)⟩
theorem gT60_228 : sG l g D H0 mT 60 228 (s_ast g (fun _ v => vI v = true) 60 229 20) := ⟨ok_ast _ _ _ _ _, so_iast mT60 a20 dX1_count_228⟩
theorem gT60_229 : sG l g D H0 mT 60 229 (s_dup 60 230) := ⟨ok_dup _ _, so_dup mT60 dX1_count_229⟩
theorem gT60_230 : sG l g D H0 mT 60 230 (s_const 60 232 (.int 8)) := ⟨ok_const _ _ _, so_bipush mT60 dX1_count_230 (by decide)⟩
theorem gT60_232 : sG l g D H0 mT 60 232 (s_load vI 60 233 3) := ⟨ok_load _ _ _ _, so_iload_n mT60 dX1_count_232 rfl⟩
theorem gT60_233 : sG l g D H0 mT 60 233 (s_ast g (fun _ v => vI v = true) 60 234 20) := ⟨ok_ast _ _ _ _ _, so_iast mT60 a20 dX1_count_233⟩
theorem gT60_234 : sG l g D H0 mT 60 234 (s_dup 60 235) := ⟨ok_dup _ _, so_dup mT60 dX1_count_234⟩
theorem gT60_235 : sG l g D H0 mT 60 235 (s_const 60 237 (.int 9)) := ⟨ok_const _ _ _, so_bipush mT60 dX1_count_235 (by decide)⟩
theorem gT60_237 : sG l g D H0 mT 60 237 (s_load vRf 60 238 0) := ⟨ok_load _ _ _ _, so_aload_n mT60 dX1_count_237 rfl⟩
theorem gT60_238 : sG l g D H0 mT 60 238 (s_getf 60 241 0 0) := ⟨ok_getf _ _ _ _, so_getf mT60 cl0 (k := 0) (by decide) dX1_count_238 q289 (fs_rf rfl)⟩
theorem gT60_241 : sG l g D H0 mT 60 241 (s_getf 60 244 1 8) := ⟨ok_getf _ _ _ _, so_getfN mT60 cl1 (k := 8) (by decide) dX1_count_241 q144 (fs_rf rfl)⟩
theorem gT60_244 : sG l g D H0 mT 60 244 (s_ast g (fun _ v => vI v = true) 60 245 20) := ⟨ok_ast _ _ _ _ _, so_iast mT60 a20 dX1_count_244⟩
theorem gT60_245 : sG l g D H0 mT 60 245 (s_dup 60 246) := ⟨ok_dup _ _, so_dup mT60 dX1_count_245⟩
theorem gT60_246 : sG l g D H0 mT 60 246 (s_const 60 248 (.int 10)) := ⟨ok_const _ _ _, so_bipush mT60 dX1_count_246 (by decide)⟩
theorem gT60_248 : sG l g D H0 mT 60 248 (s_load vRf 60 249 0) := ⟨ok_load _ _ _ _, so_aload_n mT60 dX1_count_248 rfl⟩
theorem gT60_249 : sG l g D H0 mT 60 249 (s_getf 60 252 0 0) := ⟨ok_getf _ _ _ _, so_getf mT60 cl0 (k := 0) (by decide) dX1_count_249 q289 (fs_rf rfl)⟩
theorem gT60_252 : sG l g D H0 mT 60 252 (s_getf 60 255 1 9) := ⟨ok_getf _ _ _ _, so_getfN mT60 cl1 (k := 9) (by decide) dX1_count_252 q146 (fs_rf rfl)⟩
theorem gT60_255 : sG l g D H0 mT 60 255 (s_ast g (fun _ v => vI v = true) 60 256 20) := ⟨ok_ast _ _ _ _ _, so_iast mT60 a20 dX1_count_255⟩
theorem gT60_256 : sG l g D H0 mT 60 256 (s_store vRf 60 258 4) := ⟨ok_store _ _ _ _, so_astore mT60 dX1_count_256⟩
theorem gT60_258 : sG l g D H0 mT 60 258 (s_load vRf 60 260 4) := ⟨ok_load _ _ _ _, so_aload mT60 dX1_count_258⟩
theorem gT60_260 : sG l g D H0 mT 60 260 (s_load vI 60 261 1) := ⟨ok_load _ _ _ _, so_iload_n mT60 dX1_count_260 rfl⟩
theorem gT60_261 : sG l g D H0 mT 60 261 (s_ald 60 262 20) := ⟨ok_ald _ _ _, so_iald mT60 a20 dX1_count_261⟩
theorem gT60_262 : sG l g D H0 mT 60 262 (s_ret pI) := ⟨ok_ret _, so_iret mT60 dX1_count_262⟩
theorem gT60 (pc : Nat) : sG l g D H0 mT 60 pc (tT60 g pc) := sG_cond (sG_cond (sG_cond (sG_cond (sG_cond (sG_cond (sG_cond (sG_leaf gT60_0) (sG_leaf gT60_1)) (sG_cond (sG_leaf gT60_2) (sG_leaf gT60_3))) (sG_cond (sG_cond (sG_leaf gT60_4) (sG_leaf gT60_5)) (sG_cond (sG_leaf gT60_8) (sG_leaf gT60_11)))) (sG_cond (sG_cond (sG_cond (sG_leaf gT60_14) (sG_leaf gT60_16)) (sG_cond (sG_leaf gT60_18) (sG_leaf gT60_23))) (sG_cond (sG_cond (sG_leaf gT60_26) (sG_leaf gT60_28)) (sG_cond (sG_leaf gT60_33) (sG_leaf gT60_36))))) (sG_cond (sG_cond (sG_cond (sG_cond (sG_leaf gT60_38) (sG_leaf gT60_39)) (sG_cond (sG_leaf gT60_41) (sG_leaf gT60_44))) (sG_cond (sG_cond (sG_leaf gT60_47) (sG_leaf gT60_48)) (sG_cond (sG_leaf gT60_51) (sG_leaf gT60_52)))) (sG_cond (sG_cond (sG_cond (sG_leaf gT60_55) (sG_leaf gT60_56)) (sG_cond (sG_leaf gT60_57) (sG_leaf gT60_60))) (sG_cond (sG_cond (sG_leaf gT60_61) (sG_leaf gT60_64)) (sG_cond (sG_leaf gT60_67) (sG_cond (sG_leaf gT60_70) (sG_leaf gT60_72))))))) (sG_cond (sG_cond (sG_cond (sG_cond (sG_cond (sG_leaf gT60_74) (sG_leaf gT60_79)) (sG_cond (sG_leaf gT60_82) (sG_leaf gT60_84))) (sG_cond (sG_cond (sG_leaf gT60_89) (sG_leaf gT60_92)) (sG_cond (sG_leaf gT60_94) (sG_leaf gT60_96)))) (sG_cond (sG_cond (sG_cond (sG_leaf gT60_99) (sG_leaf gT60_101)) (sG_cond (sG_leaf gT60_103) (sG_leaf gT60_104))) (sG_cond (sG_cond (sG_leaf gT60_106) (sG_leaf gT60_107)) (sG_cond (sG_leaf gT60_109) (sG_cond (sG_leaf gT60_111) (sG_leaf gT60_113)))))) (sG_cond (sG_cond (sG_cond (sG_cond (sG_leaf gT60_116) (sG_leaf gT60_118)) (sG_cond (sG_leaf gT60_120) (sG_leaf gT60_121))) (sG_cond (sG_cond (sG_leaf gT60_123) (sG_leaf gT60_124)) (sG_cond (sG_leaf gT60_126) (sG_leaf gT60_127)))) (sG_cond (sG_cond (sG_cond (sG_leaf gT60_128) (sG_leaf gT60_131)) (sG_cond (sG_leaf gT60_134) (sG_leaf gT60_137))) (sG_cond (sG_cond (sG_leaf gT60_139) (sG_leaf gT60_141)) (sG_cond (sG_leaf gT60_142) (sG_cond (sG_leaf gT60_143) (sG_leaf gT60_144)))))))) (sG_cond (sG_cond (sG_cond (sG_cond (sG_cond (sG_cond (sG_leaf gT60_147) (sG_leaf gT60_150)) (sG_cond (sG_leaf gT60_153) (sG_leaf gT60_154))) (sG_cond (sG_cond (sG_leaf gT60_155) (sG_leaf gT60_156)) (sG_cond (sG_leaf gT60_157) (sG_leaf gT60_160)))) (sG_cond (sG_cond (sG_cond (sG_leaf gT60_163) (sG_leaf gT60_164)) (sG_cond (sG_leaf gT60_165) (sG_leaf gT60_166))) (sG_cond (sG_cond (sG_leaf gT60_167) (sG_leaf gT60_170)) (sG_cond (sG_leaf gT60_173) (sG_leaf gT60_176))))) (sG_cond (sG_cond (sG_cond (sG_cond (sG_leaf gT60_177) (sG_leaf gT60_178)) (sG_cond (sG_leaf gT60_179) (sG_leaf gT60_180))) (sG_cond (sG_cond (sG_leaf gT60_181) (sG_leaf gT60_182)) (sG_cond (sG_leaf gT60_183) (sG_leaf gT60_184)))) (sG_cond (sG_cond (sG_cond (sG_leaf gT60_187) (sG_leaf gT60_190)) (sG_cond (sG_leaf gT60_193) (sG_leaf gT60_194))) (sG_cond (sG_cond (sG_leaf gT60_195) (sG_leaf gT60_196)) (sG_cond (sG_leaf gT60_197) (sG_cond (sG_leaf gT60_200) (sG_leaf gT60_203))))))) (sG_cond (sG_cond (sG_cond (sG_cond (sG_cond (sG_leaf gT60_206) (sG_leaf gT60_207)) (sG_cond (sG_leaf gT60_208) (sG_leaf gT60_210))) (sG_cond (sG_cond (sG_leaf gT60_211) (sG_leaf gT60_214)) (sG_cond (sG_leaf gT60_217) (sG_leaf gT60_218)))) (sG_cond (sG_cond (sG_cond (sG_leaf gT60_219) (sG_leaf gT60_221)) (sG_cond (sG_leaf gT60_222) (sG_leaf gT60_225))) (sG_cond (sG_cond (sG_leaf gT60_228) (sG_leaf gT60_229)) (sG_cond (sG_leaf gT60_230) (sG_cond (sG_leaf gT60_232) (sG_leaf gT60_233)))))) (sG_cond (sG_cond (sG_cond (sG_cond (sG_leaf gT60_234) (sG_leaf gT60_235)) (sG_cond (sG_leaf gT60_237) (sG_leaf gT60_238))) (sG_cond (sG_cond (sG_leaf gT60_241) (sG_leaf gT60_244)) (sG_cond (sG_leaf gT60_245) (sG_leaf gT60_246)))) (sG_cond (sG_cond (sG_cond (sG_leaf gT60_248) (sG_leaf gT60_249)) (sG_cond (sG_leaf gT60_252) (sG_leaf gT60_255))) (sG_cond (sG_cond (sG_leaf gT60_256) (sG_leaf gT60_258)) (sG_cond (sG_leaf gT60_260) (sG_cond (sG_leaf gT60_261) (sG_leaf gT60_262))))))))
theorem gT61_0 : sG l g D H0 mT 61 0 (s_load vI 61 1 0) := ⟨ok_load _ _ _ _, so_iload_n mT61 dX1_one_0 rfl⟩
theorem gT61_1 : sG l g D H0 mT 61 1 (s_if 61 4 8 (fun a => a = 0)) := ⟨ok_if _ _ _ _, so_if_eq mT61 dX1_one_1 (by decide)⟩
theorem gT61_4 : sG l g D H0 mT 61 4 (s_const 61 5 (.int 1)) := ⟨ok_const _ _ _, so_iconst mT61 dX1_one_4 (by decide)⟩
theorem gT61_5 : sG l g D H0 mT 61 5 (s_goto 61 9) := ⟨ok_goto _ _, so_goto mT61 dX1_one_5 (by decide)⟩
theorem gT61_8 : sG l g D H0 mT 61 8 (s_const 61 9 (.int 0)) := ⟨ok_const _ _ _, so_iconst mT61 dX1_one_8 (by decide)⟩
theorem gT61_9 : sG l g D H0 mT 61 9 (s_ret pI) := ⟨ok_ret _, so_iret mT61 dX1_one_9⟩
theorem gT61 (pc : Nat) : sG l g D H0 mT 61 pc (tT61 g pc) := sG_cond (sG_cond (sG_leaf gT61_0) (sG_cond (sG_leaf gT61_1) (sG_leaf gT61_4))) (sG_cond (sG_leaf gT61_5) (sG_cond (sG_leaf gT61_8) (sG_leaf gT61_9)))
theorem gT62_0 : sG l g D H0 mT 62 0 (s_load vRf 62 1 0) := ⟨ok_load _ _ _ _, so_aload_n mT62 dX1_numberOf_0 rfl⟩
theorem gT62_1 : sG l g D H0 mT 62 1 (s_ifnn 62 4 8) := ⟨ok_ifnn _ _ _, so_ifnonnull mT62 dX1_numberOf_1 (by decide)⟩
theorem gT62_4 : sG l g D H0 mT 62 4 (s_const 62 5 (.int (-1))) := ⟨ok_const _ _ _, so_iconst mT62 dX1_numberOf_4 (by decide)⟩
theorem gT62_5 : sG l g D H0 mT 62 5 (s_goto 62 12) := ⟨ok_goto _ _, so_goto mT62 dX1_numberOf_5 (by decide)⟩
theorem gT62_8 : sG l g D H0 mT 62 8 (s_load vRf 62 9 0) := ⟨ok_load _ _ _ _, so_aload_n mT62 dX1_numberOf_8 rfl⟩
theorem gT62_9 : sG l g D H0 mT 62 9 (s_getf 62 12 5 0) := ⟨ok_getf _ _ _ _, so_getfN mT62 cl5 (k := 0) (by decide) dX1_numberOf_9 q554 (fs_rf rfl)⟩
theorem gT62_12 : sG l g D H0 mT 62 12 (s_ret pI) := ⟨ok_ret _, so_iret mT62 dX1_numberOf_12⟩
theorem gT62 (pc : Nat) : sG l g D H0 mT 62 pc (tT62 g pc) := sG_cond (sG_cond (sG_leaf gT62_0) (sG_cond (sG_leaf gT62_1) (sG_leaf gT62_4))) (sG_cond (sG_cond (sG_leaf gT62_5) (sG_leaf gT62_8)) (sG_cond (sG_leaf gT62_9) (sG_leaf gT62_12)))
theorem gT63_0 : sG l g D H0 mT 63 0 (s_load vL 63 1 0) := ⟨ok_load _ _ _ _, so_lload_n mT63 dX1_add_0 rfl⟩
theorem gT63_1 : sG l g D H0 mT 63 1 (s_const 63 4 (.long 31)) := ⟨ok_const _ _ _, so_ldc2 mT63 dX1_add_1 q360⟩
theorem gT63_4 : sG l g D H0 mT 63 4 (s_lbin 63 5 (fun a b => .long (a * b))) := ⟨ok_lbin _ _ _, so_lmul mT63 dX1_add_4⟩
theorem gT63_5 : sG l g D H0 mT 63 5 (s_load vL 63 6 2) := ⟨ok_load _ _ _ _, so_lload_n mT63 dX1_add_5 rfl⟩
theorem gT63_6 : sG l g D H0 mT 63 6 (s_lbin 63 7 (fun a b => .long (a + b))) := ⟨ok_lbin _ _ _, so_ladd mT63 dX1_add_6⟩
theorem gT63_7 : sG l g D H0 mT 63 7 (s_ret pJ) := ⟨ok_ret _, so_lret mT63 dX1_add_7⟩
theorem gT63 (pc : Nat) : sG l g D H0 mT 63 pc (tT63 g pc) := sG_cond (sG_cond (sG_leaf gT63_0) (sG_cond (sG_leaf gT63_1) (sG_leaf gT63_4))) (sG_cond (sG_leaf gT63_5) (sG_cond (sG_leaf gT63_6) (sG_leaf gT63_7)))
theorem gT64_0 : sG l g D H0 mT 64 0 (s_load vL 64 1 1) := ⟨ok_load _ _ _ _, so_lload_n mT64 dX1_addGuest_0 rfl⟩
theorem gT64_1 : sG l g D H0 mT 64 1 (s_store2 vL 64 3 4) := ⟨ok_store2 _ _ _ _, so_lstore mT64 dX1_addGuest_1⟩
theorem gT64_3 : sG l g D H0 mT 64 3 (s_const 64 4 (.int 0)) := ⟨ok_const _ _ _, so_iconst mT64 dX1_addGuest_3 (by decide)⟩
theorem gT64_4 : sG l g D H0 mT 64 4 (s_store vI 64 6 6) := ⟨ok_store _ _ _ _, so_istore mT64 dX1_addGuest_4⟩
theorem gT64_6 : sG l g D H0 mT 64 6 (s_load vI 64 8 6) := ⟨ok_load _ _ _ _, so_iload mT64 dX1_addGuest_6⟩
theorem gT64_8 : sG l g D H0 mT 64 8 (s_const 64 10 (.int 16)) := ⟨ok_const _ _ _, so_bipush mT64 dX1_addGuest_8 (by decide)⟩
theorem gT64_10 : sG l g D H0 mT 64 10 (s_icmp 64 13 34 (fun a b => b ≤ a)) := ⟨ok_icmp _ _ _ _, so_icmp_ge mT64 dX1_addGuest_10 (by decide)⟩
theorem gT64_13 : sG l g D H0 mT 64 13 (s_load vL 64 15 4) := ⟨ok_load _ _ _ _, so_lload mT64 dX1_addGuest_13⟩
theorem gT64_15 : sG l g D H0 mT 64 15 (s_load vRf 64 16 0) := ⟨ok_load _ _ _ _, so_aload_n mT64 dX1_addGuest_15 rfl⟩
theorem gT64_16 : sG l g D H0 mT 64 16 (s_load vRf 64 17 3) := ⟨ok_load _ _ _ _, so_aload_n mT64 dX1_addGuest_16 rfl⟩
theorem gT64_17 : sG l g D H0 mT 64 17 (s_load vI 64 19 6) := ⟨ok_load _ _ _ _, so_iload mT64 dX1_addGuest_17⟩
theorem gT64_19 : sG l g D H0 mT 64 19 (s_callvk 64 22 65 0 [1, 0] 4) := ⟨ok_callvk _ _ _ _ _ _, sk_callv (by decide) (so_callV mT64 mo65 (by decide) (t := 0) (C := "HyperVane") (by decide) rfl rfl dX1_addGuest_19 q365 q367 qs7 q54)⟩
theorem gT64_22 : sG l g D H0 mT 64 22 (s_i2 64 23 (fun a => .long a.toInt64)) := ⟨ok_i2 _ _ _, so_i2l mT64 dX1_addGuest_22⟩
theorem gT64_23 : sG l g D H0 mT 64 23 (s_callk 64 26 63 [2, 2] 4) := ⟨ok_callk _ _ _ _ _, sk_call (by decide) (so_callS mT64 mo63 (by decide) dX1_addGuest_23 q357 q358 q54)⟩
theorem gT64_26 : sG l g D H0 mT 64 26 (s_store2 vL 64 28 4) := ⟨ok_store2 _ _ _ _, so_lstore mT64 dX1_addGuest_26⟩
theorem gT64_28 : sG l g D H0 mT 64 28 (s_iinc 64 31 6 1) := ⟨ok_iinc _ _ _ _, so_iinc mT64 dX1_addGuest_28 (by decide)⟩
theorem gT64_31 : sG l g D H0 mT 64 31 (s_goto 64 6) := ⟨ok_goto _ _, so_goto mT64 dX1_addGuest_31 (by decide)⟩
theorem gT64_34 : sG l g D H0 mT 64 34 (s_load vRf 64 35 3) := ⟨ok_load _ _ _ _, so_aload_n mT64 dX1_addGuest_34 rfl⟩
theorem gT64_35 : sG l g D H0 mT 64 35 (s_getf 64 38 5 13) := ⟨ok_getf _ _ _ _, so_getfN mT64 cl5 (k := 13) (by decide) dX1_addGuest_35 q592 (fs_rf rfl)⟩
theorem gT64_38 : sG l g D H0 mT 64 38 (s_store vRf 64 40 6) := ⟨ok_store _ _ _ _, so_astore mT64 dX1_addGuest_38⟩
theorem gT64_40 : sG l g D H0 mT 64 40 (s_load vRf 64 42 6) := ⟨ok_load _ _ _ _, so_aload mT64 dX1_addGuest_40⟩
theorem gT64_42 : sG l g D H0 mT 64 42 (s_alen 64 43 20) := ⟨ok_alen _ _ _, so_alen mT64 a20 dX1_addGuest_42⟩
theorem gT64_43 : sG l g D H0 mT 64 43 (s_store vI 64 45 7) := ⟨ok_store _ _ _ _, so_istore mT64 dX1_addGuest_43⟩
theorem gT64_45 : sG l g D H0 mT 64 45 (s_const 64 46 (.int 0)) := ⟨ok_const _ _ _, so_iconst mT64 dX1_addGuest_45 (by decide)⟩
theorem gT64_46 : sG l g D H0 mT 64 46 (s_store vI 64 48 8) := ⟨ok_store _ _ _ _, so_istore mT64 dX1_addGuest_46⟩
theorem gT64_48 : sG l g D H0 mT 64 48 (s_load vI 64 50 8) := ⟨ok_load _ _ _ _, so_iload mT64 dX1_addGuest_48⟩
theorem gT64_50 : sG l g D H0 mT 64 50 (s_load vI 64 52 7) := ⟨ok_load _ _ _ _, so_iload mT64 dX1_addGuest_50⟩
theorem gT64_52 : sG l g D H0 mT 64 52 (s_icmp 64 55 78 (fun a b => b ≤ a)) := ⟨ok_icmp _ _ _ _, so_icmp_ge mT64 dX1_addGuest_52 (by decide)⟩
theorem gT64_55 : sG l g D H0 mT 64 55 (s_load vRf 64 57 6) := ⟨ok_load _ _ _ _, so_aload mT64 dX1_addGuest_55⟩
theorem gT64_57 : sG l g D H0 mT 64 57 (s_load vI 64 59 8) := ⟨ok_load _ _ _ _, so_iload mT64 dX1_addGuest_57⟩
theorem gT64_59 : sG l g D H0 mT 64 59 (s_ald 64 60 20) := ⟨ok_ald _ _ _, so_iald mT64 a20 dX1_addGuest_59⟩
theorem gT64_60 : sG l g D H0 mT 64 60 (s_store vI 64 62 9) := ⟨ok_store _ _ _ _, so_istore mT64 dX1_addGuest_60⟩
theorem gT64_62 : sG l g D H0 mT 64 62 (s_load vL 64 64 4) := ⟨ok_load _ _ _ _, so_lload mT64 dX1_addGuest_62⟩
theorem gT64_64 : sG l g D H0 mT 64 64 (s_load vI 64 66 9) := ⟨ok_load _ _ _ _, so_iload mT64 dX1_addGuest_64⟩
theorem gT64_66 : sG l g D H0 mT 64 66 (s_i2 64 67 (fun a => .long a.toInt64)) := ⟨ok_i2 _ _ _, so_i2l mT64 dX1_addGuest_66⟩
theorem gT64_67 : sG l g D H0 mT 64 67 (s_callk 64 70 63 [2, 2] 4) := ⟨ok_callk _ _ _ _ _, sk_call (by decide) (so_callS mT64 mo63 (by decide) dX1_addGuest_67 q357 q358 q54)⟩
theorem gT64_70 : sG l g D H0 mT 64 70 (s_store2 vL 64 72 4) := ⟨ok_store2 _ _ _ _, so_lstore mT64 dX1_addGuest_70⟩
theorem gT64_72 : sG l g D H0 mT 64 72 (s_iinc 64 75 8 1) := ⟨ok_iinc _ _ _ _, so_iinc mT64 dX1_addGuest_72 (by decide)⟩
theorem gT64_75 : sG l g D H0 mT 64 75 (s_goto 64 48) := ⟨ok_goto _ _, so_goto mT64 dX1_addGuest_75 (by decide)⟩
theorem gT64_78 : sG l g D H0 mT 64 78 (s_const 64 79 (.int 0)) := ⟨ok_const _ _ _, so_iconst mT64 dX1_addGuest_78 (by decide)⟩
theorem gT64_79 : sG l g D H0 mT 64 79 (s_store vI 64 81 6) := ⟨ok_store _ _ _ _, so_istore mT64 dX1_addGuest_79⟩
theorem gT64_81 : sG l g D H0 mT 64 81 (s_load vI 64 83 6) := ⟨ok_load _ _ _ _, so_iload mT64 dX1_addGuest_81⟩
theorem gT64_83 : sG l g D H0 mT 64 83 (s_const 64 85 (.int 6)) := ⟨ok_const _ _ _, so_bipush mT64 dX1_addGuest_83 (by decide)⟩
theorem gT64_85 : sG l g D H0 mT 64 85 (s_icmp 64 88 126 (fun a b => b ≤ a)) := ⟨ok_icmp _ _ _ _, so_icmp_ge mT64 dX1_addGuest_85 (by decide)⟩
theorem gT64_88 : sG l g D H0 mT 64 88 (s_const 64 89 (.int 0)) := ⟨ok_const _ _ _, so_iconst mT64 dX1_addGuest_88 (by decide)⟩
theorem gT64_89 : sG l g D H0 mT 64 89 (s_store vI 64 91 7) := ⟨ok_store _ _ _ _, so_istore mT64 dX1_addGuest_89⟩
theorem gT64_91 : sG l g D H0 mT 64 91 (s_load vI 64 93 7) := ⟨ok_load _ _ _ _, so_iload mT64 dX1_addGuest_91⟩
theorem gT64_93 : sG l g D H0 mT 64 93 (s_const 64 94 (.int 4)) := ⟨ok_const _ _ _, so_iconst mT64 dX1_addGuest_93 (by decide)⟩
theorem gT64_94 : sG l g D H0 mT 64 94 (s_icmp 64 97 120 (fun a b => b ≤ a)) := ⟨ok_icmp _ _ _ _, so_icmp_ge mT64 dX1_addGuest_94 (by decide)⟩
theorem gT64_97 : sG l g D H0 mT 64 97 (s_load vL 64 99 4) := ⟨ok_load _ _ _ _, so_lload mT64 dX1_addGuest_97⟩
theorem gT64_99 : sG l g D H0 mT 64 99 (s_load vRf 64 100 0) := ⟨ok_load _ _ _ _, so_aload_n mT64 dX1_addGuest_99 rfl⟩
theorem gT64_100 : sG l g D H0 mT 64 100 (s_load vRf 64 101 3) := ⟨ok_load _ _ _ _, so_aload_n mT64 dX1_addGuest_100 rfl⟩
theorem gT64_101 : sG l g D H0 mT 64 101 (s_load vI 64 103 6) := ⟨ok_load _ _ _ _, so_iload mT64 dX1_addGuest_101⟩
theorem gT64_103 : sG l g D H0 mT 64 103 (s_load vI 64 105 7) := ⟨ok_load _ _ _ _, so_iload mT64 dX1_addGuest_103⟩
theorem gT64_105 : sG l g D H0 mT 64 105 (s_callvk 64 108 68 0 [1, 0, 0] 4) := ⟨ok_callvk _ _ _ _ _ _, sk_callv (by decide) (so_callV mT64 mo68 (by decide) (t := 0) (C := "HyperVane") (by decide) rfl rfl dX1_addGuest_105 q395 q397 qs10 q54)⟩
theorem gT64_108 : sG l g D H0 mT 64 108 (s_i2 64 109 (fun a => .long a.toInt64)) := ⟨ok_i2 _ _ _, so_i2l mT64 dX1_addGuest_108⟩
theorem gT64_109 : sG l g D H0 mT 64 109 (s_callk 64 112 63 [2, 2] 4) := ⟨ok_callk _ _ _ _ _, sk_call (by decide) (so_callS mT64 mo63 (by decide) dX1_addGuest_109 q357 q358 q54)⟩
theorem gT64_112 : sG l g D H0 mT 64 112 (s_store2 vL 64 114 4) := ⟨ok_store2 _ _ _ _, so_lstore mT64 dX1_addGuest_112⟩
theorem gT64_114 : sG l g D H0 mT 64 114 (s_iinc 64 117 7 1) := ⟨ok_iinc _ _ _ _, so_iinc mT64 dX1_addGuest_114 (by decide)⟩
theorem gT64_117 : sG l g D H0 mT 64 117 (s_goto 64 91) := ⟨ok_goto _ _, so_goto mT64 dX1_addGuest_117 (by decide)⟩
theorem gT64_120 : sG l g D H0 mT 64 120 (s_iinc 64 123 6 1) := ⟨ok_iinc _ _ _ _, so_iinc mT64 dX1_addGuest_120 (by decide)⟩
theorem gT64_123 : sG l g D H0 mT 64 123 (s_goto 64 81) := ⟨ok_goto _ _, so_goto mT64 dX1_addGuest_123 (by decide)⟩
theorem gT64_126 : sG l g D H0 mT 64 126 (s_const 64 127 (.int 0)) := ⟨ok_const _ _ _, so_iconst mT64 dX1_addGuest_126 (by decide)⟩
theorem gT64_127 : sG l g D H0 mT 64 127 (s_store vI 64 129 6) := ⟨ok_store _ _ _ _, so_istore mT64 dX1_addGuest_127⟩
theorem gT64_129 : sG l g D H0 mT 64 129 (s_load vRf 64 130 3) := ⟨ok_load _ _ _ _, so_aload_n mT64 dX1_addGuest_129 rfl⟩
theorem gT64_130 : sG l g D H0 mT 64 130 (s_load vI 64 132 6) := ⟨ok_load _ _ _ _, so_iload mT64 dX1_addGuest_130⟩
theorem gT64_132 : sG l g D H0 mT 64 132 (s_callk 64 135 69 [1, 0] 2) := ⟨ok_callk _ _ _ _ _, sk_call (by decide) (so_callS mT64 mo69 (by decide) dX1_addGuest_132 q435 q436 q54)⟩
theorem gT64_135 : sG l g D H0 mT 64 135 (s_const 64 136 (.int (-1))) := ⟨ok_const _ _ _, so_iconst mT64 dX1_addGuest_135 (by decide)⟩
theorem gT64_136 : sG l g D H0 mT 64 136 (s_icmp 64 139 159 (fun a b => a = b)) := ⟨ok_icmp _ _ _ _, so_icmp_eq mT64 dX1_addGuest_136 (by decide)⟩
theorem gT64_139 : sG l g D H0 mT 64 139 (s_load vL 64 141 4) := ⟨ok_load _ _ _ _, so_lload mT64 dX1_addGuest_139⟩
theorem gT64_141 : sG l g D H0 mT 64 141 (s_load vRf 64 142 3) := ⟨ok_load _ _ _ _, so_aload_n mT64 dX1_addGuest_141 rfl⟩
theorem gT64_142 : sG l g D H0 mT 64 142 (s_load vI 64 144 6) := ⟨ok_load _ _ _ _, so_iload mT64 dX1_addGuest_142⟩
theorem gT64_144 : sG l g D H0 mT 64 144 (s_callk 64 147 69 [1, 0] 2) := ⟨ok_callk _ _ _ _ _, sk_call (by decide) (so_callS mT64 mo69 (by decide) dX1_addGuest_144 q435 q436 q54)⟩
theorem gT64_147 : sG l g D H0 mT 64 147 (s_i2 64 148 (fun a => .long a.toInt64)) := ⟨ok_i2 _ _ _, so_i2l mT64 dX1_addGuest_147⟩
theorem gT64_148 : sG l g D H0 mT 64 148 (s_callk 64 151 63 [2, 2] 4) := ⟨ok_callk _ _ _ _ _, sk_call (by decide) (so_callS mT64 mo63 (by decide) dX1_addGuest_148 q357 q358 q54)⟩
theorem gT64_151 : sG l g D H0 mT 64 151 (s_store2 vL 64 153 4) := ⟨ok_store2 _ _ _ _, so_lstore mT64 dX1_addGuest_151⟩
theorem gT64_153 : sG l g D H0 mT 64 153 (s_iinc 64 156 6 1) := ⟨ok_iinc _ _ _ _, so_iinc mT64 dX1_addGuest_153 (by decide)⟩
theorem gT64_156 : sG l g D H0 mT 64 156 (s_goto 64 129) := ⟨ok_goto _ _, so_goto mT64 dX1_addGuest_156 (by decide)⟩
theorem gT64_159 : sG l g D H0 mT 64 159 (s_const 64 160 (.int 3)) := ⟨ok_const _ _ _, so_iconst mT64 dX1_addGuest_159 (by decide)⟩
theorem gT64_160 : sG l g D H0 mT 64 160 (s_newa g 64 162 20 (.int 0)) := ⟨ok_newa _ _ _ _ _, so_newa mT64 (t := 20) (by decide) rfl rfl (by decide) dX1_addGuest_160 q486⟩
theorem gT64_162 : sG l g D H0 mT 64 162 (s_dup 64 163) := ⟨ok_dup _ _, so_dup mT64 dX1_addGuest_162⟩
theorem gT64_163 : sG l g D H0 mT 64 163 (s_const 64 164 (.int 0)) := ⟨ok_const _ _ _, so_iconst mT64 dX1_addGuest_163 (by decide)⟩
theorem gT64_164 : sG l g D H0 mT 64 164 (s_const 64 165 (.int 0)) := ⟨ok_const _ _ _, so_iconst mT64 dX1_addGuest_164 (by decide)⟩
theorem gT64_165 : sG l g D H0 mT 64 165 (s_ast g (fun _ v => vI v = true) 64 166 20) := ⟨ok_ast _ _ _ _ _, so_iast mT64 a20 dX1_addGuest_165⟩
theorem gT64_166 : sG l g D H0 mT 64 166 (s_dup 64 167) := ⟨ok_dup _ _, so_dup mT64 dX1_addGuest_166⟩
theorem gT64_167 : sG l g D H0 mT 64 167 (s_const 64 168 (.int 1)) := ⟨ok_const _ _ _, so_iconst mT64 dX1_addGuest_167 (by decide)⟩
theorem gT64_168 : sG l g D H0 mT 64 168 (s_const 64 169 (.int 5)) := ⟨ok_const _ _ _, so_iconst mT64 dX1_addGuest_168 (by decide)⟩
theorem gT64_169 : sG l g D H0 mT 64 169 (s_ast g (fun _ v => vI v = true) 64 170 20) := ⟨ok_ast _ _ _ _ _, so_iast mT64 a20 dX1_addGuest_169⟩
theorem gT64_170 : sG l g D H0 mT 64 170 (s_dup 64 171) := ⟨ok_dup _ _, so_dup mT64 dX1_addGuest_170⟩
theorem gT64_171 : sG l g D H0 mT 64 171 (s_const 64 172 (.int 2)) := ⟨ok_const _ _ _, so_iconst mT64 dX1_addGuest_171 (by decide)⟩
theorem gT64_172 : sG l g D H0 mT 64 172 (s_const 64 174 (.int 12)) := ⟨ok_const _ _ _, so_bipush mT64 dX1_addGuest_172 (by decide)⟩
theorem gT64_174 : sG l g D H0 mT 64 174 (s_ast g (fun _ v => vI v = true) 64 175 20) := ⟨ok_ast _ _ _ _ _, so_iast mT64 a20 dX1_addGuest_174⟩
theorem gT64_175 : sG l g D H0 mT 64 175 (s_store vRf 64 177 6) := ⟨ok_store _ _ _ _, so_astore mT64 dX1_addGuest_175⟩
theorem gT64_177 : sG l g D H0 mT 64 177 (s_load vRf 64 179 6) := ⟨ok_load _ _ _ _, so_aload mT64 dX1_addGuest_177⟩
theorem gT64_179 : sG l g D H0 mT 64 179 (s_store vRf 64 181 7) := ⟨ok_store _ _ _ _, so_astore mT64 dX1_addGuest_179⟩
theorem gT64_181 : sG l g D H0 mT 64 181 (s_load vRf 64 183 7) := ⟨ok_load _ _ _ _, so_aload mT64 dX1_addGuest_181⟩
theorem gT64_183 : sG l g D H0 mT 64 183 (s_alen 64 184 20) := ⟨ok_alen _ _ _, so_alen mT64 a20 dX1_addGuest_183⟩
theorem gT64_184 : sG l g D H0 mT 64 184 (s_store vI 64 186 8) := ⟨ok_store _ _ _ _, so_istore mT64 dX1_addGuest_184⟩
theorem gT64_186 : sG l g D H0 mT 64 186 (s_const 64 187 (.int 0)) := ⟨ok_const _ _ _, so_iconst mT64 dX1_addGuest_186 (by decide)⟩
theorem gT64_187 : sG l g D H0 mT 64 187 (s_store vI 64 189 9) := ⟨ok_store _ _ _ _, so_istore mT64 dX1_addGuest_187⟩
theorem gT64_189 : sG l g D H0 mT 64 189 (s_load vI 64 191 9) := ⟨ok_load _ _ _ _, so_iload mT64 dX1_addGuest_189⟩
theorem gT64_191 : sG l g D H0 mT 64 191 (s_load vI 64 193 8) := ⟨ok_load _ _ _ _, so_iload mT64 dX1_addGuest_191⟩
theorem gT64_193 : sG l g D H0 mT 64 193 (s_icmp 64 196 246 (fun a b => b ≤ a)) := ⟨ok_icmp _ _ _ _, so_icmp_ge mT64 dX1_addGuest_193 (by decide)⟩
theorem gT64_196 : sG l g D H0 mT 64 196 (s_load vRf 64 198 7) := ⟨ok_load _ _ _ _, so_aload mT64 dX1_addGuest_196⟩
theorem gT64_198 : sG l g D H0 mT 64 198 (s_load vI 64 200 9) := ⟨ok_load _ _ _ _, so_iload mT64 dX1_addGuest_198⟩
theorem gT64_200 : sG l g D H0 mT 64 200 (s_ald 64 201 20) := ⟨ok_ald _ _ _, so_iald mT64 a20 dX1_addGuest_200⟩
theorem gT64_201 : sG l g D H0 mT 64 201 (s_store vI 64 203 10) := ⟨ok_store _ _ _ _, so_istore mT64 dX1_addGuest_201⟩
theorem gT64_203 : sG l g D H0 mT 64 203 (s_load vL 64 205 4) := ⟨ok_load _ _ _ _, so_lload mT64 dX1_addGuest_203⟩
theorem gT64_205 : sG l g D H0 mT 64 205 (s_load vRf 64 206 3) := ⟨ok_load _ _ _ _, so_aload_n mT64 dX1_addGuest_205 rfl⟩
theorem gT64_206 : sG l g D H0 mT 64 206 (s_load vI 64 208 10) := ⟨ok_load _ _ _ _, so_iload mT64 dX1_addGuest_206⟩
theorem gT64_208 : sG l g D H0 mT 64 208 (s_const 64 209 (.int 0)) := ⟨ok_const _ _ _, so_iconst mT64 dX1_addGuest_208 (by decide)⟩
theorem gT64_209 : sG l g D H0 mT 64 209 (s_callk 64 212 70 [1, 0, 0] 4) := ⟨ok_callk _ _ _ _ _, sk_call (by decide) (so_callS mT64 mo70 (by decide) dX1_addGuest_209 q448 q449 q54)⟩
theorem gT64_212 : sG l g D H0 mT 64 212 (s_i2 64 213 (fun a => .long a.toInt64)) := ⟨ok_i2 _ _ _, so_i2l mT64 dX1_addGuest_212⟩
theorem gT64_213 : sG l g D H0 mT 64 213 (s_callk 64 216 63 [2, 2] 4) := ⟨ok_callk _ _ _ _ _, sk_call (by decide) (so_callS mT64 mo63 (by decide) dX1_addGuest_213 q357 q358 q54)⟩
theorem gT64_216 : sG l g D H0 mT 64 216 (s_load vRf 64 217 3) := ⟨ok_load _ _ _ _, so_aload_n mT64 dX1_addGuest_216 rfl⟩
theorem gT64_217 : sG l g D H0 mT 64 217 (s_load vI 64 219 10) := ⟨ok_load _ _ _ _, so_iload mT64 dX1_addGuest_217⟩
theorem gT64_219 : sG l g D H0 mT 64 219 (s_const 64 220 (.int 1)) := ⟨ok_const _ _ _, so_iconst mT64 dX1_addGuest_219 (by decide)⟩
theorem gT64_220 : sG l g D H0 mT 64 220 (s_callk 64 223 70 [1, 0, 0] 4) := ⟨ok_callk _ _ _ _ _, sk_call (by decide) (so_callS mT64 mo70 (by decide) dX1_addGuest_220 q448 q449 q54)⟩
theorem gT64_223 : sG l g D H0 mT 64 223 (s_i2 64 224 (fun a => .long a.toInt64)) := ⟨ok_i2 _ _ _, so_i2l mT64 dX1_addGuest_223⟩
theorem gT64_224 : sG l g D H0 mT 64 224 (s_callk 64 227 63 [2, 2] 4) := ⟨ok_callk _ _ _ _ _, sk_call (by decide) (so_callS mT64 mo63 (by decide) dX1_addGuest_224 q357 q358 q54)⟩
theorem gT64_227 : sG l g D H0 mT 64 227 (s_load vRf 64 228 3) := ⟨ok_load _ _ _ _, so_aload_n mT64 dX1_addGuest_227 rfl⟩
theorem gT64_228 : sG l g D H0 mT 64 228 (s_load vI 64 230 10) := ⟨ok_load _ _ _ _, so_iload mT64 dX1_addGuest_228⟩
theorem gT64_230 : sG l g D H0 mT 64 230 (s_const 64 231 (.int (-1))) := ⟨ok_const _ _ _, so_iconst mT64 dX1_addGuest_230 (by decide)⟩
theorem gT64_231 : sG l g D H0 mT 64 231 (s_callk 64 234 70 [1, 0, 0] 4) := ⟨ok_callk _ _ _ _ _, sk_call (by decide) (so_callS mT64 mo70 (by decide) dX1_addGuest_231 q448 q449 q54)⟩
theorem gT64_234 : sG l g D H0 mT 64 234 (s_i2 64 235 (fun a => .long a.toInt64)) := ⟨ok_i2 _ _ _, so_i2l mT64 dX1_addGuest_234⟩
theorem gT64_235 : sG l g D H0 mT 64 235 (s_callk 64 238 63 [2, 2] 4) := ⟨ok_callk _ _ _ _ _, sk_call (by decide) (so_callS mT64 mo63 (by decide) dX1_addGuest_235 q357 q358 q54)⟩
theorem gT64_238 : sG l g D H0 mT 64 238 (s_store2 vL 64 240 4) := ⟨ok_store2 _ _ _ _, so_lstore mT64 dX1_addGuest_238⟩
theorem gT64_240 : sG l g D H0 mT 64 240 (s_iinc 64 243 9 1) := ⟨ok_iinc _ _ _ _, so_iinc mT64 dX1_addGuest_240 (by decide)⟩
theorem gT64_243 : sG l g D H0 mT 64 243 (s_goto 64 189) := ⟨ok_goto _ _, so_goto mT64 dX1_addGuest_243 (by decide)⟩
theorem gT64_246 : sG l g D H0 mT 64 246 (s_load vL 64 248 4) := ⟨ok_load _ _ _ _, so_lload mT64 dX1_addGuest_246⟩
theorem gT64_248 : sG l g D H0 mT 64 248 (s_load vRf 64 249 0) := ⟨ok_load _ _ _ _, so_aload_n mT64 dX1_addGuest_248 rfl⟩
theorem gT64_249 : sG l g D H0 mT 64 249 (s_load vRf 64 250 3) := ⟨ok_load _ _ _ _, so_aload_n mT64 dX1_addGuest_249 rfl⟩
theorem gT64_250 : sG l g D H0 mT 64 250 (s_getf 64 253 5 0) := ⟨ok_getf _ _ _ _, so_getfN mT64 cl5 (k := 0) (by decide) dX1_addGuest_250 q554 (fs_rf rfl)⟩
theorem gT64_253 : sG l g D H0 mT 64 253 (s_const 64 255 (.int 10)) := ⟨ok_const _ _ _, so_bipush mT64 dX1_addGuest_253 (by decide)⟩
theorem gT64_255 : sG l g D H0 mT 64 255 (s_callvk 64 258 71 0 [0, 0] 4) := ⟨ok_callvk _ _ _ _ _ _, sk_callv (by decide) (so_callV mT64 mo71 (by decide) (t := 0) (C := "HyperVane") (by decide) rfl rfl dX1_addGuest_255 q529 q531 qs12 q54)⟩
theorem gT64_258 : sG l g D H0 mT 64 258 (s_i2 64 259 (fun a => .long a.toInt64)) := ⟨ok_i2 _ _ _, so_i2l mT64 dX1_addGuest_258⟩
theorem gT64_259 : sG l g D H0 mT 64 259 (s_callk 64 262 63 [2, 2] 4) := ⟨ok_callk _ _ _ _ _, sk_call (by decide) (so_callS mT64 mo63 (by decide) dX1_addGuest_259 q357 q358 q54)⟩
theorem gT64_262 : sG l g D H0 mT 64 262 (s_store2 vL 64 264 4) := ⟨ok_store2 _ _ _ _, so_lstore mT64 dX1_addGuest_262⟩
theorem gT64_264 : sG l g D H0 mT 64 264 (s_load vRf 64 265 3) := ⟨ok_load _ _ _ _, so_aload_n mT64 dX1_addGuest_264 rfl⟩
theorem gT64_265 : sG l g D H0 mT 64 265 (s_callk 64 268 72 [1] 1) := ⟨ok_callk _ _ _ _ _, sk_call (by decide) (so_callS mT64 mo72 (by decide) dX1_addGuest_265 q815 q816 q54)⟩
theorem gT64_268 : sG l g D H0 mT 64 268 (s_if 64 271 289 (fun a => a = 0)) := ⟨ok_if _ _ _ _, so_if_eq mT64 dX1_addGuest_268 (by decide)⟩
theorem gT64_271 : sG l g D H0 mT 64 271 (s_load vL 64 273 4) := ⟨ok_load _ _ _ _, so_lload mT64 dX1_addGuest_271⟩
theorem gT64_273 : sG l g D H0 mT 64 273 (s_load vRf 64 274 0) := ⟨ok_load _ _ _ _, so_aload_n mT64 dX1_addGuest_273 rfl⟩
theorem gT64_274 : sG l g D H0 mT 64 274 (s_load vRf 64 275 3) := ⟨ok_load _ _ _ _, so_aload_n mT64 dX1_addGuest_274 rfl⟩
theorem gT64_275 : sG l g D H0 mT 64 275 (s_getf 64 278 5 0) := ⟨ok_getf _ _ _ _, so_getfN mT64 cl5 (k := 0) (by decide) dX1_addGuest_275 q554 (fs_rf rfl)⟩
theorem gT64_278 : sG l g D H0 mT 64 278 (s_const 64 279 (.int 2)) := ⟨ok_const _ _ _, so_iconst mT64 dX1_addGuest_278 (by decide)⟩
theorem gT64_279 : sG l g D H0 mT 64 279 (s_callvk 64 282 73 0 [0, 0] 6) := ⟨ok_callvk _ _ _ _ _ _, sk_callv (by decide) (so_callV mT64 mo73 (by decide) (t := 0) (C := "HyperVane") (by decide) rfl rfl dX1_addGuest_279 q819 q821 qs28 q54)⟩
theorem gT64_282 : sG l g D H0 mT 64 282 (s_i2 64 283 (fun a => .long a.toInt64)) := ⟨ok_i2 _ _ _, so_i2l mT64 dX1_addGuest_282⟩
theorem gT64_283 : sG l g D H0 mT 64 283 (s_callk 64 286 63 [2, 2] 4) := ⟨ok_callk _ _ _ _ _, sk_call (by decide) (so_callS mT64 mo63 (by decide) dX1_addGuest_283 q357 q358 q54)⟩
theorem gT64_286 : sG l g D H0 mT 64 286 (s_goto 64 291) := ⟨ok_goto _ _, so_goto mT64 dX1_addGuest_286 (by decide)⟩
theorem gT64_289 : sG l g D H0 mT 64 289 (s_load vL 64 291 4) := ⟨ok_load _ _ _ _, so_lload mT64 dX1_addGuest_289⟩
theorem gT64_291 : sG l g D H0 mT 64 291 (s_ret pJ) := ⟨ok_ret _, so_lret mT64 dX1_addGuest_291⟩
theorem gT64 (pc : Nat) : sG l g D H0 mT 64 pc (tT64 g pc) := sG_cond (sG_cond (sG_cond (sG_cond (sG_cond (sG_cond (sG_cond (sG_leaf gT64_0) (sG_leaf gT64_1)) (sG_cond (sG_leaf gT64_3) (sG_leaf gT64_4))) (sG_cond (sG_cond (sG_leaf gT64_6) (sG_leaf gT64_8)) (sG_cond (sG_leaf gT64_10) (sG_cond (sG_leaf gT64_13) (sG_leaf gT64_15))))) (sG_cond (sG_cond (sG_cond (sG_leaf gT64_16) (sG_leaf gT64_17)) (sG_cond (sG_leaf gT64_19) (sG_cond (sG_leaf gT64_22) (sG_leaf gT64_23)))) (sG_cond (sG_cond (sG_leaf gT64_26) (sG_leaf gT64_28)) (sG_cond (sG_leaf gT64_31) (sG_cond (sG_leaf gT64_34) (sG_leaf gT64_35)))))) (sG_cond (sG_cond (sG_cond (sG_cond (sG_leaf gT64_38) (sG_leaf gT64_40)) (sG_cond (sG_leaf gT64_42) (sG_leaf gT64_43))) (sG_cond (sG_cond (sG_leaf gT64_45) (sG_leaf gT64_46)) (sG_cond (sG_leaf gT64_48) (sG_cond (sG_leaf gT64_50) (sG_leaf gT64_52))))) (sG_cond (sG_cond (sG_cond (sG_leaf gT64_55) (sG_leaf gT64_57)) (sG_cond (sG_leaf gT64_59) (sG_cond (sG_leaf gT64_60) (sG_leaf gT64_62)))) (sG_cond (sG_cond (sG_leaf gT64_64) (sG_leaf gT64_66)) (sG_cond (sG_leaf gT64_67) (sG_cond (sG_leaf gT64_70) (sG_leaf gT64_72))))))) (sG_cond (sG_cond (sG_cond (sG_cond (sG_cond (sG_leaf gT64_75) (sG_leaf gT64_78)) (sG_cond (sG_leaf gT64_79) (sG_leaf gT64_81))) (sG_cond (sG_cond (sG_leaf gT64_83) (sG_leaf gT64_85)) (sG_cond (sG_leaf gT64_88) (sG_cond (sG_leaf gT64_89) (sG_leaf gT64_91))))) (sG_cond (sG_cond (sG_cond (sG_leaf gT64_93) (sG_leaf gT64_94)) (sG_cond (sG_leaf gT64_97) (sG_cond (sG_leaf gT64_99) (sG_leaf gT64_100)))) (sG_cond (sG_cond (sG_leaf gT64_101) (sG_leaf gT64_103)) (sG_cond (sG_leaf gT64_105) (sG_cond (sG_leaf gT64_108) (sG_leaf gT64_109)))))) (sG_cond (sG_cond (sG_cond (sG_cond (sG_leaf gT64_112) (sG_leaf gT64_114)) (sG_cond (sG_leaf gT64_117) (sG_leaf gT64_120))) (sG_cond (sG_cond (sG_leaf gT64_123) (sG_leaf gT64_126)) (sG_cond (sG_leaf gT64_127) (sG_cond (sG_leaf gT64_129) (sG_leaf gT64_130))))) (sG_cond (sG_cond (sG_cond (sG_leaf gT64_132) (sG_leaf gT64_135)) (sG_cond (sG_leaf gT64_136) (sG_cond (sG_leaf gT64_139) (sG_leaf gT64_141)))) (sG_cond (sG_cond (sG_leaf gT64_142) (sG_leaf gT64_144)) (sG_cond (sG_leaf gT64_147) (sG_cond (sG_leaf gT64_148) (sG_leaf gT64_151)))))))) (sG_cond (sG_cond (sG_cond (sG_cond (sG_cond (sG_cond (sG_leaf gT64_153) (sG_leaf gT64_156)) (sG_cond (sG_leaf gT64_159) (sG_leaf gT64_160))) (sG_cond (sG_cond (sG_leaf gT64_162) (sG_leaf gT64_163)) (sG_cond (sG_leaf gT64_164) (sG_cond (sG_leaf gT64_165) (sG_leaf gT64_166))))) (sG_cond (sG_cond (sG_cond (sG_leaf gT64_167) (sG_leaf gT64_168)) (sG_cond (sG_leaf gT64_169) (sG_cond (sG_leaf gT64_170) (sG_leaf gT64_171)))) (sG_cond (sG_cond (sG_leaf gT64_172) (sG_leaf gT64_174)) (sG_cond (sG_leaf gT64_175) (sG_cond (sG_leaf gT64_177) (sG_leaf gT64_179)))))) (sG_cond (sG_cond (sG_cond (sG_cond (sG_leaf gT64_181) (sG_leaf gT64_183)) (sG_cond (sG_leaf gT64_184) (sG_leaf gT64_186))) (sG_cond (sG_cond (sG_leaf gT64_187) (sG_leaf gT64_189)) (sG_cond (sG_leaf gT64_191) (sG_cond (sG_leaf gT64_193) (sG_leaf gT64_196))))) (sG_cond (sG_cond (sG_cond (sG_leaf gT64_198) (sG_leaf gT64_200)) (sG_cond (sG_leaf gT64_201) (sG_cond (sG_leaf gT64_203) (sG_leaf gT64_205)))) (sG_cond (sG_cond (sG_leaf gT64_206) (sG_leaf gT64_208)) (sG_cond (sG_leaf gT64_209) (sG_cond (sG_leaf gT64_212) (sG_leaf gT64_213))))))) (sG_cond (sG_cond (sG_cond (sG_cond (sG_cond (sG_leaf gT64_216) (sG_leaf gT64_217)) (sG_cond (sG_leaf gT64_219) (sG_leaf gT64_220))) (sG_cond (sG_cond (sG_leaf gT64_223) (sG_leaf gT64_224)) (sG_cond (sG_leaf gT64_227) (sG_cond (sG_leaf gT64_228) (sG_leaf gT64_230))))) (sG_cond (sG_cond (sG_cond (sG_leaf gT64_231) (sG_leaf gT64_234)) (sG_cond (sG_leaf gT64_235) (sG_cond (sG_leaf gT64_238) (sG_leaf gT64_240)))) (sG_cond (sG_cond (sG_leaf gT64_243) (sG_leaf gT64_246)) (sG_cond (sG_leaf gT64_248) (sG_cond (sG_leaf gT64_249) (sG_leaf gT64_250)))))) (sG_cond (sG_cond (sG_cond (sG_cond (sG_leaf gT64_253) (sG_leaf gT64_255)) (sG_cond (sG_leaf gT64_258) (sG_leaf gT64_259))) (sG_cond (sG_cond (sG_leaf gT64_262) (sG_leaf gT64_264)) (sG_cond (sG_leaf gT64_265) (sG_cond (sG_leaf gT64_268) (sG_leaf gT64_271))))) (sG_cond (sG_cond (sG_cond (sG_leaf gT64_273) (sG_leaf gT64_274)) (sG_cond (sG_leaf gT64_275) (sG_cond (sG_leaf gT64_278) (sG_leaf gT64_279)))) (sG_cond (sG_cond (sG_leaf gT64_282) (sG_leaf gT64_283)) (sG_cond (sG_leaf gT64_286) (sG_cond (sG_leaf gT64_289) (sG_leaf gT64_291))))))))
theorem gT65_0 : sG l g D H0 mT 65 0 (s_const 65 2 (.int 16)) := ⟨ok_const _ _ _, so_bipush mT65 dX1_told_0 (by decide)⟩
theorem gT65_2 : sG l g D H0 mT 65 2 (s_newa g 65 4 20 (.int 0)) := ⟨ok_newa _ _ _ _ _, so_newa mT65 (t := 20) (by decide) rfl rfl (by decide) dX1_told_2 q486⟩
theorem gT65_4 : sG l g D H0 mT 65 4 (s_dup 65 5) := ⟨ok_dup _ _, so_dup mT65 dX1_told_4⟩
theorem gT65_5 : sG l g D H0 mT 65 5 (s_const 65 6 (.int 0)) := ⟨ok_const _ _ _, so_iconst mT65 dX1_told_5 (by decide)⟩
theorem gT65_6 : sG l g D H0 mT 65 6 (s_load vRf 65 7 1) := ⟨ok_load _ _ _ _, so_aload_n mT65 dX1_told_6 rfl⟩
theorem gT65_7 : sG l g D H0 mT 65 7 (s_getf 65 10 5 3) := ⟨ok_getf _ _ _ _, so_getfN mT65 cl5 (k := 3) (by decide) dX1_told_7 q563 (fs_rf rfl)⟩
theorem gT65_10 : sG l g D H0 mT 65 10 (s_ast g (fun _ v => vI v = true) 65 11 20) := ⟨ok_ast _ _ _ _ _, so_iast mT65 a20 dX1_told_10⟩
theorem gT65_11 : sG l g D H0 mT 65 11 (s_dup 65 12) := ⟨ok_dup _ _, so_dup mT65 dX1_told_11⟩
theorem gT65_12 : sG l g D H0 mT 65 12 (s_const 65 13 (.int 1)) := ⟨ok_const _ _ _, so_iconst mT65 dX1_told_12 (by decide)⟩
theorem gT65_13 : sG l g D H0 mT 65 13 (s_load vRf 65 14 1) := ⟨ok_load _ _ _ _, so_aload_n mT65 dX1_told_13 rfl⟩
theorem gT65_14 : sG l g D H0 mT 65 14 (s_getf 65 17 5 2) := ⟨ok_getf _ _ _ _, so_getfN mT65 cl5 (k := 2) (by decide) dX1_told_14 q560 (fs_rf rfl)⟩
theorem gT65_17 : sG l g D H0 mT 65 17 (s_getf 65 20 6 2) := ⟨ok_getf _ _ _ _, so_getfN mT65 cl6 (k := 2) (by decide) dX1_told_17 q474 (fs_rf rfl)⟩
theorem gT65_20 : sG l g D H0 mT 65 20 (s_ast g (fun _ v => vI v = true) 65 21 20) := ⟨ok_ast _ _ _ _ _, so_iast mT65 a20 dX1_told_20⟩
theorem gT65_21 : sG l g D H0 mT 65 21 (s_dup 65 22) := ⟨ok_dup _ _, so_dup mT65 dX1_told_21⟩
theorem gT65_22 : sG l g D H0 mT 65 22 (s_const 65 23 (.int 2)) := ⟨ok_const _ _ _, so_iconst mT65 dX1_told_22 (by decide)⟩
theorem gT65_23 : sG l g D H0 mT 65 23 (s_load vRf 65 24 1) := ⟨ok_load _ _ _ _, so_aload_n mT65 dX1_told_23 rfl⟩
theorem gT65_24 : sG l g D H0 mT 65 24 (s_getf 65 27 5 2) := ⟨ok_getf _ _ _ _, so_getfN mT65 cl5 (k := 2) (by decide) dX1_told_24 q560 (fs_rf rfl)⟩
theorem gT65_27 : sG l g D H0 mT 65 27 (s_getf 65 30 6 3) := ⟨ok_getf _ _ _ _, so_getfN mT65 cl6 (k := 3) (by decide) dX1_told_27 q476 (fs_rf rfl)⟩
theorem gT65_30 : sG l g D H0 mT 65 30 (s_ast g (fun _ v => vI v = true) 65 31 20) := ⟨ok_ast _ _ _ _ _, so_iast mT65 a20 dX1_told_30⟩
theorem gT65_31 : sG l g D H0 mT 65 31 (s_dup 65 32) := ⟨ok_dup _ _, so_dup mT65 dX1_told_31⟩
theorem gT65_32 : sG l g D H0 mT 65 32 (s_const 65 33 (.int 3)) := ⟨ok_const _ _ _, so_iconst mT65 dX1_told_32 (by decide)⟩
theorem gT65_33 : sG l g D H0 mT 65 33 (s_load vRf 65 34 1) := ⟨ok_load _ _ _ _, so_aload_n mT65 dX1_told_33 rfl⟩
theorem gT65_34 : sG l g D H0 mT 65 34 (s_getf 65 37 5 7) := ⟨ok_getf _ _ _ _, so_getfN mT65 cl5 (k := 7) (by decide) dX1_told_34 q574 (fs_rf rfl)⟩
theorem gT65_37 : sG l g D H0 mT 65 37 (s_ast g (fun _ v => vI v = true) 65 38 20) := ⟨ok_ast _ _ _ _ _, so_iast mT65 a20 dX1_told_37⟩
theorem gT65_38 : sG l g D H0 mT 65 38 (s_dup 65 39) := ⟨ok_dup _ _, so_dup mT65 dX1_told_38⟩
theorem gT65_39 : sG l g D H0 mT 65 39 (s_const 65 40 (.int 4)) := ⟨ok_const _ _ _, so_iconst mT65 dX1_told_39 (by decide)⟩
theorem gT65_40 : sG l g D H0 mT 65 40 (s_load vRf 65 41 1) := ⟨ok_load _ _ _ _, so_aload_n mT65 dX1_told_40 rfl⟩
theorem gT65_41 : sG l g D H0 mT 65 41 (s_getf 65 44 5 8) := ⟨ok_getf _ _ _ _, so_getfN mT65 cl5 (k := 8) (by decide) dX1_told_41 q577 (fs_rf rfl)⟩
theorem gT65_44 : sG l g D H0 mT 65 44 (s_ast g (fun _ v => vI v = true) 65 45 20) := ⟨ok_ast _ _ _ _ _, so_iast mT65 a20 dX1_told_44⟩
theorem gT65_45 : sG l g D H0 mT 65 45 (s_dup 65 46) := ⟨ok_dup _ _, so_dup mT65 dX1_told_45⟩
theorem gT65_46 : sG l g D H0 mT 65 46 (s_const 65 47 (.int 5)) := ⟨ok_const _ _ _, so_iconst mT65 dX1_told_46 (by decide)⟩
theorem gT65_47 : sG l g D H0 mT 65 47 (s_load vRf 65 48 1) := ⟨ok_load _ _ _ _, so_aload_n mT65 dX1_told_47 rfl⟩
theorem gT65_48 : sG l g D H0 mT 65 48 (s_getf 65 51 5 9) := ⟨ok_getf _ _ _ _, so_getfN mT65 cl5 (k := 9) (by decide) dX1_told_48 q580 (fs_rf rfl)⟩
theorem gT65_51 : sG l g D H0 mT 65 51 (s_ast g (fun _ v => vI v = true) 65 52 20) := ⟨ok_ast _ _ _ _ _, so_iast mT65 a20 dX1_told_51⟩
theorem gT65_52 : sG l g D H0 mT 65 52 (s_dup 65 53) := ⟨ok_dup _ _, so_dup mT65 dX1_told_52⟩
theorem gT65_53 : sG l g D H0 mT 65 53 (s_const 65 55 (.int 6)) := ⟨ok_const _ _ _, so_bipush mT65 dX1_told_53 (by decide)⟩
theorem gT65_55 : sG l g D H0 mT 65 55 (s_load vRf 65 56 1) := ⟨ok_load _ _ _ _, so_aload_n mT65 dX1_told_55 rfl⟩
theorem gT65_56 : sG l g D H0 mT 65 56 (s_getf 65 59 5 10) := ⟨ok_getf _ _ _ _, so_getfN mT65 cl5 (k := 10) (by decide) dX1_told_56 q583 (fs_rf rfl)⟩
theorem gT65_59 : sG l g D H0 mT 65 59 (s_ast g (fun _ v => vI v = true) 65 60 20) := ⟨ok_ast _ _ _ _ _, so_iast mT65 a20 dX1_told_59⟩
theorem gT65_60 : sG l g D H0 mT 65 60 (s_dup 65 61) := ⟨ok_dup _ _, so_dup mT65 dX1_told_60⟩
theorem gT65_61 : sG l g D H0 mT 65 61 (s_const 65 63 (.int 7)) := ⟨ok_const _ _ _, so_bipush mT65 dX1_told_61 (by decide)⟩
theorem gT65_63 : sG l g D H0 mT 65 63 (s_load vRf 65 64 1) := ⟨ok_load _ _ _ _, so_aload_n mT65 dX1_told_63 rfl⟩
theorem gT65_64 : sG l g D H0 mT 65 64 (s_getf 65 67 5 11) := ⟨ok_getf _ _ _ _, so_getfN mT65 cl5 (k := 11) (by decide) dX1_told_64 q586 (fs_rf rfl)⟩
theorem gT65_67 : sG l g D H0 mT 65 67 (s_ast g (fun _ v => vI v = true) 65 68 20) := ⟨ok_ast _ _ _ _ _, so_iast mT65 a20 dX1_told_67⟩
theorem gT65_68 : sG l g D H0 mT 65 68 (s_dup 65 69) := ⟨ok_dup _ _, so_dup mT65 dX1_told_68⟩
theorem gT65_69 : sG l g D H0 mT 65 69 (s_const 65 71 (.int 8)) := ⟨ok_const _ _ _, so_bipush mT65 dX1_told_69 (by decide)⟩
theorem gT65_71 : sG l g D H0 mT 65 71 (s_load vRf 65 72 1) := ⟨ok_load _ _ _ _, so_aload_n mT65 dX1_told_71 rfl⟩
theorem gT65_72 : sG l g D H0 mT 65 72 (s_getf 65 75 5 12) := ⟨ok_getf _ _ _ _, so_getfN mT65 cl5 (k := 12) (by decide) dX1_told_72 q589 (fs_rf rfl)⟩
theorem gT65_75 : sG l g D H0 mT 65 75 (s_ast g (fun _ v => vI v = true) 65 76 20) := ⟨ok_ast _ _ _ _ _, so_iast mT65 a20 dX1_told_75⟩
theorem gT65_76 : sG l g D H0 mT 65 76 (s_dup 65 77) := ⟨ok_dup _ _, so_dup mT65 dX1_told_76⟩
theorem gT65_77 : sG l g D H0 mT 65 77 (s_const 65 79 (.int 9)) := ⟨ok_const _ _ _, so_bipush mT65 dX1_told_77 (by decide)⟩
theorem gT65_79 : sG l g D H0 mT 65 79 (s_load vRf 65 80 0) := ⟨ok_load _ _ _ _, so_aload_n mT65 dX1_told_79 rfl⟩
theorem gT65_80 : sG l g D H0 mT 65 80 (s_load vRf 65 81 1) := ⟨ok_load _ _ _ _, so_aload_n mT65 dX1_told_80 rfl⟩
theorem gT65_81 : sG l g D H0 mT 65 81 (s_const 65 82 (.int 0)) := ⟨ok_const _ _ _, so_iconst mT65 dX1_told_81 (by decide)⟩
theorem gT65_82 : sG l g D H0 mT 65 82 (s_callvk 65 85 66 0 [1, 0] 5) := ⟨ok_callvk _ _ _ _ _ _, sk_callv (by decide) (so_callV mT65 mo66 (by decide) (t := 0) (C := "HyperVane") (by decide) rfl rfl dX1_told_82 q369 q371 qs8 q54)⟩
theorem gT65_85 : sG l g D H0 mT 65 85 (s_ast g (fun _ v => vI v = true) 65 86 20) := ⟨ok_ast _ _ _ _ _, so_iast mT65 a20 dX1_told_85⟩
theorem gT65_86 : sG l g D H0 mT 65 86 (s_dup 65 87) := ⟨ok_dup _ _, so_dup mT65 dX1_told_86⟩
theorem gT65_87 : sG l g D H0 mT 65 87 (s_const 65 89 (.int 10)) := ⟨ok_const _ _ _, so_bipush mT65 dX1_told_87 (by decide)⟩
theorem gT65_89 : sG l g D H0 mT 65 89 (s_load vRf 65 90 0) := ⟨ok_load _ _ _ _, so_aload_n mT65 dX1_told_89 rfl⟩
theorem gT65_90 : sG l g D H0 mT 65 90 (s_load vRf 65 91 1) := ⟨ok_load _ _ _ _, so_aload_n mT65 dX1_told_90 rfl⟩
theorem gT65_91 : sG l g D H0 mT 65 91 (s_const 65 92 (.int 1)) := ⟨ok_const _ _ _, so_iconst mT65 dX1_told_91 (by decide)⟩
theorem gT65_92 : sG l g D H0 mT 65 92 (s_callvk 65 95 66 0 [1, 0] 5) := ⟨ok_callvk _ _ _ _ _ _, sk_callv (by decide) (so_callV mT65 mo66 (by decide) (t := 0) (C := "HyperVane") (by decide) rfl rfl dX1_told_92 q369 q371 qs8 q54)⟩
theorem gT65_95 : sG l g D H0 mT 65 95 (s_ast g (fun _ v => vI v = true) 65 96 20) := ⟨ok_ast _ _ _ _ _, so_iast mT65 a20 dX1_told_95⟩
theorem gT65_96 : sG l g D H0 mT 65 96 (s_dup 65 97) := ⟨ok_dup _ _, so_dup mT65 dX1_told_96⟩
theorem gT65_97 : sG l g D H0 mT 65 97 (s_const 65 99 (.int 11)) := ⟨ok_const _ _ _, so_bipush mT65 dX1_told_97 (by decide)⟩
theorem gT65_99 : sG l g D H0 mT 65 99 (s_load vRf 65 100 0) := ⟨ok_load _ _ _ _, so_aload_n mT65 dX1_told_99 rfl⟩
theorem gT65_100 : sG l g D H0 mT 65 100 (s_load vRf 65 101 1) := ⟨ok_load _ _ _ _, so_aload_n mT65 dX1_told_100 rfl⟩
theorem gT65_101 : sG l g D H0 mT 65 101 (s_const 65 102 (.int 2)) := ⟨ok_const _ _ _, so_iconst mT65 dX1_told_101 (by decide)⟩
theorem gT65_102 : sG l g D H0 mT 65 102 (s_callvk 65 105 66 0 [1, 0] 5) := ⟨ok_callvk _ _ _ _ _ _, sk_callv (by decide) (so_callV mT65 mo66 (by decide) (t := 0) (C := "HyperVane") (by decide) rfl rfl dX1_told_102 q369 q371 qs8 q54)⟩
theorem gT65_105 : sG l g D H0 mT 65 105 (s_ast g (fun _ v => vI v = true) 65 106 20) := ⟨ok_ast _ _ _ _ _, so_iast mT65 a20 dX1_told_105⟩
theorem gT65_106 : sG l g D H0 mT 65 106 (s_dup 65 107) := ⟨ok_dup _ _, so_dup mT65 dX1_told_106⟩
theorem gT65_107 : sG l g D H0 mT 65 107 (s_const 65 109 (.int 12)) := ⟨ok_const _ _ _, so_bipush mT65 dX1_told_107 (by decide)⟩
theorem gT65_109 : sG l g D H0 mT 65 109 (s_load vRf 65 110 1) := ⟨ok_load _ _ _ _, so_aload_n mT65 dX1_told_109 rfl⟩
theorem gT65_110 : sG l g D H0 mT 65 110 (s_callvk 65 113 193 5 [] 3) := ⟨ok_callvk _ _ _ _ _ _, sk_callv (by decide) (so_callV mT65 mo193 (by decide) (t := 5) (C := "HyperVane$Guest") (by decide) rfl rfl dX1_told_110 q386 q387 q388 q73)⟩
theorem gT65_113 : sG l g D H0 mT 65 113 (s_ast g (fun _ v => vI v = true) 65 114 20) := ⟨ok_ast _ _ _ _ _, so_iast mT65 a20 dX1_told_113⟩
theorem gT65_114 : sG l g D H0 mT 65 114 (s_dup 65 115) := ⟨ok_dup _ _, so_dup mT65 dX1_told_114⟩
theorem gT65_115 : sG l g D H0 mT 65 115 (s_const 65 117 (.int 13)) := ⟨ok_const _ _ _, so_bipush mT65 dX1_told_115 (by decide)⟩
theorem gT65_117 : sG l g D H0 mT 65 117 (s_load vRf 65 118 1) := ⟨ok_load _ _ _ _, so_aload_n mT65 dX1_told_117 rfl⟩
theorem gT65_118 : sG l g D H0 mT 65 118 (s_getf 65 121 5 20) := ⟨ok_getf _ _ _ _, so_getfN mT65 cl5 (k := 20) (by decide) dX1_told_118 q610 (fs_rf rfl)⟩
theorem gT65_121 : sG l g D H0 mT 65 121 (s_ast g (fun _ v => vI v = true) 65 122 20) := ⟨ok_ast _ _ _ _ _, so_iast mT65 a20 dX1_told_121⟩
theorem gT65_122 : sG l g D H0 mT 65 122 (s_dup 65 123) := ⟨ok_dup _ _, so_dup mT65 dX1_told_122⟩
theorem gT65_123 : sG l g D H0 mT 65 123 (s_const 65 125 (.int 14)) := ⟨ok_const _ _ _, so_bipush mT65 dX1_told_123 (by decide)⟩
theorem gT65_125 : sG l g D H0 mT 65 125 (s_load vRf 65 126 1) := ⟨ok_load _ _ _ _, so_aload_n mT65 dX1_told_125 rfl⟩
theorem gT65_126 : sG l g D H0 mT 65 126 (s_getf 65 129 5 6) := ⟨ok_getf _ _ _ _, so_getfN mT65 cl5 (k := 6) (by decide) dX1_told_126 q571 (fs_rf rfl)⟩
theorem gT65_129 : sG l g D H0 mT 65 129 (s_ast g (fun _ v => vI v = true) 65 130 20) := ⟨ok_ast _ _ _ _ _, so_iast mT65 a20 dX1_told_129⟩
theorem gT65_130 : sG l g D H0 mT 65 130 (s_dup 65 131) := ⟨ok_dup _ _, so_dup mT65 dX1_told_130⟩
theorem gT65_131 : sG l g D H0 mT 65 131 (s_const 65 133 (.int 15)) := ⟨ok_const _ _ _, so_bipush mT65 dX1_told_131 (by decide)⟩
theorem gT65_133 : sG l g D H0 mT 65 133 (s_load vRf 65 134 1) := ⟨ok_load _ _ _ _, so_aload_n mT65 dX1_told_133 rfl⟩
theorem gT65_134 : sG l g D H0 mT 65 134 (s_getf 65 137 5 1) := ⟨ok_getf _ _ _ _, so_getfN mT65 cl5 (k := 1) (by decide) dX1_told_134 q556 (fs_rf rfl)⟩
theorem gT65_137 : sG l g D H0 mT 65 137 (s_ast g (fun _ v => vI v = true) 65 138 20) := ⟨ok_ast _ _ _ _ _, so_iast mT65 a20 dX1_told_137⟩
theorem gT65_138 : sG l g D H0 mT 65 138 (s_store vRf 65 139 3) := ⟨ok_store _ _ _ _, so_astore_n mT65 dX1_told_138 rfl⟩
theorem gT65_139 : sG l g D H0 mT 65 139 (s_load vRf 65 140 3) := ⟨ok_load _ _ _ _, so_aload_n mT65 dX1_told_139 rfl⟩
theorem gT65_140 : sG l g D H0 mT 65 140 (s_load vI 65 141 2) := ⟨ok_load _ _ _ _, so_iload_n mT65 dX1_told_140 rfl⟩
theorem gT65_141 : sG l g D H0 mT 65 141 (s_ald 65 142 20) := ⟨ok_ald _ _ _, so_iald mT65 a20 dX1_told_141⟩
theorem gT65_142 : sG l g D H0 mT 65 142 (s_ret pI) := ⟨ok_ret _, so_iret mT65 dX1_told_142⟩
theorem gT65 (pc : Nat) : sG l g D H0 mT 65 pc (tT65 g pc) := sG_cond (sG_cond (sG_cond (sG_cond (sG_cond (sG_cond (sG_leaf gT65_0) (sG_leaf gT65_2)) (sG_cond (sG_leaf gT65_4) (sG_cond (sG_leaf gT65_5) (sG_leaf gT65_6)))) (sG_cond (sG_cond (sG_leaf gT65_7) (sG_cond (sG_leaf gT65_10) (sG_leaf gT65_11))) (sG_cond (sG_leaf gT65_12) (sG_cond (sG_leaf gT65_13) (sG_leaf gT65_14))))) (sG_cond (sG_cond (sG_cond (sG_leaf gT65_17) (sG_cond (sG_leaf gT65_20) (sG_leaf gT65_21))) (sG_cond (sG_leaf gT65_22) (sG_cond (sG_leaf gT65_23) (sG_leaf gT65_24)))) (sG_cond (sG_cond (sG_leaf gT65_27) (sG_cond (sG_leaf gT65_30) (sG_leaf gT65_31))) (sG_cond (sG_leaf gT65_32) (sG_cond (sG_leaf gT65_33) (sG_leaf gT65_34)))))) (sG_cond (sG_cond (sG_cond (sG_cond (sG_leaf gT65_37) (sG_cond (sG_leaf gT65_38) (sG_leaf gT65_39))) (sG_cond (sG_leaf gT65_40) (sG_cond (sG_leaf gT65_41) (sG_leaf gT65_44)))) (sG_cond (sG_cond (sG_leaf gT65_45) (sG_cond (sG_leaf gT65_46) (sG_leaf gT65_47))) (sG_cond (sG_leaf gT65_48) (sG_cond (sG_leaf gT65_51) (sG_leaf gT65_52))))) (sG_cond (sG_cond (sG_cond (sG_leaf gT65_53) (sG_cond (sG_leaf gT65_55) (sG_leaf gT65_56))) (sG_cond (sG_leaf gT65_59) (sG_cond (sG_leaf gT65_60) (sG_leaf gT65_61)))) (sG_cond (sG_cond (sG_leaf gT65_63) (sG_cond (sG_leaf gT65_64) (sG_leaf gT65_67))) (sG_cond (sG_leaf gT65_68) (sG_cond (sG_leaf gT65_69) (sG_leaf gT65_71))))))) (sG_cond (sG_cond (sG_cond (sG_cond (sG_cond (sG_leaf gT65_72) (sG_cond (sG_leaf gT65_75) (sG_leaf gT65_76))) (sG_cond (sG_leaf gT65_77) (sG_cond (sG_leaf gT65_79) (sG_leaf gT65_80)))) (sG_cond (sG_cond (sG_leaf gT65_81) (sG_cond (sG_leaf gT65_82) (sG_leaf gT65_85))) (sG_cond (sG_leaf gT65_86) (sG_cond (sG_leaf gT65_87) (sG_leaf gT65_89))))) (sG_cond (sG_cond (sG_cond (sG_leaf gT65_90) (sG_cond (sG_leaf gT65_91) (sG_leaf gT65_92))) (sG_cond (sG_leaf gT65_95) (sG_cond (sG_leaf gT65_96) (sG_leaf gT65_97)))) (sG_cond (sG_cond (sG_leaf gT65_99) (sG_cond (sG_leaf gT65_100) (sG_leaf gT65_101))) (sG_cond (sG_leaf gT65_102) (sG_cond (sG_leaf gT65_105) (sG_leaf gT65_106)))))) (sG_cond (sG_cond (sG_cond (sG_cond (sG_leaf gT65_107) (sG_cond (sG_leaf gT65_109) (sG_leaf gT65_110))) (sG_cond (sG_leaf gT65_113) (sG_cond (sG_leaf gT65_114) (sG_leaf gT65_115)))) (sG_cond (sG_cond (sG_leaf gT65_117) (sG_cond (sG_leaf gT65_118) (sG_leaf gT65_121))) (sG_cond (sG_leaf gT65_122) (sG_cond (sG_leaf gT65_123) (sG_leaf gT65_125))))) (sG_cond (sG_cond (sG_cond (sG_leaf gT65_126) (sG_cond (sG_leaf gT65_129) (sG_leaf gT65_130))) (sG_cond (sG_leaf gT65_131) (sG_cond (sG_leaf gT65_133) (sG_leaf gT65_134)))) (sG_cond (sG_cond (sG_leaf gT65_137) (sG_cond (sG_leaf gT65_138) (sG_leaf gT65_139))) (sG_cond (sG_leaf gT65_140) (sG_cond (sG_leaf gT65_141) (sG_leaf gT65_142)))))))
theorem gT66_0 : sG l g D H0 mT 66 0 (s_const 66 1 (.int 0)) := ⟨ok_const _ _ _, so_iconst mT66 dX1_manyIn_0 (by decide)⟩
theorem gT66_1 : sG l g D H0 mT 66 1 (s_store vI 66 2 3) := ⟨ok_store _ _ _ _, so_istore_n mT66 dX1_manyIn_1 rfl⟩
theorem gT66_2 : sG l g D H0 mT 66 2 (s_const 66 3 (.int 0)) := ⟨ok_const _ _ _, so_iconst mT66 dX1_manyIn_2 (by decide)⟩
theorem gT66_3 : sG l g D H0 mT 66 3 (s_store vI 66 5 4) := ⟨ok_store _ _ _ _, so_istore mT66 dX1_manyIn_3⟩
theorem gT66_5 : sG l g D H0 mT 66 5 (s_load vI 66 7 4) := ⟨ok_load _ _ _ _, so_iload mT66 dX1_manyIn_5⟩
theorem gT66_7 : sG l g D H0 mT 66 7 (s_const 66 9 (.int 6)) := ⟨ok_const _ _ _, so_bipush mT66 dX1_manyIn_7 (by decide)⟩
theorem gT66_9 : sG l g D H0 mT 66 9 (s_icmp 66 12 40 (fun a b => b ≤ a)) := ⟨ok_icmp _ _ _ _, so_icmp_ge mT66 dX1_manyIn_9 (by decide)⟩
theorem gT66_12 : sG l g D H0 mT 66 12 (s_load vI 66 13 3) := ⟨ok_load _ _ _ _, so_iload_n mT66 dX1_manyIn_12 rfl⟩
theorem gT66_13 : sG l g D H0 mT 66 13 (s_load vRf 66 14 0) := ⟨ok_load _ _ _ _, so_aload_n mT66 dX1_manyIn_13 rfl⟩
theorem gT66_14 : sG l g D H0 mT 66 14 (s_load vRf 66 15 1) := ⟨ok_load _ _ _ _, so_aload_n mT66 dX1_manyIn_14 rfl⟩
theorem gT66_15 : sG l g D H0 mT 66 15 (s_load vI 66 17 4) := ⟨ok_load _ _ _ _, so_iload mT66 dX1_manyIn_15⟩
theorem gT66_17 : sG l g D H0 mT 66 17 (s_callvk 66 20 67 0 [1, 0] 3) := ⟨ok_callvk _ _ _ _ _ _, sk_callv (by decide) (so_callV mT66 mo67 (by decide) (t := 0) (C := "HyperVane") (by decide) rfl rfl dX1_manyIn_17 q373 q375 qs9 q54)⟩
theorem gT66_20 : sG l g D H0 mT 66 20 (s_load vI 66 21 2) := ⟨ok_load _ _ _ _, so_iload_n mT66 dX1_manyIn_20 rfl⟩
theorem gT66_21 : sG l g D H0 mT 66 21 (s_icmp 66 28 24 (fun a b => a = b)) := ⟨ok_icmp _ _ _ _, so_icmp_ne mT66 dX1_manyIn_21 (by decide)⟩
theorem gT66_24 : sG l g D H0 mT 66 24 (s_const 66 25 (.int 1)) := ⟨ok_const _ _ _, so_iconst mT66 dX1_manyIn_24 (by decide)⟩
theorem gT66_25 : sG l g D H0 mT 66 25 (s_goto 66 29) := ⟨ok_goto _ _, so_goto mT66 dX1_manyIn_25 (by decide)⟩
theorem gT66_28 : sG l g D H0 mT 66 28 (s_const 66 29 (.int 0)) := ⟨ok_const _ _ _, so_iconst mT66 dX1_manyIn_28 (by decide)⟩
theorem gT66_29 : sG l g D H0 mT 66 29 (s_callk 66 32 61 [0] 1) := ⟨ok_callk _ _ _ _ _, sk_call (by decide) (so_callS mT66 mo61 (by decide) dX1_manyIn_29 q349 q350 q54)⟩
theorem gT66_32 : sG l g D H0 mT 66 32 (s_bin 66 33 (fun a b => a + b)) := ⟨ok_bin _ _ _, so_iadd mT66 dX1_manyIn_32⟩
theorem gT66_33 : sG l g D H0 mT 66 33 (s_store vI 66 34 3) := ⟨ok_store _ _ _ _, so_istore_n mT66 dX1_manyIn_33 rfl⟩
theorem gT66_34 : sG l g D H0 mT 66 34 (s_iinc 66 37 4 1) := ⟨ok_iinc _ _ _ _, so_iinc mT66 dX1_manyIn_34 (by decide)⟩
theorem gT66_37 : sG l g D H0 mT 66 37 (s_goto 66 5) := ⟨ok_goto _ _, so_goto mT66 dX1_manyIn_37 (by decide)⟩
theorem gT66_40 : sG l g D H0 mT 66 40 (s_load vI 66 41 3) := ⟨ok_load _ _ _ _, so_iload_n mT66 dX1_manyIn_40 rfl⟩
theorem gT66_41 : sG l g D H0 mT 66 41 (s_ret pI) := ⟨ok_ret _, so_iret mT66 dX1_manyIn_41⟩
theorem gT66 (pc : Nat) : sG l g D H0 mT 66 pc (tT66 g pc) := sG_cond (sG_cond (sG_cond (sG_cond (sG_leaf gT66_0) (sG_cond (sG_leaf gT66_1) (sG_leaf gT66_2))) (sG_cond (sG_leaf gT66_3) (sG_cond (sG_leaf gT66_5) (sG_leaf gT66_7)))) (sG_cond (sG_cond (sG_leaf gT66_9) (sG_cond (sG_leaf gT66_12) (sG_leaf gT66_13))) (sG_cond (sG_leaf gT66_14) (sG_cond (sG_leaf gT66_15) (sG_leaf gT66_17))))) (sG_cond (sG_cond (sG_cond (sG_leaf gT66_20) (sG_cond (sG_leaf gT66_21) (sG_leaf gT66_24))) (sG_cond (sG_leaf gT66_25) (sG_cond (sG_leaf gT66_28) (sG_leaf gT66_29)))) (sG_cond (sG_cond (sG_leaf gT66_32) (sG_cond (sG_leaf gT66_33) (sG_leaf gT66_34))) (sG_cond (sG_leaf gT66_37) (sG_cond (sG_leaf gT66_40) (sG_leaf gT66_41)))))
theorem gT67_0 : sG l g D H0 mT 67 0 (s_load vRf 67 1 0) := ⟨ok_load _ _ _ _, so_aload_n mT67 dX1_where_0 rfl⟩
theorem gT67_1 : sG l g D H0 mT 67 1 (s_getf 67 4 0 0) := ⟨ok_getf _ _ _ _, so_getf mT67 cl0 (k := 0) (by decide) dX1_where_1 q289 (fs_rf rfl)⟩
theorem gT67_4 : sG l g D H0 mT 67 4 (s_load vRf 67 5 1) := ⟨ok_load _ _ _ _, so_aload_n mT67 dX1_where_4 rfl⟩
theorem gT67_5 : sG l g D H0 mT 67 5 (s_load vI 67 6 2) := ⟨ok_load _ _ _ _, so_iload_n mT67 dX1_where_5 rfl⟩
theorem gT67_6 : sG l g D H0 mT 67 6 (s_callvk 67 9 111 1 [1, 0] 5) := ⟨ok_callvk _ _ _ _ _ _, sk_callv (by decide) (so_callV mT67 mo111 (by decide) (t := 1) (C := "HyperVane$Machine") (by decide) rfl rfl dX1_where_6 q377 q378 q379 q55)⟩
theorem gT67_9 : sG l g D H0 mT 67 9 (s_ifnull 67 12 14) := ⟨ok_ifnull _ _ _, so_ifnull mT67 dX1_where_9 (by decide)⟩
theorem gT67_12 : sG l g D H0 mT 67 12 (s_const 67 13 (.int 0)) := ⟨ok_const _ _ _, so_iconst mT67 dX1_where_12 (by decide)⟩
theorem gT67_13 : sG l g D H0 mT 67 13 (s_ret pI) := ⟨ok_ret _, so_iret mT67 dX1_where_13⟩
theorem gT67_14 : sG l g D H0 mT 67 14 (s_load vRf 67 15 1) := ⟨ok_load _ _ _ _, so_aload_n mT67 dX1_where_14 rfl⟩
theorem gT67_15 : sG l g D H0 mT 67 15 (s_getf 67 18 5 14) := ⟨ok_getf _ _ _ _, so_getfN mT67 cl5 (k := 14) (by decide) dX1_where_15 q595 (fs_rf rfl)⟩
theorem gT67_18 : sG l g D H0 mT 67 18 (s_load vI 67 19 2) := ⟨ok_load _ _ _ _, so_iload_n mT67 dX1_where_18 rfl⟩
theorem gT67_19 : sG l g D H0 mT 67 19 (s_ald 67 20 21) := ⟨ok_ald _ _ _, so_zald mT67 a21 dX1_where_19⟩
theorem gT67_20 : sG l g D H0 mT 67 20 (s_if 67 23 27 (fun a => a = 0)) := ⟨ok_if _ _ _ _, so_if_eq mT67 dX1_where_20 (by decide)⟩
theorem gT67_23 : sG l g D H0 mT 67 23 (s_const 67 24 (.int 1)) := ⟨ok_const _ _ _, so_iconst mT67 dX1_where_23 (by decide)⟩
theorem gT67_24 : sG l g D H0 mT 67 24 (s_goto 67 41) := ⟨ok_goto _ _, so_goto mT67 dX1_where_24 (by decide)⟩
theorem gT67_27 : sG l g D H0 mT 67 27 (s_load vRf 67 28 1) := ⟨ok_load _ _ _ _, so_aload_n mT67 dX1_where_27 rfl⟩
theorem gT67_28 : sG l g D H0 mT 67 28 (s_getf 67 31 5 15) := ⟨ok_getf _ _ _ _, so_getfN mT67 cl5 (k := 15) (by decide) dX1_where_28 q598 (fs_rf rfl)⟩
theorem gT67_31 : sG l g D H0 mT 67 31 (s_load vI 67 32 2) := ⟨ok_load _ _ _ _, so_iload_n mT67 dX1_where_31 rfl⟩
theorem gT67_32 : sG l g D H0 mT 67 32 (s_ald 67 33 21) := ⟨ok_ald _ _ _, so_zald mT67 a21 dX1_where_32⟩
theorem gT67_33 : sG l g D H0 mT 67 33 (s_if 67 36 40 (fun a => a = 0)) := ⟨ok_if _ _ _ _, so_if_eq mT67 dX1_where_33 (by decide)⟩
theorem gT67_36 : sG l g D H0 mT 67 36 (s_const 67 37 (.int 2)) := ⟨ok_const _ _ _, so_iconst mT67 dX1_where_36 (by decide)⟩
theorem gT67_37 : sG l g D H0 mT 67 37 (s_goto 67 41) := ⟨ok_goto _ _, so_goto mT67 dX1_where_37 (by decide)⟩
theorem gT67_40 : sG l g D H0 mT 67 40 (s_const 67 41 (.int 3)) := ⟨ok_const _ _ _, so_iconst mT67 dX1_where_40 (by decide)⟩
theorem gT67_41 : sG l g D H0 mT 67 41 (s_ret pI) := ⟨ok_ret _, so_iret mT67 dX1_where_41⟩
theorem gT67 (pc : Nat) : sG l g D H0 mT 67 pc (tT67 g pc) := sG_cond (sG_cond (sG_cond (sG_cond (sG_leaf gT67_0) (sG_cond (sG_leaf gT67_1) (sG_leaf gT67_4))) (sG_cond (sG_leaf gT67_5) (sG_cond (sG_leaf gT67_6) (sG_leaf gT67_9)))) (sG_cond (sG_cond (sG_leaf gT67_12) (sG_cond (sG_leaf gT67_13) (sG_leaf gT67_14))) (sG_cond (sG_leaf gT67_15) (sG_cond (sG_leaf gT67_18) (sG_leaf gT67_19))))) (sG_cond (sG_cond (sG_cond (sG_leaf gT67_20) (sG_cond (sG_leaf gT67_23) (sG_leaf gT67_24))) (sG_cond (sG_leaf gT67_27) (sG_cond (sG_leaf gT67_28) (sG_leaf gT67_31)))) (sG_cond (sG_cond (sG_leaf gT67_32) (sG_cond (sG_leaf gT67_33) (sG_leaf gT67_36))) (sG_cond (sG_leaf gT67_37) (sG_cond (sG_leaf gT67_40) (sG_leaf gT67_41)))))
theorem gT68_0 : sG l g D H0 mT 68 0 (s_load vI 68 1 3) := ⟨ok_load _ _ _ _, so_iload_n mT68 dX1_toldOfPage_0 rfl⟩
theorem gT68_1 : sG l g D H0 mT 68 1 (s_if 68 14 4 (fun a => a = 0)) := ⟨ok_if _ _ _ _, so_if_ne mT68 dX1_toldOfPage_1 (by decide)⟩
theorem gT68_4 : sG l g D H0 mT 68 4 (s_load vRf 68 5 1) := ⟨ok_load _ _ _ _, so_aload_n mT68 dX1_toldOfPage_4 rfl⟩
theorem gT68_5 : sG l g D H0 mT 68 5 (s_getf 68 8 5 2) := ⟨ok_getf _ _ _ _, so_getfN mT68 cl5 (k := 2) (by decide) dX1_toldOfPage_5 q560 (fs_rf rfl)⟩
theorem gT68_8 : sG l g D H0 mT 68 8 (s_getf 68 11 6 1) := ⟨ok_getf _ _ _ _, so_getfN mT68 cl6 (k := 1) (by decide) dX1_toldOfPage_8 q472 (fs_rf rfl)⟩
theorem gT68_11 : sG l g D H0 mT 68 11 (s_load vI 68 12 2) := ⟨ok_load _ _ _ _, so_iload_n mT68 dX1_toldOfPage_11 rfl⟩
theorem gT68_12 : sG l g D H0 mT 68 12 (s_ald 68 13 20) := ⟨ok_ald _ _ _, so_iald mT68 a20 dX1_toldOfPage_12⟩
theorem gT68_13 : sG l g D H0 mT 68 13 (s_ret pI) := ⟨ok_ret _, so_iret mT68 dX1_toldOfPage_13⟩
theorem gT68_14 : sG l g D H0 mT 68 14 (s_load vI 68 15 3) := ⟨ok_load _ _ _ _, so_iload_n mT68 dX1_toldOfPage_14 rfl⟩
theorem gT68_15 : sG l g D H0 mT 68 15 (s_const 68 16 (.int 1)) := ⟨ok_const _ _ _, so_iconst mT68 dX1_toldOfPage_15 (by decide)⟩
theorem gT68_16 : sG l g D H0 mT 68 16 (s_icmp 68 39 19 (fun a b => a = b)) := ⟨ok_icmp _ _ _ _, so_icmp_ne mT68 dX1_toldOfPage_16 (by decide)⟩
theorem gT68_19 : sG l g D H0 mT 68 19 (s_load vRf 68 20 0) := ⟨ok_load _ _ _ _, so_aload_n mT68 dX1_toldOfPage_19 rfl⟩
theorem gT68_20 : sG l g D H0 mT 68 20 (s_getf 68 23 0 0) := ⟨ok_getf _ _ _ _, so_getf mT68 cl0 (k := 0) (by decide) dX1_toldOfPage_20 q289 (fs_rf rfl)⟩
theorem gT68_23 : sG l g D H0 mT 68 23 (s_getf 68 26 1 1) := ⟨ok_getf _ _ _ _, so_getfN mT68 cl1 (k := 1) (by decide) dX1_toldOfPage_23 q131 (fs_rf rfl)⟩
theorem gT68_26 : sG l g D H0 mT 68 26 (s_load vRf 68 27 0) := ⟨ok_load _ _ _ _, so_aload_n mT68 dX1_toldOfPage_26 rfl⟩
theorem gT68_27 : sG l g D H0 mT 68 27 (s_getf 68 30 0 0) := ⟨ok_getf _ _ _ _, so_getf mT68 cl0 (k := 0) (by decide) dX1_toldOfPage_27 q289 (fs_rf rfl)⟩
theorem gT68_30 : sG l g D H0 mT 68 30 (s_load vRf 68 31 1) := ⟨ok_load _ _ _ _, so_aload_n mT68 dX1_toldOfPage_30 rfl⟩
theorem gT68_31 : sG l g D H0 mT 68 31 (s_load vI 68 32 2) := ⟨ok_load _ _ _ _, so_iload_n mT68 dX1_toldOfPage_31 rfl⟩
theorem gT68_32 : sG l g D H0 mT 68 32 (s_callvk 68 35 111 1 [1, 0] 5) := ⟨ok_callvk _ _ _ _ _ _, sk_callv (by decide) (so_callV mT68 mo111 (by decide) (t := 1) (C := "HyperVane$Machine") (by decide) rfl rfl dX1_toldOfPage_32 q377 q378 q379 q55)⟩
theorem gT68_35 : sG l g D H0 mT 68 35 (s_callvk 68 38 23 10 [1] 2) := ⟨ok_callvk _ _ _ _ _ _, sk_callv (by decide) (so_callV mT68 mo23 (by decide) (t := 10) (C := "java/util/ArrayList") (by decide) rfl rfl dX1_toldOfPage_35 q399 q400 q401 q58)⟩
theorem gT68_38 : sG l g D H0 mT 68 38 (s_ret pI) := ⟨ok_ret _, so_iret mT68 dX1_toldOfPage_38⟩
theorem gT68_39 : sG l g D H0 mT 68 39 (s_load vI 68 40 3) := ⟨ok_load _ _ _ _, so_iload_n mT68 dX1_toldOfPage_39 rfl⟩
theorem gT68_40 : sG l g D H0 mT 68 40 (s_const 68 41 (.int 2)) := ⟨ok_const _ _ _, so_iconst mT68 dX1_toldOfPage_40 (by decide)⟩
theorem gT68_41 : sG l g D H0 mT 68 41 (s_icmp 68 53 44 (fun a b => a = b)) := ⟨ok_icmp _ _ _ _, so_icmp_ne mT68 dX1_toldOfPage_41 (by decide)⟩
theorem gT68_44 : sG l g D H0 mT 68 44 (s_load vRf 68 45 0) := ⟨ok_load _ _ _ _, so_aload_n mT68 dX1_toldOfPage_44 rfl⟩
theorem gT68_45 : sG l g D H0 mT 68 45 (s_load vRf 68 46 1) := ⟨ok_load _ _ _ _, so_aload_n mT68 dX1_toldOfPage_45 rfl⟩
theorem gT68_46 : sG l g D H0 mT 68 46 (s_load vI 68 47 2) := ⟨ok_load _ _ _ _, so_iload_n mT68 dX1_toldOfPage_46 rfl⟩
theorem gT68_47 : sG l g D H0 mT 68 47 (s_callvk 68 50 67 0 [1, 0] 3) := ⟨ok_callvk _ _ _ _ _ _, sk_callv (by decide) (so_callV mT68 mo67 (by decide) (t := 0) (C := "HyperVane") (by decide) rfl rfl dX1_toldOfPage_47 q373 q375 qs9 q54)⟩
theorem gT68_50 : sG l g D H0 mT 68 50 (s_goto 68 77) := ⟨ok_goto _ _, so_goto mT68 dX1_toldOfPage_50 (by decide)⟩
theorem gT68_53 : sG l g D H0 mT 68 53 (s_load vRf 68 54 1) := ⟨ok_load _ _ _ _, so_aload_n mT68 dX1_toldOfPage_53 rfl⟩
theorem gT68_54 : sG l g D H0 mT 68 54 (s_callvk 68 57 194 5 [] 1) := ⟨ok_callvk _ _ _ _ _ _, sk_callv (by decide) (so_callV mT68 mo194 (by decide) (t := 5) (C := "HyperVane$Guest") (by decide) rfl rfl dX1_toldOfPage_54 q434 q391 q392 q73)⟩
theorem gT68_57 : sG l g D H0 mT 68 57 (s_if 68 60 73 (fun a => a = 0)) := ⟨ok_if _ _ _ _, so_if_eq mT68 dX1_toldOfPage_57 (by decide)⟩
theorem gT68_60 : sG l g D H0 mT 68 60 (s_load vRf 68 61 1) := ⟨ok_load _ _ _ _, so_aload_n mT68 dX1_toldOfPage_60 rfl⟩
theorem gT68_61 : sG l g D H0 mT 68 61 (s_getf 68 64 5 16) := ⟨ok_getf _ _ _ _, so_getfN mT68 cl5 (k := 16) (by decide) dX1_toldOfPage_61 q601 (fs_rf rfl)⟩
theorem gT68_64 : sG l g D H0 mT 68 64 (s_load vI 68 65 2) := ⟨ok_load _ _ _ _, so_iload_n mT68 dX1_toldOfPage_64 rfl⟩
theorem gT68_65 : sG l g D H0 mT 68 65 (s_ald 68 66 21) := ⟨ok_ald _ _ _, so_zald mT68 a21 dX1_toldOfPage_65⟩
theorem gT68_66 : sG l g D H0 mT 68 66 (s_if 68 69 73 (fun a => a = 0)) := ⟨ok_if _ _ _ _, so_if_eq mT68 dX1_toldOfPage_66 (by decide)⟩
theorem gT68_69 : sG l g D H0 mT 68 69 (s_const 68 70 (.int 1)) := ⟨ok_const _ _ _, so_iconst mT68 dX1_toldOfPage_69 (by decide)⟩
theorem gT68_70 : sG l g D H0 mT 68 70 (s_goto 68 74) := ⟨ok_goto _ _, so_goto mT68 dX1_toldOfPage_70 (by decide)⟩
theorem gT68_73 : sG l g D H0 mT 68 73 (s_const 68 74 (.int 0)) := ⟨ok_const _ _ _, so_iconst mT68 dX1_toldOfPage_73 (by decide)⟩
theorem gT68_74 : sG l g D H0 mT 68 74 (s_callk 68 77 61 [0] 1) := ⟨ok_callk _ _ _ _ _, sk_call (by decide) (so_callS mT68 mo61 (by decide) dX1_toldOfPage_74 q349 q350 q54)⟩
theorem gT68_77 : sG l g D H0 mT 68 77 (s_ret pI) := ⟨ok_ret _, so_iret mT68 dX1_toldOfPage_77⟩
theorem gT68 (pc : Nat) : sG l g D H0 mT 68 pc (tT68 g pc) := sG_cond (sG_cond (sG_cond (sG_cond (sG_cond (sG_leaf gT68_0) (sG_leaf gT68_1)) (sG_cond (sG_leaf gT68_4) (sG_cond (sG_leaf gT68_5) (sG_leaf gT68_8)))) (sG_cond (sG_cond (sG_leaf gT68_11) (sG_leaf gT68_12)) (sG_cond (sG_leaf gT68_13) (sG_cond (sG_leaf gT68_14) (sG_leaf gT68_15))))) (sG_cond (sG_cond (sG_cond (sG_leaf gT68_16) (sG_leaf gT68_19)) (sG_cond (sG_leaf gT68_20) (sG_cond (sG_leaf gT68_23) (sG_leaf gT68_26)))) (sG_cond (sG_cond (sG_leaf gT68_27) (sG_cond (sG_leaf gT68_30) (sG_leaf gT68_31))) (sG_cond (sG_leaf gT68_32) (sG_cond (sG_leaf gT68_35) (sG_leaf gT68_38)))))) (sG_cond (sG_cond (sG_cond (sG_cond (sG_leaf gT68_39) (sG_leaf gT68_40)) (sG_cond (sG_leaf gT68_41) (sG_cond (sG_leaf gT68_44) (sG_leaf gT68_45)))) (sG_cond (sG_cond (sG_leaf gT68_46) (sG_leaf gT68_47)) (sG_cond (sG_leaf gT68_50) (sG_cond (sG_leaf gT68_53) (sG_leaf gT68_54))))) (sG_cond (sG_cond (sG_cond (sG_leaf gT68_57) (sG_leaf gT68_60)) (sG_cond (sG_leaf gT68_61) (sG_cond (sG_leaf gT68_64) (sG_leaf gT68_65)))) (sG_cond (sG_cond (sG_leaf gT68_66) (sG_cond (sG_leaf gT68_69) (sG_leaf gT68_70))) (sG_cond (sG_leaf gT68_73) (sG_cond (sG_leaf gT68_74) (sG_leaf gT68_77))))))
theorem gT69_0 : sG l g D H0 mT 69 0 (s_load vRf 69 1 0) := ⟨ok_load _ _ _ _, so_aload_n mT69 dX1_loggedOf_0 rfl⟩
theorem gT69_1 : sG l g D H0 mT 69 1 (s_getf 69 4 5 21) := ⟨ok_getf _ _ _ _, so_getfN mT69 cl5 (k := 21) (by decide) dX1_loggedOf_1 q613 (fs_rf rfl)⟩
theorem gT69_4 : sG l g D H0 mT 69 4 (s_ifnull 69 7 21) := ⟨ok_ifnull _ _ _, so_ifnull mT69 dX1_loggedOf_4 (by decide)⟩
theorem gT69_7 : sG l g D H0 mT 69 7 (s_load vI 69 8 1) := ⟨ok_load _ _ _ _, so_iload_n mT69 dX1_loggedOf_7 rfl⟩
theorem gT69_8 : sG l g D H0 mT 69 8 (s_load vRf 69 9 0) := ⟨ok_load _ _ _ _, so_aload_n mT69 dX1_loggedOf_8 rfl⟩
theorem gT69_9 : sG l g D H0 mT 69 9 (s_getf 69 12 5 21) := ⟨ok_getf _ _ _ _, so_getfN mT69 cl5 (k := 21) (by decide) dX1_loggedOf_9 q613 (fs_rf rfl)⟩
theorem gT69_12 : sG l g D H0 mT 69 12 (s_getf 69 15 9 1) := ⟨ok_getf _ _ _ _, so_getfN mT69 cl9 (k := 1) (by decide) dX1_loggedOf_12 q682 (fs_rf rfl)⟩
theorem gT69_15 : sG l g D H0 mT 69 15 (s_callvk 69 18 15 10 [] 1) := ⟨ok_callvk _ _ _ _ _ _, sk_callv (by decide) (so_callV mT69 mo15 (by decide) (t := 10) (C := "java/util/ArrayList") (by decide) rfl rfl dX1_loggedOf_15 q353 q173 q174 q58)⟩
theorem gT69_18 : sG l g D H0 mT 69 18 (s_icmp 69 21 25 (fun a b => a < b)) := ⟨ok_icmp _ _ _ _, so_icmp_lt mT69 dX1_loggedOf_18 (by decide)⟩
theorem gT69_21 : sG l g D H0 mT 69 21 (s_const 69 22 (.int (-1))) := ⟨ok_const _ _ _, so_iconst mT69 dX1_loggedOf_21 (by decide)⟩
theorem gT69_22 : sG l g D H0 mT 69 22 (s_goto 69 42) := ⟨ok_goto _ _, so_goto mT69 dX1_loggedOf_22 (by decide)⟩
theorem gT69_25 : sG l g D H0 mT 69 25 (s_load vRf 69 26 0) := ⟨ok_load _ _ _ _, so_aload_n mT69 dX1_loggedOf_25 rfl⟩
theorem gT69_26 : sG l g D H0 mT 69 26 (s_getf 69 29 5 21) := ⟨ok_getf _ _ _ _, so_getfN mT69 cl5 (k := 21) (by decide) dX1_loggedOf_26 q613 (fs_rf rfl)⟩
theorem gT69_29 : sG l g D H0 mT 69 29 (s_getf 69 32 9 1) := ⟨ok_getf _ _ _ _, so_getfN mT69 cl9 (k := 1) (by decide) dX1_loggedOf_29 q682 (fs_rf rfl)⟩
theorem gT69_32 : sG l g D H0 mT 69 32 (s_load vI 69 33 1) := ⟨ok_load _ _ _ _, so_iload_n mT69 dX1_loggedOf_32 rfl⟩
theorem gT69_33 : sG l g D H0 mT 69 33 (s_callvk 69 36 25 10 [0] 2) := ⟨ok_callvk _ _ _ _ _ _, sk_callv (by decide) (so_callV mT69 mo25 (by decide) (t := 10) (C := "java/util/ArrayList") (by decide) rfl rfl dX1_loggedOf_33 q438 q439 q440 q58)⟩
theorem gT69_36 : sG l g D H0 mT 69 36 (s_cast 69 39 [12]) := ⟨ok_cast _ _ _, so_cast mT69 (T := "java/lang/Integer") (ts := [12]) (by intro u hu; rw [List.mem_singleton] at hu; subst hu; exact ⟨by decide, Or.inl rfl⟩) dX1_loggedOf_36 q446⟩
theorem gT69_39 : sG l g D H0 mT 69 39 (s_callvk 69 42 8 12 [] 1) := ⟨ok_callvk _ _ _ _ _ _, sk_callv (by decide) (so_callV mT69 mo8 (by decide) (t := 12) (C := "java/lang/Integer") (by decide) rfl rfl dX1_loggedOf_39 q447 q430 q431 q82)⟩
theorem gT69_42 : sG l g D H0 mT 69 42 (s_ret pI) := ⟨ok_ret _, so_iret mT69 dX1_loggedOf_42⟩
theorem gT69 (pc : Nat) : sG l g D H0 mT 69 pc (tT69 g pc) := sG_cond (sG_cond (sG_cond (sG_cond (sG_leaf gT69_0) (sG_leaf gT69_1)) (sG_cond (sG_leaf gT69_4) (sG_leaf gT69_7))) (sG_cond (sG_cond (sG_leaf gT69_8) (sG_leaf gT69_9)) (sG_cond (sG_leaf gT69_12) (sG_cond (sG_leaf gT69_15) (sG_leaf gT69_18))))) (sG_cond (sG_cond (sG_cond (sG_leaf gT69_21) (sG_leaf gT69_22)) (sG_cond (sG_leaf gT69_25) (sG_cond (sG_leaf gT69_26) (sG_leaf gT69_29)))) (sG_cond (sG_cond (sG_leaf gT69_32) (sG_leaf gT69_33)) (sG_cond (sG_leaf gT69_36) (sG_cond (sG_leaf gT69_39) (sG_leaf gT69_42)))))
theorem gT70_0 : sG l g D H0 mT 70 0 (s_load vRf 70 1 0) := ⟨ok_load _ _ _ _, so_aload_n mT70 dX1_replayedOf_0 rfl⟩
theorem gT70_1 : sG l g D H0 mT 70 1 (s_getf 70 4 5 21) := ⟨ok_getf _ _ _ _, so_getfN mT70 cl5 (k := 21) (by decide) dX1_replayedOf_1 q613 (fs_rf rfl)⟩
theorem gT70_4 : sG l g D H0 mT 70 4 (s_ifnn 70 7 11) := ⟨ok_ifnn _ _ _, so_ifnonnull mT70 dX1_replayedOf_4 (by decide)⟩
theorem gT70_7 : sG l g D H0 mT 70 7 (s_const 70 8 .null) := ⟨ok_const _ _ _, so_null mT70 dX1_replayedOf_7⟩
theorem gT70_8 : sG l g D H0 mT 70 8 (s_goto 70 19) := ⟨ok_goto _ _, so_goto mT70 dX1_replayedOf_8 (by decide)⟩
theorem gT70_11 : sG l g D H0 mT 70 11 (s_load vRf 70 12 0) := ⟨ok_load _ _ _ _, so_aload_n mT70 dX1_replayedOf_11 rfl⟩
theorem gT70_12 : sG l g D H0 mT 70 12 (s_getf 70 15 5 21) := ⟨ok_getf _ _ _ _, so_getfN mT70 cl5 (k := 21) (by decide) dX1_replayedOf_12 q613 (fs_rf rfl)⟩
theorem gT70_15 : sG l g D H0 mT 70 15 (s_load vI 70 16 1) := ⟨ok_load _ _ _ _, so_iload_n mT70 dX1_replayedOf_15 rfl⟩
theorem gT70_16 : sG l g D H0 mT 70 16 (s_callvk 70 19 103 9 [0] 6) := ⟨ok_callvk _ _ _ _ _ _, sk_callv (by decide) (so_callV mT70 mo103 (by decide) (t := 9) (C := "HyperVane$Past") (by decide) rfl rfl dX1_replayedOf_16 q451 q452 q453 q83)⟩
theorem gT70_19 : sG l g D H0 mT 70 19 (s_store vRf 70 20 3) := ⟨ok_store _ _ _ _, so_astore_n mT70 dX1_replayedOf_19 rfl⟩
theorem gT70_20 : sG l g D H0 mT 70 20 (s_load vRf 70 21 3) := ⟨ok_load _ _ _ _, so_aload_n mT70 dX1_replayedOf_20 rfl⟩
theorem gT70_21 : sG l g D H0 mT 70 21 (s_ifnn 70 24 26) := ⟨ok_ifnn _ _ _, so_ifnonnull mT70 dX1_replayedOf_21 (by decide)⟩
theorem gT70_24 : sG l g D H0 mT 70 24 (s_const 70 25 (.int (-1))) := ⟨ok_const _ _ _, so_iconst mT70 dX1_replayedOf_24 (by decide)⟩
theorem gT70_25 : sG l g D H0 mT 70 25 (s_ret pI) := ⟨ok_ret _, so_iret mT70 dX1_replayedOf_25⟩
theorem gT70_26 : sG l g D H0 mT 70 26 (s_load vI 70 27 2) := ⟨ok_load _ _ _ _, so_iload_n mT70 dX1_replayedOf_26 rfl⟩
theorem gT70_27 : sG l g D H0 mT 70 27 (s_const 70 28 (.int (-1))) := ⟨ok_const _ _ _, so_iconst mT70 dX1_replayedOf_27 (by decide)⟩
theorem gT70_28 : sG l g D H0 mT 70 28 (s_icmp 70 38 31 (fun a b => a = b)) := ⟨ok_icmp _ _ _ _, so_icmp_ne mT70 dX1_replayedOf_28 (by decide)⟩
theorem gT70_31 : sG l g D H0 mT 70 31 (s_load vRf 70 32 3) := ⟨ok_load _ _ _ _, so_aload_n mT70 dX1_replayedOf_31 rfl⟩
theorem gT70_32 : sG l g D H0 mT 70 32 (s_getf 70 35 6 3) := ⟨ok_getf _ _ _ _, so_getfN mT70 cl6 (k := 3) (by decide) dX1_replayedOf_32 q476 (fs_rf rfl)⟩
theorem gT70_35 : sG l g D H0 mT 70 35 (s_goto 70 44) := ⟨ok_goto _ _, so_goto mT70 dX1_replayedOf_35 (by decide)⟩
theorem gT70_38 : sG l g D H0 mT 70 38 (s_load vRf 70 39 3) := ⟨ok_load _ _ _ _, so_aload_n mT70 dX1_replayedOf_38 rfl⟩
theorem gT70_39 : sG l g D H0 mT 70 39 (s_getf 70 42 6 1) := ⟨ok_getf _ _ _ _, so_getfN mT70 cl6 (k := 1) (by decide) dX1_replayedOf_39 q472 (fs_rf rfl)⟩
theorem gT70_42 : sG l g D H0 mT 70 42 (s_load vI 70 43 2) := ⟨ok_load _ _ _ _, so_iload_n mT70 dX1_replayedOf_42 rfl⟩
theorem gT70_43 : sG l g D H0 mT 70 43 (s_ald 70 44 20) := ⟨ok_ald _ _ _, so_iald mT70 a20 dX1_replayedOf_43⟩
theorem gT70_44 : sG l g D H0 mT 70 44 (s_ret pI) := ⟨ok_ret _, so_iret mT70 dX1_replayedOf_44⟩
theorem gT70 (pc : Nat) : sG l g D H0 mT 70 pc (tT70 g pc) := sG_cond (sG_cond (sG_cond (sG_cond (sG_leaf gT70_0) (sG_cond (sG_leaf gT70_1) (sG_leaf gT70_4))) (sG_cond (sG_leaf gT70_7) (sG_cond (sG_leaf gT70_8) (sG_leaf gT70_11)))) (sG_cond (sG_cond (sG_leaf gT70_12) (sG_cond (sG_leaf gT70_15) (sG_leaf gT70_16))) (sG_cond (sG_leaf gT70_19) (sG_cond (sG_leaf gT70_20) (sG_leaf gT70_21))))) (sG_cond (sG_cond (sG_cond (sG_leaf gT70_24) (sG_cond (sG_leaf gT70_25) (sG_leaf gT70_26))) (sG_cond (sG_leaf gT70_27) (sG_cond (sG_leaf gT70_28) (sG_leaf gT70_31)))) (sG_cond (sG_cond (sG_leaf gT70_32) (sG_cond (sG_leaf gT70_35) (sG_leaf gT70_38))) (sG_cond (sG_cond (sG_leaf gT70_39) (sG_leaf gT70_42)) (sG_cond (sG_leaf gT70_43) (sG_leaf gT70_44)))))
theorem gT71_0 : sG l g D H0 mT 71 0 (s_load vRf 71 1 0) := ⟨ok_load _ _ _ _, so_aload_n mT71 dX1_doneBy_0 rfl⟩
theorem gT71_1 : sG l g D H0 mT 71 1 (s_getf 71 4 0 0) := ⟨ok_getf _ _ _ _, so_getf mT71 cl0 (k := 0) (by decide) dX1_doneBy_1 q289 (fs_rf rfl)⟩
theorem gT71_4 : sG l g D H0 mT 71 4 (s_callvk 71 7 112 1 [] 5) := ⟨ok_callvk _ _ _ _ _ _, sk_callv (by decide) (so_callV mT71 mo112 (by decide) (t := 1) (C := "HyperVane$Machine") (by decide) rfl rfl dX1_doneBy_4 q533 q534 q535 q55)⟩
theorem gT71_7 : sG l g D H0 mT 71 7 (s_store vRf 71 8 3) := ⟨ok_store _ _ _ _, so_astore_n mT71 dX1_doneBy_7 rfl⟩
theorem gT71_8 : sG l g D H0 mT 71 8 (s_load vRf 71 9 3) := ⟨ok_load _ _ _ _, so_aload_n mT71 dX1_doneBy_8 rfl⟩
theorem gT71_9 : sG l g D H0 mT 71 9 (s_load vI 71 10 2) := ⟨ok_load _ _ _ _, so_iload_n mT71 dX1_doneBy_9 rfl⟩
theorem gT71_10 : sG l g D H0 mT 71 10 (s_callvk 71 13 113 1 [0] 4) := ⟨ok_callvk _ _ _ _ _ _, sk_callv (by decide) (so_callV mT71 mo113 (by decide) (t := 1) (C := "HyperVane$Machine") (by decide) rfl rfl dX1_doneBy_10 q702 q703 q704 q55)⟩
theorem gT71_13 : sG l g D H0 mT 71 13 (s_pop 71 14) := ⟨ok_pop _ _, so_pop mT71 dX1_doneBy_13⟩
theorem gT71_14 : sG l g D H0 mT 71 14 (s_load vRf 71 15 3) := ⟨ok_load _ _ _ _, so_aload_n mT71 dX1_doneBy_14 rfl⟩
theorem gT71_15 : sG l g D H0 mT 71 15 (s_getf 71 18 1 0) := ⟨ok_getf _ _ _ _, so_getfN mT71 cl1 (k := 0) (by decide) dX1_doneBy_15 q129 (fs_rf rfl)⟩
theorem gT71_18 : sG l g D H0 mT 71 18 (s_load vI 71 19 1) := ⟨ok_load _ _ _ _, so_iload_n mT71 dX1_doneBy_18 rfl⟩
theorem gT71_19 : sG l g D H0 mT 71 19 (s_callvk 71 22 25 10 [0] 2) := ⟨ok_callvk _ _ _ _ _ _, sk_callv (by decide) (so_callV mT71 mo25 (by decide) (t := 10) (C := "java/util/ArrayList") (by decide) rfl rfl dX1_doneBy_19 q438 q439 q440 q58)⟩
theorem gT71_22 : sG l g D H0 mT 71 22 (s_cast 71 25 [5]) := ⟨ok_cast _ _ _, so_cast mT71 (T := "HyperVane$Guest") (ts := [5]) (by intro u hu; rw [List.mem_singleton] at hu; subst hu; exact ⟨by decide, Or.inl rfl⟩) dX1_doneBy_22 q352⟩
theorem gT71_25 : sG l g D H0 mT 71 25 (s_getf 71 28 5 10) := ⟨ok_getf _ _ _ _, so_getfN mT71 cl5 (k := 10) (by decide) dX1_doneBy_25 q583 (fs_rf rfl)⟩
theorem gT71_28 : sG l g D H0 mT 71 28 (s_load vRf 71 29 0) := ⟨ok_load _ _ _ _, so_aload_n mT71 dX1_doneBy_28 rfl⟩
theorem gT71_29 : sG l g D H0 mT 71 29 (s_getf 71 32 0 0) := ⟨ok_getf _ _ _ _, so_getf mT71 cl0 (k := 0) (by decide) dX1_doneBy_29 q289 (fs_rf rfl)⟩
theorem gT71_32 : sG l g D H0 mT 71 32 (s_getf 71 35 1 0) := ⟨ok_getf _ _ _ _, so_getfN mT71 cl1 (k := 0) (by decide) dX1_doneBy_32 q129 (fs_rf rfl)⟩
theorem gT71_35 : sG l g D H0 mT 71 35 (s_load vI 71 36 1) := ⟨ok_load _ _ _ _, so_iload_n mT71 dX1_doneBy_35 rfl⟩
theorem gT71_36 : sG l g D H0 mT 71 36 (s_callvk 71 39 25 10 [0] 2) := ⟨ok_callvk _ _ _ _ _ _, sk_callv (by decide) (so_callV mT71 mo25 (by decide) (t := 10) (C := "java/util/ArrayList") (by decide) rfl rfl dX1_doneBy_36 q438 q439 q440 q58)⟩
theorem gT71_39 : sG l g D H0 mT 71 39 (s_cast 71 42 [5]) := ⟨ok_cast _ _ _, so_cast mT71 (T := "HyperVane$Guest") (ts := [5]) (by intro u hu; rw [List.mem_singleton] at hu; subst hu; exact ⟨by decide, Or.inl rfl⟩) dX1_doneBy_39 q352⟩
theorem gT71_42 : sG l g D H0 mT 71 42 (s_getf 71 45 5 10) := ⟨ok_getf _ _ _ _, so_getfN mT71 cl5 (k := 10) (by decide) dX1_doneBy_42 q583 (fs_rf rfl)⟩
theorem gT71_45 : sG l g D H0 mT 71 45 (s_bin 71 46 (fun a b => a - b)) := ⟨ok_bin _ _ _, so_isub mT71 dX1_doneBy_45⟩
theorem gT71_46 : sG l g D H0 mT 71 46 (s_ret pI) := ⟨ok_ret _, so_iret mT71 dX1_doneBy_46⟩
theorem gT71 (pc : Nat) : sG l g D H0 mT 71 pc (tT71 g pc) := sG_cond (sG_cond (sG_cond (sG_cond (sG_leaf gT71_0) (sG_leaf gT71_1)) (sG_cond (sG_leaf gT71_4) (sG_cond (sG_leaf gT71_7) (sG_leaf gT71_8)))) (sG_cond (sG_cond (sG_leaf gT71_9) (sG_cond (sG_leaf gT71_10) (sG_leaf gT71_13))) (sG_cond (sG_leaf gT71_14) (sG_cond (sG_leaf gT71_15) (sG_leaf gT71_18))))) (sG_cond (sG_cond (sG_cond (sG_leaf gT71_19) (sG_cond (sG_leaf gT71_22) (sG_leaf gT71_25))) (sG_cond (sG_leaf gT71_28) (sG_cond (sG_leaf gT71_29) (sG_leaf gT71_32)))) (sG_cond (sG_cond (sG_leaf gT71_35) (sG_cond (sG_leaf gT71_36) (sG_leaf gT71_39))) (sG_cond (sG_leaf gT71_42) (sG_cond (sG_leaf gT71_45) (sG_leaf gT71_46)))))
theorem gT72_0 : sG l g D H0 mT 72 0 (s_load vRf 72 1 0) := ⟨ok_load _ _ _ _, so_aload_n mT72 dX1_canMove_0 rfl⟩
theorem gT72_1 : sG l g D H0 mT 72 1 (s_callvk 72 4 197 5 [] 1) := ⟨ok_callvk _ _ _ _ _ _, sk_callv (by decide) (so_callV mT72 mo197 (by decide) (t := 5) (C := "HyperVane$Guest") (by decide) rfl rfl dX1_canMove_1 q818 q715 q716 q73)⟩
theorem gT72_4 : sG l g D H0 mT 72 4 (s_if 72 18 7 (fun a => a = 0)) := ⟨ok_if _ _ _ _, so_if_ne mT72 dX1_canMove_4 (by decide)⟩
theorem gT72_7 : sG l g D H0 mT 72 7 (s_load vRf 72 8 0) := ⟨ok_load _ _ _ _, so_aload_n mT72 dX1_canMove_7 rfl⟩
theorem gT72_8 : sG l g D H0 mT 72 8 (s_callvk 72 11 194 5 [] 1) := ⟨ok_callvk _ _ _ _ _ _, sk_callv (by decide) (so_callV mT72 mo194 (by decide) (t := 5) (C := "HyperVane$Guest") (by decide) rfl rfl dX1_canMove_8 q434 q391 q392 q73)⟩
theorem gT72_11 : sG l g D H0 mT 72 11 (s_if 72 18 14 (fun a => a = 0)) := ⟨ok_if _ _ _ _, so_if_ne mT72 dX1_canMove_11 (by decide)⟩
theorem gT72_14 : sG l g D H0 mT 72 14 (s_const 72 15 (.int 1)) := ⟨ok_const _ _ _, so_iconst mT72 dX1_canMove_14 (by decide)⟩
theorem gT72_15 : sG l g D H0 mT 72 15 (s_goto 72 19) := ⟨ok_goto _ _, so_goto mT72 dX1_canMove_15 (by decide)⟩
theorem gT72_18 : sG l g D H0 mT 72 18 (s_const 72 19 (.int 0)) := ⟨ok_const _ _ _, so_iconst mT72 dX1_canMove_18 (by decide)⟩
theorem gT72_19 : sG l g D H0 mT 72 19 (s_ret vZ) := ⟨ok_ret _, so_zret mT72 dX1_canMove_19⟩
theorem gT72 (pc : Nat) : sG l g D H0 mT 72 pc (tT72 g pc) := sG_cond (sG_cond (sG_cond (sG_leaf gT72_0) (sG_leaf gT72_1)) (sG_cond (sG_leaf gT72_4) (sG_cond (sG_leaf gT72_7) (sG_leaf gT72_8)))) (sG_cond (sG_cond (sG_leaf gT72_11) (sG_leaf gT72_14)) (sG_cond (sG_leaf gT72_15) (sG_cond (sG_leaf gT72_18) (sG_leaf gT72_19))))
theorem gT73_0 : sG l g D H0 mT 73 0 (s_load vRf 73 1 0) := ⟨ok_load _ _ _ _, so_aload_n mT73 dX1_awayBy_0 rfl⟩
theorem gT73_1 : sG l g D H0 mT 73 1 (s_getf 73 4 0 0) := ⟨ok_getf _ _ _ _, so_getf mT73 cl0 (k := 0) (by decide) dX1_awayBy_1 q289 (fs_rf rfl)⟩
theorem gT73_4 : sG l g D H0 mT 73 4 (s_callvk 73 7 112 1 [] 5) := ⟨ok_callvk _ _ _ _ _ _, sk_callv (by decide) (so_callV mT73 mo112 (by decide) (t := 1) (C := "HyperVane$Machine") (by decide) rfl rfl dX1_awayBy_4 q533 q534 q535 q55)⟩
theorem gT73_7 : sG l g D H0 mT 73 7 (s_store vRf 73 8 3) := ⟨ok_store _ _ _ _, so_astore_n mT73 dX1_awayBy_7 rfl⟩
theorem gT73_8 : sG l g D H0 mT 73 8 (s_load vRf 73 9 3) := ⟨ok_load _ _ _ _, so_aload_n mT73 dX1_awayBy_8 rfl⟩
theorem gT73_9 : sG l g D H0 mT 73 9 (s_getf 73 12 1 0) := ⟨ok_getf _ _ _ _, so_getfN mT73 cl1 (k := 0) (by decide) dX1_awayBy_9 q129 (fs_rf rfl)⟩
theorem gT73_12 : sG l g D H0 mT 73 12 (s_load vI 73 13 1) := ⟨ok_load _ _ _ _, so_iload_n mT73 dX1_awayBy_12 rfl⟩
theorem gT73_13 : sG l g D H0 mT 73 13 (s_callvk 73 16 25 10 [0] 2) := ⟨ok_callvk _ _ _ _ _ _, sk_callv (by decide) (so_callV mT73 mo25 (by decide) (t := 10) (C := "java/util/ArrayList") (by decide) rfl rfl dX1_awayBy_13 q438 q439 q440 q58)⟩
theorem gT73_16 : sG l g D H0 mT 73 16 (s_cast 73 19 [5]) := ⟨ok_cast _ _ _, so_cast mT73 (T := "HyperVane$Guest") (ts := [5]) (by intro u hu; rw [List.mem_singleton] at hu; subst hu; exact ⟨by decide, Or.inl rfl⟩) dX1_awayBy_16 q352⟩
theorem gT73_19 : sG l g D H0 mT 73 19 (s_store vRf 73 21 4) := ⟨ok_store _ _ _ _, so_astore mT73 dX1_awayBy_19⟩
theorem gT73_21 : sG l g D H0 mT 73 21 (s_load vRf 73 22 3) := ⟨ok_load _ _ _ _, so_aload_n mT73 dX1_awayBy_21 rfl⟩
theorem gT73_22 : sG l g D H0 mT 73 22 (s_load vRf 73 24 4) := ⟨ok_load _ _ _ _, so_aload mT73 dX1_awayBy_22⟩
theorem gT73_24 : sG l g D H0 mT 73 24 (s_load vI 73 25 2) := ⟨ok_load _ _ _ _, so_iload_n mT73 dX1_awayBy_24 rfl⟩
theorem gT73_25 : sG l g D H0 mT 73 25 (s_callvk 73 28 131 1 [1, 0] 4) := ⟨ok_callvk _ _ _ _ _ _, sk_callv (by decide) (so_callV mT73 mo131 (by decide) (t := 1) (C := "HyperVane$Machine") (by decide) rfl rfl dX1_awayBy_25 q823 q824 q825 q55)⟩
theorem gT73_28 : sG l g D H0 mT 73 28 (s_pop 73 29) := ⟨ok_pop _ _, so_pop mT73 dX1_awayBy_28⟩
theorem gT73_29 : sG l g D H0 mT 73 29 (s_const 73 30 (.int 1)) := ⟨ok_const _ _ _, so_iconst mT73 dX1_awayBy_29 (by decide)⟩
theorem gT73_30 : sG l g D H0 mT 73 30 (s_store vI 73 32 5) := ⟨ok_store _ _ _ _, so_istore mT73 dX1_awayBy_30⟩
theorem gT73_32 : sG l g D H0 mT 73 32 (s_load vI 73 34 5) := ⟨ok_load _ _ _ _, so_iload mT73 dX1_awayBy_32⟩
theorem gT73_34 : sG l g D H0 mT 73 34 (s_const 73 36 (.int 40)) := ⟨ok_const _ _ _, so_bipush mT73 dX1_awayBy_34 (by decide)⟩
theorem gT73_36 : sG l g D H0 mT 73 36 (s_icmp 73 39 62 (fun a b => b < a)) := ⟨ok_icmp _ _ _ _, so_icmp_gt mT73 dX1_awayBy_36 (by decide)⟩
theorem gT73_39 : sG l g D H0 mT 73 39 (s_load vRf 73 40 3) := ⟨ok_load _ _ _ _, so_aload_n mT73 dX1_awayBy_39 rfl⟩
theorem gT73_40 : sG l g D H0 mT 73 40 (s_const 73 41 (.int 1)) := ⟨ok_const _ _ _, so_iconst mT73 dX1_awayBy_40 (by decide)⟩
theorem gT73_41 : sG l g D H0 mT 73 41 (s_callvk 73 44 113 1 [0] 4) := ⟨ok_callvk _ _ _ _ _ _, sk_callv (by decide) (so_callV mT73 mo113 (by decide) (t := 1) (C := "HyperVane$Machine") (by decide) rfl rfl dX1_awayBy_41 q702 q703 q704 q55)⟩
theorem gT73_44 : sG l g D H0 mT 73 44 (s_pop 73 45) := ⟨ok_pop _ _, so_pop mT73 dX1_awayBy_44⟩
theorem gT73_45 : sG l g D H0 mT 73 45 (s_load vRf 73 47 4) := ⟨ok_load _ _ _ _, so_aload mT73 dX1_awayBy_45⟩
theorem gT73_47 : sG l g D H0 mT 73 47 (s_callvk 73 50 197 5 [] 1) := ⟨ok_callvk _ _ _ _ _ _, sk_callv (by decide) (so_callV mT73 mo197 (by decide) (t := 5) (C := "HyperVane$Guest") (by decide) rfl rfl dX1_awayBy_47 q818 q715 q716 q73)⟩
theorem gT73_50 : sG l g D H0 mT 73 50 (s_if 73 53 56 (fun a => a = 0)) := ⟨ok_if _ _ _ _, so_if_eq mT73 dX1_awayBy_50 (by decide)⟩
theorem gT73_53 : sG l g D H0 mT 73 53 (s_load vI 73 55 5) := ⟨ok_load _ _ _ _, so_iload mT73 dX1_awayBy_53⟩
theorem gT73_55 : sG l g D H0 mT 73 55 (s_ret pI) := ⟨ok_ret _, so_iret mT73 dX1_awayBy_55⟩
theorem gT73_56 : sG l g D H0 mT 73 56 (s_iinc 73 59 5 1) := ⟨ok_iinc _ _ _ _, so_iinc mT73 dX1_awayBy_56 (by decide)⟩
theorem gT73_59 : sG l g D H0 mT 73 59 (s_goto 73 32) := ⟨ok_goto _ _, so_goto mT73 dX1_awayBy_59 (by decide)⟩
theorem gT73_62 : sG l g D H0 mT 73 62 (s_const 73 63 (.int (-1))) := ⟨ok_const _ _ _, so_iconst mT73 dX1_awayBy_62 (by decide)⟩
theorem gT73_63 : sG l g D H0 mT 73 63 (s_ret pI) := ⟨ok_ret _, so_iret mT73 dX1_awayBy_63⟩
theorem gT73 (pc : Nat) : sG l g D H0 mT 73 pc (tT73 g pc) := sG_cond (sG_cond (sG_cond (sG_cond (sG_cond (sG_leaf gT73_0) (sG_leaf gT73_1)) (sG_cond (sG_leaf gT73_4) (sG_leaf gT73_7))) (sG_cond (sG_cond (sG_leaf gT73_8) (sG_leaf gT73_9)) (sG_cond (sG_leaf gT73_12) (sG_leaf gT73_13)))) (sG_cond (sG_cond (sG_cond (sG_leaf gT73_16) (sG_leaf gT73_19)) (sG_cond (sG_leaf gT73_21) (sG_leaf gT73_22))) (sG_cond (sG_cond (sG_leaf gT73_24) (sG_leaf gT73_25)) (sG_cond (sG_leaf gT73_28) (sG_leaf gT73_29))))) (sG_cond (sG_cond (sG_cond (sG_cond (sG_leaf gT73_30) (sG_leaf gT73_32)) (sG_cond (sG_leaf gT73_34) (sG_leaf gT73_36))) (sG_cond (sG_cond (sG_leaf gT73_39) (sG_leaf gT73_40)) (sG_cond (sG_leaf gT73_41) (sG_leaf gT73_44)))) (sG_cond (sG_cond (sG_cond (sG_leaf gT73_45) (sG_leaf gT73_47)) (sG_cond (sG_leaf gT73_50) (sG_leaf gT73_53))) (sG_cond (sG_cond (sG_leaf gT73_55) (sG_leaf gT73_56)) (sG_cond (sG_leaf gT73_59) (sG_cond (sG_leaf gT73_62) (sG_leaf gT73_63))))))
theorem gT74_0 : sG l g D H0 mT 74 0 (s_load vI 74 1 1) := ⟨ok_load _ _ _ _, so_iload_n mT74 dX1_told_2_0 rfl⟩
theorem gT74_1 : sG l g D H0 mT 74 1 (s_if 74 25 4 (fun a => a = 0)) := ⟨ok_if _ _ _ _, so_if_ne mT74 dX1_told_2_1 (by decide)⟩
theorem gT74_4 : sG l g D H0 mT 74 4 (s_load vRf 74 5 0) := ⟨ok_load _ _ _ _, so_aload_n mT74 dX1_told_2_4 rfl⟩
theorem gT74_5 : sG l g D H0 mT 74 5 (s_getf 74 8 2 0) := ⟨ok_getf _ _ _ _, so_getfN mT74 cl2 (k := 0) (by decide) dX1_told_2_5 q213 (fs_rf rfl)⟩
theorem gT74_8 : sG l g D H0 mT 74 8 (s_ifnn 74 11 15) := ⟨ok_ifnn _ _ _, so_ifnonnull mT74 dX1_told_2_8 (by decide)⟩
theorem gT74_11 : sG l g D H0 mT 74 11 (s_const 74 12 (.int (-1))) := ⟨ok_const _ _ _, so_iconst mT74 dX1_told_2_11 (by decide)⟩
theorem gT74_12 : sG l g D H0 mT 74 12 (s_goto 74 41) := ⟨ok_goto _ _, so_goto mT74 dX1_told_2_12 (by decide)⟩
theorem gT74_15 : sG l g D H0 mT 74 15 (s_load vRf 74 16 0) := ⟨ok_load _ _ _ _, so_aload_n mT74 dX1_told_2_15 rfl⟩
theorem gT74_16 : sG l g D H0 mT 74 16 (s_getf 74 19 2 0) := ⟨ok_getf _ _ _ _, so_getfN mT74 cl2 (k := 0) (by decide) dX1_told_2_16 q213 (fs_rf rfl)⟩
theorem gT74_19 : sG l g D H0 mT 74 19 (s_getf 74 22 5 0) := ⟨ok_getf _ _ _ _, so_getfN mT74 cl5 (k := 0) (by decide) dX1_told_2_19 q554 (fs_rf rfl)⟩
theorem gT74_22 : sG l g D H0 mT 74 22 (s_goto 74 41) := ⟨ok_goto _ _, so_goto mT74 dX1_told_2_22 (by decide)⟩
theorem gT74_25 : sG l g D H0 mT 74 25 (s_load vI 74 26 1) := ⟨ok_load _ _ _ _, so_iload_n mT74 dX1_told_2_25 rfl⟩
theorem gT74_26 : sG l g D H0 mT 74 26 (s_const 74 27 (.int 1)) := ⟨ok_const _ _ _, so_iconst mT74 dX1_told_2_26 (by decide)⟩
theorem gT74_27 : sG l g D H0 mT 74 27 (s_icmp 74 37 30 (fun a b => a = b)) := ⟨ok_icmp _ _ _ _, so_icmp_ne mT74 dX1_told_2_27 (by decide)⟩
theorem gT74_30 : sG l g D H0 mT 74 30 (s_load vRf 74 31 0) := ⟨ok_load _ _ _ _, so_aload_n mT74 dX1_told_2_30 rfl⟩
theorem gT74_31 : sG l g D H0 mT 74 31 (s_getf 74 34 2 1) := ⟨ok_getf _ _ _ _, so_getfN mT74 cl2 (k := 1) (by decide) dX1_told_2_31 q216 (fs_rf rfl)⟩
theorem gT74_34 : sG l g D H0 mT 74 34 (s_goto 74 41) := ⟨ok_goto _ _, so_goto mT74 dX1_told_2_34 (by decide)⟩
theorem gT74_37 : sG l g D H0 mT 74 37 (s_load vRf 74 38 0) := ⟨ok_load _ _ _ _, so_aload_n mT74 dX1_told_2_37 rfl⟩
theorem gT74_38 : sG l g D H0 mT 74 38 (s_getf 74 41 2 2) := ⟨ok_getf _ _ _ _, so_getfN mT74 cl2 (k := 2) (by decide) dX1_told_2_38 q219 (fs_rf rfl)⟩
theorem gT74_41 : sG l g D H0 mT 74 41 (s_ret pI) := ⟨ok_ret _, so_iret mT74 dX1_told_2_41⟩
theorem gT74 (pc : Nat) : sG l g D H0 mT 74 pc (tT74 g pc) := sG_cond (sG_cond (sG_cond (sG_cond (sG_leaf gT74_0) (sG_leaf gT74_1)) (sG_cond (sG_leaf gT74_4) (sG_cond (sG_leaf gT74_5) (sG_leaf gT74_8)))) (sG_cond (sG_cond (sG_leaf gT74_11) (sG_leaf gT74_12)) (sG_cond (sG_leaf gT74_15) (sG_cond (sG_leaf gT74_16) (sG_leaf gT74_19))))) (sG_cond (sG_cond (sG_cond (sG_leaf gT74_22) (sG_leaf gT74_25)) (sG_cond (sG_leaf gT74_26) (sG_cond (sG_leaf gT74_27) (sG_leaf gT74_30)))) (sG_cond (sG_cond (sG_leaf gT74_31) (sG_leaf gT74_34)) (sG_cond (sG_leaf gT74_37) (sG_cond (sG_leaf gT74_38) (sG_leaf gT74_41)))))
theorem gT75_0 : sG l g D H0 mT 75 0 (s_load vI 75 1 1) := ⟨ok_load _ _ _ _, so_iload_n mT75 dX1_guest_0 rfl⟩
theorem gT75_1 : sG l g D H0 mT 75 1 (s_callk 75 4 76 [0] 1) := ⟨ok_callk _ _ _ _ _, sk_call (by decide) (so_callS mT75 mo76 (by decide) dX1_guest_1 q839 q840 q54)⟩
theorem gT75_4 : sG l g D H0 mT 75 4 (s_load vRf 75 5 0) := ⟨ok_load _ _ _ _, so_aload_n mT75 dX1_guest_4 rfl⟩
theorem gT75_5 : sG l g D H0 mT 75 5 (s_getf 75 8 0 0) := ⟨ok_getf _ _ _ _, so_getf mT75 cl0 (k := 0) (by decide) dX1_guest_5 q289 (fs_rf rfl)⟩
theorem gT75_8 : sG l g D H0 mT 75 8 (s_getf 75 11 1 0) := ⟨ok_getf _ _ _ _, so_getfN mT75 cl1 (k := 0) (by decide) dX1_guest_8 q129 (fs_rf rfl)⟩
theorem gT75_11 : sG l g D H0 mT 75 11 (s_callvk 75 14 15 10 [] 1) := ⟨ok_callvk _ _ _ _ _ _, sk_callv (by decide) (so_callV mT75 mo15 (by decide) (t := 10) (C := "java/util/ArrayList") (by decide) rfl rfl dX1_guest_11 q353 q173 q174 q58)⟩
theorem gT75_14 : sG l g D H0 mT 75 14 (s_const 75 15 (.int 3)) := ⟨ok_const _ _ _, so_iconst mT75 dX1_guest_14 (by decide)⟩
theorem gT75_15 : sG l g D H0 mT 75 15 (s_icmp 75 18 22 (fun a b => b ≤ a)) := ⟨ok_icmp _ _ _ _, so_icmp_ge mT75 dX1_guest_15 (by decide)⟩
theorem gT75_18 : sG l g D H0 mT 75 18 (s_const 75 19 (.int 1)) := ⟨ok_const _ _ _, so_iconst mT75 dX1_guest_18 (by decide)⟩
theorem gT75_19 : sG l g D H0 mT 75 19 (s_goto 75 23) := ⟨ok_goto _ _, so_goto mT75 dX1_guest_19 (by decide)⟩
theorem gT75_22 : sG l g D H0 mT 75 22 (s_const 75 23 (.int 0)) := ⟨ok_const _ _ _, so_iconst mT75 dX1_guest_22 (by decide)⟩
theorem gT75_23 : sG l g D H0 mT 75 23 (s_callk 75 26 79 [0] 1) := ⟨ok_callk _ _ _ _ _, sk_call (by decide) (so_callS mT75 mo79 (by decide) dX1_guest_23 q913 q914 q54)⟩
theorem gT75_26 : sG l g D H0 mT 75 26 (s_load vRf 75 27 0) := ⟨ok_load _ _ _ _, so_aload_n mT75 dX1_guest_26 rfl⟩
theorem gT75_27 : sG l g D H0 mT 75 27 (s_getf 75 30 0 0) := ⟨ok_getf _ _ _ _, so_getf mT75 cl0 (k := 0) (by decide) dX1_guest_27 q289 (fs_rf rfl)⟩
theorem gT75_30 : sG l g D H0 mT 75 30 (s_getf 75 33 1 0) := ⟨ok_getf _ _ _ _, so_getfN mT75 cl1 (k := 0) (by decide) dX1_guest_30 q129 (fs_rf rfl)⟩
theorem gT75_33 : sG l g D H0 mT 75 33 (s_new g 75 36 5 22 (fun k => defaultValue (tyX6 k))) := ⟨ok_new _ _ _ _ _ _, so_new mT75 cl5 (fun _ _ => rfl) dX1_guest_33 q352 q545 q73⟩
theorem gT75_36 : sG l g D H0 mT 75 36 (s_dup 75 37) := ⟨ok_dup _ _, so_dup mT75 dX1_guest_36⟩
theorem gT75_37 : sG l g D H0 mT 75 37 (s_load vRf 75 38 0) := ⟨ok_load _ _ _ _, so_aload_n mT75 dX1_guest_37 rfl⟩
theorem gT75_38 : sG l g D H0 mT 75 38 (s_getf 75 41 0 0) := ⟨ok_getf _ _ _ _, so_getf mT75 cl0 (k := 0) (by decide) dX1_guest_38 q289 (fs_rf rfl)⟩
theorem gT75_41 : sG l g D H0 mT 75 41 (s_getf 75 44 1 0) := ⟨ok_getf _ _ _ _, so_getfN mT75 cl1 (k := 0) (by decide) dX1_guest_41 q129 (fs_rf rfl)⟩
theorem gT75_44 : sG l g D H0 mT 75 44 (s_callvk 75 47 15 10 [] 1) := ⟨ok_callvk _ _ _ _ _ _, sk_callv (by decide) (so_callV mT75 mo15 (by decide) (t := 10) (C := "java/util/ArrayList") (by decide) rfl rfl dX1_guest_44 q353 q173 q174 q58)⟩
theorem gT75_47 : sG l g D H0 mT 75 47 (s_load vI 75 48 1) := ⟨ok_load _ _ _ _, so_iload_n mT75 dX1_guest_47 rfl⟩
theorem gT75_48 : sG l g D H0 mT 75 48 (s_callik 75 51 196 [0, 0] 3) := ⟨ok_callik _ _ _ _ _, sk_calli (by decide) (so_callI mT75 mo196 (by decide) rfl dX1_guest_48 q931 q547 q73)⟩
theorem gT75_51 : sG l g D H0 mT 75 51 (s_callvk 75 54 18 10 [1] 2) := ⟨ok_callvk _ _ _ _ _ _, sk_callv (by decide) (so_callV mT75 mo18 (by decide) (t := 10) (C := "java/util/ArrayList") (by decide) rfl rfl dX1_guest_51 q932 q228 q229 q58)⟩
theorem gT75_54 : sG l g D H0 mT 75 54 (s_pop 75 55) := ⟨ok_pop _ _, so_pop mT75 dX1_guest_54⟩
theorem gT75_55 : sG l g D H0 mT 75 55 (s_load vRf 75 56 0) := ⟨ok_load _ _ _ _, so_aload_n mT75 dX1_guest_55 rfl⟩
theorem gT75_56 : sG l g D H0 mT 75 56 (s_getf 75 59 0 0) := ⟨ok_getf _ _ _ _, so_getf mT75 cl0 (k := 0) (by decide) dX1_guest_56 q289 (fs_rf rfl)⟩
theorem gT75_59 : sG l g D H0 mT 75 59 (s_getf 75 62 1 0) := ⟨ok_getf _ _ _ _, so_getfN mT75 cl1 (k := 0) (by decide) dX1_guest_59 q129 (fs_rf rfl)⟩
theorem gT75_62 : sG l g D H0 mT 75 62 (s_callvk 75 65 15 10 [] 1) := ⟨ok_callvk _ _ _ _ _ _, sk_callv (by decide) (so_callV mT75 mo15 (by decide) (t := 10) (C := "java/util/ArrayList") (by decide) rfl rfl dX1_guest_62 q353 q173 q174 q58)⟩
theorem gT75_65 : sG l g D H0 mT 75 65 (s_const 75 66 (.int 1)) := ⟨ok_const _ _ _, so_iconst mT75 dX1_guest_65 (by decide)⟩
theorem gT75_66 : sG l g D H0 mT 75 66 (s_bin 75 67 (fun a b => a - b)) := ⟨ok_bin _ _ _, so_isub mT75 dX1_guest_66⟩
theorem gT75_67 : sG l g D H0 mT 75 67 (s_ret pI) := ⟨ok_ret _, so_iret mT75 dX1_guest_67⟩
theorem gT75 (pc : Nat) : sG l g D H0 mT 75 pc (tT75 g pc) := sG_cond (sG_cond (sG_cond (sG_cond (sG_cond (sG_leaf gT75_0) (sG_leaf gT75_1)) (sG_cond (sG_leaf gT75_4) (sG_leaf gT75_5))) (sG_cond (sG_cond (sG_leaf gT75_8) (sG_leaf gT75_11)) (sG_cond (sG_leaf gT75_14) (sG_leaf gT75_15)))) (sG_cond (sG_cond (sG_cond (sG_leaf gT75_18) (sG_leaf gT75_19)) (sG_cond (sG_leaf gT75_22) (sG_leaf gT75_23))) (sG_cond (sG_cond (sG_leaf gT75_26) (sG_leaf gT75_27)) (sG_cond (sG_leaf gT75_30) (sG_leaf gT75_33))))) (sG_cond (sG_cond (sG_cond (sG_cond (sG_leaf gT75_36) (sG_leaf gT75_37)) (sG_cond (sG_leaf gT75_38) (sG_leaf gT75_41))) (sG_cond (sG_cond (sG_leaf gT75_44) (sG_leaf gT75_47)) (sG_cond (sG_leaf gT75_48) (sG_leaf gT75_51)))) (sG_cond (sG_cond (sG_cond (sG_leaf gT75_54) (sG_leaf gT75_55)) (sG_cond (sG_leaf gT75_56) (sG_leaf gT75_59))) (sG_cond (sG_cond (sG_leaf gT75_62) (sG_leaf gT75_65)) (sG_cond (sG_leaf gT75_66) (sG_leaf gT75_67)))))
theorem gT76_0 : sG l g D H0 mT 76 0 (s_const 76 1 (.int 1)) := ⟨ok_const _ _ _, so_iconst mT76 dX1_requireWeight_0 (by decide)⟩
theorem gT76_1 : sG l g D H0 mT 76 1 (s_const 76 2 (.int 4)) := ⟨ok_const _ _ _, so_iconst mT76 dX1_requireWeight_1 (by decide)⟩
theorem gT76_2 : sG l g D H0 mT 76 2 (s_load vI 76 3 0) := ⟨ok_load _ _ _ _, so_iload_n mT76 dX1_requireWeight_2 rfl⟩
theorem gT76_3 : sG l g D H0 mT 76 3 (s_callk 76 6 77 [0, 0, 0] 3) := ⟨ok_callk _ _ _ _ _, sk_call (by decide) (so_callS mT76 mo77 (by decide) dX1_requireWeight_3 q842 q843 q54)⟩
theorem gT76_6 : sG l g D H0 mT 76 6 (s_vret) := ⟨ok_vret, so_vret mT76 dX1_requireWeight_6⟩
theorem gT76 (pc : Nat) : sG l g D H0 mT 76 pc (tT76 g pc) := sG_cond (sG_cond (sG_leaf gT76_0) (sG_leaf gT76_1)) (sG_cond (sG_leaf gT76_2) (sG_cond (sG_leaf gT76_3) (sG_leaf gT76_6)))
theorem gT77_0 : sG l g D H0 mT 77 0 (s_load vI 77 1 2) := ⟨ok_load _ _ _ _, so_iload_n mT77 dX1_requireFrom_0 rfl⟩
theorem gT77_1 : sG l g D H0 mT 77 1 (s_load vI 77 2 0) := ⟨ok_load _ _ _ _, so_iload_n mT77 dX1_requireFrom_1 rfl⟩
theorem gT77_2 : sG l g D H0 mT 77 2 (s_icmp 77 5 14 (fun a b => a < b)) := ⟨ok_icmp _ _ _ _, so_icmp_lt mT77 dX1_requireFrom_2 (by decide)⟩
theorem gT77_5 : sG l g D H0 mT 77 5 (s_load vI 77 6 2) := ⟨ok_load _ _ _ _, so_iload_n mT77 dX1_requireFrom_5 rfl⟩
theorem gT77_6 : sG l g D H0 mT 77 6 (s_load vI 77 7 1) := ⟨ok_load _ _ _ _, so_iload_n mT77 dX1_requireFrom_6 rfl⟩
theorem gT77_7 : sG l g D H0 mT 77 7 (s_icmp 77 10 14 (fun a b => b < a)) := ⟨ok_icmp _ _ _ _, so_icmp_gt mT77 dX1_requireFrom_7 (by decide)⟩
theorem gT77_10 : sG l g D H0 mT 77 10 (s_const 77 11 (.int 1)) := ⟨ok_const _ _ _, so_iconst mT77 dX1_requireFrom_10 (by decide)⟩
theorem gT77_11 : sG l g D H0 mT 77 11 (s_goto 77 15) := ⟨ok_goto _ _, so_goto mT77 dX1_requireFrom_11 (by decide)⟩
theorem gT77_14 : sG l g D H0 mT 77 14 (s_const 77 15 (.int 0)) := ⟨ok_const _ _ _, so_iconst mT77 dX1_requireFrom_14 (by decide)⟩
theorem gT77_15 : sG l g D H0 mT 77 15 (s_callk 77 18 78 [0] 1) := ⟨ok_callk _ _ _ _ _, sk_call (by decide) (so_callS mT77 mo78 (by decide) dX1_requireFrom_15 q845 q846 q54)⟩
theorem gT77_18 : sG l g D H0 mT 77 18 (s_vret) := ⟨ok_vret, so_vret mT77 dX1_requireFrom_18⟩
theorem gT77 (pc : Nat) : sG l g D H0 mT 77 pc (tT77 g pc) := sG_cond (sG_cond (sG_cond (sG_leaf gT77_0) (sG_leaf gT77_1)) (sG_cond (sG_leaf gT77_2) (sG_cond (sG_leaf gT77_5) (sG_leaf gT77_6)))) (sG_cond (sG_cond (sG_leaf gT77_7) (sG_cond (sG_leaf gT77_10) (sG_leaf gT77_11))) (sG_cond (sG_leaf gT77_14) (sG_cond (sG_leaf gT77_15) (sG_leaf gT77_18))))
theorem gT78_0 : sG l g D H0 mT 78 0 (s_load vI 78 1 0) := ⟨ok_load _ _ _ _, so_iload_n mT78 dX1_require_0 rfl⟩
theorem gT78_1 : sG l g D H0 mT 78 1 (s_if 78 12 4 (fun a => a = 0)) := ⟨ok_if _ _ _ _, so_if_ne mT78 dX1_require_1 (by decide)⟩
theorem gT78_4 : sG l g D H0 mT 78 4 (s_throw g 0) := ⟨ok_throw _ _, so_throw mT78 (by decide) (k := 0) (ic := 3) (by decide) thr_f0 thr_n0 thr_h0 thr_c0 q848 q71 dX1_require_4 dX1_require_7 dX1_require_8 dX1_require_11⟩
theorem gT78_7 : sG l g D H0 mT 78 7 (s_dup 78 8) := ⟨ok_dup _ _, so_dup mT78 dX1_require_7⟩
theorem gT78_12 : sG l g D H0 mT 78 12 (s_vret) := ⟨ok_vret, so_vret mT78 dX1_require_12⟩
theorem gT78 (pc : Nat) : sG l g D H0 mT 78 pc (tT78 g pc) := sG_cond (sG_cond (sG_leaf gT78_0) (sG_leaf gT78_1)) (sG_cond (sG_leaf gT78_4) (sG_cond (sG_leaf gT78_7) (sG_leaf gT78_12)))
theorem gT79_0 : sG l g D H0 mT 79 0 (s_load vI 79 1 0) := ⟨ok_load _ _ _ _, so_iload_n mT79 dX1_requireState_0 rfl⟩
theorem gT79_1 : sG l g D H0 mT 79 1 (s_if 79 12 4 (fun a => a = 0)) := ⟨ok_if _ _ _ _, so_if_ne mT79 dX1_requireState_1 (by decide)⟩
theorem gT79_4 : sG l g D H0 mT 79 4 (s_throw g 1) := ⟨ok_throw _ _, so_throw mT79 (by decide) (k := 1) (ic := 9) (by decide) thr_f1 thr_n1 thr_h1 thr_c1 q916 q72 dX1_requireState_4 dX1_requireState_7 dX1_requireState_8 dX1_requireState_11⟩
theorem gT79_7 : sG l g D H0 mT 79 7 (s_dup 79 8) := ⟨ok_dup _ _, so_dup mT79 dX1_requireState_7⟩
theorem gT79_12 : sG l g D H0 mT 79 12 (s_vret) := ⟨ok_vret, so_vret mT79 dX1_requireState_12⟩
theorem gT79 (pc : Nat) : sG l g D H0 mT 79 pc (tT79 g pc) := sG_cond (sG_cond (sG_leaf gT79_0) (sG_leaf gT79_1)) (sG_cond (sG_leaf gT79_4) (sG_cond (sG_leaf gT79_7) (sG_leaf gT79_12)))
theorem gT80_0 : sG l g D H0 mT 80 0 (s_load vRf 80 1 0) := ⟨ok_load _ _ _ _, so_aload_n mT80 dX1_op_0 rfl⟩
theorem gT80_1 : sG l g D H0 mT 80 1 (s_load vI 80 2 1) := ⟨ok_load _ _ _ _, so_iload_n mT80 dX1_op_1 rfl⟩
theorem gT80_2 : sG l g D H0 mT 80 2 (s_callvk 80 5 81 0 [0] 2) := ⟨ok_callvk _ _ _ _ _ _, sk_callv (by decide) (so_callV mT80 mo81 (by decide) (t := 0) (C := "HyperVane") (by decide) rfl rfl dX1_op_2 q973 q975 qs30 q54)⟩
theorem gT80_5 : sG l g D H0 mT 80 5 (s_store vRf 80 7 4) := ⟨ok_store _ _ _ _, so_astore mT80 dX1_op_5⟩
theorem gT80_7 : sG l g D H0 mT 80 7 (s_const 80 8 (.int 0)) := ⟨ok_const _ _ _, so_iconst mT80 dX1_op_7 (by decide)⟩
theorem gT80_8 : sG l g D H0 mT 80 8 (s_const 80 10 (.int 6)) := ⟨ok_const _ _ _, so_bipush mT80 dX1_op_8 (by decide)⟩
theorem gT80_10 : sG l g D H0 mT 80 10 (s_load vI 80 11 2) := ⟨ok_load _ _ _ _, so_iload_n mT80 dX1_op_10 rfl⟩
theorem gT80_11 : sG l g D H0 mT 80 11 (s_callk 80 14 77 [0, 0, 0] 3) := ⟨ok_callk _ _ _ _ _, sk_call (by decide) (so_callS mT80 mo77 (by decide) dX1_op_11 q842 q843 q54)⟩
theorem gT80_14 : sG l g D H0 mT 80 14 (s_const 80 15 (.int 0)) := ⟨ok_const _ _ _, so_iconst mT80 dX1_op_14 (by decide)⟩
theorem gT80_15 : sG l g D H0 mT 80 15 (s_load vI 80 16 2) := ⟨ok_load _ _ _ _, so_iload_n mT80 dX1_op_15 rfl⟩
theorem gT80_16 : sG l g D H0 mT 80 16 (s_const 80 17 (.int 1)) := ⟨ok_const _ _ _, so_iconst mT80 dX1_op_16 (by decide)⟩
theorem gT80_17 : sG l g D H0 mT 80 17 (s_icmp 80 20 25 (fun a b => a = b)) := ⟨ok_icmp _ _ _ _, so_icmp_eq mT80 dX1_op_17 (by decide)⟩
theorem gT80_20 : sG l g D H0 mT 80 20 (s_load vI 80 21 2) := ⟨ok_load _ _ _ _, so_iload_n mT80 dX1_op_20 rfl⟩
theorem gT80_21 : sG l g D H0 mT 80 21 (s_const 80 22 (.int 2)) := ⟨ok_const _ _ _, so_iconst mT80 dX1_op_21 (by decide)⟩
theorem gT80_22 : sG l g D H0 mT 80 22 (s_icmp 80 29 25 (fun a b => a = b)) := ⟨ok_icmp _ _ _ _, so_icmp_ne mT80 dX1_op_22 (by decide)⟩
theorem gT80_25 : sG l g D H0 mT 80 25 (s_const 80 26 (.int 5)) := ⟨ok_const _ _ _, so_iconst mT80 dX1_op_25 (by decide)⟩
theorem gT80_26 : sG l g D H0 mT 80 26 (s_goto 80 30) := ⟨ok_goto _ _, so_goto mT80 dX1_op_26 (by decide)⟩
theorem gT80_29 : sG l g D H0 mT 80 29 (s_const 80 30 (.int 0)) := ⟨ok_const _ _ _, so_iconst mT80 dX1_op_29 (by decide)⟩
theorem gT80_30 : sG l g D H0 mT 80 30 (s_load vI 80 31 3) := ⟨ok_load _ _ _ _, so_iload_n mT80 dX1_op_30 rfl⟩
theorem gT80_31 : sG l g D H0 mT 80 31 (s_callk 80 34 77 [0, 0, 0] 3) := ⟨ok_callk _ _ _ _ _, sk_call (by decide) (so_callS mT80 mo77 (by decide) dX1_op_31 q842 q843 q54)⟩
theorem gT80_34 : sG l g D H0 mT 80 34 (s_load vRf 80 36 4) := ⟨ok_load _ _ _ _, so_aload mT80 dX1_op_34⟩
theorem gT80_36 : sG l g D H0 mT 80 36 (s_getf 80 39 5 2) := ⟨ok_getf _ _ _ _, so_getfN mT80 cl5 (k := 2) (by decide) dX1_op_36 q560 (fs_rf rfl)⟩
theorem gT80_39 : sG l g D H0 mT 80 39 (s_getf 80 42 6 0) := ⟨ok_getf _ _ _ _, so_getfN mT80 cl6 (k := 0) (by decide) dX1_op_39 q468 (fs_rf rfl)⟩
theorem gT80_42 : sG l g D H0 mT 80 42 (s_callvk 80 45 15 10 [] 1) := ⟨ok_callvk _ _ _ _ _ _, sk_callv (by decide) (so_callV mT80 mo15 (by decide) (t := 10) (C := "java/util/ArrayList") (by decide) rfl rfl dX1_op_42 q353 q173 q174 q58)⟩
theorem gT80_45 : sG l g D H0 mT 80 45 (s_const 80 47 (.int 12)) := ⟨ok_const _ _ _, so_bipush mT80 dX1_op_45 (by decide)⟩
theorem gT80_47 : sG l g D H0 mT 80 47 (s_icmp 80 50 62 (fun a b => b ≤ a)) := ⟨ok_icmp _ _ _ _, so_icmp_ge mT80 dX1_op_47 (by decide)⟩
theorem gT80_50 : sG l g D H0 mT 80 50 (s_load vRf 80 52 4) := ⟨ok_load _ _ _ _, so_aload mT80 dX1_op_50⟩
theorem gT80_52 : sG l g D H0 mT 80 52 (s_callvk 80 55 197 5 [] 1) := ⟨ok_callvk _ _ _ _ _ _, sk_callv (by decide) (so_callV mT80 mo197 (by decide) (t := 5) (C := "HyperVane$Guest") (by decide) rfl rfl dX1_op_52 q818 q715 q716 q73)⟩
theorem gT80_55 : sG l g D H0 mT 80 55 (s_if 80 62 58 (fun a => a = 0)) := ⟨ok_if _ _ _ _, so_if_ne mT80 dX1_op_55 (by decide)⟩
theorem gT80_58 : sG l g D H0 mT 80 58 (s_const 80 59 (.int 1)) := ⟨ok_const _ _ _, so_iconst mT80 dX1_op_58 (by decide)⟩
theorem gT80_59 : sG l g D H0 mT 80 59 (s_goto 80 63) := ⟨ok_goto _ _, so_goto mT80 dX1_op_59 (by decide)⟩
theorem gT80_62 : sG l g D H0 mT 80 62 (s_const 80 63 (.int 0)) := ⟨ok_const _ _ _, so_iconst mT80 dX1_op_62 (by decide)⟩
theorem gT80_63 : sG l g D H0 mT 80 63 (s_callk 80 66 79 [0] 1) := ⟨ok_callk _ _ _ _ _, sk_call (by decide) (so_callS mT80 mo79 (by decide) dX1_op_63 q913 q914 q54)⟩
theorem gT80_66 : sG l g D H0 mT 80 66 (s_load vRf 80 68 4) := ⟨ok_load _ _ _ _, so_aload mT80 dX1_op_66⟩
theorem gT80_68 : sG l g D H0 mT 80 68 (s_getf 80 71 5 2) := ⟨ok_getf _ _ _ _, so_getfN mT80 cl5 (k := 2) (by decide) dX1_op_68 q560 (fs_rf rfl)⟩
theorem gT80_71 : sG l g D H0 mT 80 71 (s_getf 80 74 6 0) := ⟨ok_getf _ _ _ _, so_getfN mT80 cl6 (k := 0) (by decide) dX1_op_71 q468 (fs_rf rfl)⟩
theorem gT80_74 : sG l g D H0 mT 80 74 (s_new g 80 77 8 2 (fun k => defaultValue (tyX9 k))) := ⟨ok_new _ _ _ _ _ _, so_new mT80 cl8 (fun _ _ => rfl) dX1_op_74 q1013 q1014 q79⟩
theorem gT80_77 : sG l g D H0 mT 80 77 (s_dup 80 78) := ⟨ok_dup _ _, so_dup mT80 dX1_op_77⟩
theorem gT80_78 : sG l g D H0 mT 80 78 (s_load vI 80 79 2) := ⟨ok_load _ _ _ _, so_iload_n mT80 dX1_op_78 rfl⟩
theorem gT80_79 : sG l g D H0 mT 80 79 (s_load vI 80 80 3) := ⟨ok_load _ _ _ _, so_iload_n mT80 dX1_op_79 rfl⟩
theorem gT80_80 : sG l g D H0 mT 80 80 (s_callik 80 83 211 [0, 0] 3) := ⟨ok_callik _ _ _ _ _, sk_calli (by decide) (so_callI mT80 mo211 (by decide) rfl dX1_op_80 q1015 q1016 q79)⟩
theorem gT80_83 : sG l g D H0 mT 80 83 (s_callvk 80 86 18 10 [1] 2) := ⟨ok_callvk _ _ _ _ _ _, sk_callv (by decide) (so_callV mT80 mo18 (by decide) (t := 10) (C := "java/util/ArrayList") (by decide) rfl rfl dX1_op_83 q932 q228 q229 q58)⟩
theorem gT80_86 : sG l g D H0 mT 80 86 (s_pop 80 87) := ⟨ok_pop _ _, so_pop mT80 dX1_op_86⟩
theorem gT80_87 : sG l g D H0 mT 80 87 (s_load vRf 80 89 4) := ⟨ok_load _ _ _ _, so_aload mT80 dX1_op_87⟩
theorem gT80_89 : sG l g D H0 mT 80 89 (s_const 80 90 .null) := ⟨ok_const _ _ _, so_null mT80 dX1_op_89⟩
theorem gT80_90 : sG l g D H0 mT 80 90 (s_putf g pR 80 93 5 21) := ⟨ok_putf _ _ _ _ _ _, so_putfN mT80 cl5 (k := 21) (by decide) fR rfl dX1_op_90 q613 (fs_rf rfl)⟩
theorem gT80_93 : sG l g D H0 mT 80 93 (s_load vRf 80 95 4) := ⟨ok_load _ _ _ _, so_aload mT80 dX1_op_93⟩
theorem gT80_95 : sG l g D H0 mT 80 95 (s_getf 80 98 5 3) := ⟨ok_getf _ _ _ _, so_getfN mT80 cl5 (k := 3) (by decide) dX1_op_95 q563 (fs_rf rfl)⟩
theorem gT80_98 : sG l g D H0 mT 80 98 (s_const 80 99 (.int 5)) := ⟨ok_const _ _ _, so_iconst mT80 dX1_op_98 (by decide)⟩
theorem gT80_99 : sG l g D H0 mT 80 99 (s_icmp 80 108 102 (fun a b => a = b)) := ⟨ok_icmp _ _ _ _, so_icmp_ne mT80 dX1_op_99 (by decide)⟩
theorem gT80_102 : sG l g D H0 mT 80 102 (s_load vRf 80 104 4) := ⟨ok_load _ _ _ _, so_aload mT80 dX1_op_102⟩
theorem gT80_104 : sG l g D H0 mT 80 104 (s_const 80 105 (.int 0)) := ⟨ok_const _ _ _, so_iconst mT80 dX1_op_104 (by decide)⟩
theorem gT80_105 : sG l g D H0 mT 80 105 (s_putf g pI 80 108 5 3) := ⟨ok_putf _ _ _ _ _ _, so_putfN mT80 cl5 (k := 3) (by decide) fI rfl dX1_op_105 q563 (fs_rf rfl)⟩
theorem gT80_108 : sG l g D H0 mT 80 108 (s_load vRf 80 110 4) := ⟨ok_load _ _ _ _, so_aload mT80 dX1_op_108⟩
theorem gT80_110 : sG l g D H0 mT 80 110 (s_getf 80 113 5 4) := ⟨ok_getf _ _ _ _, so_getfN mT80 cl5 (k := 4) (by decide) dX1_op_110 q565 (fs_rf rfl)⟩
theorem gT80_113 : sG l g D H0 mT 80 113 (s_const 80 114 (.int 5)) := ⟨ok_const _ _ _, so_iconst mT80 dX1_op_113 (by decide)⟩
theorem gT80_114 : sG l g D H0 mT 80 114 (s_icmp 80 123 117 (fun a b => a = b)) := ⟨ok_icmp _ _ _ _, so_icmp_ne mT80 dX1_op_114 (by decide)⟩
theorem gT80_117 : sG l g D H0 mT 80 117 (s_load vRf 80 119 4) := ⟨ok_load _ _ _ _, so_aload mT80 dX1_op_117⟩
theorem gT80_119 : sG l g D H0 mT 80 119 (s_const 80 120 (.int 0)) := ⟨ok_const _ _ _, so_iconst mT80 dX1_op_119 (by decide)⟩
theorem gT80_120 : sG l g D H0 mT 80 120 (s_putf g pI 80 123 5 4) := ⟨ok_putf _ _ _ _ _ _, so_putfN mT80 cl5 (k := 4) (by decide) fI rfl dX1_op_120 q565 (fs_rf rfl)⟩
theorem gT80_123 : sG l g D H0 mT 80 123 (s_load vRf 80 125 4) := ⟨ok_load _ _ _ _, so_aload mT80 dX1_op_123⟩
theorem gT80_125 : sG l g D H0 mT 80 125 (s_getf 80 128 5 2) := ⟨ok_getf _ _ _ _, so_getfN mT80 cl5 (k := 2) (by decide) dX1_op_125 q560 (fs_rf rfl)⟩
theorem gT80_128 : sG l g D H0 mT 80 128 (s_getf 80 131 6 0) := ⟨ok_getf _ _ _ _, so_getfN mT80 cl6 (k := 0) (by decide) dX1_op_128 q468 (fs_rf rfl)⟩
theorem gT80_131 : sG l g D H0 mT 80 131 (s_callvk 80 134 15 10 [] 1) := ⟨ok_callvk _ _ _ _ _ _, sk_callv (by decide) (so_callV mT80 mo15 (by decide) (t := 10) (C := "java/util/ArrayList") (by decide) rfl rfl dX1_op_131 q353 q173 q174 q58)⟩
theorem gT80_134 : sG l g D H0 mT 80 134 (s_ret pI) := ⟨ok_ret _, so_iret mT80 dX1_op_134⟩
theorem gT80 (pc : Nat) : sG l g D H0 mT 80 pc (tT80 g pc) := sG_cond (sG_cond (sG_cond (sG_cond (sG_cond (sG_cond (sG_leaf gT80_0) (sG_leaf gT80_1)) (sG_cond (sG_leaf gT80_2) (sG_leaf gT80_5))) (sG_cond (sG_cond (sG_leaf gT80_7) (sG_leaf gT80_8)) (sG_cond (sG_leaf gT80_10) (sG_leaf gT80_11)))) (sG_cond (sG_cond (sG_cond (sG_leaf gT80_14) (sG_leaf gT80_15)) (sG_cond (sG_leaf gT80_16) (sG_leaf gT80_17))) (sG_cond (sG_cond (sG_leaf gT80_20) (sG_leaf gT80_21)) (sG_cond (sG_leaf gT80_22) (sG_leaf gT80_25))))) (sG_cond (sG_cond (sG_cond (sG_cond (sG_leaf gT80_26) (sG_leaf gT80_29)) (sG_cond (sG_leaf gT80_30) (sG_leaf gT80_31))) (sG_cond (sG_cond (sG_leaf gT80_34) (sG_leaf gT80_36)) (sG_cond (sG_leaf gT80_39) (sG_leaf gT80_42)))) (sG_cond (sG_cond (sG_cond (sG_leaf gT80_45) (sG_leaf gT80_47)) (sG_cond (sG_leaf gT80_50) (sG_leaf gT80_52))) (sG_cond (sG_cond (sG_leaf gT80_55) (sG_leaf gT80_58)) (sG_cond (sG_leaf gT80_59) (sG_leaf gT80_62)))))) (sG_cond (sG_cond (sG_cond (sG_cond (sG_cond (sG_leaf gT80_63) (sG_leaf gT80_66)) (sG_cond (sG_leaf gT80_68) (sG_leaf gT80_71))) (sG_cond (sG_cond (sG_leaf gT80_74) (sG_leaf gT80_77)) (sG_cond (sG_leaf gT80_78) (sG_leaf gT80_79)))) (sG_cond (sG_cond (sG_cond (sG_leaf gT80_80) (sG_leaf gT80_83)) (sG_cond (sG_leaf gT80_86) (sG_leaf gT80_87))) (sG_cond (sG_cond (sG_leaf gT80_89) (sG_leaf gT80_90)) (sG_cond (sG_leaf gT80_93) (sG_leaf gT80_95))))) (sG_cond (sG_cond (sG_cond (sG_cond (sG_leaf gT80_98) (sG_leaf gT80_99)) (sG_cond (sG_leaf gT80_102) (sG_leaf gT80_104))) (sG_cond (sG_cond (sG_leaf gT80_105) (sG_leaf gT80_108)) (sG_cond (sG_leaf gT80_110) (sG_leaf gT80_113)))) (sG_cond (sG_cond (sG_cond (sG_leaf gT80_114) (sG_leaf gT80_117)) (sG_cond (sG_leaf gT80_119) (sG_leaf gT80_120))) (sG_cond (sG_cond (sG_leaf gT80_123) (sG_leaf gT80_125)) (sG_cond (sG_leaf gT80_128) (sG_cond (sG_leaf gT80_131) (sG_leaf gT80_134)))))))
theorem gT81_0 : sG l g D H0 mT 81 0 (s_load vRf 81 1 0) := ⟨ok_load _ _ _ _, so_aload_n mT81 dX1_guestOf_0 rfl⟩
theorem gT81_1 : sG l g D H0 mT 81 1 (s_getf 81 4 0 0) := ⟨ok_getf _ _ _ _, so_getf mT81 cl0 (k := 0) (by decide) dX1_guestOf_1 q289 (fs_rf rfl)⟩
theorem gT81_4 : sG l g D H0 mT 81 4 (s_getf 81 7 1 0) := ⟨ok_getf _ _ _ _, so_getfN mT81 cl1 (k := 0) (by decide) dX1_guestOf_4 q129 (fs_rf rfl)⟩
theorem gT81_7 : sG l g D H0 mT 81 7 (s_load vI 81 8 1) := ⟨ok_load _ _ _ _, so_iload_n mT81 dX1_guestOf_7 rfl⟩
theorem gT81_8 : sG l g D H0 mT 81 8 (s_callk 81 11 82 [1, 0] 2) := ⟨ok_callk _ _ _ _ _, sk_call (by decide) (so_callS mT81 mo82 (by decide) dX1_guestOf_8 q977 q978 q54)⟩
theorem gT81_11 : sG l g D H0 mT 81 11 (s_cast 81 14 [5]) := ⟨ok_cast _ _ _, so_cast mT81 (T := "HyperVane$Guest") (ts := [5]) (by intro u hu; rw [List.mem_singleton] at hu; subst hu; exact ⟨by decide, Or.inl rfl⟩) dX1_guestOf_11 q352⟩
theorem gT81_14 : sG l g D H0 mT 81 14 (s_ret pR) := ⟨ok_ret _, so_aret mT81 dX1_guestOf_14 (Or.inl ⟨_, rfl⟩)⟩
theorem gT81 (pc : Nat) : sG l g D H0 mT 81 pc (tT81 g pc) := sG_cond (sG_cond (sG_leaf gT81_0) (sG_cond (sG_leaf gT81_1) (sG_leaf gT81_4))) (sG_cond (sG_cond (sG_leaf gT81_7) (sG_leaf gT81_8)) (sG_cond (sG_leaf gT81_11) (sG_leaf gT81_14)))
theorem gT82_0 : sG l g D H0 mT 82 0 (s_load vI 82 1 1) := ⟨ok_load _ _ _ _, so_iload_n mT82 dX1_at_0 rfl⟩
theorem gT82_1 : sG l g D H0 mT 82 1 (s_load vRf 82 2 0) := ⟨ok_load _ _ _ _, so_aload_n mT82 dX1_at_1 rfl⟩
theorem gT82_2 : sG l g D H0 mT 82 2 (s_callvk 82 7 15 10 [] 1) := ⟨ok_callvk _ _ _ _ _ _, sk_callv (by decide) (so_callF mT82 mo15 (by decide) (t := 10) (C := "java/util/ArrayList") (by decide) rfl (by decide +kernel) ⟨by decide, by decide, by decide +kernel⟩ dX1_at_2 q981 q173 q985 q58)⟩
theorem gT82_7 : sG l g D H0 mT 82 7 (s_callk 82 10 83 [0, 0] 2) := ⟨ok_callk _ _ _ _ _, sk_call (by decide) (so_callS mT82 mo83 (by decide) dX1_at_7 q988 q989 q54)⟩
theorem gT82_10 : sG l g D H0 mT 82 10 (s_load vRf 82 11 0) := ⟨ok_load _ _ _ _, so_aload_n mT82 dX1_at_10 rfl⟩
theorem gT82_11 : sG l g D H0 mT 82 11 (s_load vI 82 12 1) := ⟨ok_load _ _ _ _, so_iload_n mT82 dX1_at_11 rfl⟩
theorem gT82_12 : sG l g D H0 mT 82 12 (s_callvk 82 17 25 10 [0] 2) := ⟨ok_callvk _ _ _ _ _ _, sk_callv (by decide) (so_callF mT82 mo25 (by decide) (t := 10) (C := "java/util/ArrayList") (by decide) rfl (by decide +kernel) ⟨by decide, by decide, by decide +kernel⟩ dX1_at_12 q1007 q439 q1010 q58)⟩
theorem gT82_17 : sG l g D H0 mT 82 17 (s_ret pR) := ⟨ok_ret _, so_aret mT82 dX1_at_17 (Or.inl ⟨_, rfl⟩)⟩
theorem gT82 (pc : Nat) : sG l g D H0 mT 82 pc (tT82 g pc) := sG_cond (sG_cond (sG_cond (sG_leaf gT82_0) (sG_leaf gT82_1)) (sG_cond (sG_leaf gT82_2) (sG_leaf gT82_7))) (sG_cond (sG_cond (sG_leaf gT82_10) (sG_leaf gT82_11)) (sG_cond (sG_leaf gT82_12) (sG_leaf gT82_17)))
theorem gT83_0 : sG l g D H0 mT 83 0 (s_load vI 83 1 0) := ⟨ok_load _ _ _ _, so_iload_n mT83 dX1_requireIndex_0 rfl⟩
theorem gT83_1 : sG l g D H0 mT 83 1 (s_if 83 4 9 (fun a => a < 0)) := ⟨ok_if _ _ _ _, so_if_lt mT83 dX1_requireIndex_1 (by decide)⟩
theorem gT83_4 : sG l g D H0 mT 83 4 (s_load vI 83 5 0) := ⟨ok_load _ _ _ _, so_iload_n mT83 dX1_requireIndex_4 rfl⟩
theorem gT83_5 : sG l g D H0 mT 83 5 (s_load vI 83 6 1) := ⟨ok_load _ _ _ _, so_iload_n mT83 dX1_requireIndex_5 rfl⟩
theorem gT83_6 : sG l g D H0 mT 83 6 (s_icmp 83 9 17 (fun a b => a < b)) := ⟨ok_icmp _ _ _ _, so_icmp_lt mT83 dX1_requireIndex_6 (by decide)⟩
theorem gT83_9 : sG l g D H0 mT 83 9 (s_throw g 2) := ⟨ok_throw _ _, so_throw mT83 (by decide) (k := 2) (ic := 12) (by decide) thr_f2 thr_n2 thr_h2 thr_c2 q991 q76 dX1_requireIndex_9 dX1_requireIndex_12 dX1_requireIndex_13 dX1_requireIndex_16⟩
theorem gT83_12 : sG l g D H0 mT 83 12 (s_dup 83 13) := ⟨ok_dup _ _, so_dup mT83 dX1_requireIndex_12⟩
theorem gT83_17 : sG l g D H0 mT 83 17 (s_vret) := ⟨ok_vret, so_vret mT83 dX1_requireIndex_17⟩
theorem gT83 (pc : Nat) : sG l g D H0 mT 83 pc (tT83 g pc) := sG_cond (sG_cond (sG_cond (sG_leaf gT83_0) (sG_leaf gT83_1)) (sG_cond (sG_leaf gT83_4) (sG_leaf gT83_5))) (sG_cond (sG_cond (sG_leaf gT83_6) (sG_leaf gT83_9)) (sG_cond (sG_leaf gT83_12) (sG_leaf gT83_17)))
theorem gT84_0 : sG l g D H0 mT 84 0 (s_load vRf 84 1 0) := ⟨ok_load _ _ _ _, so_aload_n mT84 dX1_weight_0 rfl⟩
theorem gT84_1 : sG l g D H0 mT 84 1 (s_load vI 84 2 1) := ⟨ok_load _ _ _ _, so_iload_n mT84 dX1_weight_1 rfl⟩
theorem gT84_2 : sG l g D H0 mT 84 2 (s_callvk 84 5 81 0 [0] 2) := ⟨ok_callvk _ _ _ _ _ _, sk_callv (by decide) (so_callV mT84 mo81 (by decide) (t := 0) (C := "HyperVane") (by decide) rfl rfl dX1_weight_2 q973 q975 qs30 q54)⟩
theorem gT84_5 : sG l g D H0 mT 84 5 (s_store vRf 84 6 3) := ⟨ok_store _ _ _ _, so_astore_n mT84 dX1_weight_5 rfl⟩
theorem gT84_6 : sG l g D H0 mT 84 6 (s_load vI 84 7 2) := ⟨ok_load _ _ _ _, so_iload_n mT84 dX1_weight_6 rfl⟩
theorem gT84_7 : sG l g D H0 mT 84 7 (s_callk 84 10 76 [0] 1) := ⟨ok_callk _ _ _ _ _, sk_call (by decide) (so_callS mT84 mo76 (by decide) dX1_weight_7 q839 q840 q54)⟩
theorem gT84_10 : sG l g D H0 mT 84 10 (s_load vRf 84 11 3) := ⟨ok_load _ _ _ _, so_aload_n mT84 dX1_weight_10 rfl⟩
theorem gT84_11 : sG l g D H0 mT 84 11 (s_getf 84 14 5 1) := ⟨ok_getf _ _ _ _, so_getfN mT84 cl5 (k := 1) (by decide) dX1_weight_11 q556 (fs_rf rfl)⟩
theorem gT84_14 : sG l g D H0 mT 84 14 (s_store vI 84 16 4) := ⟨ok_store _ _ _ _, so_istore mT84 dX1_weight_14⟩
theorem gT84_16 : sG l g D H0 mT 84 16 (s_load vRf 84 17 3) := ⟨ok_load _ _ _ _, so_aload_n mT84 dX1_weight_16 rfl⟩
theorem gT84_17 : sG l g D H0 mT 84 17 (s_load vI 84 18 2) := ⟨ok_load _ _ _ _, so_iload_n mT84 dX1_weight_17 rfl⟩
theorem gT84_18 : sG l g D H0 mT 84 18 (s_putf g pI 84 21 5 1) := ⟨ok_putf _ _ _ _ _ _, so_putfN mT84 cl5 (k := 1) (by decide) fI rfl dX1_weight_18 q556 (fs_rf rfl)⟩
theorem gT84_21 : sG l g D H0 mT 84 21 (s_load vI 84 23 4) := ⟨ok_load _ _ _ _, so_iload mT84 dX1_weight_21⟩
theorem gT84_23 : sG l g D H0 mT 84 23 (s_ret pI) := ⟨ok_ret _, so_iret mT84 dX1_weight_23⟩
theorem gT84 (pc : Nat) : sG l g D H0 mT 84 pc (tT84 g pc) := sG_cond (sG_cond (sG_cond (sG_leaf gT84_0) (sG_cond (sG_leaf gT84_1) (sG_leaf gT84_2))) (sG_cond (sG_cond (sG_leaf gT84_5) (sG_leaf gT84_6)) (sG_cond (sG_leaf gT84_7) (sG_leaf gT84_10)))) (sG_cond (sG_cond (sG_leaf gT84_11) (sG_cond (sG_leaf gT84_14) (sG_leaf gT84_16))) (sG_cond (sG_cond (sG_leaf gT84_17) (sG_leaf gT84_18)) (sG_cond (sG_leaf gT84_21) (sG_leaf gT84_23))))
theorem gT85_0 : sG l g D H0 mT 85 0 (s_load vRf 85 1 0) := ⟨ok_load _ _ _ _, so_aload_n mT85 dX1_pause_0 rfl⟩
theorem gT85_1 : sG l g D H0 mT 85 1 (s_load vI 85 2 1) := ⟨ok_load _ _ _ _, so_iload_n mT85 dX1_pause_1 rfl⟩
theorem gT85_2 : sG l g D H0 mT 85 2 (s_callvk 85 5 81 0 [0] 2) := ⟨ok_callvk _ _ _ _ _ _, sk_callv (by decide) (so_callV mT85 mo81 (by decide) (t := 0) (C := "HyperVane") (by decide) rfl rfl dX1_pause_2 q973 q975 qs30 q54)⟩
theorem gT85_5 : sG l g D H0 mT 85 5 (s_store vRf 85 6 3) := ⟨ok_store _ _ _ _, so_astore_n mT85 dX1_pause_5 rfl⟩
theorem gT85_6 : sG l g D H0 mT 85 6 (s_load vRf 85 7 3) := ⟨ok_load _ _ _ _, so_aload_n mT85 dX1_pause_6 rfl⟩
theorem gT85_7 : sG l g D H0 mT 85 7 (s_getf 85 10 5 3) := ⟨ok_getf _ _ _ _, so_getfN mT85 cl5 (k := 3) (by decide) dX1_pause_7 q563 (fs_rf rfl)⟩
theorem gT85_10 : sG l g D H0 mT 85 10 (s_const 85 11 (.int 3)) := ⟨ok_const _ _ _, so_iconst mT85 dX1_pause_10 (by decide)⟩
theorem gT85_11 : sG l g D H0 mT 85 11 (s_icmp 85 18 14 (fun a b => a = b)) := ⟨ok_icmp _ _ _ _, so_icmp_ne mT85 dX1_pause_11 (by decide)⟩
theorem gT85_14 : sG l g D H0 mT 85 14 (s_const 85 15 (.int 1)) := ⟨ok_const _ _ _, so_iconst mT85 dX1_pause_14 (by decide)⟩
theorem gT85_15 : sG l g D H0 mT 85 15 (s_goto 85 19) := ⟨ok_goto _ _, so_goto mT85 dX1_pause_15 (by decide)⟩
theorem gT85_18 : sG l g D H0 mT 85 18 (s_const 85 19 (.int 0)) := ⟨ok_const _ _ _, so_iconst mT85 dX1_pause_18 (by decide)⟩
theorem gT85_19 : sG l g D H0 mT 85 19 (s_store vI 85 21 4) := ⟨ok_store _ _ _ _, so_istore mT85 dX1_pause_19⟩
theorem gT85_21 : sG l g D H0 mT 85 21 (s_load vRf 85 22 3) := ⟨ok_load _ _ _ _, so_aload_n mT85 dX1_pause_21 rfl⟩
theorem gT85_22 : sG l g D H0 mT 85 22 (s_callvk 85 25 197 5 [] 1) := ⟨ok_callvk _ _ _ _ _ _, sk_callv (by decide) (so_callV mT85 mo197 (by decide) (t := 5) (C := "HyperVane$Guest") (by decide) rfl rfl dX1_pause_22 q818 q715 q716 q73)⟩
theorem gT85_25 : sG l g D H0 mT 85 25 (s_if 85 48 28 (fun a => a = 0)) := ⟨ok_if _ _ _ _, so_if_ne mT85 dX1_pause_25 (by decide)⟩
theorem gT85_28 : sG l g D H0 mT 85 28 (s_load vI 85 29 2) := ⟨ok_load _ _ _ _, so_iload_n mT85 dX1_pause_28 rfl⟩
theorem gT85_29 : sG l g D H0 mT 85 29 (s_if 85 44 32 (fun a => a = 0)) := ⟨ok_if _ _ _ _, so_if_ne mT85 dX1_pause_29 (by decide)⟩
theorem gT85_32 : sG l g D H0 mT 85 32 (s_load vI 85 34 4) := ⟨ok_load _ _ _ _, so_iload mT85 dX1_pause_32⟩
theorem gT85_34 : sG l g D H0 mT 85 34 (s_if 85 37 44 (fun a => a = 0)) := ⟨ok_if _ _ _ _, so_if_eq mT85 dX1_pause_34 (by decide)⟩
theorem gT85_37 : sG l g D H0 mT 85 37 (s_load vRf 85 38 3) := ⟨ok_load _ _ _ _, so_aload_n mT85 dX1_pause_37 rfl⟩
theorem gT85_38 : sG l g D H0 mT 85 38 (s_getf 85 41 5 5) := ⟨ok_getf _ _ _ _, so_getfN mT85 cl5 (k := 5) (by decide) dX1_pause_38 q567 (fs_rf rfl)⟩
theorem gT85_41 : sG l g D H0 mT 85 41 (s_if 85 48 44 (fun a => a = 0)) := ⟨ok_if _ _ _ _, so_if_ne mT85 dX1_pause_41 (by decide)⟩
theorem gT85_44 : sG l g D H0 mT 85 44 (s_const 85 45 (.int 1)) := ⟨ok_const _ _ _, so_iconst mT85 dX1_pause_44 (by decide)⟩
theorem gT85_45 : sG l g D H0 mT 85 45 (s_goto 85 49) := ⟨ok_goto _ _, so_goto mT85 dX1_pause_45 (by decide)⟩
theorem gT85_48 : sG l g D H0 mT 85 48 (s_const 85 49 (.int 0)) := ⟨ok_const _ _ _, so_iconst mT85 dX1_pause_48 (by decide)⟩
theorem gT85_49 : sG l g D H0 mT 85 49 (s_callk 85 52 79 [0] 1) := ⟨ok_callk _ _ _ _ _, sk_call (by decide) (so_callS mT85 mo79 (by decide) dX1_pause_49 q913 q914 q54)⟩
theorem gT85_52 : sG l g D H0 mT 85 52 (s_load vI 85 53 2) := ⟨ok_load _ _ _ _, so_iload_n mT85 dX1_pause_52 rfl⟩
theorem gT85_53 : sG l g D H0 mT 85 53 (s_if 85 56 65 (fun a => a = 0)) := ⟨ok_if _ _ _ _, so_if_eq mT85 dX1_pause_53 (by decide)⟩
theorem gT85_56 : sG l g D H0 mT 85 56 (s_load vI 85 58 4) := ⟨ok_load _ _ _ _, so_iload mT85 dX1_pause_56⟩
theorem gT85_58 : sG l g D H0 mT 85 58 (s_if 85 65 61 (fun a => a = 0)) := ⟨ok_if _ _ _ _, so_if_ne mT85 dX1_pause_58 (by decide)⟩
theorem gT85_61 : sG l g D H0 mT 85 61 (s_load vRf 85 62 3) := ⟨ok_load _ _ _ _, so_aload_n mT85 dX1_pause_61 rfl⟩
theorem gT85_62 : sG l g D H0 mT 85 62 (s_callvk 85 65 199 5 [] 1) := ⟨ok_callvk _ _ _ _ _ _, sk_callv (by decide) (so_callV mT85 mo199 (by decide) (t := 5) (C := "HyperVane$Guest") (by decide) rfl rfl dX1_pause_62 q1045 q812 q813 q73)⟩
theorem gT85_65 : sG l g D H0 mT 85 65 (s_load vI 85 66 2) := ⟨ok_load _ _ _ _, so_iload_n mT85 dX1_pause_65 rfl⟩
theorem gT85_66 : sG l g D H0 mT 85 66 (s_if 85 85 69 (fun a => a = 0)) := ⟨ok_if _ _ _ _, so_if_ne mT85 dX1_pause_66 (by decide)⟩
theorem gT85_69 : sG l g D H0 mT 85 69 (s_load vI 85 71 4) := ⟨ok_load _ _ _ _, so_iload mT85 dX1_pause_69⟩
theorem gT85_71 : sG l g D H0 mT 85 71 (s_if 85 74 85 (fun a => a = 0)) := ⟨ok_if _ _ _ _, so_if_eq mT85 dX1_pause_71 (by decide)⟩
theorem gT85_74 : sG l g D H0 mT 85 74 (s_load vRf 85 75 3) := ⟨ok_load _ _ _ _, so_aload_n mT85 dX1_pause_74 rfl⟩
theorem gT85_75 : sG l g D H0 mT 85 75 (s_load vRf 85 76 0) := ⟨ok_load _ _ _ _, so_aload_n mT85 dX1_pause_75 rfl⟩
theorem gT85_76 : sG l g D H0 mT 85 76 (s_getf 85 79 0 0) := ⟨ok_getf _ _ _ _, so_getf mT85 cl0 (k := 0) (by decide) dX1_pause_76 q289 (fs_rf rfl)⟩
theorem gT85_79 : sG l g D H0 mT 85 79 (s_getf 85 82 1 2) := ⟨ok_getf _ _ _ _, so_getfN mT85 cl1 (k := 2) (by decide) dX1_pause_79 q133 (fs_rf rfl)⟩
theorem gT85_82 : sG l g D H0 mT 85 82 (s_callvk 85 85 200 5 [0] 2) := ⟨ok_callvk _ _ _ _ _ _, sk_callv (by decide) (so_callV mT85 mo200 (by decide) (t := 5) (C := "HyperVane$Guest") (by decide) rfl rfl dX1_pause_82 q1046 q1047 q1048 q73)⟩
theorem gT85_85 : sG l g D H0 mT 85 85 (s_load vI 85 87 4) := ⟨ok_load _ _ _ _, so_iload mT85 dX1_pause_85⟩
theorem gT85_87 : sG l g D H0 mT 85 87 (s_ret vZ) := ⟨ok_ret _, so_zret mT85 dX1_pause_87⟩
theorem gT85 (pc : Nat) : sG l g D H0 mT 85 pc (tT85 g pc) := sG_cond (sG_cond (sG_cond (sG_cond (sG_cond (sG_leaf gT85_0) (sG_leaf gT85_1)) (sG_cond (sG_leaf gT85_2) (sG_cond (sG_leaf gT85_5) (sG_leaf gT85_6)))) (sG_cond (sG_cond (sG_leaf gT85_7) (sG_leaf gT85_10)) (sG_cond (sG_leaf gT85_11) (sG_cond (sG_leaf gT85_14) (sG_leaf gT85_15))))) (sG_cond (sG_cond (sG_cond (sG_leaf gT85_18) (sG_leaf gT85_19)) (sG_cond (sG_leaf gT85_21) (sG_cond (sG_leaf gT85_22) (sG_leaf gT85_25)))) (sG_cond (sG_cond (sG_leaf gT85_28) (sG_cond (sG_leaf gT85_29) (sG_leaf gT85_32))) (sG_cond (sG_leaf gT85_34) (sG_cond (sG_leaf gT85_37) (sG_leaf gT85_38)))))) (sG_cond (sG_cond (sG_cond (sG_cond (sG_leaf gT85_41) (sG_leaf gT85_44)) (sG_cond (sG_leaf gT85_45) (sG_cond (sG_leaf gT85_48) (sG_leaf gT85_49)))) (sG_cond (sG_cond (sG_leaf gT85_52) (sG_cond (sG_leaf gT85_53) (sG_leaf gT85_56))) (sG_cond (sG_leaf gT85_58) (sG_cond (sG_leaf gT85_61) (sG_leaf gT85_62))))) (sG_cond (sG_cond (sG_cond (sG_leaf gT85_65) (sG_leaf gT85_66)) (sG_cond (sG_leaf gT85_69) (sG_cond (sG_leaf gT85_71) (sG_leaf gT85_74)))) (sG_cond (sG_cond (sG_leaf gT85_75) (sG_cond (sG_leaf gT85_76) (sG_leaf gT85_79))) (sG_cond (sG_leaf gT85_82) (sG_cond (sG_leaf gT85_85) (sG_leaf gT85_87))))))
theorem gT86_0 : sG l g D H0 mT 86 0 (s_const 86 1 (.int 1)) := ⟨ok_const _ _ _, so_iconst mT86 dX1_frames_0 (by decide)⟩
theorem gT86_1 : sG l g D H0 mT 86 1 (s_const 86 3 (.int 10)) := ⟨ok_const _ _ _, so_bipush mT86 dX1_frames_1 (by decide)⟩
theorem gT86_3 : sG l g D H0 mT 86 3 (s_load vI 86 4 1) := ⟨ok_load _ _ _ _, so_iload_n mT86 dX1_frames_3 rfl⟩
theorem gT86_4 : sG l g D H0 mT 86 4 (s_callk 86 7 77 [0, 0, 0] 3) := ⟨ok_callk _ _ _ _ _, sk_call (by decide) (so_callS mT86 mo77 (by decide) dX1_frames_4 q842 q843 q54)⟩
theorem gT86_7 : sG l g D H0 mT 86 7 (s_load vRf 86 8 0) := ⟨ok_load _ _ _ _, so_aload_n mT86 dX1_frames_7 rfl⟩
theorem gT86_8 : sG l g D H0 mT 86 8 (s_getf 86 11 0 0) := ⟨ok_getf _ _ _ _, so_getf mT86 cl0 (k := 0) (by decide) dX1_frames_8 q289 (fs_rf rfl)⟩
theorem gT86_11 : sG l g D H0 mT 86 11 (s_load vI 86 12 1) := ⟨ok_load _ _ _ _, so_iload_n mT86 dX1_frames_11 rfl⟩
theorem gT86_12 : sG l g D H0 mT 86 12 (s_callvk 86 15 109 1 [0] 4) := ⟨ok_callvk _ _ _ _ _ _, sk_callv (by decide) (so_callV mT86 mo109 (by decide) (t := 1) (C := "HyperVane$Machine") (by decide) rfl rfl dX1_frames_12 q168 q169 q170 q55)⟩
theorem gT86_15 : sG l g D H0 mT 86 15 (s_ret pI) := ⟨ok_ret _, so_iret mT86 dX1_frames_15⟩
theorem gT86 (pc : Nat) : sG l g D H0 mT 86 pc (tT86 g pc) := sG_cond (sG_cond (sG_cond (sG_leaf gT86_0) (sG_leaf gT86_1)) (sG_cond (sG_leaf gT86_3) (sG_leaf gT86_4))) (sG_cond (sG_cond (sG_leaf gT86_7) (sG_leaf gT86_8)) (sG_cond (sG_leaf gT86_11) (sG_cond (sG_leaf gT86_12) (sG_leaf gT86_15))))
theorem gT87_0 : sG l g D H0 mT 87 0 (s_load vRf 87 1 0) := ⟨ok_load _ _ _ _, so_aload_n mT87 dX1_giveUp_0 rfl⟩
theorem gT87_1 : sG l g D H0 mT 87 1 (s_load vI 87 2 1) := ⟨ok_load _ _ _ _, so_iload_n mT87 dX1_giveUp_1 rfl⟩
theorem gT87_2 : sG l g D H0 mT 87 2 (s_callvk 87 5 81 0 [0] 2) := ⟨ok_callvk _ _ _ _ _ _, sk_callv (by decide) (so_callV mT87 mo81 (by decide) (t := 0) (C := "HyperVane") (by decide) rfl rfl dX1_giveUp_2 q973 q975 qs30 q54)⟩
theorem gT87_5 : sG l g D H0 mT 87 5 (s_store vRf 87 6 3) := ⟨ok_store _ _ _ _, so_astore_n mT87 dX1_giveUp_5 rfl⟩
theorem gT87_6 : sG l g D H0 mT 87 6 (s_const 87 7 (.int 1)) := ⟨ok_const _ _ _, so_iconst mT87 dX1_giveUp_6 (by decide)⟩
theorem gT87_7 : sG l g D H0 mT 87 7 (s_const 87 9 (.int 6)) := ⟨ok_const _ _ _, so_bipush mT87 dX1_giveUp_7 (by decide)⟩
theorem gT87_9 : sG l g D H0 mT 87 9 (s_load vI 87 10 2) := ⟨ok_load _ _ _ _, so_iload_n mT87 dX1_giveUp_9 rfl⟩
theorem gT87_10 : sG l g D H0 mT 87 10 (s_callk 87 13 77 [0, 0, 0] 3) := ⟨ok_callk _ _ _ _ _, sk_call (by decide) (so_callS mT87 mo77 (by decide) dX1_giveUp_10 q842 q843 q54)⟩
theorem gT87_13 : sG l g D H0 mT 87 13 (s_load vRf 87 14 3) := ⟨ok_load _ _ _ _, so_aload_n mT87 dX1_giveUp_13 rfl⟩
theorem gT87_14 : sG l g D H0 mT 87 14 (s_callvk 87 17 197 5 [] 1) := ⟨ok_callvk _ _ _ _ _ _, sk_callv (by decide) (so_callV mT87 mo197 (by decide) (t := 5) (C := "HyperVane$Guest") (by decide) rfl rfl dX1_giveUp_14 q818 q715 q716 q73)⟩
theorem gT87_17 : sG l g D H0 mT 87 17 (s_if 87 24 20 (fun a => a = 0)) := ⟨ok_if _ _ _ _, so_if_ne mT87 dX1_giveUp_17 (by decide)⟩
theorem gT87_20 : sG l g D H0 mT 87 20 (s_const 87 21 (.int 1)) := ⟨ok_const _ _ _, so_iconst mT87 dX1_giveUp_20 (by decide)⟩
theorem gT87_21 : sG l g D H0 mT 87 21 (s_goto 87 25) := ⟨ok_goto _ _, so_goto mT87 dX1_giveUp_21 (by decide)⟩
theorem gT87_24 : sG l g D H0 mT 87 24 (s_const 87 25 (.int 0)) := ⟨ok_const _ _ _, so_iconst mT87 dX1_giveUp_24 (by decide)⟩
theorem gT87_25 : sG l g D H0 mT 87 25 (s_callk 87 28 79 [0] 1) := ⟨ok_callk _ _ _ _ _, sk_call (by decide) (so_callS mT87 mo79 (by decide) dX1_giveUp_25 q913 q914 q54)⟩
theorem gT87_28 : sG l g D H0 mT 87 28 (s_load vRf 87 29 0) := ⟨ok_load _ _ _ _, so_aload_n mT87 dX1_giveUp_28 rfl⟩
theorem gT87_29 : sG l g D H0 mT 87 29 (s_getf 87 32 0 0) := ⟨ok_getf _ _ _ _, so_getf mT87 cl0 (k := 0) (by decide) dX1_giveUp_29 q289 (fs_rf rfl)⟩
theorem gT87_32 : sG l g D H0 mT 87 32 (s_load vRf 87 33 3) := ⟨ok_load _ _ _ _, so_aload_n mT87 dX1_giveUp_32 rfl⟩
theorem gT87_33 : sG l g D H0 mT 87 33 (s_load vI 87 34 2) := ⟨ok_load _ _ _ _, so_iload_n mT87 dX1_giveUp_33 rfl⟩
theorem gT87_34 : sG l g D H0 mT 87 34 (s_callvk 87 37 132 1 [1, 0] 8) := ⟨ok_callvk _ _ _ _ _ _, sk_callv (by decide) (so_callV mT87 mo132 (by decide) (t := 1) (C := "HyperVane$Machine") (by decide) rfl rfl dX1_giveUp_34 q1065 q1066 q1067 q55)⟩
theorem gT87_37 : sG l g D H0 mT 87 37 (s_ret pI) := ⟨ok_ret _, so_iret mT87 dX1_giveUp_37⟩
theorem gT87 (pc : Nat) : sG l g D H0 mT 87 pc (tT87 g pc) := sG_cond (sG_cond (sG_cond (sG_cond (sG_leaf gT87_0) (sG_leaf gT87_1)) (sG_cond (sG_leaf gT87_2) (sG_cond (sG_leaf gT87_5) (sG_leaf gT87_6)))) (sG_cond (sG_cond (sG_leaf gT87_7) (sG_leaf gT87_9)) (sG_cond (sG_leaf gT87_10) (sG_cond (sG_leaf gT87_13) (sG_leaf gT87_14))))) (sG_cond (sG_cond (sG_cond (sG_leaf gT87_17) (sG_leaf gT87_20)) (sG_cond (sG_leaf gT87_21) (sG_cond (sG_leaf gT87_24) (sG_leaf gT87_25)))) (sG_cond (sG_cond (sG_leaf gT87_28) (sG_cond (sG_leaf gT87_29) (sG_leaf gT87_32))) (sG_cond (sG_leaf gT87_33) (sG_cond (sG_leaf gT87_34) (sG_leaf gT87_37)))))
theorem gT88_0 : sG l g D H0 mT 88 0 (s_load vRf 88 1 0) := ⟨ok_load _ _ _ _, so_aload_n mT88 dX1_move_0 rfl⟩
theorem gT88_1 : sG l g D H0 mT 88 1 (s_load vI 88 2 1) := ⟨ok_load _ _ _ _, so_iload_n mT88 dX1_move_1 rfl⟩
theorem gT88_2 : sG l g D H0 mT 88 2 (s_callvk 88 5 81 0 [0] 2) := ⟨ok_callvk _ _ _ _ _ _, sk_callv (by decide) (so_callV mT88 mo81 (by decide) (t := 0) (C := "HyperVane") (by decide) rfl rfl dX1_move_2 q973 q975 qs30 q54)⟩
theorem gT88_5 : sG l g D H0 mT 88 5 (s_store vRf 88 6 3) := ⟨ok_store _ _ _ _, so_astore_n mT88 dX1_move_5 rfl⟩
theorem gT88_6 : sG l g D H0 mT 88 6 (s_load vI 88 7 2) := ⟨ok_load _ _ _ _, so_iload_n mT88 dX1_move_6 rfl⟩
theorem gT88_7 : sG l g D H0 mT 88 7 (s_callk 88 10 89 [0] 1) := ⟨ok_callk _ _ _ _ _, sk_call (by decide) (so_callS mT88 mo89 (by decide) dX1_move_7 q1079 q1080 q54)⟩
theorem gT88_10 : sG l g D H0 mT 88 10 (s_load vRf 88 11 3) := ⟨ok_load _ _ _ _, so_aload_n mT88 dX1_move_10 rfl⟩
theorem gT88_11 : sG l g D H0 mT 88 11 (s_callk 88 14 72 [1] 1) := ⟨ok_callk _ _ _ _ _, sk_call (by decide) (so_callS mT88 mo72 (by decide) dX1_move_11 q815 q816 q54)⟩
theorem gT88_14 : sG l g D H0 mT 88 14 (s_callk 88 17 79 [0] 1) := ⟨ok_callk _ _ _ _ _, sk_call (by decide) (so_callS mT88 mo79 (by decide) dX1_move_14 q913 q914 q54)⟩
theorem gT88_17 : sG l g D H0 mT 88 17 (s_load vRf 88 18 0) := ⟨ok_load _ _ _ _, so_aload_n mT88 dX1_move_17 rfl⟩
theorem gT88_18 : sG l g D H0 mT 88 18 (s_getf 88 21 0 0) := ⟨ok_getf _ _ _ _, so_getf mT88 cl0 (k := 0) (by decide) dX1_move_18 q289 (fs_rf rfl)⟩
theorem gT88_21 : sG l g D H0 mT 88 21 (s_load vRf 88 22 3) := ⟨ok_load _ _ _ _, so_aload_n mT88 dX1_move_21 rfl⟩
theorem gT88_22 : sG l g D H0 mT 88 22 (s_load vI 88 23 2) := ⟨ok_load _ _ _ _, so_iload_n mT88 dX1_move_22 rfl⟩
theorem gT88_23 : sG l g D H0 mT 88 23 (s_callvk 88 26 131 1 [1, 0] 4) := ⟨ok_callvk _ _ _ _ _ _, sk_callv (by decide) (so_callV mT88 mo131 (by decide) (t := 1) (C := "HyperVane$Machine") (by decide) rfl rfl dX1_move_23 q823 q824 q825 q55)⟩
theorem gT88_26 : sG l g D H0 mT 88 26 (s_ret pI) := ⟨ok_ret _, so_iret mT88 dX1_move_26⟩
theorem gT88 (pc : Nat) : sG l g D H0 mT 88 pc (tT88 g pc) := sG_cond (sG_cond (sG_cond (sG_leaf gT88_0) (sG_cond (sG_leaf gT88_1) (sG_leaf gT88_2))) (sG_cond (sG_cond (sG_leaf gT88_5) (sG_leaf gT88_6)) (sG_cond (sG_leaf gT88_7) (sG_leaf gT88_10)))) (sG_cond (sG_cond (sG_cond (sG_leaf gT88_11) (sG_leaf gT88_14)) (sG_cond (sG_leaf gT88_17) (sG_leaf gT88_18))) (sG_cond (sG_cond (sG_leaf gT88_21) (sG_leaf gT88_22)) (sG_cond (sG_leaf gT88_23) (sG_leaf gT88_26))))
theorem gT89_0 : sG l g D H0 mT 89 0 (s_const 89 1 (.int 1)) := ⟨ok_const _ _ _, so_iconst mT89 dX1_requireSpeed_0 (by decide)⟩
theorem gT89_1 : sG l g D H0 mT 89 1 (s_const 89 2 (.int 3)) := ⟨ok_const _ _ _, so_iconst mT89 dX1_requireSpeed_1 (by decide)⟩
theorem gT89_2 : sG l g D H0 mT 89 2 (s_load vI 89 3 0) := ⟨ok_load _ _ _ _, so_iload_n mT89 dX1_requireSpeed_2 rfl⟩
theorem gT89_3 : sG l g D H0 mT 89 3 (s_callk 89 6 77 [0, 0, 0] 3) := ⟨ok_callk _ _ _ _ _, sk_call (by decide) (so_callS mT89 mo77 (by decide) dX1_requireSpeed_3 q842 q843 q54)⟩
theorem gT89_6 : sG l g D H0 mT 89 6 (s_vret) := ⟨ok_vret, so_vret mT89 dX1_requireSpeed_6⟩
theorem gT89 (pc : Nat) : sG l g D H0 mT 89 pc (tT89 g pc) := sG_cond (sG_cond (sG_leaf gT89_0) (sG_leaf gT89_1)) (sG_cond (sG_leaf gT89_2) (sG_cond (sG_leaf gT89_3) (sG_leaf gT89_6)))
theorem gT90_0 : sG l g D H0 mT 90 0 (s_load vRf 90 1 0) := ⟨ok_load _ _ _ _, so_aload_n mT90 dX1_snap_0 rfl⟩
theorem gT90_1 : sG l g D H0 mT 90 1 (s_load vI 90 2 1) := ⟨ok_load _ _ _ _, so_iload_n mT90 dX1_snap_1 rfl⟩
theorem gT90_2 : sG l g D H0 mT 90 2 (s_callvk 90 5 81 0 [0] 2) := ⟨ok_callvk _ _ _ _ _ _, sk_callv (by decide) (so_callV mT90 mo81 (by decide) (t := 0) (C := "HyperVane") (by decide) rfl rfl dX1_snap_2 q973 q975 qs30 q54)⟩
theorem gT90_5 : sG l g D H0 mT 90 5 (s_store vRf 90 6 2) := ⟨ok_store _ _ _ _, so_astore_n mT90 dX1_snap_5 rfl⟩
theorem gT90_6 : sG l g D H0 mT 90 6 (s_load vRf 90 7 2) := ⟨ok_load _ _ _ _, so_aload_n mT90 dX1_snap_6 rfl⟩
theorem gT90_7 : sG l g D H0 mT 90 7 (s_callvk 90 10 197 5 [] 1) := ⟨ok_callvk _ _ _ _ _ _, sk_callv (by decide) (so_callV mT90 mo197 (by decide) (t := 5) (C := "HyperVane$Guest") (by decide) rfl rfl dX1_snap_7 q818 q715 q716 q73)⟩
theorem gT90_10 : sG l g D H0 mT 90 10 (s_if 90 17 13 (fun a => a = 0)) := ⟨ok_if _ _ _ _, so_if_ne mT90 dX1_snap_10 (by decide)⟩
theorem gT90_13 : sG l g D H0 mT 90 13 (s_const 90 14 (.int 1)) := ⟨ok_const _ _ _, so_iconst mT90 dX1_snap_13 (by decide)⟩
theorem gT90_14 : sG l g D H0 mT 90 14 (s_goto 90 18) := ⟨ok_goto _ _, so_goto mT90 dX1_snap_14 (by decide)⟩
theorem gT90_17 : sG l g D H0 mT 90 17 (s_const 90 18 (.int 0)) := ⟨ok_const _ _ _, so_iconst mT90 dX1_snap_17 (by decide)⟩
theorem gT90_18 : sG l g D H0 mT 90 18 (s_callk 90 21 79 [0] 1) := ⟨ok_callk _ _ _ _ _, sk_call (by decide) (so_callS mT90 mo79 (by decide) dX1_snap_18 q913 q914 q54)⟩
theorem gT90_21 : sG l g D H0 mT 90 21 (s_load vRf 90 22 2) := ⟨ok_load _ _ _ _, so_aload_n mT90 dX1_snap_21 rfl⟩
theorem gT90_22 : sG l g D H0 mT 90 22 (s_getf 90 25 5 21) := ⟨ok_getf _ _ _ _, so_getfN mT90 cl5 (k := 21) (by decide) dX1_snap_22 q613 (fs_rf rfl)⟩
theorem gT90_25 : sG l g D H0 mT 90 25 (s_ifnn 90 28 32) := ⟨ok_ifnn _ _ _, so_ifnonnull mT90 dX1_snap_25 (by decide)⟩
theorem gT90_28 : sG l g D H0 mT 90 28 (s_const 90 29 (.int 0)) := ⟨ok_const _ _ _, so_iconst mT90 dX1_snap_28 (by decide)⟩
theorem gT90_29 : sG l g D H0 mT 90 29 (s_goto 90 42) := ⟨ok_goto _ _, so_goto mT90 dX1_snap_29 (by decide)⟩
theorem gT90_32 : sG l g D H0 mT 90 32 (s_load vRf 90 33 2) := ⟨ok_load _ _ _ _, so_aload_n mT90 dX1_snap_32 rfl⟩
theorem gT90_33 : sG l g D H0 mT 90 33 (s_getf 90 36 5 21) := ⟨ok_getf _ _ _ _, so_getfN mT90 cl5 (k := 21) (by decide) dX1_snap_33 q613 (fs_rf rfl)⟩
theorem gT90_36 : sG l g D H0 mT 90 36 (s_getf 90 39 9 1) := ⟨ok_getf _ _ _ _, so_getfN mT90 cl9 (k := 1) (by decide) dX1_snap_36 q682 (fs_rf rfl)⟩
theorem gT90_39 : sG l g D H0 mT 90 39 (s_callvk 90 42 15 10 [] 1) := ⟨ok_callvk _ _ _ _ _ _, sk_callv (by decide) (so_callV mT90 mo15 (by decide) (t := 10) (C := "java/util/ArrayList") (by decide) rfl rfl dX1_snap_39 q353 q173 q174 q58)⟩
theorem gT90_42 : sG l g D H0 mT 90 42 (s_store vI 90 43 3) := ⟨ok_store _ _ _ _, so_istore_n mT90 dX1_snap_42 rfl⟩
theorem gT90_43 : sG l g D H0 mT 90 43 (s_load vRf 90 44 2) := ⟨ok_load _ _ _ _, so_aload_n mT90 dX1_snap_43 rfl⟩
theorem gT90_44 : sG l g D H0 mT 90 44 (s_new g 90 47 9 5 (fun k => defaultValue (tyX10 k))) := ⟨ok_new _ _ _ _ _ _, so_new mT90 cl9 (fun _ _ => rfl) dX1_snap_44 q1089 q505 q83⟩
theorem gT90_47 : sG l g D H0 mT 90 47 (s_dup 90 48) := ⟨ok_dup _ _, so_dup mT90 dX1_snap_47⟩
theorem gT90_48 : sG l g D H0 mT 90 48 (s_load vRf 90 49 2) := ⟨ok_load _ _ _ _, so_aload_n mT90 dX1_snap_48 rfl⟩
theorem gT90_49 : sG l g D H0 mT 90 49 (s_getf 90 52 5 2) := ⟨ok_getf _ _ _ _, so_getfN mT90 cl5 (k := 2) (by decide) dX1_snap_49 q560 (fs_rf rfl)⟩
theorem gT90_52 : sG l g D H0 mT 90 52 (s_callvk 90 55 201 6 [] 2) := ⟨ok_callvk _ _ _ _ _ _, sk_callv (by decide) (so_callV mT90 mo201 (by decide) (t := 6) (C := "HyperVane$Mind") (by decide) rfl rfl dX1_snap_52 q1090 q456 q457 q74)⟩
theorem gT90_55 : sG l g D H0 mT 90 55 (s_callik 90 58 106 [1] 2) := ⟨ok_callik _ _ _ _ _, sk_calli (by decide) (so_callI mT90 mo106 (by decide) rfl dX1_snap_55 q1091 q675 q83)⟩
theorem gT90_58 : sG l g D H0 mT 90 58 (s_putf g pR 90 61 5 21) := ⟨ok_putf _ _ _ _ _ _, so_putfN mT90 cl5 (k := 21) (by decide) fR rfl dX1_snap_58 q613 (fs_rf rfl)⟩
theorem gT90_61 : sG l g D H0 mT 90 61 (s_load vI 90 62 3) := ⟨ok_load _ _ _ _, so_iload_n mT90 dX1_snap_61 rfl⟩
theorem gT90_62 : sG l g D H0 mT 90 62 (s_ret pI) := ⟨ok_ret _, so_iret mT90 dX1_snap_62⟩
theorem gT90 (pc : Nat) : sG l g D H0 mT 90 pc (tT90 g pc) := sG_cond (sG_cond (sG_cond (sG_cond (sG_leaf gT90_0) (sG_cond (sG_leaf gT90_1) (sG_leaf gT90_2))) (sG_cond (sG_cond (sG_leaf gT90_5) (sG_leaf gT90_6)) (sG_cond (sG_leaf gT90_7) (sG_leaf gT90_10)))) (sG_cond (sG_cond (sG_cond (sG_leaf gT90_13) (sG_leaf gT90_14)) (sG_cond (sG_leaf gT90_17) (sG_leaf gT90_18))) (sG_cond (sG_cond (sG_leaf gT90_21) (sG_leaf gT90_22)) (sG_cond (sG_leaf gT90_25) (sG_leaf gT90_28))))) (sG_cond (sG_cond (sG_cond (sG_cond (sG_leaf gT90_29) (sG_leaf gT90_32)) (sG_cond (sG_leaf gT90_33) (sG_leaf gT90_36))) (sG_cond (sG_cond (sG_leaf gT90_39) (sG_leaf gT90_42)) (sG_cond (sG_leaf gT90_43) (sG_leaf gT90_44)))) (sG_cond (sG_cond (sG_cond (sG_leaf gT90_47) (sG_leaf gT90_48)) (sG_cond (sG_leaf gT90_49) (sG_leaf gT90_52))) (sG_cond (sG_cond (sG_leaf gT90_55) (sG_leaf gT90_58)) (sG_cond (sG_leaf gT90_61) (sG_leaf gT90_62)))))
theorem gT91_0 : sG l g D H0 mT 91 0 (s_load vI 91 1 1) := ⟨ok_load _ _ _ _, so_iload_n mT91 dX1_run_0 rfl⟩
theorem gT91_1 : sG l g D H0 mT 91 1 (s_callk 91 4 92 [0] 1) := ⟨ok_callk _ _ _ _ _, sk_call (by decide) (so_callS mT91 mo92 (by decide) dX1_run_1 q1099 q1100 q54)⟩
theorem gT91_4 : sG l g D H0 mT 91 4 (s_load vRf 91 5 0) := ⟨ok_load _ _ _ _, so_aload_n mT91 dX1_run_4 rfl⟩
theorem gT91_5 : sG l g D H0 mT 91 5 (s_getf 91 8 0 0) := ⟨ok_getf _ _ _ _, so_getf mT91 cl0 (k := 0) (by decide) dX1_run_5 q289 (fs_rf rfl)⟩
theorem gT91_8 : sG l g D H0 mT 91 8 (s_load vI 91 9 1) := ⟨ok_load _ _ _ _, so_iload_n mT91 dX1_run_8 rfl⟩
theorem gT91_9 : sG l g D H0 mT 91 9 (s_callvk 91 12 113 1 [0] 4) := ⟨ok_callvk _ _ _ _ _ _, sk_callv (by decide) (so_callV mT91 mo113 (by decide) (t := 1) (C := "HyperVane$Machine") (by decide) rfl rfl dX1_run_9 q702 q703 q704 q55)⟩
theorem gT91_12 : sG l g D H0 mT 91 12 (s_ret pI) := ⟨ok_ret _, so_iret mT91 dX1_run_12⟩
theorem gT91 (pc : Nat) : sG l g D H0 mT 91 pc (tT91 g pc) := sG_cond (sG_cond (sG_leaf gT91_0) (sG_cond (sG_leaf gT91_1) (sG_leaf gT91_4))) (sG_cond (sG_cond (sG_leaf gT91_5) (sG_leaf gT91_8)) (sG_cond (sG_leaf gT91_9) (sG_leaf gT91_12)))
theorem gT92_0 : sG l g D H0 mT 92 0 (s_const 92 1 (.int 1)) := ⟨ok_const _ _ _, so_iconst mT92 dX1_requireTicks_0 (by decide)⟩
theorem gT92_1 : sG l g D H0 mT 92 1 (s_const 92 3 (.int 60)) := ⟨ok_const _ _ _, so_bipush mT92 dX1_requireTicks_1 (by decide)⟩
theorem gT92_3 : sG l g D H0 mT 92 3 (s_load vI 92 4 0) := ⟨ok_load _ _ _ _, so_iload_n mT92 dX1_requireTicks_3 rfl⟩
theorem gT92_4 : sG l g D H0 mT 92 4 (s_callk 92 7 77 [0, 0, 0] 3) := ⟨ok_callk _ _ _ _ _, sk_call (by decide) (so_callS mT92 mo77 (by decide) dX1_requireTicks_4 q842 q843 q54)⟩
theorem gT92_7 : sG l g D H0 mT 92 7 (s_vret) := ⟨ok_vret, so_vret mT92 dX1_requireTicks_7⟩
theorem gT92 (pc : Nat) : sG l g D H0 mT 92 pc (tT92 g pc) := sG_cond (sG_cond (sG_leaf gT92_0) (sG_leaf gT92_1)) (sG_cond (sG_leaf gT92_3) (sG_cond (sG_leaf gT92_4) (sG_leaf gT92_7)))
theorem gT93_0 : sG l g D H0 mT 93 0 (s_load vRf 93 1 0) := ⟨ok_load _ _ _ _, so_aload_n mT93 dX1_ofGuest_0 rfl⟩
theorem gT93_1 : sG l g D H0 mT 93 1 (s_load vI 93 2 1) := ⟨ok_load _ _ _ _, so_iload_n mT93 dX1_ofGuest_1 rfl⟩
theorem gT93_2 : sG l g D H0 mT 93 2 (s_callvk 93 5 81 0 [0] 2) := ⟨ok_callvk _ _ _ _ _ _, sk_callv (by decide) (so_callV mT93 mo81 (by decide) (t := 0) (C := "HyperVane") (by decide) rfl rfl dX1_ofGuest_2 q973 q975 qs30 q54)⟩
theorem gT93_5 : sG l g D H0 mT 93 5 (s_store vRf 93 6 3) := ⟨ok_store _ _ _ _, so_astore_n mT93 dX1_ofGuest_5 rfl⟩
theorem gT93_6 : sG l g D H0 mT 93 6 (s_const 93 7 (.int 0)) := ⟨ok_const _ _ _, so_iconst mT93 dX1_ofGuest_6 (by decide)⟩
theorem gT93_7 : sG l g D H0 mT 93 7 (s_const 93 9 (.int 15)) := ⟨ok_const _ _ _, so_bipush mT93 dX1_ofGuest_7 (by decide)⟩
theorem gT93_9 : sG l g D H0 mT 93 9 (s_load vI 93 10 2) := ⟨ok_load _ _ _ _, so_iload_n mT93 dX1_ofGuest_9 rfl⟩
theorem gT93_10 : sG l g D H0 mT 93 10 (s_callk 93 13 77 [0, 0, 0] 3) := ⟨ok_callk _ _ _ _ _, sk_call (by decide) (so_callS mT93 mo77 (by decide) dX1_ofGuest_10 q842 q843 q54)⟩
theorem gT93_13 : sG l g D H0 mT 93 13 (s_load vRf 93 14 0) := ⟨ok_load _ _ _ _, so_aload_n mT93 dX1_ofGuest_13 rfl⟩
theorem gT93_14 : sG l g D H0 mT 93 14 (s_load vRf 93 15 3) := ⟨ok_load _ _ _ _, so_aload_n mT93 dX1_ofGuest_14 rfl⟩
theorem gT93_15 : sG l g D H0 mT 93 15 (s_load vI 93 16 2) := ⟨ok_load _ _ _ _, so_iload_n mT93 dX1_ofGuest_15 rfl⟩
theorem gT93_16 : sG l g D H0 mT 93 16 (s_callvk 93 19 65 0 [1, 0] 4) := ⟨ok_callvk _ _ _ _ _ _, sk_callv (by decide) (so_callV mT93 mo65 (by decide) (t := 0) (C := "HyperVane") (by decide) rfl rfl dX1_ofGuest_16 q365 q367 qs7 q54)⟩
theorem gT93_19 : sG l g D H0 mT 93 19 (s_ret pI) := ⟨ok_ret _, so_iret mT93 dX1_ofGuest_19⟩
theorem gT93 (pc : Nat) : sG l g D H0 mT 93 pc (tT93 g pc) := sG_cond (sG_cond (sG_cond (sG_leaf gT93_0) (sG_cond (sG_leaf gT93_1) (sG_leaf gT93_2))) (sG_cond (sG_leaf gT93_5) (sG_cond (sG_leaf gT93_6) (sG_leaf gT93_7)))) (sG_cond (sG_cond (sG_leaf gT93_9) (sG_cond (sG_leaf gT93_10) (sG_leaf gT93_13))) (sG_cond (sG_cond (sG_leaf gT93_14) (sG_leaf gT93_15)) (sG_cond (sG_leaf gT93_16) (sG_leaf gT93_19))))
theorem gT94_0 : sG l g D H0 mT 94 0 (s_load vRf 94 1 0) := ⟨ok_load _ _ _ _, so_aload_n mT94 dX1_exits_0 rfl⟩
theorem gT94_1 : sG l g D H0 mT 94 1 (s_load vI 94 2 1) := ⟨ok_load _ _ _ _, so_iload_n mT94 dX1_exits_1 rfl⟩
theorem gT94_2 : sG l g D H0 mT 94 2 (s_callvk 94 5 81 0 [0] 2) := ⟨ok_callvk _ _ _ _ _ _, sk_callv (by decide) (so_callV mT94 mo81 (by decide) (t := 0) (C := "HyperVane") (by decide) rfl rfl dX1_exits_2 q973 q975 qs30 q54)⟩
theorem gT94_5 : sG l g D H0 mT 94 5 (s_store vRf 94 6 3) := ⟨ok_store _ _ _ _, so_astore_n mT94 dX1_exits_5 rfl⟩
theorem gT94_6 : sG l g D H0 mT 94 6 (s_const 94 7 (.int 0)) := ⟨ok_const _ _ _, so_iconst mT94 dX1_exits_6 (by decide)⟩
theorem gT94_7 : sG l g D H0 mT 94 7 (s_const 94 8 (.int 4)) := ⟨ok_const _ _ _, so_iconst mT94 dX1_exits_7 (by decide)⟩
theorem gT94_8 : sG l g D H0 mT 94 8 (s_load vI 94 9 2) := ⟨ok_load _ _ _ _, so_iload_n mT94 dX1_exits_8 rfl⟩
theorem gT94_9 : sG l g D H0 mT 94 9 (s_callk 94 12 77 [0, 0, 0] 3) := ⟨ok_callk _ _ _ _ _, sk_call (by decide) (so_callS mT94 mo77 (by decide) dX1_exits_9 q842 q843 q54)⟩
theorem gT94_12 : sG l g D H0 mT 94 12 (s_load vRf 94 13 3) := ⟨ok_load _ _ _ _, so_aload_n mT94 dX1_exits_12 rfl⟩
theorem gT94_13 : sG l g D H0 mT 94 13 (s_getf 94 16 5 13) := ⟨ok_getf _ _ _ _, so_getfN mT94 cl5 (k := 13) (by decide) dX1_exits_13 q592 (fs_rf rfl)⟩
theorem gT94_16 : sG l g D H0 mT 94 16 (s_load vI 94 17 2) := ⟨ok_load _ _ _ _, so_iload_n mT94 dX1_exits_16 rfl⟩
theorem gT94_17 : sG l g D H0 mT 94 17 (s_ald 94 18 20) := ⟨ok_ald _ _ _, so_iald mT94 a20 dX1_exits_17⟩
theorem gT94_18 : sG l g D H0 mT 94 18 (s_ret pI) := ⟨ok_ret _, so_iret mT94 dX1_exits_18⟩
theorem gT94 (pc : Nat) : sG l g D H0 mT 94 pc (tT94 g pc) := sG_cond (sG_cond (sG_cond (sG_leaf gT94_0) (sG_cond (sG_leaf gT94_1) (sG_leaf gT94_2))) (sG_cond (sG_leaf gT94_5) (sG_cond (sG_leaf gT94_6) (sG_leaf gT94_7)))) (sG_cond (sG_cond (sG_leaf gT94_8) (sG_cond (sG_leaf gT94_9) (sG_leaf gT94_12))) (sG_cond (sG_cond (sG_leaf gT94_13) (sG_leaf gT94_16)) (sG_cond (sG_leaf gT94_17) (sG_leaf gT94_18))))
theorem gT95_0 : sG l g D H0 mT 95 0 (s_load vRf 95 1 0) := ⟨ok_load _ _ _ _, so_aload_n mT95 dX1_ofPage_0 rfl⟩
theorem gT95_1 : sG l g D H0 mT 95 1 (s_load vI 95 2 1) := ⟨ok_load _ _ _ _, so_iload_n mT95 dX1_ofPage_1 rfl⟩
theorem gT95_2 : sG l g D H0 mT 95 2 (s_callvk 95 5 81 0 [0] 2) := ⟨ok_callvk _ _ _ _ _ _, sk_callv (by decide) (so_callV mT95 mo81 (by decide) (t := 0) (C := "HyperVane") (by decide) rfl rfl dX1_ofPage_2 q973 q975 qs30 q54)⟩
theorem gT95_5 : sG l g D H0 mT 95 5 (s_store vRf 95 7 4) := ⟨ok_store _ _ _ _, so_astore mT95 dX1_ofPage_5⟩
theorem gT95_7 : sG l g D H0 mT 95 7 (s_load vI 95 8 2) := ⟨ok_load _ _ _ _, so_iload_n mT95 dX1_ofPage_7 rfl⟩
theorem gT95_8 : sG l g D H0 mT 95 8 (s_const 95 10 (.int 6)) := ⟨ok_const _ _ _, so_bipush mT95 dX1_ofPage_8 (by decide)⟩
theorem gT95_10 : sG l g D H0 mT 95 10 (s_callk 95 13 83 [0, 0] 2) := ⟨ok_callk _ _ _ _ _, sk_call (by decide) (so_callS mT95 mo83 (by decide) dX1_ofPage_10 q988 q989 q54)⟩
theorem gT95_13 : sG l g D H0 mT 95 13 (s_const 95 14 (.int 0)) := ⟨ok_const _ _ _, so_iconst mT95 dX1_ofPage_13 (by decide)⟩
theorem gT95_14 : sG l g D H0 mT 95 14 (s_const 95 15 (.int 3)) := ⟨ok_const _ _ _, so_iconst mT95 dX1_ofPage_14 (by decide)⟩
theorem gT95_15 : sG l g D H0 mT 95 15 (s_load vI 95 16 3) := ⟨ok_load _ _ _ _, so_iload_n mT95 dX1_ofPage_15 rfl⟩
theorem gT95_16 : sG l g D H0 mT 95 16 (s_callk 95 19 77 [0, 0, 0] 3) := ⟨ok_callk _ _ _ _ _, sk_call (by decide) (so_callS mT95 mo77 (by decide) dX1_ofPage_16 q842 q843 q54)⟩
theorem gT95_19 : sG l g D H0 mT 95 19 (s_load vRf 95 20 0) := ⟨ok_load _ _ _ _, so_aload_n mT95 dX1_ofPage_19 rfl⟩
theorem gT95_20 : sG l g D H0 mT 95 20 (s_load vRf 95 22 4) := ⟨ok_load _ _ _ _, so_aload mT95 dX1_ofPage_20⟩
theorem gT95_22 : sG l g D H0 mT 95 22 (s_load vI 95 23 2) := ⟨ok_load _ _ _ _, so_iload_n mT95 dX1_ofPage_22 rfl⟩
theorem gT95_23 : sG l g D H0 mT 95 23 (s_load vI 95 24 3) := ⟨ok_load _ _ _ _, so_iload_n mT95 dX1_ofPage_23 rfl⟩
theorem gT95_24 : sG l g D H0 mT 95 24 (s_callvk 95 27 68 0 [1, 0, 0] 4) := ⟨ok_callvk _ _ _ _ _ _, sk_callv (by decide) (so_callV mT95 mo68 (by decide) (t := 0) (C := "HyperVane") (by decide) rfl rfl dX1_ofPage_24 q395 q397 qs10 q54)⟩
theorem gT95_27 : sG l g D H0 mT 95 27 (s_ret pI) := ⟨ok_ret _, so_iret mT95 dX1_ofPage_27⟩
theorem gT95 (pc : Nat) : sG l g D H0 mT 95 pc (tT95 g pc) := sG_cond (sG_cond (sG_cond (sG_cond (sG_leaf gT95_0) (sG_leaf gT95_1)) (sG_cond (sG_leaf gT95_2) (sG_leaf gT95_5))) (sG_cond (sG_cond (sG_leaf gT95_7) (sG_leaf gT95_8)) (sG_cond (sG_leaf gT95_10) (sG_leaf gT95_13)))) (sG_cond (sG_cond (sG_cond (sG_leaf gT95_14) (sG_leaf gT95_15)) (sG_cond (sG_leaf gT95_16) (sG_leaf gT95_19))) (sG_cond (sG_cond (sG_leaf gT95_20) (sG_leaf gT95_22)) (sG_cond (sG_leaf gT95_23) (sG_cond (sG_leaf gT95_24) (sG_leaf gT95_27)))))
theorem gT96_0 : sG l g D H0 mT 96 0 (s_load vRf 96 1 0) := ⟨ok_load _ _ _ _, so_aload_n mT96 dX1_ofFrame_0 rfl⟩
theorem gT96_1 : sG l g D H0 mT 96 1 (s_getf 96 4 0 0) := ⟨ok_getf _ _ _ _, so_getf mT96 cl0 (k := 0) (by decide) dX1_ofFrame_1 q289 (fs_rf rfl)⟩
theorem gT96_4 : sG l g D H0 mT 96 4 (s_getf 96 7 1 1) := ⟨ok_getf _ _ _ _, so_getfN mT96 cl1 (k := 1) (by decide) dX1_ofFrame_4 q131 (fs_rf rfl)⟩
theorem gT96_7 : sG l g D H0 mT 96 7 (s_load vI 96 8 1) := ⟨ok_load _ _ _ _, so_iload_n mT96 dX1_ofFrame_7 rfl⟩
theorem gT96_8 : sG l g D H0 mT 96 8 (s_callk 96 11 82 [1, 0] 2) := ⟨ok_callk _ _ _ _ _, sk_call (by decide) (so_callS mT96 mo82 (by decide) dX1_ofFrame_8 q977 q978 q54)⟩
theorem gT96_11 : sG l g D H0 mT 96 11 (s_cast 96 14 [2]) := ⟨ok_cast _ _ _, so_cast mT96 (T := "HyperVane$Frame") (ts := [2]) (by intro u hu; rw [List.mem_singleton] at hu; subst hu; exact ⟨by decide, Or.inl rfl⟩) dX1_ofFrame_11 q348⟩
theorem gT96_14 : sG l g D H0 mT 96 14 (s_store vRf 96 15 3) := ⟨ok_store _ _ _ _, so_astore_n mT96 dX1_ofFrame_14 rfl⟩
theorem gT96_15 : sG l g D H0 mT 96 15 (s_const 96 16 (.int 0)) := ⟨ok_const _ _ _, so_iconst mT96 dX1_ofFrame_15 (by decide)⟩
theorem gT96_16 : sG l g D H0 mT 96 16 (s_const 96 17 (.int 2)) := ⟨ok_const _ _ _, so_iconst mT96 dX1_ofFrame_16 (by decide)⟩
theorem gT96_17 : sG l g D H0 mT 96 17 (s_load vI 96 18 2) := ⟨ok_load _ _ _ _, so_iload_n mT96 dX1_ofFrame_17 rfl⟩
theorem gT96_18 : sG l g D H0 mT 96 18 (s_callk 96 21 77 [0, 0, 0] 3) := ⟨ok_callk _ _ _ _ _, sk_call (by decide) (so_callS mT96 mo77 (by decide) dX1_ofFrame_18 q842 q843 q54)⟩
theorem gT96_21 : sG l g D H0 mT 96 21 (s_load vRf 96 22 3) := ⟨ok_load _ _ _ _, so_aload_n mT96 dX1_ofFrame_21 rfl⟩
theorem gT96_22 : sG l g D H0 mT 96 22 (s_load vI 96 23 2) := ⟨ok_load _ _ _ _, so_iload_n mT96 dX1_ofFrame_22 rfl⟩
theorem gT96_23 : sG l g D H0 mT 96 23 (s_callk 96 26 74 [1, 0] 2) := ⟨ok_callk _ _ _ _ _, sk_call (by decide) (so_callS mT96 mo74 (by decide) dX1_ofFrame_23 q827 q828 q54)⟩
theorem gT96_26 : sG l g D H0 mT 96 26 (s_ret pI) := ⟨ok_ret _, so_iret mT96 dX1_ofFrame_26⟩
theorem gT96 (pc : Nat) : sG l g D H0 mT 96 pc (tT96 g pc) := sG_cond (sG_cond (sG_cond (sG_leaf gT96_0) (sG_cond (sG_leaf gT96_1) (sG_leaf gT96_4))) (sG_cond (sG_cond (sG_leaf gT96_7) (sG_leaf gT96_8)) (sG_cond (sG_leaf gT96_11) (sG_leaf gT96_14)))) (sG_cond (sG_cond (sG_cond (sG_leaf gT96_15) (sG_leaf gT96_16)) (sG_cond (sG_leaf gT96_17) (sG_leaf gT96_18))) (sG_cond (sG_cond (sG_leaf gT96_21) (sG_leaf gT96_22)) (sG_cond (sG_leaf gT96_23) (sG_leaf gT96_26))))
theorem gT97_0 : sG l g D H0 mT 97 0 (s_load vRf 97 1 0) := ⟨ok_load _ _ _ _, so_aload_n mT97 dX1_logged_0 rfl⟩
theorem gT97_1 : sG l g D H0 mT 97 1 (s_load vI 97 2 1) := ⟨ok_load _ _ _ _, so_iload_n mT97 dX1_logged_1 rfl⟩
theorem gT97_2 : sG l g D H0 mT 97 2 (s_callvk 97 5 81 0 [0] 2) := ⟨ok_callvk _ _ _ _ _ _, sk_callv (by decide) (so_callV mT97 mo81 (by decide) (t := 0) (C := "HyperVane") (by decide) rfl rfl dX1_logged_2 q973 q975 qs30 q54)⟩
theorem gT97_5 : sG l g D H0 mT 97 5 (s_store vRf 97 6 3) := ⟨ok_store _ _ _ _, so_astore_n mT97 dX1_logged_5 rfl⟩
theorem gT97_6 : sG l g D H0 mT 97 6 (s_load vI 97 7 2) := ⟨ok_load _ _ _ _, so_iload_n mT97 dX1_logged_6 rfl⟩
theorem gT97_7 : sG l g D H0 mT 97 7 (s_if 97 10 14 (fun a => a < 0)) := ⟨ok_if _ _ _ _, so_if_lt mT97 dX1_logged_7 (by decide)⟩
theorem gT97_10 : sG l g D H0 mT 97 10 (s_const 97 11 (.int 1)) := ⟨ok_const _ _ _, so_iconst mT97 dX1_logged_10 (by decide)⟩
theorem gT97_11 : sG l g D H0 mT 97 11 (s_goto 97 15) := ⟨ok_goto _ _, so_goto mT97 dX1_logged_11 (by decide)⟩
theorem gT97_14 : sG l g D H0 mT 97 14 (s_const 97 15 (.int 0)) := ⟨ok_const _ _ _, so_iconst mT97 dX1_logged_14 (by decide)⟩
theorem gT97_15 : sG l g D H0 mT 97 15 (s_callk 97 18 78 [0] 1) := ⟨ok_callk _ _ _ _ _, sk_call (by decide) (so_callS mT97 mo78 (by decide) dX1_logged_15 q845 q846 q54)⟩
theorem gT97_18 : sG l g D H0 mT 97 18 (s_load vRf 97 19 3) := ⟨ok_load _ _ _ _, so_aload_n mT97 dX1_logged_18 rfl⟩
theorem gT97_19 : sG l g D H0 mT 97 19 (s_load vI 97 20 2) := ⟨ok_load _ _ _ _, so_iload_n mT97 dX1_logged_19 rfl⟩
theorem gT97_20 : sG l g D H0 mT 97 20 (s_callk 97 23 69 [1, 0] 2) := ⟨ok_callk _ _ _ _ _, sk_call (by decide) (so_callS mT97 mo69 (by decide) dX1_logged_20 q435 q436 q54)⟩
theorem gT97_23 : sG l g D H0 mT 97 23 (s_ret pI) := ⟨ok_ret _, so_iret mT97 dX1_logged_23⟩
theorem gT97 (pc : Nat) : sG l g D H0 mT 97 pc (tT97 g pc) := sG_cond (sG_cond (sG_cond (sG_leaf gT97_0) (sG_cond (sG_leaf gT97_1) (sG_leaf gT97_2))) (sG_cond (sG_cond (sG_leaf gT97_5) (sG_leaf gT97_6)) (sG_cond (sG_leaf gT97_7) (sG_leaf gT97_10)))) (sG_cond (sG_cond (sG_leaf gT97_11) (sG_cond (sG_leaf gT97_14) (sG_leaf gT97_15))) (sG_cond (sG_cond (sG_leaf gT97_18) (sG_leaf gT97_19)) (sG_cond (sG_leaf gT97_20) (sG_leaf gT97_23))))
theorem gT98_0 : sG l g D H0 mT 98 0 (s_const 98 1 (.int 0)) := ⟨ok_const _ _ _, so_iconst mT98 dX1_many_0 (by decide)⟩
theorem gT98_1 : sG l g D H0 mT 98 1 (s_const 98 3 (.int 10)) := ⟨ok_const _ _ _, so_bipush mT98 dX1_many_1 (by decide)⟩
theorem gT98_3 : sG l g D H0 mT 98 3 (s_load vI 98 4 1) := ⟨ok_load _ _ _ _, so_iload_n mT98 dX1_many_3 rfl⟩
theorem gT98_4 : sG l g D H0 mT 98 4 (s_callk 98 7 77 [0, 0, 0] 3) := ⟨ok_callk _ _ _ _ _, sk_call (by decide) (so_callS mT98 mo77 (by decide) dX1_many_4 q842 q843 q54)⟩
theorem gT98_7 : sG l g D H0 mT 98 7 (s_load vRf 98 8 0) := ⟨ok_load _ _ _ _, so_aload_n mT98 dX1_many_7 rfl⟩
theorem gT98_8 : sG l g D H0 mT 98 8 (s_load vI 98 9 1) := ⟨ok_load _ _ _ _, so_iload_n mT98 dX1_many_8 rfl⟩
theorem gT98_9 : sG l g D H0 mT 98 9 (s_callvk 98 12 60 0 [0] 10) := ⟨ok_callvk _ _ _ _ _ _, sk_callv (by decide) (so_callV mT98 mo60 (by decide) (t := 0) (C := "HyperVane") (by decide) rfl rfl dX1_many_9 q298 q300 qs5 q54)⟩
theorem gT98_12 : sG l g D H0 mT 98 12 (s_ret pI) := ⟨ok_ret _, so_iret mT98 dX1_many_12⟩
theorem gT98 (pc : Nat) : sG l g D H0 mT 98 pc (tT98 g pc) := sG_cond (sG_cond (sG_cond (sG_leaf gT98_0) (sG_leaf gT98_1)) (sG_cond (sG_leaf gT98_3) (sG_leaf gT98_4))) (sG_cond (sG_cond (sG_leaf gT98_7) (sG_leaf gT98_8)) (sG_cond (sG_leaf gT98_9) (sG_leaf gT98_12)))
theorem gT99_0 : sG l g D H0 mT 99 0 (s_load vRf 99 1 0) := ⟨ok_load _ _ _ _, so_aload_n mT99 dX1_meanDone_0 rfl⟩
theorem gT99_1 : sG l g D H0 mT 99 1 (s_load vI 99 2 1) := ⟨ok_load _ _ _ _, so_iload_n mT99 dX1_meanDone_1 rfl⟩
theorem gT99_2 : sG l g D H0 mT 99 2 (s_callvk 99 5 81 0 [0] 2) := ⟨ok_callvk _ _ _ _ _ _, sk_callv (by decide) (so_callV mT99 mo81 (by decide) (t := 0) (C := "HyperVane") (by decide) rfl rfl dX1_meanDone_2 q973 q975 qs30 q54)⟩
theorem gT99_5 : sG l g D H0 mT 99 5 (s_store vRf 99 6 2) := ⟨ok_store _ _ _ _, so_astore_n mT99 dX1_meanDone_5 rfl⟩
theorem gT99_6 : sG l g D H0 mT 99 6 (s_load vRf 99 7 2) := ⟨ok_load _ _ _ _, so_aload_n mT99 dX1_meanDone_6 rfl⟩
theorem gT99_7 : sG l g D H0 mT 99 7 (s_getf 99 10 5 7) := ⟨ok_getf _ _ _ _, so_getfN mT99 cl5 (k := 7) (by decide) dX1_meanDone_7 q574 (fs_rf rfl)⟩
theorem gT99_10 : sG l g D H0 mT 99 10 (s_if 99 17 13 (fun a => a = 0)) := ⟨ok_if _ _ _ _, so_if_ne mT99 dX1_meanDone_10 (by decide)⟩
theorem gT99_13 : sG l g D H0 mT 99 13 (s_const 99 14 (.double FP.dconst0)) := ⟨ok_const _ _ _, so_dconst0 mT99 dX1_meanDone_13⟩
theorem gT99_14 : sG l g D H0 mT 99 14 (s_goto 99 28) := ⟨ok_goto _ _, so_goto mT99 dX1_meanDone_14 (by decide)⟩
theorem gT99_17 : sG l g D H0 mT 99 17 (s_load vRf 99 18 2) := ⟨ok_load _ _ _ _, so_aload_n mT99 dX1_meanDone_17 rfl⟩
theorem gT99_18 : sG l g D H0 mT 99 18 (s_getf 99 21 5 10) := ⟨ok_getf _ _ _ _, so_getfN mT99 cl5 (k := 10) (by decide) dX1_meanDone_18 q583 (fs_rf rfl)⟩
theorem gT99_21 : sG l g D H0 mT 99 21 (s_i2 99 22 (fun a => .double (FP.i2d a))) := ⟨ok_i2 _ _ _, so_i2d mT99 dX1_meanDone_21⟩
theorem gT99_22 : sG l g D H0 mT 99 22 (s_load vRf 99 23 2) := ⟨ok_load _ _ _ _, so_aload_n mT99 dX1_meanDone_22 rfl⟩
theorem gT99_23 : sG l g D H0 mT 99 23 (s_getf 99 26 5 7) := ⟨ok_getf _ _ _ _, so_getfN mT99 cl5 (k := 7) (by decide) dX1_meanDone_23 q574 (fs_rf rfl)⟩
theorem gT99_26 : sG l g D H0 mT 99 26 (s_i2 99 27 (fun a => .double (FP.i2d a))) := ⟨ok_i2 _ _ _, so_i2d mT99 dX1_meanDone_26⟩
theorem gT99_27 : sG l g D H0 mT 99 27 (s_ddiv 99 28) := ⟨ok_ddiv _ _, so_ddiv mT99 dX1_meanDone_27⟩
theorem gT99_28 : sG l g D H0 mT 99 28 (s_ret pD) := ⟨ok_ret _, so_dret mT99 dX1_meanDone_28⟩
theorem gT99 (pc : Nat) : sG l g D H0 mT 99 pc (tT99 g pc) := sG_cond (sG_cond (sG_cond (sG_cond (sG_leaf gT99_0) (sG_leaf gT99_1)) (sG_cond (sG_leaf gT99_2) (sG_leaf gT99_5))) (sG_cond (sG_cond (sG_leaf gT99_6) (sG_leaf gT99_7)) (sG_cond (sG_leaf gT99_10) (sG_leaf gT99_13)))) (sG_cond (sG_cond (sG_cond (sG_leaf gT99_14) (sG_leaf gT99_17)) (sG_cond (sG_leaf gT99_18) (sG_leaf gT99_21))) (sG_cond (sG_cond (sG_leaf gT99_22) (sG_leaf gT99_23)) (sG_cond (sG_leaf gT99_26) (sG_cond (sG_leaf gT99_27) (sG_leaf gT99_28)))))
theorem gT100_0 : sG l g D H0 mT 100 0 (s_load vRf 100 1 0) := ⟨ok_load _ _ _ _, so_aload_n mT100 dX1_replayed_0 rfl⟩
theorem gT100_1 : sG l g D H0 mT 100 1 (s_load vI 100 2 1) := ⟨ok_load _ _ _ _, so_iload_n mT100 dX1_replayed_1 rfl⟩
theorem gT100_2 : sG l g D H0 mT 100 2 (s_callvk 100 5 81 0 [0] 2) := ⟨ok_callvk _ _ _ _ _ _, sk_callv (by decide) (so_callV mT100 mo81 (by decide) (t := 0) (C := "HyperVane") (by decide) rfl rfl dX1_replayed_2 q973 q975 qs30 q54)⟩
theorem gT100_5 : sG l g D H0 mT 100 5 (s_store vRf 100 7 4) := ⟨ok_store _ _ _ _, so_astore mT100 dX1_replayed_5⟩
theorem gT100_7 : sG l g D H0 mT 100 7 (s_load vI 100 8 3) := ⟨ok_load _ _ _ _, so_iload_n mT100 dX1_replayed_7 rfl⟩
theorem gT100_8 : sG l g D H0 mT 100 8 (s_const 100 9 (.int 1)) := ⟨ok_const _ _ _, so_iconst mT100 dX1_replayed_8 (by decide)⟩
theorem gT100_9 : sG l g D H0 mT 100 9 (s_bin 100 10 (fun a b => a + b)) := ⟨ok_bin _ _ _, so_iadd mT100 dX1_replayed_9⟩
theorem gT100_10 : sG l g D H0 mT 100 10 (s_const 100 12 (.int 7)) := ⟨ok_const _ _ _, so_bipush mT100 dX1_replayed_10 (by decide)⟩
theorem gT100_12 : sG l g D H0 mT 100 12 (s_callk 100 15 83 [0, 0] 2) := ⟨ok_callk _ _ _ _ _, sk_call (by decide) (so_callS mT100 mo83 (by decide) dX1_replayed_12 q988 q989 q54)⟩
theorem gT100_15 : sG l g D H0 mT 100 15 (s_const 100 16 (.int 0)) := ⟨ok_const _ _ _, so_iconst mT100 dX1_replayed_15 (by decide)⟩
theorem gT100_16 : sG l g D H0 mT 100 16 (s_const 100 19 (.int 200)) := ⟨ok_const _ _ _, so_sipush mT100 dX1_replayed_16 (by decide)⟩
theorem gT100_19 : sG l g D H0 mT 100 19 (s_load vI 100 20 2) := ⟨ok_load _ _ _ _, so_iload_n mT100 dX1_replayed_19 rfl⟩
theorem gT100_20 : sG l g D H0 mT 100 20 (s_callk 100 23 77 [0, 0, 0] 3) := ⟨ok_callk _ _ _ _ _, sk_call (by decide) (so_callS mT100 mo77 (by decide) dX1_replayed_20 q842 q843 q54)⟩
theorem gT100_23 : sG l g D H0 mT 100 23 (s_load vRf 100 25 4) := ⟨ok_load _ _ _ _, so_aload mT100 dX1_replayed_23⟩
theorem gT100_25 : sG l g D H0 mT 100 25 (s_load vI 100 26 2) := ⟨ok_load _ _ _ _, so_iload_n mT100 dX1_replayed_25 rfl⟩
theorem gT100_26 : sG l g D H0 mT 100 26 (s_load vI 100 27 3) := ⟨ok_load _ _ _ _, so_iload_n mT100 dX1_replayed_26 rfl⟩
theorem gT100_27 : sG l g D H0 mT 100 27 (s_callk 100 30 70 [1, 0, 0] 4) := ⟨ok_callk _ _ _ _ _, sk_call (by decide) (so_callS mT100 mo70 (by decide) dX1_replayed_27 q448 q449 q54)⟩
theorem gT100_30 : sG l g D H0 mT 100 30 (s_ret pI) := ⟨ok_ret _, so_iret mT100 dX1_replayed_30⟩
theorem gT100 (pc : Nat) : sG l g D H0 mT 100 pc (tT100 g pc) := sG_cond (sG_cond (sG_cond (sG_cond (sG_leaf gT100_0) (sG_leaf gT100_1)) (sG_cond (sG_leaf gT100_2) (sG_leaf gT100_5))) (sG_cond (sG_cond (sG_leaf gT100_7) (sG_leaf gT100_8)) (sG_cond (sG_leaf gT100_9) (sG_cond (sG_leaf gT100_10) (sG_leaf gT100_12))))) (sG_cond (sG_cond (sG_cond (sG_leaf gT100_15) (sG_leaf gT100_16)) (sG_cond (sG_leaf gT100_19) (sG_leaf gT100_20))) (sG_cond (sG_cond (sG_leaf gT100_23) (sG_leaf gT100_25)) (sG_cond (sG_leaf gT100_26) (sG_cond (sG_leaf gT100_27) (sG_leaf gT100_30)))))
theorem gT101_0 : sG l g D H0 mT 101 0 (s_load vRf 101 1 0) := ⟨ok_load _ _ _ _, so_aload_n mT101 dX1_doneIn_0 rfl⟩
theorem gT101_1 : sG l g D H0 mT 101 1 (s_load vI 101 2 1) := ⟨ok_load _ _ _ _, so_iload_n mT101 dX1_doneIn_1 rfl⟩
theorem gT101_2 : sG l g D H0 mT 101 2 (s_callvk 101 5 81 0 [0] 2) := ⟨ok_callvk _ _ _ _ _ _, sk_callv (by decide) (so_callV mT101 mo81 (by decide) (t := 0) (C := "HyperVane") (by decide) rfl rfl dX1_doneIn_2 q973 q975 qs30 q54)⟩
theorem gT101_5 : sG l g D H0 mT 101 5 (s_pop 101 6) := ⟨ok_pop _ _, so_pop mT101 dX1_doneIn_5⟩
theorem gT101_6 : sG l g D H0 mT 101 6 (s_load vI 101 7 2) := ⟨ok_load _ _ _ _, so_iload_n mT101 dX1_doneIn_6 rfl⟩
theorem gT101_7 : sG l g D H0 mT 101 7 (s_callk 101 10 92 [0] 1) := ⟨ok_callk _ _ _ _ _, sk_call (by decide) (so_callS mT101 mo92 (by decide) dX1_doneIn_7 q1099 q1100 q54)⟩
theorem gT101_10 : sG l g D H0 mT 101 10 (s_load vRf 101 11 0) := ⟨ok_load _ _ _ _, so_aload_n mT101 dX1_doneIn_10 rfl⟩
theorem gT101_11 : sG l g D H0 mT 101 11 (s_load vI 101 12 1) := ⟨ok_load _ _ _ _, so_iload_n mT101 dX1_doneIn_11 rfl⟩
theorem gT101_12 : sG l g D H0 mT 101 12 (s_load vI 101 13 2) := ⟨ok_load _ _ _ _, so_iload_n mT101 dX1_doneIn_12 rfl⟩
theorem gT101_13 : sG l g D H0 mT 101 13 (s_callvk 101 16 71 0 [0, 0] 4) := ⟨ok_callvk _ _ _ _ _ _, sk_callv (by decide) (so_callV mT101 mo71 (by decide) (t := 0) (C := "HyperVane") (by decide) rfl rfl dX1_doneIn_13 q529 q531 qs12 q54)⟩
theorem gT101_16 : sG l g D H0 mT 101 16 (s_ret pI) := ⟨ok_ret _, so_iret mT101 dX1_doneIn_16⟩
theorem gT101 (pc : Nat) : sG l g D H0 mT 101 pc (tT101 g pc) := sG_cond (sG_cond (sG_cond (sG_leaf gT101_0) (sG_leaf gT101_1)) (sG_cond (sG_leaf gT101_2) (sG_cond (sG_leaf gT101_5) (sG_leaf gT101_6)))) (sG_cond (sG_cond (sG_leaf gT101_7) (sG_cond (sG_leaf gT101_10) (sG_leaf gT101_11))) (sG_cond (sG_leaf gT101_12) (sG_cond (sG_leaf gT101_13) (sG_leaf gT101_16))))
theorem gT102_0 : sG l g D H0 mT 102 0 (s_load vRf 102 1 0) := ⟨ok_load _ _ _ _, so_aload_n mT102 dX1_awayIn_0 rfl⟩
theorem gT102_1 : sG l g D H0 mT 102 1 (s_load vI 102 2 1) := ⟨ok_load _ _ _ _, so_iload_n mT102 dX1_awayIn_1 rfl⟩
theorem gT102_2 : sG l g D H0 mT 102 2 (s_callvk 102 5 81 0 [0] 2) := ⟨ok_callvk _ _ _ _ _ _, sk_callv (by decide) (so_callV mT102 mo81 (by decide) (t := 0) (C := "HyperVane") (by decide) rfl rfl dX1_awayIn_2 q973 q975 qs30 q54)⟩
theorem gT102_5 : sG l g D H0 mT 102 5 (s_store vRf 102 6 3) := ⟨ok_store _ _ _ _, so_astore_n mT102 dX1_awayIn_5 rfl⟩
theorem gT102_6 : sG l g D H0 mT 102 6 (s_load vI 102 7 2) := ⟨ok_load _ _ _ _, so_iload_n mT102 dX1_awayIn_6 rfl⟩
theorem gT102_7 : sG l g D H0 mT 102 7 (s_callk 102 10 89 [0] 1) := ⟨ok_callk _ _ _ _ _, sk_call (by decide) (so_callS mT102 mo89 (by decide) dX1_awayIn_7 q1079 q1080 q54)⟩
theorem gT102_10 : sG l g D H0 mT 102 10 (s_load vRf 102 11 3) := ⟨ok_load _ _ _ _, so_aload_n mT102 dX1_awayIn_10 rfl⟩
theorem gT102_11 : sG l g D H0 mT 102 11 (s_callk 102 14 72 [1] 1) := ⟨ok_callk _ _ _ _ _, sk_call (by decide) (so_callS mT102 mo72 (by decide) dX1_awayIn_11 q815 q816 q54)⟩
theorem gT102_14 : sG l g D H0 mT 102 14 (s_callk 102 17 79 [0] 1) := ⟨ok_callk _ _ _ _ _, sk_call (by decide) (so_callS mT102 mo79 (by decide) dX1_awayIn_14 q913 q914 q54)⟩
theorem gT102_17 : sG l g D H0 mT 102 17 (s_load vRf 102 18 0) := ⟨ok_load _ _ _ _, so_aload_n mT102 dX1_awayIn_17 rfl⟩
theorem gT102_18 : sG l g D H0 mT 102 18 (s_load vI 102 19 1) := ⟨ok_load _ _ _ _, so_iload_n mT102 dX1_awayIn_18 rfl⟩
theorem gT102_19 : sG l g D H0 mT 102 19 (s_load vI 102 20 2) := ⟨ok_load _ _ _ _, so_iload_n mT102 dX1_awayIn_19 rfl⟩
theorem gT102_20 : sG l g D H0 mT 102 20 (s_callvk 102 23 73 0 [0, 0] 6) := ⟨ok_callvk _ _ _ _ _ _, sk_callv (by decide) (so_callV mT102 mo73 (by decide) (t := 0) (C := "HyperVane") (by decide) rfl rfl dX1_awayIn_20 q819 q821 qs28 q54)⟩
theorem gT102_23 : sG l g D H0 mT 102 23 (s_ret pI) := ⟨ok_ret _, so_iret mT102 dX1_awayIn_23⟩
theorem gT102 (pc : Nat) : sG l g D H0 mT 102 pc (tT102 g pc) := sG_cond (sG_cond (sG_cond (sG_leaf gT102_0) (sG_cond (sG_leaf gT102_1) (sG_leaf gT102_2))) (sG_cond (sG_cond (sG_leaf gT102_5) (sG_leaf gT102_6)) (sG_cond (sG_leaf gT102_7) (sG_leaf gT102_10)))) (sG_cond (sG_cond (sG_leaf gT102_11) (sG_cond (sG_leaf gT102_14) (sG_leaf gT102_17))) (sG_cond (sG_cond (sG_leaf gT102_18) (sG_leaf gT102_19)) (sG_cond (sG_leaf gT102_20) (sG_leaf gT102_23))))
end SND
