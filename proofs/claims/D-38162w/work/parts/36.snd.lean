/-! the tables are right over the machine: printed by gen.py -/
section SND
variable {l : Launch} {g : GC} {D : va_G} {H0 : Heap}
theorem gT38_0 : sG l g D H0 mT 38 0 (s_new g 38 3 0 1 (fun k => defaultValue (tyX1 k))) := ⟨ok_new _ _ _ _ _ _, so_new mT38 cl0 (fun _ _ => rfl) dL_law_0 q85 q86 q54⟩
theorem gT38_3 : sG l g D H0 mT 38 3 (s_dup 38 4) := ⟨ok_dup _ _, so_dup mT38 dL_law_3⟩
theorem gT38_4 : sG l g D H0 mT 38 4 (s_callik 38 7 58 [] 1) := ⟨ok_callik _ _ _ _ _, sk_calli (by decide) (so_callI mT38 mo58 (by decide) rfl dL_law_4 q87 q88 q54)⟩
theorem gT38_7 : sG l g D H0 mT 38 7 (s_store vRf 38 8 1) := ⟨ok_store _ _ _ _, so_astore_n mT38 dL_law_7 rfl⟩
theorem gT38_8 : sG l g D H0 mT 38 8 (s_new g 38 11 3 3 (fun k => defaultValue (tyX4 k))) := ⟨ok_new _ _ _ _ _ _, so_new mT38 cl3 (fun _ _ => rfl) dL_law_8 q1172 q1173 q66⟩
theorem gT38_11 : sG l g D H0 mT 38 11 (s_dup 38 12) := ⟨ok_dup _ _, so_dup mT38 dL_law_11⟩
theorem gT38_12 : sG l g D H0 mT 38 12 (s_callik 38 15 137 [] 1) := ⟨ok_callik _ _ _ _ _, sk_calli (by decide) (so_callI mT38 mo137 (by decide) rfl dL_law_12 q1174 q1175 q66)⟩
theorem gT38_15 : sG l g D H0 mT 38 15 (s_store vRf 38 16 2) := ⟨ok_store _ _ _ _, so_astore_n mT38 dL_law_15 rfl⟩
theorem gT38_16 : sG l g D H0 mT 38 16 (s_const 38 17 (.int 1)) := ⟨ok_const _ _ _, so_iconst mT38 dL_law_16 (by decide)⟩
theorem gT38_17 : sG l g D H0 mT 38 17 (s_newa g 38 19 22 (.long 0)) := ⟨ok_newa _ _ _ _ _, so_newa mT38 (t := 22) (by decide) rfl rfl (by decide) dL_law_17 q1695⟩
theorem gT38_19 : sG l g D H0 mT 38 19 (s_store vRf 38 20 3) := ⟨ok_store _ _ _ _, so_astore_n mT38 dL_law_19 rfl⟩
theorem gT38_20 : sG l g D H0 mT 38 20 (s_const 38 21 (.int 1)) := ⟨ok_const _ _ _, so_iconst mT38 dL_law_20 (by decide)⟩
theorem gT38_21 : sG l g D H0 mT 38 21 (s_newa g 38 23 23 (.double 0)) := ⟨ok_newa _ _ _ _ _, so_newa mT38 (t := 23) (by decide) rfl rfl (by decide) dL_law_21 q1696⟩
theorem gT38_23 : sG l g D H0 mT 38 23 (s_store vRf 38 25 4) := ⟨ok_store _ _ _ _, so_astore mT38 dL_law_23⟩
theorem gT38_25 : sG l g D H0 mT 38 25 (s_const 38 26 (.int 0)) := ⟨ok_const _ _ _, so_iconst mT38 dL_law_25 (by decide)⟩
theorem gT38_26 : sG l g D H0 mT 38 26 (s_store vI 38 28 5) := ⟨ok_store _ _ _ _, so_istore mT38 dL_law_26⟩
theorem gT38_28 : sG l g D H0 mT 38 28 (s_load vI 38 30 5) := ⟨ok_load _ _ _ _, so_iload mT38 dL_law_28⟩
theorem gT38_30 : sG l g D H0 mT 38 30 (s_load vRf 38 31 0) := ⟨ok_load _ _ _ _, so_aload_n mT38 dL_law_30 rfl⟩
theorem gT38_31 : sG l g D H0 mT 38 31 (s_alen 38 32 27) := ⟨ok_alen _ _ _, so_alen mT38 a27 dL_law_31⟩
theorem gT38_32 : sG l g D H0 mT 38 32 (s_const 38 33 (.int 4)) := ⟨ok_const _ _ _, so_iconst mT38 dL_law_32 (by decide)⟩
theorem gT38_33 : sG l g D H0 mT 38 33 (s_bin 38 34 (fun a b => a - b)) := ⟨ok_bin _ _ _, so_isub mT38 dL_law_33⟩
theorem gT38_34 : sG l g D H0 mT 38 34 (s_icmp 38 37 1460 (fun a b => b < a)) := ⟨ok_icmp _ _ _ _, so_icmp_gt mT38 dL_law_34 (by decide)⟩
theorem gT38_37 : sG l g D H0 mT 38 37 (s_load vRf 38 38 0) := ⟨ok_load _ _ _ _, so_aload_n mT38 dL_law_37 rfl⟩
theorem gT38_38 : sG l g D H0 mT 38 38 (s_load vI 38 40 5) := ⟨ok_load _ _ _ _, so_iload mT38 dL_law_38⟩
theorem gT38_40 : sG l g D H0 mT 38 40 (s_ald 38 41 27) := ⟨ok_ald _ _ _, so_iald mT38 a27 dL_law_40⟩
theorem gT38_41 : sG l g D H0 mT 38 41 (s_const 38 43 (.int 31)) := ⟨ok_const _ _ _, so_bipush mT38 dL_law_41 (by decide)⟩
theorem gT38_43 : sG l g D H0 mT 38 43 (s_bin 38 44 (fun a b => a &&& b)) := ⟨ok_bin _ _ _, so_iand mT38 dL_law_43⟩
theorem gT38_44 : sG l g D H0 mT 38 44 (s_tsw 38 (tswf 0 1454 [140, 196, 276, 344, 435, 491, 559, 627, 683, 739, 807, 875, 955, 1023, 1091, 1147, 1224, 1304, 1372, 1440])) := ⟨ok_tsw _ _, so_tsw mT38 dL_law_44 (by decide) (by decide) (by decide)⟩
theorem gT38_140 : sG l g D H0 mT 38 140 (s_load vRf 38 141 1) := ⟨ok_load _ _ _ _, so_aload_n mT38 dL_law_140 rfl⟩
theorem gT38_141 : sG l g D H0 mT 38 141 (s_load vRf 38 142 0) := ⟨ok_load _ _ _ _, so_aload_n mT38 dL_law_141 rfl⟩
theorem gT38_142 : sG l g D H0 mT 38 142 (s_load vI 38 144 5) := ⟨ok_load _ _ _ _, so_iload mT38 dL_law_142⟩
theorem gT38_144 : sG l g D H0 mT 38 144 (s_const 38 145 (.int 1)) := ⟨ok_const _ _ _, so_iconst mT38 dL_law_144 (by decide)⟩
theorem gT38_145 : sG l g D H0 mT 38 145 (s_bin 38 146 (fun a b => a + b)) := ⟨ok_bin _ _ _, so_iadd mT38 dL_law_145⟩
theorem gT38_146 : sG l g D H0 mT 38 146 (s_ald 38 147 27) := ⟨ok_ald _ _ _, so_iald mT38 a27 dL_law_146⟩
theorem gT38_147 : sG l g D H0 mT 38 147 (s_load vRf 38 148 3) := ⟨ok_load _ _ _ _, so_aload_n mT38 dL_law_147 rfl⟩
theorem gT38_148 : sG l g D H0 mT 38 148 (s_callk 38 151 39 [1, 0, 1] 4) := ⟨ok_callk _ _ _ _ _, sk_call (by decide) (so_callSH mT38 mo39 (by decide) dL_law_148 q830 q831 q53)⟩
theorem gT38_151 : sG l g D H0 mT 38 151 (s_store vI 38 153 6) := ⟨ok_store _ _ _ _, so_istore mT38 dL_law_151⟩
theorem gT38_153 : sG l g D H0 mT 38 153 (s_load vRf 38 154 2) := ⟨ok_load _ _ _ _, so_aload_n mT38 dL_law_153 rfl⟩
theorem gT38_154 : sG l g D H0 mT 38 154 (s_load vRf 38 155 0) := ⟨ok_load _ _ _ _, so_aload_n mT38 dL_law_154 rfl⟩
theorem gT38_155 : sG l g D H0 mT 38 155 (s_load vI 38 157 5) := ⟨ok_load _ _ _ _, so_iload mT38 dL_law_155⟩
theorem gT38_157 : sG l g D H0 mT 38 157 (s_const 38 158 (.int 1)) := ⟨ok_const _ _ _, so_iconst mT38 dL_law_157 (by decide)⟩
theorem gT38_158 : sG l g D H0 mT 38 158 (s_bin 38 159 (fun a b => a + b)) := ⟨ok_bin _ _ _, so_iadd mT38 dL_law_158⟩
theorem gT38_159 : sG l g D H0 mT 38 159 (s_ald 38 160 27) := ⟨ok_ald _ _ _, so_iald mT38 a27 dL_law_159⟩
theorem gT38_160 : sG l g D H0 mT 38 160 (s_callvk 38 163 139 3 [0] 3) := ⟨ok_callvk _ _ _ _ _ _, sk_callv (by decide) (so_callV mT38 mo139 (by decide) (t := 3) (C := "HyperVaneModel") (by decide) rfl rfl dL_law_160 q1240 q1241 q1242 q66)⟩
theorem gT38_163 : sG l g D H0 mT 38 163 (s_store vI 38 165 7) := ⟨ok_store _ _ _ _, so_istore mT38 dL_law_163⟩
theorem gT38_165 : sG l g D H0 mT 38 165 (s_load vRf 38 166 2) := ⟨ok_load _ _ _ _, so_aload_n mT38 dL_law_165 rfl⟩
theorem gT38_166 : sG l g D H0 mT 38 166 (s_callvk 38 169 138 3 [] 1) := ⟨ok_callvk _ _ _ _ _ _, sk_callv (by decide) (so_callV mT38 mo138 (by decide) (t := 3) (C := "HyperVaneModel") (by decide) rfl rfl dL_law_166 q1236 q1237 q1238 q66)⟩
theorem gT38_169 : sG l g D H0 mT 38 169 (s_load vI 38 171 6) := ⟨ok_load _ _ _ _, so_iload mT38 dL_law_169⟩
theorem gT38_171 : sG l g D H0 mT 38 171 (s_icmp 38 174 176 (fun a b => a = b)) := ⟨ok_icmp _ _ _ _, so_icmp_eq mT38 dL_law_171 (by decide)⟩
theorem gT38_174 : sG l g D H0 mT 38 174 (s_const 38 175 (.int 0)) := ⟨ok_const _ _ _, so_iconst mT38 dL_law_174 (by decide)⟩
theorem gT38_175 : sG l g D H0 mT 38 175 (s_ret vZ) := ⟨ok_ret _, so_zret mT38 dL_law_175⟩
theorem gT38_176 : sG l g D H0 mT 38 176 (s_load vI 38 178 6) := ⟨ok_load _ _ _ _, so_iload mT38 dL_law_176⟩
theorem gT38_178 : sG l g D H0 mT 38 178 (s_if 38 193 181 (fun a => a = 0)) := ⟨ok_if _ _ _ _, so_if_ne mT38 dL_law_178 (by decide)⟩
theorem gT38_181 : sG l g D H0 mT 38 181 (s_load vRf 38 182 3) := ⟨ok_load _ _ _ _, so_aload_n mT38 dL_law_181 rfl⟩
theorem gT38_182 : sG l g D H0 mT 38 182 (s_const 38 183 (.int 0)) := ⟨ok_const _ _ _, so_iconst mT38 dL_law_182 (by decide)⟩
theorem gT38_183 : sG l g D H0 mT 38 183 (s_ald 38 184 22) := ⟨ok_ald _ _ _, so_lald mT38 a22 dL_law_183⟩
theorem gT38_184 : sG l g D H0 mT 38 184 (s_load vI 38 186 7) := ⟨ok_load _ _ _ _, so_iload mT38 dL_law_184⟩
theorem gT38_186 : sG l g D H0 mT 38 186 (s_i2 38 187 (fun a => .long a.toInt64)) := ⟨ok_i2 _ _ _, so_i2l mT38 dL_law_186⟩
theorem gT38_187 : sG l g D H0 mT 38 187 (s_lbin 38 188 (fun a b => .int (lg_cmp a b))) := ⟨ok_lbin _ _ _, so_lcmp mT38 dL_law_187⟩
theorem gT38_188 : sG l g D H0 mT 38 188 (s_if 38 191 193 (fun a => a = 0)) := ⟨ok_if _ _ _ _, so_if_eq mT38 dL_law_188 (by decide)⟩
theorem gT38_191 : sG l g D H0 mT 38 191 (s_const 38 192 (.int 0)) := ⟨ok_const _ _ _, so_iconst mT38 dL_law_191 (by decide)⟩
theorem gT38_192 : sG l g D H0 mT 38 192 (s_ret vZ) := ⟨ok_ret _, so_zret mT38 dL_law_192⟩
theorem gT38_193 : sG l g D H0 mT 38 193 (s_goto 38 1454) := ⟨ok_goto _ _, so_goto mT38 dL_law_193 (by decide)⟩
theorem gT38_196 : sG l g D H0 mT 38 196 (s_load vRf 38 197 1) := ⟨ok_load _ _ _ _, so_aload_n mT38 dL_law_196 rfl⟩
theorem gT38_197 : sG l g D H0 mT 38 197 (s_load vRf 38 198 0) := ⟨ok_load _ _ _ _, so_aload_n mT38 dL_law_197 rfl⟩
theorem gT38_198 : sG l g D H0 mT 38 198 (s_load vI 38 200 5) := ⟨ok_load _ _ _ _, so_iload mT38 dL_law_198⟩
theorem gT38_200 : sG l g D H0 mT 38 200 (s_const 38 201 (.int 1)) := ⟨ok_const _ _ _, so_iconst mT38 dL_law_200 (by decide)⟩
theorem gT38_201 : sG l g D H0 mT 38 201 (s_bin 38 202 (fun a b => a + b)) := ⟨ok_bin _ _ _, so_iadd mT38 dL_law_201⟩
theorem gT38_202 : sG l g D H0 mT 38 202 (s_ald 38 203 27) := ⟨ok_ald _ _ _, so_iald mT38 a27 dL_law_202⟩
theorem gT38_203 : sG l g D H0 mT 38 203 (s_load vRf 38 204 0) := ⟨ok_load _ _ _ _, so_aload_n mT38 dL_law_203 rfl⟩
theorem gT38_204 : sG l g D H0 mT 38 204 (s_load vI 38 206 5) := ⟨ok_load _ _ _ _, so_iload mT38 dL_law_204⟩
theorem gT38_206 : sG l g D H0 mT 38 206 (s_const 38 207 (.int 2)) := ⟨ok_const _ _ _, so_iconst mT38 dL_law_206 (by decide)⟩
theorem gT38_207 : sG l g D H0 mT 38 207 (s_bin 38 208 (fun a b => a + b)) := ⟨ok_bin _ _ _, so_iadd mT38 dL_law_207⟩
theorem gT38_208 : sG l g D H0 mT 38 208 (s_ald 38 209 27) := ⟨ok_ald _ _ _, so_iald mT38 a27 dL_law_208⟩
theorem gT38_209 : sG l g D H0 mT 38 209 (s_load vRf 38 210 0) := ⟨ok_load _ _ _ _, so_aload_n mT38 dL_law_209 rfl⟩
theorem gT38_210 : sG l g D H0 mT 38 210 (s_load vI 38 212 5) := ⟨ok_load _ _ _ _, so_iload mT38 dL_law_210⟩
theorem gT38_212 : sG l g D H0 mT 38 212 (s_const 38 213 (.int 3)) := ⟨ok_const _ _ _, so_iconst mT38 dL_law_212 (by decide)⟩
theorem gT38_213 : sG l g D H0 mT 38 213 (s_bin 38 214 (fun a b => a + b)) := ⟨ok_bin _ _ _, so_iadd mT38 dL_law_213⟩
theorem gT38_214 : sG l g D H0 mT 38 214 (s_ald 38 215 27) := ⟨ok_ald _ _ _, so_iald mT38 a27 dL_law_214⟩
theorem gT38_215 : sG l g D H0 mT 38 215 (s_load vRf 38 216 3) := ⟨ok_load _ _ _ _, so_aload_n mT38 dL_law_215 rfl⟩
theorem gT38_216 : sG l g D H0 mT 38 216 (s_callk 38 219 40 [1, 0, 0, 0, 1] 6) := ⟨ok_callk _ _ _ _ _, sk_call (by decide) (so_callSH mT38 mo40 (by decide) dL_law_216 q933 q934 q53)⟩
theorem gT38_219 : sG l g D H0 mT 38 219 (s_store vI 38 221 6) := ⟨ok_store _ _ _ _, so_istore mT38 dL_law_219⟩
theorem gT38_221 : sG l g D H0 mT 38 221 (s_load vRf 38 222 2) := ⟨ok_load _ _ _ _, so_aload_n mT38 dL_law_221 rfl⟩
theorem gT38_222 : sG l g D H0 mT 38 222 (s_load vRf 38 223 0) := ⟨ok_load _ _ _ _, so_aload_n mT38 dL_law_222 rfl⟩
theorem gT38_223 : sG l g D H0 mT 38 223 (s_load vI 38 225 5) := ⟨ok_load _ _ _ _, so_iload mT38 dL_law_223⟩
theorem gT38_225 : sG l g D H0 mT 38 225 (s_const 38 226 (.int 1)) := ⟨ok_const _ _ _, so_iconst mT38 dL_law_225 (by decide)⟩
theorem gT38_226 : sG l g D H0 mT 38 226 (s_bin 38 227 (fun a b => a + b)) := ⟨ok_bin _ _ _, so_iadd mT38 dL_law_226⟩
theorem gT38_227 : sG l g D H0 mT 38 227 (s_ald 38 228 27) := ⟨ok_ald _ _ _, so_iald mT38 a27 dL_law_227⟩
theorem gT38_228 : sG l g D H0 mT 38 228 (s_load vRf 38 229 0) := ⟨ok_load _ _ _ _, so_aload_n mT38 dL_law_228 rfl⟩
theorem gT38_229 : sG l g D H0 mT 38 229 (s_load vI 38 231 5) := ⟨ok_load _ _ _ _, so_iload mT38 dL_law_229⟩
theorem gT38_231 : sG l g D H0 mT 38 231 (s_const 38 232 (.int 2)) := ⟨ok_const _ _ _, so_iconst mT38 dL_law_231 (by decide)⟩
theorem gT38_232 : sG l g D H0 mT 38 232 (s_bin 38 233 (fun a b => a + b)) := ⟨ok_bin _ _ _, so_iadd mT38 dL_law_232⟩
theorem gT38_233 : sG l g D H0 mT 38 233 (s_ald 38 234 27) := ⟨ok_ald _ _ _, so_iald mT38 a27 dL_law_233⟩
theorem gT38_234 : sG l g D H0 mT 38 234 (s_load vRf 38 235 0) := ⟨ok_load _ _ _ _, so_aload_n mT38 dL_law_234 rfl⟩
theorem gT38_235 : sG l g D H0 mT 38 235 (s_load vI 38 237 5) := ⟨ok_load _ _ _ _, so_iload mT38 dL_law_235⟩
theorem gT38_237 : sG l g D H0 mT 38 237 (s_const 38 238 (.int 3)) := ⟨ok_const _ _ _, so_iconst mT38 dL_law_237 (by decide)⟩
theorem gT38_238 : sG l g D H0 mT 38 238 (s_bin 38 239 (fun a b => a + b)) := ⟨ok_bin _ _ _, so_iadd mT38 dL_law_238⟩
theorem gT38_239 : sG l g D H0 mT 38 239 (s_ald 38 240 27) := ⟨ok_ald _ _ _, so_iald mT38 a27 dL_law_239⟩
theorem gT38_240 : sG l g D H0 mT 38 240 (s_callvk 38 243 142 3 [0, 0, 0] 6) := ⟨ok_callvk _ _ _ _ _ _, sk_callv (by decide) (so_callV mT38 mo142 (by decide) (t := 3) (C := "HyperVaneModel") (by decide) rfl rfl dL_law_240 q1412 q1413 q1414 q66)⟩
theorem gT38_243 : sG l g D H0 mT 38 243 (s_store vI 38 245 7) := ⟨ok_store _ _ _ _, so_istore mT38 dL_law_243⟩
theorem gT38_245 : sG l g D H0 mT 38 245 (s_load vRf 38 246 2) := ⟨ok_load _ _ _ _, so_aload_n mT38 dL_law_245 rfl⟩
theorem gT38_246 : sG l g D H0 mT 38 246 (s_callvk 38 249 138 3 [] 1) := ⟨ok_callvk _ _ _ _ _ _, sk_callv (by decide) (so_callV mT38 mo138 (by decide) (t := 3) (C := "HyperVaneModel") (by decide) rfl rfl dL_law_246 q1236 q1237 q1238 q66)⟩
theorem gT38_249 : sG l g D H0 mT 38 249 (s_load vI 38 251 6) := ⟨ok_load _ _ _ _, so_iload mT38 dL_law_249⟩
theorem gT38_251 : sG l g D H0 mT 38 251 (s_icmp 38 254 256 (fun a b => a = b)) := ⟨ok_icmp _ _ _ _, so_icmp_eq mT38 dL_law_251 (by decide)⟩
theorem gT38_254 : sG l g D H0 mT 38 254 (s_const 38 255 (.int 0)) := ⟨ok_const _ _ _, so_iconst mT38 dL_law_254 (by decide)⟩
theorem gT38_255 : sG l g D H0 mT 38 255 (s_ret vZ) := ⟨ok_ret _, so_zret mT38 dL_law_255⟩
theorem gT38_256 : sG l g D H0 mT 38 256 (s_load vI 38 258 6) := ⟨ok_load _ _ _ _, so_iload mT38 dL_law_256⟩
theorem gT38_258 : sG l g D H0 mT 38 258 (s_if 38 273 261 (fun a => a = 0)) := ⟨ok_if _ _ _ _, so_if_ne mT38 dL_law_258 (by decide)⟩
theorem gT38_261 : sG l g D H0 mT 38 261 (s_load vRf 38 262 3) := ⟨ok_load _ _ _ _, so_aload_n mT38 dL_law_261 rfl⟩
theorem gT38_262 : sG l g D H0 mT 38 262 (s_const 38 263 (.int 0)) := ⟨ok_const _ _ _, so_iconst mT38 dL_law_262 (by decide)⟩
theorem gT38_263 : sG l g D H0 mT 38 263 (s_ald 38 264 22) := ⟨ok_ald _ _ _, so_lald mT38 a22 dL_law_263⟩
theorem gT38_264 : sG l g D H0 mT 38 264 (s_load vI 38 266 7) := ⟨ok_load _ _ _ _, so_iload mT38 dL_law_264⟩
theorem gT38_266 : sG l g D H0 mT 38 266 (s_i2 38 267 (fun a => .long a.toInt64)) := ⟨ok_i2 _ _ _, so_i2l mT38 dL_law_266⟩
theorem gT38_267 : sG l g D H0 mT 38 267 (s_lbin 38 268 (fun a b => .int (lg_cmp a b))) := ⟨ok_lbin _ _ _, so_lcmp mT38 dL_law_267⟩
theorem gT38_268 : sG l g D H0 mT 38 268 (s_if 38 271 273 (fun a => a = 0)) := ⟨ok_if _ _ _ _, so_if_eq mT38 dL_law_268 (by decide)⟩
theorem gT38_271 : sG l g D H0 mT 38 271 (s_const 38 272 (.int 0)) := ⟨ok_const _ _ _, so_iconst mT38 dL_law_271 (by decide)⟩
theorem gT38_272 : sG l g D H0 mT 38 272 (s_ret vZ) := ⟨ok_ret _, so_zret mT38 dL_law_272⟩
theorem gT38_273 : sG l g D H0 mT 38 273 (s_goto 38 1454) := ⟨ok_goto _ _, so_goto mT38 dL_law_273 (by decide)⟩
theorem gT38_276 : sG l g D H0 mT 38 276 (s_load vRf 38 277 1) := ⟨ok_load _ _ _ _, so_aload_n mT38 dL_law_276 rfl⟩
theorem gT38_277 : sG l g D H0 mT 38 277 (s_load vRf 38 278 0) := ⟨ok_load _ _ _ _, so_aload_n mT38 dL_law_277 rfl⟩
theorem gT38_278 : sG l g D H0 mT 38 278 (s_load vI 38 280 5) := ⟨ok_load _ _ _ _, so_iload mT38 dL_law_278⟩
theorem gT38_280 : sG l g D H0 mT 38 280 (s_const 38 281 (.int 1)) := ⟨ok_const _ _ _, so_iconst mT38 dL_law_280 (by decide)⟩
theorem gT38_281 : sG l g D H0 mT 38 281 (s_bin 38 282 (fun a b => a + b)) := ⟨ok_bin _ _ _, so_iadd mT38 dL_law_281⟩
theorem gT38_282 : sG l g D H0 mT 38 282 (s_ald 38 283 27) := ⟨ok_ald _ _ _, so_iald mT38 a27 dL_law_282⟩
theorem gT38_283 : sG l g D H0 mT 38 283 (s_load vRf 38 284 0) := ⟨ok_load _ _ _ _, so_aload_n mT38 dL_law_283 rfl⟩
theorem gT38_284 : sG l g D H0 mT 38 284 (s_load vI 38 286 5) := ⟨ok_load _ _ _ _, so_iload mT38 dL_law_284⟩
theorem gT38_286 : sG l g D H0 mT 38 286 (s_const 38 287 (.int 2)) := ⟨ok_const _ _ _, so_iconst mT38 dL_law_286 (by decide)⟩
theorem gT38_287 : sG l g D H0 mT 38 287 (s_bin 38 288 (fun a b => a + b)) := ⟨ok_bin _ _ _, so_iadd mT38 dL_law_287⟩
theorem gT38_288 : sG l g D H0 mT 38 288 (s_ald 38 289 27) := ⟨ok_ald _ _ _, so_iald mT38 a27 dL_law_288⟩
theorem gT38_289 : sG l g D H0 mT 38 289 (s_load vRf 38 290 3) := ⟨ok_load _ _ _ _, so_aload_n mT38 dL_law_289 rfl⟩
theorem gT38_290 : sG l g D H0 mT 38 290 (s_callk 38 293 41 [1, 0, 0, 1] 5) := ⟨ok_callk _ _ _ _ _, sk_call (by decide) (so_callSH mT38 mo41 (by decide) dL_law_290 q1031 q1032 q53)⟩
theorem gT38_293 : sG l g D H0 mT 38 293 (s_store vI 38 295 6) := ⟨ok_store _ _ _ _, so_istore mT38 dL_law_293⟩
theorem gT38_295 : sG l g D H0 mT 38 295 (s_load vRf 38 296 2) := ⟨ok_load _ _ _ _, so_aload_n mT38 dL_law_295 rfl⟩
theorem gT38_296 : sG l g D H0 mT 38 296 (s_load vRf 38 297 0) := ⟨ok_load _ _ _ _, so_aload_n mT38 dL_law_296 rfl⟩
theorem gT38_297 : sG l g D H0 mT 38 297 (s_load vI 38 299 5) := ⟨ok_load _ _ _ _, so_iload mT38 dL_law_297⟩
theorem gT38_299 : sG l g D H0 mT 38 299 (s_const 38 300 (.int 1)) := ⟨ok_const _ _ _, so_iconst mT38 dL_law_299 (by decide)⟩
theorem gT38_300 : sG l g D H0 mT 38 300 (s_bin 38 301 (fun a b => a + b)) := ⟨ok_bin _ _ _, so_iadd mT38 dL_law_300⟩
theorem gT38_301 : sG l g D H0 mT 38 301 (s_ald 38 302 27) := ⟨ok_ald _ _ _, so_iald mT38 a27 dL_law_301⟩
theorem gT38_302 : sG l g D H0 mT 38 302 (s_load vRf 38 303 0) := ⟨ok_load _ _ _ _, so_aload_n mT38 dL_law_302 rfl⟩
theorem gT38_303 : sG l g D H0 mT 38 303 (s_load vI 38 305 5) := ⟨ok_load _ _ _ _, so_iload mT38 dL_law_303⟩
theorem gT38_305 : sG l g D H0 mT 38 305 (s_const 38 306 (.int 2)) := ⟨ok_const _ _ _, so_iconst mT38 dL_law_305 (by decide)⟩
theorem gT38_306 : sG l g D H0 mT 38 306 (s_bin 38 307 (fun a b => a + b)) := ⟨ok_bin _ _ _, so_iadd mT38 dL_law_306⟩
theorem gT38_307 : sG l g D H0 mT 38 307 (s_ald 38 308 27) := ⟨ok_ald _ _ _, so_iald mT38 a27 dL_law_307⟩
theorem gT38_308 : sG l g D H0 mT 38 308 (s_callvk 38 311 145 3 [0, 0] 4) := ⟨ok_callvk _ _ _ _ _ _, sk_callv (by decide) (so_callV mT38 mo145 (by decide) (t := 3) (C := "HyperVaneModel") (by decide) rfl rfl dL_law_308 q1424 q1425 q1426 q66)⟩
theorem gT38_311 : sG l g D H0 mT 38 311 (s_store vI 38 313 7) := ⟨ok_store _ _ _ _, so_istore mT38 dL_law_311⟩
theorem gT38_313 : sG l g D H0 mT 38 313 (s_load vRf 38 314 2) := ⟨ok_load _ _ _ _, so_aload_n mT38 dL_law_313 rfl⟩
theorem gT38_314 : sG l g D H0 mT 38 314 (s_callvk 38 317 138 3 [] 1) := ⟨ok_callvk _ _ _ _ _ _, sk_callv (by decide) (so_callV mT38 mo138 (by decide) (t := 3) (C := "HyperVaneModel") (by decide) rfl rfl dL_law_314 q1236 q1237 q1238 q66)⟩
theorem gT38_317 : sG l g D H0 mT 38 317 (s_load vI 38 319 6) := ⟨ok_load _ _ _ _, so_iload mT38 dL_law_317⟩
theorem gT38_319 : sG l g D H0 mT 38 319 (s_icmp 38 322 324 (fun a b => a = b)) := ⟨ok_icmp _ _ _ _, so_icmp_eq mT38 dL_law_319 (by decide)⟩
theorem gT38_322 : sG l g D H0 mT 38 322 (s_const 38 323 (.int 0)) := ⟨ok_const _ _ _, so_iconst mT38 dL_law_322 (by decide)⟩
theorem gT38_323 : sG l g D H0 mT 38 323 (s_ret vZ) := ⟨ok_ret _, so_zret mT38 dL_law_323⟩
theorem gT38_324 : sG l g D H0 mT 38 324 (s_load vI 38 326 6) := ⟨ok_load _ _ _ _, so_iload mT38 dL_law_324⟩
theorem gT38_326 : sG l g D H0 mT 38 326 (s_if 38 341 329 (fun a => a = 0)) := ⟨ok_if _ _ _ _, so_if_ne mT38 dL_law_326 (by decide)⟩
theorem gT38_329 : sG l g D H0 mT 38 329 (s_load vRf 38 330 3) := ⟨ok_load _ _ _ _, so_aload_n mT38 dL_law_329 rfl⟩
theorem gT38_330 : sG l g D H0 mT 38 330 (s_const 38 331 (.int 0)) := ⟨ok_const _ _ _, so_iconst mT38 dL_law_330 (by decide)⟩
theorem gT38_331 : sG l g D H0 mT 38 331 (s_ald 38 332 22) := ⟨ok_ald _ _ _, so_lald mT38 a22 dL_law_331⟩
theorem gT38_332 : sG l g D H0 mT 38 332 (s_load vI 38 334 7) := ⟨ok_load _ _ _ _, so_iload mT38 dL_law_332⟩
theorem gT38_334 : sG l g D H0 mT 38 334 (s_i2 38 335 (fun a => .long a.toInt64)) := ⟨ok_i2 _ _ _, so_i2l mT38 dL_law_334⟩
theorem gT38_335 : sG l g D H0 mT 38 335 (s_lbin 38 336 (fun a b => .int (lg_cmp a b))) := ⟨ok_lbin _ _ _, so_lcmp mT38 dL_law_335⟩
theorem gT38_336 : sG l g D H0 mT 38 336 (s_if 38 339 341 (fun a => a = 0)) := ⟨ok_if _ _ _ _, so_if_eq mT38 dL_law_336 (by decide)⟩
theorem gT38_339 : sG l g D H0 mT 38 339 (s_const 38 340 (.int 0)) := ⟨ok_const _ _ _, so_iconst mT38 dL_law_339 (by decide)⟩
theorem gT38_340 : sG l g D H0 mT 38 340 (s_ret vZ) := ⟨ok_ret _, so_zret mT38 dL_law_340⟩
theorem gT38_341 : sG l g D H0 mT 38 341 (s_goto 38 1454) := ⟨ok_goto _ _, so_goto mT38 dL_law_341 (by decide)⟩
theorem gT38_344 : sG l g D H0 mT 38 344 (s_load vRf 38 345 1) := ⟨ok_load _ _ _ _, so_aload_n mT38 dL_law_344 rfl⟩
theorem gT38_345 : sG l g D H0 mT 38 345 (s_load vRf 38 346 0) := ⟨ok_load _ _ _ _, so_aload_n mT38 dL_law_345 rfl⟩
theorem gT38_346 : sG l g D H0 mT 38 346 (s_load vI 38 348 5) := ⟨ok_load _ _ _ _, so_iload mT38 dL_law_346⟩
theorem gT38_348 : sG l g D H0 mT 38 348 (s_const 38 349 (.int 1)) := ⟨ok_const _ _ _, so_iconst mT38 dL_law_348 (by decide)⟩
theorem gT38_349 : sG l g D H0 mT 38 349 (s_bin 38 350 (fun a b => a + b)) := ⟨ok_bin _ _ _, so_iadd mT38 dL_law_349⟩
theorem gT38_350 : sG l g D H0 mT 38 350 (s_ald 38 351 27) := ⟨ok_ald _ _ _, so_iald mT38 a27 dL_law_350⟩
theorem gT38_351 : sG l g D H0 mT 38 351 (s_load vRf 38 352 0) := ⟨ok_load _ _ _ _, so_aload_n mT38 dL_law_351 rfl⟩
theorem gT38_352 : sG l g D H0 mT 38 352 (s_load vI 38 354 5) := ⟨ok_load _ _ _ _, so_iload mT38 dL_law_352⟩
theorem gT38_354 : sG l g D H0 mT 38 354 (s_const 38 355 (.int 2)) := ⟨ok_const _ _ _, so_iconst mT38 dL_law_354 (by decide)⟩
theorem gT38_355 : sG l g D H0 mT 38 355 (s_bin 38 356 (fun a b => a + b)) := ⟨ok_bin _ _ _, so_iadd mT38 dL_law_355⟩
theorem gT38_356 : sG l g D H0 mT 38 356 (s_ald 38 357 27) := ⟨ok_ald _ _ _, so_iald mT38 a27 dL_law_356⟩
theorem gT38_357 : sG l g D H0 mT 38 357 (s_if 38 360 364 (fun a => a = 0)) := ⟨ok_if _ _ _ _, so_if_eq mT38 dL_law_357 (by decide)⟩
theorem gT38_360 : sG l g D H0 mT 38 360 (s_const 38 361 (.int 1)) := ⟨ok_const _ _ _, so_iconst mT38 dL_law_360 (by decide)⟩
theorem gT38_361 : sG l g D H0 mT 38 361 (s_goto 38 365) := ⟨ok_goto _ _, so_goto mT38 dL_law_361 (by decide)⟩
theorem gT38_364 : sG l g D H0 mT 38 364 (s_const 38 365 (.int 0)) := ⟨ok_const _ _ _, so_iconst mT38 dL_law_364 (by decide)⟩
theorem gT38_365 : sG l g D H0 mT 38 365 (s_load vRf 38 366 3) := ⟨ok_load _ _ _ _, so_aload_n mT38 dL_law_365 rfl⟩
theorem gT38_366 : sG l g D H0 mT 38 366 (s_callk 38 369 42 [1, 0, 0, 1] 5) := ⟨ok_callk _ _ _ _ _, sk_call (by decide) (so_callSH mT38 mo42 (by decide) dL_law_366 q1038 q1039 q53)⟩
theorem gT38_369 : sG l g D H0 mT 38 369 (s_store vI 38 371 6) := ⟨ok_store _ _ _ _, so_istore mT38 dL_law_369⟩
theorem gT38_371 : sG l g D H0 mT 38 371 (s_load vRf 38 372 2) := ⟨ok_load _ _ _ _, so_aload_n mT38 dL_law_371 rfl⟩
theorem gT38_372 : sG l g D H0 mT 38 372 (s_load vRf 38 373 0) := ⟨ok_load _ _ _ _, so_aload_n mT38 dL_law_372 rfl⟩
theorem gT38_373 : sG l g D H0 mT 38 373 (s_load vI 38 375 5) := ⟨ok_load _ _ _ _, so_iload mT38 dL_law_373⟩
theorem gT38_375 : sG l g D H0 mT 38 375 (s_const 38 376 (.int 1)) := ⟨ok_const _ _ _, so_iconst mT38 dL_law_375 (by decide)⟩
theorem gT38_376 : sG l g D H0 mT 38 376 (s_bin 38 377 (fun a b => a + b)) := ⟨ok_bin _ _ _, so_iadd mT38 dL_law_376⟩
theorem gT38_377 : sG l g D H0 mT 38 377 (s_ald 38 378 27) := ⟨ok_ald _ _ _, so_iald mT38 a27 dL_law_377⟩
theorem gT38_378 : sG l g D H0 mT 38 378 (s_load vRf 38 379 0) := ⟨ok_load _ _ _ _, so_aload_n mT38 dL_law_378 rfl⟩
theorem gT38_379 : sG l g D H0 mT 38 379 (s_load vI 38 381 5) := ⟨ok_load _ _ _ _, so_iload mT38 dL_law_379⟩
theorem gT38_381 : sG l g D H0 mT 38 381 (s_const 38 382 (.int 2)) := ⟨ok_const _ _ _, so_iconst mT38 dL_law_381 (by decide)⟩
theorem gT38_382 : sG l g D H0 mT 38 382 (s_bin 38 383 (fun a b => a + b)) := ⟨ok_bin _ _ _, so_iadd mT38 dL_law_382⟩
theorem gT38_383 : sG l g D H0 mT 38 383 (s_ald 38 384 27) := ⟨ok_ald _ _ _, so_iald mT38 a27 dL_law_383⟩
theorem gT38_384 : sG l g D H0 mT 38 384 (s_if 38 387 391 (fun a => a = 0)) := ⟨ok_if _ _ _ _, so_if_eq mT38 dL_law_384 (by decide)⟩
theorem gT38_387 : sG l g D H0 mT 38 387 (s_const 38 388 (.int 1)) := ⟨ok_const _ _ _, so_iconst mT38 dL_law_387 (by decide)⟩
theorem gT38_388 : sG l g D H0 mT 38 388 (s_goto 38 392) := ⟨ok_goto _ _, so_goto mT38 dL_law_388 (by decide)⟩
theorem gT38_391 : sG l g D H0 mT 38 391 (s_const 38 392 (.int 0)) := ⟨ok_const _ _ _, so_iconst mT38 dL_law_391 (by decide)⟩
theorem gT38_392 : sG l g D H0 mT 38 392 (s_callvk 38 395 146 3 [0, 0] 5) := ⟨ok_callvk _ _ _ _ _ _, sk_callv (by decide) (so_callV mT38 mo146 (by decide) (t := 3) (C := "HyperVaneModel") (by decide) rfl rfl dL_law_392 q1428 q1429 q1430 q66)⟩
theorem gT38_395 : sG l g D H0 mT 38 395 (s_store vI 38 397 7) := ⟨ok_store _ _ _ _, so_istore mT38 dL_law_395⟩
theorem gT38_397 : sG l g D H0 mT 38 397 (s_load vRf 38 398 2) := ⟨ok_load _ _ _ _, so_aload_n mT38 dL_law_397 rfl⟩
theorem gT38_398 : sG l g D H0 mT 38 398 (s_callvk 38 401 138 3 [] 1) := ⟨ok_callvk _ _ _ _ _ _, sk_callv (by decide) (so_callV mT38 mo138 (by decide) (t := 3) (C := "HyperVaneModel") (by decide) rfl rfl dL_law_398 q1236 q1237 q1238 q66)⟩
theorem gT38_401 : sG l g D H0 mT 38 401 (s_load vI 38 403 6) := ⟨ok_load _ _ _ _, so_iload mT38 dL_law_401⟩
theorem gT38_403 : sG l g D H0 mT 38 403 (s_icmp 38 406 408 (fun a b => a = b)) := ⟨ok_icmp _ _ _ _, so_icmp_eq mT38 dL_law_403 (by decide)⟩
theorem gT38_406 : sG l g D H0 mT 38 406 (s_const 38 407 (.int 0)) := ⟨ok_const _ _ _, so_iconst mT38 dL_law_406 (by decide)⟩
theorem gT38_407 : sG l g D H0 mT 38 407 (s_ret vZ) := ⟨ok_ret _, so_zret mT38 dL_law_407⟩
theorem gT38_408 : sG l g D H0 mT 38 408 (s_load vI 38 410 6) := ⟨ok_load _ _ _ _, so_iload mT38 dL_law_408⟩
theorem gT38_410 : sG l g D H0 mT 38 410 (s_if 38 432 413 (fun a => a = 0)) := ⟨ok_if _ _ _ _, so_if_ne mT38 dL_law_410 (by decide)⟩
theorem gT38_413 : sG l g D H0 mT 38 413 (s_load vRf 38 414 3) := ⟨ok_load _ _ _ _, so_aload_n mT38 dL_law_413 rfl⟩
theorem gT38_414 : sG l g D H0 mT 38 414 (s_const 38 415 (.int 0)) := ⟨ok_const _ _ _, so_iconst mT38 dL_law_414 (by decide)⟩
theorem gT38_415 : sG l g D H0 mT 38 415 (s_ald 38 416 22) := ⟨ok_ald _ _ _, so_lald mT38 a22 dL_law_415⟩
theorem gT38_416 : sG l g D H0 mT 38 416 (s_load vI 38 418 7) := ⟨ok_load _ _ _ _, so_iload mT38 dL_law_416⟩
theorem gT38_418 : sG l g D H0 mT 38 418 (s_if 38 421 425 (fun a => a = 0)) := ⟨ok_if _ _ _ _, so_if_eq mT38 dL_law_418 (by decide)⟩
theorem gT38_421 : sG l g D H0 mT 38 421 (s_const 38 422 (.long 1)) := ⟨ok_const _ _ _, so_lconst mT38 dL_law_421 (by decide)⟩
theorem gT38_422 : sG l g D H0 mT 38 422 (s_goto 38 426) := ⟨ok_goto _ _, so_goto mT38 dL_law_422 (by decide)⟩
theorem gT38_425 : sG l g D H0 mT 38 425 (s_const 38 426 (.long 0)) := ⟨ok_const _ _ _, so_lconst mT38 dL_law_425 (by decide)⟩
theorem gT38_426 : sG l g D H0 mT 38 426 (s_lbin 38 427 (fun a b => .int (lg_cmp a b))) := ⟨ok_lbin _ _ _, so_lcmp mT38 dL_law_426⟩
theorem gT38_427 : sG l g D H0 mT 38 427 (s_if 38 430 432 (fun a => a = 0)) := ⟨ok_if _ _ _ _, so_if_eq mT38 dL_law_427 (by decide)⟩
theorem gT38_430 : sG l g D H0 mT 38 430 (s_const 38 431 (.int 0)) := ⟨ok_const _ _ _, so_iconst mT38 dL_law_430 (by decide)⟩
theorem gT38_431 : sG l g D H0 mT 38 431 (s_ret vZ) := ⟨ok_ret _, so_zret mT38 dL_law_431⟩
theorem gT38_432 : sG l g D H0 mT 38 432 (s_goto 38 1454) := ⟨ok_goto _ _, so_goto mT38 dL_law_432 (by decide)⟩
theorem gT38_435 : sG l g D H0 mT 38 435 (s_load vRf 38 436 1) := ⟨ok_load _ _ _ _, so_aload_n mT38 dL_law_435 rfl⟩
theorem gT38_436 : sG l g D H0 mT 38 436 (s_load vRf 38 437 0) := ⟨ok_load _ _ _ _, so_aload_n mT38 dL_law_436 rfl⟩
theorem gT38_437 : sG l g D H0 mT 38 437 (s_load vI 38 439 5) := ⟨ok_load _ _ _ _, so_iload mT38 dL_law_437⟩
theorem gT38_439 : sG l g D H0 mT 38 439 (s_const 38 440 (.int 1)) := ⟨ok_const _ _ _, so_iconst mT38 dL_law_439 (by decide)⟩
theorem gT38_440 : sG l g D H0 mT 38 440 (s_bin 38 441 (fun a b => a + b)) := ⟨ok_bin _ _ _, so_iadd mT38 dL_law_440⟩
theorem gT38_441 : sG l g D H0 mT 38 441 (s_ald 38 442 27) := ⟨ok_ald _ _ _, so_iald mT38 a27 dL_law_441⟩
theorem gT38_442 : sG l g D H0 mT 38 442 (s_load vRf 38 443 3) := ⟨ok_load _ _ _ _, so_aload_n mT38 dL_law_442 rfl⟩
theorem gT38_443 : sG l g D H0 mT 38 443 (s_callk 38 446 43 [1, 0, 1] 4) := ⟨ok_callk _ _ _ _ _, sk_call (by decide) (so_callSH mT38 mo43 (by decide) dL_law_443 q1051 q1052 q53)⟩
theorem gT38_446 : sG l g D H0 mT 38 446 (s_store vI 38 448 6) := ⟨ok_store _ _ _ _, so_istore mT38 dL_law_446⟩
theorem gT38_448 : sG l g D H0 mT 38 448 (s_load vRf 38 449 2) := ⟨ok_load _ _ _ _, so_aload_n mT38 dL_law_448 rfl⟩
theorem gT38_449 : sG l g D H0 mT 38 449 (s_load vRf 38 450 0) := ⟨ok_load _ _ _ _, so_aload_n mT38 dL_law_449 rfl⟩
theorem gT38_450 : sG l g D H0 mT 38 450 (s_load vI 38 452 5) := ⟨ok_load _ _ _ _, so_iload mT38 dL_law_450⟩
theorem gT38_452 : sG l g D H0 mT 38 452 (s_const 38 453 (.int 1)) := ⟨ok_const _ _ _, so_iconst mT38 dL_law_452 (by decide)⟩
theorem gT38_453 : sG l g D H0 mT 38 453 (s_bin 38 454 (fun a b => a + b)) := ⟨ok_bin _ _ _, so_iadd mT38 dL_law_453⟩
theorem gT38_454 : sG l g D H0 mT 38 454 (s_ald 38 455 27) := ⟨ok_ald _ _ _, so_iald mT38 a27 dL_law_454⟩
theorem gT38_455 : sG l g D H0 mT 38 455 (s_callvk 38 458 148 3 [0] 4) := ⟨ok_callvk _ _ _ _ _ _, sk_callv (by decide) (so_callV mT38 mo148 (by decide) (t := 3) (C := "HyperVaneModel") (by decide) rfl rfl dL_law_455 q1440 q1441 q1442 q66)⟩
theorem gT38_458 : sG l g D H0 mT 38 458 (s_store vI 38 460 7) := ⟨ok_store _ _ _ _, so_istore mT38 dL_law_458⟩
theorem gT38_460 : sG l g D H0 mT 38 460 (s_load vRf 38 461 2) := ⟨ok_load _ _ _ _, so_aload_n mT38 dL_law_460 rfl⟩
theorem gT38_461 : sG l g D H0 mT 38 461 (s_callvk 38 464 138 3 [] 1) := ⟨ok_callvk _ _ _ _ _ _, sk_callv (by decide) (so_callV mT38 mo138 (by decide) (t := 3) (C := "HyperVaneModel") (by decide) rfl rfl dL_law_461 q1236 q1237 q1238 q66)⟩
theorem gT38_464 : sG l g D H0 mT 38 464 (s_load vI 38 466 6) := ⟨ok_load _ _ _ _, so_iload mT38 dL_law_464⟩
theorem gT38_466 : sG l g D H0 mT 38 466 (s_icmp 38 469 471 (fun a b => a = b)) := ⟨ok_icmp _ _ _ _, so_icmp_eq mT38 dL_law_466 (by decide)⟩
theorem gT38_469 : sG l g D H0 mT 38 469 (s_const 38 470 (.int 0)) := ⟨ok_const _ _ _, so_iconst mT38 dL_law_469 (by decide)⟩
theorem gT38_470 : sG l g D H0 mT 38 470 (s_ret vZ) := ⟨ok_ret _, so_zret mT38 dL_law_470⟩
theorem gT38_471 : sG l g D H0 mT 38 471 (s_load vI 38 473 6) := ⟨ok_load _ _ _ _, so_iload mT38 dL_law_471⟩
theorem gT38_473 : sG l g D H0 mT 38 473 (s_if 38 488 476 (fun a => a = 0)) := ⟨ok_if _ _ _ _, so_if_ne mT38 dL_law_473 (by decide)⟩
theorem gT38_476 : sG l g D H0 mT 38 476 (s_load vRf 38 477 3) := ⟨ok_load _ _ _ _, so_aload_n mT38 dL_law_476 rfl⟩
theorem gT38_477 : sG l g D H0 mT 38 477 (s_const 38 478 (.int 0)) := ⟨ok_const _ _ _, so_iconst mT38 dL_law_477 (by decide)⟩
theorem gT38_478 : sG l g D H0 mT 38 478 (s_ald 38 479 22) := ⟨ok_ald _ _ _, so_lald mT38 a22 dL_law_478⟩
theorem gT38_479 : sG l g D H0 mT 38 479 (s_load vI 38 481 7) := ⟨ok_load _ _ _ _, so_iload mT38 dL_law_479⟩
theorem gT38_481 : sG l g D H0 mT 38 481 (s_i2 38 482 (fun a => .long a.toInt64)) := ⟨ok_i2 _ _ _, so_i2l mT38 dL_law_481⟩
theorem gT38_482 : sG l g D H0 mT 38 482 (s_lbin 38 483 (fun a b => .int (lg_cmp a b))) := ⟨ok_lbin _ _ _, so_lcmp mT38 dL_law_482⟩
theorem gT38_483 : sG l g D H0 mT 38 483 (s_if 38 486 488 (fun a => a = 0)) := ⟨ok_if _ _ _ _, so_if_eq mT38 dL_law_483 (by decide)⟩
theorem gT38_486 : sG l g D H0 mT 38 486 (s_const 38 487 (.int 0)) := ⟨ok_const _ _ _, so_iconst mT38 dL_law_486 (by decide)⟩
theorem gT38_487 : sG l g D H0 mT 38 487 (s_ret vZ) := ⟨ok_ret _, so_zret mT38 dL_law_487⟩
theorem gT38_488 : sG l g D H0 mT 38 488 (s_goto 38 1454) := ⟨ok_goto _ _, so_goto mT38 dL_law_488 (by decide)⟩
theorem gT38_491 : sG l g D H0 mT 38 491 (s_load vRf 38 492 1) := ⟨ok_load _ _ _ _, so_aload_n mT38 dL_law_491 rfl⟩
theorem gT38_492 : sG l g D H0 mT 38 492 (s_load vRf 38 493 0) := ⟨ok_load _ _ _ _, so_aload_n mT38 dL_law_492 rfl⟩
theorem gT38_493 : sG l g D H0 mT 38 493 (s_load vI 38 495 5) := ⟨ok_load _ _ _ _, so_iload mT38 dL_law_493⟩
theorem gT38_495 : sG l g D H0 mT 38 495 (s_const 38 496 (.int 1)) := ⟨ok_const _ _ _, so_iconst mT38 dL_law_495 (by decide)⟩
theorem gT38_496 : sG l g D H0 mT 38 496 (s_bin 38 497 (fun a b => a + b)) := ⟨ok_bin _ _ _, so_iadd mT38 dL_law_496⟩
theorem gT38_497 : sG l g D H0 mT 38 497 (s_ald 38 498 27) := ⟨ok_ald _ _ _, so_iald mT38 a27 dL_law_497⟩
theorem gT38_498 : sG l g D H0 mT 38 498 (s_load vRf 38 499 0) := ⟨ok_load _ _ _ _, so_aload_n mT38 dL_law_498 rfl⟩
theorem gT38_499 : sG l g D H0 mT 38 499 (s_load vI 38 501 5) := ⟨ok_load _ _ _ _, so_iload mT38 dL_law_499⟩
theorem gT38_501 : sG l g D H0 mT 38 501 (s_const 38 502 (.int 2)) := ⟨ok_const _ _ _, so_iconst mT38 dL_law_501 (by decide)⟩
theorem gT38_502 : sG l g D H0 mT 38 502 (s_bin 38 503 (fun a b => a + b)) := ⟨ok_bin _ _ _, so_iadd mT38 dL_law_502⟩
theorem gT38_503 : sG l g D H0 mT 38 503 (s_ald 38 504 27) := ⟨ok_ald _ _ _, so_iald mT38 a27 dL_law_503⟩
theorem gT38_504 : sG l g D H0 mT 38 504 (s_load vRf 38 505 3) := ⟨ok_load _ _ _ _, so_aload_n mT38 dL_law_504 rfl⟩
theorem gT38_505 : sG l g D H0 mT 38 505 (s_callk 38 508 44 [1, 0, 0, 1] 5) := ⟨ok_callk _ _ _ _ _, sk_call (by decide) (so_callSH mT38 mo44 (by decide) dL_law_505 q1058 q1059 q53)⟩
theorem gT38_508 : sG l g D H0 mT 38 508 (s_store vI 38 510 6) := ⟨ok_store _ _ _ _, so_istore mT38 dL_law_508⟩
theorem gT38_510 : sG l g D H0 mT 38 510 (s_load vRf 38 511 2) := ⟨ok_load _ _ _ _, so_aload_n mT38 dL_law_510 rfl⟩
theorem gT38_511 : sG l g D H0 mT 38 511 (s_load vRf 38 512 0) := ⟨ok_load _ _ _ _, so_aload_n mT38 dL_law_511 rfl⟩
theorem gT38_512 : sG l g D H0 mT 38 512 (s_load vI 38 514 5) := ⟨ok_load _ _ _ _, so_iload mT38 dL_law_512⟩
theorem gT38_514 : sG l g D H0 mT 38 514 (s_const 38 515 (.int 1)) := ⟨ok_const _ _ _, so_iconst mT38 dL_law_514 (by decide)⟩
theorem gT38_515 : sG l g D H0 mT 38 515 (s_bin 38 516 (fun a b => a + b)) := ⟨ok_bin _ _ _, so_iadd mT38 dL_law_515⟩
theorem gT38_516 : sG l g D H0 mT 38 516 (s_ald 38 517 27) := ⟨ok_ald _ _ _, so_iald mT38 a27 dL_law_516⟩
theorem gT38_517 : sG l g D H0 mT 38 517 (s_load vRf 38 518 0) := ⟨ok_load _ _ _ _, so_aload_n mT38 dL_law_517 rfl⟩
theorem gT38_518 : sG l g D H0 mT 38 518 (s_load vI 38 520 5) := ⟨ok_load _ _ _ _, so_iload mT38 dL_law_518⟩
theorem gT38_520 : sG l g D H0 mT 38 520 (s_const 38 521 (.int 2)) := ⟨ok_const _ _ _, so_iconst mT38 dL_law_520 (by decide)⟩
theorem gT38_521 : sG l g D H0 mT 38 521 (s_bin 38 522 (fun a b => a + b)) := ⟨ok_bin _ _ _, so_iadd mT38 dL_law_521⟩
theorem gT38_522 : sG l g D H0 mT 38 522 (s_ald 38 523 27) := ⟨ok_ald _ _ _, so_iald mT38 a27 dL_law_522⟩
theorem gT38_523 : sG l g D H0 mT 38 523 (s_callvk 38 526 149 3 [0, 0] 8) := ⟨ok_callvk _ _ _ _ _ _, sk_callv (by decide) (so_callV mT38 mo149 (by decide) (t := 3) (C := "HyperVaneModel") (by decide) rfl rfl dL_law_523 q1455 q1456 q1457 q66)⟩
theorem gT38_526 : sG l g D H0 mT 38 526 (s_store vI 38 528 7) := ⟨ok_store _ _ _ _, so_istore mT38 dL_law_526⟩
theorem gT38_528 : sG l g D H0 mT 38 528 (s_load vRf 38 529 2) := ⟨ok_load _ _ _ _, so_aload_n mT38 dL_law_528 rfl⟩
theorem gT38_529 : sG l g D H0 mT 38 529 (s_callvk 38 532 138 3 [] 1) := ⟨ok_callvk _ _ _ _ _ _, sk_callv (by decide) (so_callV mT38 mo138 (by decide) (t := 3) (C := "HyperVaneModel") (by decide) rfl rfl dL_law_529 q1236 q1237 q1238 q66)⟩
theorem gT38_532 : sG l g D H0 mT 38 532 (s_load vI 38 534 6) := ⟨ok_load _ _ _ _, so_iload mT38 dL_law_532⟩
theorem gT38_534 : sG l g D H0 mT 38 534 (s_icmp 38 537 539 (fun a b => a = b)) := ⟨ok_icmp _ _ _ _, so_icmp_eq mT38 dL_law_534 (by decide)⟩
theorem gT38_537 : sG l g D H0 mT 38 537 (s_const 38 538 (.int 0)) := ⟨ok_const _ _ _, so_iconst mT38 dL_law_537 (by decide)⟩
theorem gT38_538 : sG l g D H0 mT 38 538 (s_ret vZ) := ⟨ok_ret _, so_zret mT38 dL_law_538⟩
theorem gT38_539 : sG l g D H0 mT 38 539 (s_load vI 38 541 6) := ⟨ok_load _ _ _ _, so_iload mT38 dL_law_539⟩
theorem gT38_541 : sG l g D H0 mT 38 541 (s_if 38 556 544 (fun a => a = 0)) := ⟨ok_if _ _ _ _, so_if_ne mT38 dL_law_541 (by decide)⟩
theorem gT38_544 : sG l g D H0 mT 38 544 (s_load vRf 38 545 3) := ⟨ok_load _ _ _ _, so_aload_n mT38 dL_law_544 rfl⟩
theorem gT38_545 : sG l g D H0 mT 38 545 (s_const 38 546 (.int 0)) := ⟨ok_const _ _ _, so_iconst mT38 dL_law_545 (by decide)⟩
theorem gT38_546 : sG l g D H0 mT 38 546 (s_ald 38 547 22) := ⟨ok_ald _ _ _, so_lald mT38 a22 dL_law_546⟩
theorem gT38_547 : sG l g D H0 mT 38 547 (s_load vI 38 549 7) := ⟨ok_load _ _ _ _, so_iload mT38 dL_law_547⟩
theorem gT38_549 : sG l g D H0 mT 38 549 (s_i2 38 550 (fun a => .long a.toInt64)) := ⟨ok_i2 _ _ _, so_i2l mT38 dL_law_549⟩
theorem gT38_550 : sG l g D H0 mT 38 550 (s_lbin 38 551 (fun a b => .int (lg_cmp a b))) := ⟨ok_lbin _ _ _, so_lcmp mT38 dL_law_550⟩
theorem gT38_551 : sG l g D H0 mT 38 551 (s_if 38 554 556 (fun a => a = 0)) := ⟨ok_if _ _ _ _, so_if_eq mT38 dL_law_551 (by decide)⟩
theorem gT38_554 : sG l g D H0 mT 38 554 (s_const 38 555 (.int 0)) := ⟨ok_const _ _ _, so_iconst mT38 dL_law_554 (by decide)⟩
theorem gT38_555 : sG l g D H0 mT 38 555 (s_ret vZ) := ⟨ok_ret _, so_zret mT38 dL_law_555⟩
theorem gT38_556 : sG l g D H0 mT 38 556 (s_goto 38 1454) := ⟨ok_goto _ _, so_goto mT38 dL_law_556 (by decide)⟩
theorem gT38_559 : sG l g D H0 mT 38 559 (s_load vRf 38 560 1) := ⟨ok_load _ _ _ _, so_aload_n mT38 dL_law_559 rfl⟩
theorem gT38_560 : sG l g D H0 mT 38 560 (s_load vRf 38 561 0) := ⟨ok_load _ _ _ _, so_aload_n mT38 dL_law_560 rfl⟩
theorem gT38_561 : sG l g D H0 mT 38 561 (s_load vI 38 563 5) := ⟨ok_load _ _ _ _, so_iload mT38 dL_law_561⟩
theorem gT38_563 : sG l g D H0 mT 38 563 (s_const 38 564 (.int 1)) := ⟨ok_const _ _ _, so_iconst mT38 dL_law_563 (by decide)⟩
theorem gT38_564 : sG l g D H0 mT 38 564 (s_bin 38 565 (fun a b => a + b)) := ⟨ok_bin _ _ _, so_iadd mT38 dL_law_564⟩
theorem gT38_565 : sG l g D H0 mT 38 565 (s_ald 38 566 27) := ⟨ok_ald _ _ _, so_iald mT38 a27 dL_law_565⟩
theorem gT38_566 : sG l g D H0 mT 38 566 (s_load vRf 38 567 0) := ⟨ok_load _ _ _ _, so_aload_n mT38 dL_law_566 rfl⟩
theorem gT38_567 : sG l g D H0 mT 38 567 (s_load vI 38 569 5) := ⟨ok_load _ _ _ _, so_iload mT38 dL_law_567⟩
theorem gT38_569 : sG l g D H0 mT 38 569 (s_const 38 570 (.int 2)) := ⟨ok_const _ _ _, so_iconst mT38 dL_law_569 (by decide)⟩
theorem gT38_570 : sG l g D H0 mT 38 570 (s_bin 38 571 (fun a b => a + b)) := ⟨ok_bin _ _ _, so_iadd mT38 dL_law_570⟩
theorem gT38_571 : sG l g D H0 mT 38 571 (s_ald 38 572 27) := ⟨ok_ald _ _ _, so_iald mT38 a27 dL_law_571⟩
theorem gT38_572 : sG l g D H0 mT 38 572 (s_load vRf 38 573 3) := ⟨ok_load _ _ _ _, so_aload_n mT38 dL_law_572 rfl⟩
theorem gT38_573 : sG l g D H0 mT 38 573 (s_callk 38 576 45 [1, 0, 0, 1] 5) := ⟨ok_callk _ _ _ _ _, sk_call (by decide) (so_callSH mT38 mo45 (by decide) dL_law_573 q1072 q1073 q53)⟩
theorem gT38_576 : sG l g D H0 mT 38 576 (s_store vI 38 578 6) := ⟨ok_store _ _ _ _, so_istore mT38 dL_law_576⟩
theorem gT38_578 : sG l g D H0 mT 38 578 (s_load vRf 38 579 2) := ⟨ok_load _ _ _ _, so_aload_n mT38 dL_law_578 rfl⟩
theorem gT38_579 : sG l g D H0 mT 38 579 (s_load vRf 38 580 0) := ⟨ok_load _ _ _ _, so_aload_n mT38 dL_law_579 rfl⟩
theorem gT38_580 : sG l g D H0 mT 38 580 (s_load vI 38 582 5) := ⟨ok_load _ _ _ _, so_iload mT38 dL_law_580⟩
theorem gT38_582 : sG l g D H0 mT 38 582 (s_const 38 583 (.int 1)) := ⟨ok_const _ _ _, so_iconst mT38 dL_law_582 (by decide)⟩
theorem gT38_583 : sG l g D H0 mT 38 583 (s_bin 38 584 (fun a b => a + b)) := ⟨ok_bin _ _ _, so_iadd mT38 dL_law_583⟩
theorem gT38_584 : sG l g D H0 mT 38 584 (s_ald 38 585 27) := ⟨ok_ald _ _ _, so_iald mT38 a27 dL_law_584⟩
theorem gT38_585 : sG l g D H0 mT 38 585 (s_load vRf 38 586 0) := ⟨ok_load _ _ _ _, so_aload_n mT38 dL_law_585 rfl⟩
theorem gT38_586 : sG l g D H0 mT 38 586 (s_load vI 38 588 5) := ⟨ok_load _ _ _ _, so_iload mT38 dL_law_586⟩
theorem gT38_588 : sG l g D H0 mT 38 588 (s_const 38 589 (.int 2)) := ⟨ok_const _ _ _, so_iconst mT38 dL_law_588 (by decide)⟩
theorem gT38_589 : sG l g D H0 mT 38 589 (s_bin 38 590 (fun a b => a + b)) := ⟨ok_bin _ _ _, so_iadd mT38 dL_law_589⟩
theorem gT38_590 : sG l g D H0 mT 38 590 (s_ald 38 591 27) := ⟨ok_ald _ _ _, so_iald mT38 a27 dL_law_590⟩
theorem gT38_591 : sG l g D H0 mT 38 591 (s_callvk 38 594 150 3 [0, 0] 3) := ⟨ok_callvk _ _ _ _ _ _, sk_callv (by decide) (so_callV mT38 mo150 (by decide) (t := 3) (C := "HyperVaneModel") (by decide) rfl rfl dL_law_591 q1464 q1465 q1466 q66)⟩
theorem gT38_594 : sG l g D H0 mT 38 594 (s_store vI 38 596 7) := ⟨ok_store _ _ _ _, so_istore mT38 dL_law_594⟩
theorem gT38_596 : sG l g D H0 mT 38 596 (s_load vRf 38 597 2) := ⟨ok_load _ _ _ _, so_aload_n mT38 dL_law_596 rfl⟩
theorem gT38_597 : sG l g D H0 mT 38 597 (s_callvk 38 600 138 3 [] 1) := ⟨ok_callvk _ _ _ _ _ _, sk_callv (by decide) (so_callV mT38 mo138 (by decide) (t := 3) (C := "HyperVaneModel") (by decide) rfl rfl dL_law_597 q1236 q1237 q1238 q66)⟩
theorem gT38_600 : sG l g D H0 mT 38 600 (s_load vI 38 602 6) := ⟨ok_load _ _ _ _, so_iload mT38 dL_law_600⟩
theorem gT38_602 : sG l g D H0 mT 38 602 (s_icmp 38 605 607 (fun a b => a = b)) := ⟨ok_icmp _ _ _ _, so_icmp_eq mT38 dL_law_602 (by decide)⟩
theorem gT38_605 : sG l g D H0 mT 38 605 (s_const 38 606 (.int 0)) := ⟨ok_const _ _ _, so_iconst mT38 dL_law_605 (by decide)⟩
theorem gT38_606 : sG l g D H0 mT 38 606 (s_ret vZ) := ⟨ok_ret _, so_zret mT38 dL_law_606⟩
theorem gT38_607 : sG l g D H0 mT 38 607 (s_load vI 38 609 6) := ⟨ok_load _ _ _ _, so_iload mT38 dL_law_607⟩
theorem gT38_609 : sG l g D H0 mT 38 609 (s_if 38 624 612 (fun a => a = 0)) := ⟨ok_if _ _ _ _, so_if_ne mT38 dL_law_609 (by decide)⟩
theorem gT38_612 : sG l g D H0 mT 38 612 (s_load vRf 38 613 3) := ⟨ok_load _ _ _ _, so_aload_n mT38 dL_law_612 rfl⟩
theorem gT38_613 : sG l g D H0 mT 38 613 (s_const 38 614 (.int 0)) := ⟨ok_const _ _ _, so_iconst mT38 dL_law_613 (by decide)⟩
theorem gT38_614 : sG l g D H0 mT 38 614 (s_ald 38 615 22) := ⟨ok_ald _ _ _, so_lald mT38 a22 dL_law_614⟩
theorem gT38_615 : sG l g D H0 mT 38 615 (s_load vI 38 617 7) := ⟨ok_load _ _ _ _, so_iload mT38 dL_law_615⟩
theorem gT38_617 : sG l g D H0 mT 38 617 (s_i2 38 618 (fun a => .long a.toInt64)) := ⟨ok_i2 _ _ _, so_i2l mT38 dL_law_617⟩
theorem gT38_618 : sG l g D H0 mT 38 618 (s_lbin 38 619 (fun a b => .int (lg_cmp a b))) := ⟨ok_lbin _ _ _, so_lcmp mT38 dL_law_618⟩
theorem gT38_619 : sG l g D H0 mT 38 619 (s_if 38 622 624 (fun a => a = 0)) := ⟨ok_if _ _ _ _, so_if_eq mT38 dL_law_619 (by decide)⟩
theorem gT38_622 : sG l g D H0 mT 38 622 (s_const 38 623 (.int 0)) := ⟨ok_const _ _ _, so_iconst mT38 dL_law_622 (by decide)⟩
theorem gT38_623 : sG l g D H0 mT 38 623 (s_ret vZ) := ⟨ok_ret _, so_zret mT38 dL_law_623⟩
theorem gT38_624 : sG l g D H0 mT 38 624 (s_goto 38 1454) := ⟨ok_goto _ _, so_goto mT38 dL_law_624 (by decide)⟩
theorem gT38_627 : sG l g D H0 mT 38 627 (s_load vRf 38 628 1) := ⟨ok_load _ _ _ _, so_aload_n mT38 dL_law_627 rfl⟩
theorem gT38_628 : sG l g D H0 mT 38 628 (s_load vRf 38 629 0) := ⟨ok_load _ _ _ _, so_aload_n mT38 dL_law_628 rfl⟩
theorem gT38_629 : sG l g D H0 mT 38 629 (s_load vI 38 631 5) := ⟨ok_load _ _ _ _, so_iload mT38 dL_law_629⟩
theorem gT38_631 : sG l g D H0 mT 38 631 (s_const 38 632 (.int 1)) := ⟨ok_const _ _ _, so_iconst mT38 dL_law_631 (by decide)⟩
theorem gT38_632 : sG l g D H0 mT 38 632 (s_bin 38 633 (fun a b => a + b)) := ⟨ok_bin _ _ _, so_iadd mT38 dL_law_632⟩
theorem gT38_633 : sG l g D H0 mT 38 633 (s_ald 38 634 27) := ⟨ok_ald _ _ _, so_iald mT38 a27 dL_law_633⟩
theorem gT38_634 : sG l g D H0 mT 38 634 (s_load vRf 38 635 3) := ⟨ok_load _ _ _ _, so_aload_n mT38 dL_law_634 rfl⟩
theorem gT38_635 : sG l g D H0 mT 38 635 (s_callk 38 638 46 [1, 0, 1] 4) := ⟨ok_callk _ _ _ _ _, sk_call (by decide) (so_callSH mT38 mo46 (by decide) dL_law_635 q1082 q1083 q53)⟩
theorem gT38_638 : sG l g D H0 mT 38 638 (s_store vI 38 640 6) := ⟨ok_store _ _ _ _, so_istore mT38 dL_law_638⟩
theorem gT38_640 : sG l g D H0 mT 38 640 (s_load vRf 38 641 2) := ⟨ok_load _ _ _ _, so_aload_n mT38 dL_law_640 rfl⟩
theorem gT38_641 : sG l g D H0 mT 38 641 (s_load vRf 38 642 0) := ⟨ok_load _ _ _ _, so_aload_n mT38 dL_law_641 rfl⟩
theorem gT38_642 : sG l g D H0 mT 38 642 (s_load vI 38 644 5) := ⟨ok_load _ _ _ _, so_iload mT38 dL_law_642⟩
theorem gT38_644 : sG l g D H0 mT 38 644 (s_const 38 645 (.int 1)) := ⟨ok_const _ _ _, so_iconst mT38 dL_law_644 (by decide)⟩
theorem gT38_645 : sG l g D H0 mT 38 645 (s_bin 38 646 (fun a b => a + b)) := ⟨ok_bin _ _ _, so_iadd mT38 dL_law_645⟩
theorem gT38_646 : sG l g D H0 mT 38 646 (s_ald 38 647 27) := ⟨ok_ald _ _ _, so_iald mT38 a27 dL_law_646⟩
theorem gT38_647 : sG l g D H0 mT 38 647 (s_callvk 38 650 153 3 [0] 4) := ⟨ok_callvk _ _ _ _ _ _, sk_callv (by decide) (so_callV mT38 mo153 (by decide) (t := 3) (C := "HyperVaneModel") (by decide) rfl rfl dL_law_647 q1485 q1486 q1487 q66)⟩
theorem gT38_650 : sG l g D H0 mT 38 650 (s_store vI 38 652 7) := ⟨ok_store _ _ _ _, so_istore mT38 dL_law_650⟩
theorem gT38_652 : sG l g D H0 mT 38 652 (s_load vRf 38 653 2) := ⟨ok_load _ _ _ _, so_aload_n mT38 dL_law_652 rfl⟩
theorem gT38_653 : sG l g D H0 mT 38 653 (s_callvk 38 656 138 3 [] 1) := ⟨ok_callvk _ _ _ _ _ _, sk_callv (by decide) (so_callV mT38 mo138 (by decide) (t := 3) (C := "HyperVaneModel") (by decide) rfl rfl dL_law_653 q1236 q1237 q1238 q66)⟩
theorem gT38_656 : sG l g D H0 mT 38 656 (s_load vI 38 658 6) := ⟨ok_load _ _ _ _, so_iload mT38 dL_law_656⟩
theorem gT38_658 : sG l g D H0 mT 38 658 (s_icmp 38 661 663 (fun a b => a = b)) := ⟨ok_icmp _ _ _ _, so_icmp_eq mT38 dL_law_658 (by decide)⟩
theorem gT38_661 : sG l g D H0 mT 38 661 (s_const 38 662 (.int 0)) := ⟨ok_const _ _ _, so_iconst mT38 dL_law_661 (by decide)⟩
theorem gT38_662 : sG l g D H0 mT 38 662 (s_ret vZ) := ⟨ok_ret _, so_zret mT38 dL_law_662⟩
theorem gT38_663 : sG l g D H0 mT 38 663 (s_load vI 38 665 6) := ⟨ok_load _ _ _ _, so_iload mT38 dL_law_663⟩
theorem gT38_665 : sG l g D H0 mT 38 665 (s_if 38 680 668 (fun a => a = 0)) := ⟨ok_if _ _ _ _, so_if_ne mT38 dL_law_665 (by decide)⟩
theorem gT38_668 : sG l g D H0 mT 38 668 (s_load vRf 38 669 3) := ⟨ok_load _ _ _ _, so_aload_n mT38 dL_law_668 rfl⟩
theorem gT38_669 : sG l g D H0 mT 38 669 (s_const 38 670 (.int 0)) := ⟨ok_const _ _ _, so_iconst mT38 dL_law_669 (by decide)⟩
theorem gT38_670 : sG l g D H0 mT 38 670 (s_ald 38 671 22) := ⟨ok_ald _ _ _, so_lald mT38 a22 dL_law_670⟩
theorem gT38_671 : sG l g D H0 mT 38 671 (s_load vI 38 673 7) := ⟨ok_load _ _ _ _, so_iload mT38 dL_law_671⟩
theorem gT38_673 : sG l g D H0 mT 38 673 (s_i2 38 674 (fun a => .long a.toInt64)) := ⟨ok_i2 _ _ _, so_i2l mT38 dL_law_673⟩
theorem gT38_674 : sG l g D H0 mT 38 674 (s_lbin 38 675 (fun a b => .int (lg_cmp a b))) := ⟨ok_lbin _ _ _, so_lcmp mT38 dL_law_674⟩
theorem gT38_675 : sG l g D H0 mT 38 675 (s_if 38 678 680 (fun a => a = 0)) := ⟨ok_if _ _ _ _, so_if_eq mT38 dL_law_675 (by decide)⟩
theorem gT38_678 : sG l g D H0 mT 38 678 (s_const 38 679 (.int 0)) := ⟨ok_const _ _ _, so_iconst mT38 dL_law_678 (by decide)⟩
theorem gT38_679 : sG l g D H0 mT 38 679 (s_ret vZ) := ⟨ok_ret _, so_zret mT38 dL_law_679⟩
theorem gT38_680 : sG l g D H0 mT 38 680 (s_goto 38 1454) := ⟨ok_goto _ _, so_goto mT38 dL_law_680 (by decide)⟩
theorem gT38_683 : sG l g D H0 mT 38 683 (s_load vRf 38 684 1) := ⟨ok_load _ _ _ _, so_aload_n mT38 dL_law_683 rfl⟩
theorem gT38_684 : sG l g D H0 mT 38 684 (s_load vRf 38 685 0) := ⟨ok_load _ _ _ _, so_aload_n mT38 dL_law_684 rfl⟩
theorem gT38_685 : sG l g D H0 mT 38 685 (s_load vI 38 687 5) := ⟨ok_load _ _ _ _, so_iload mT38 dL_law_685⟩
theorem gT38_687 : sG l g D H0 mT 38 687 (s_const 38 688 (.int 1)) := ⟨ok_const _ _ _, so_iconst mT38 dL_law_687 (by decide)⟩
theorem gT38_688 : sG l g D H0 mT 38 688 (s_bin 38 689 (fun a b => a + b)) := ⟨ok_bin _ _ _, so_iadd mT38 dL_law_688⟩
theorem gT38_689 : sG l g D H0 mT 38 689 (s_ald 38 690 27) := ⟨ok_ald _ _ _, so_iald mT38 a27 dL_law_689⟩
theorem gT38_690 : sG l g D H0 mT 38 690 (s_load vRf 38 691 3) := ⟨ok_load _ _ _ _, so_aload_n mT38 dL_law_690 rfl⟩
theorem gT38_691 : sG l g D H0 mT 38 691 (s_callk 38 694 47 [1, 0, 1] 4) := ⟨ok_callk _ _ _ _ _, sk_call (by decide) (so_callSH mT38 mo47 (by decide) dL_law_691 q1092 q1093 q53)⟩
theorem gT38_694 : sG l g D H0 mT 38 694 (s_store vI 38 696 6) := ⟨ok_store _ _ _ _, so_istore mT38 dL_law_694⟩
theorem gT38_696 : sG l g D H0 mT 38 696 (s_load vRf 38 697 2) := ⟨ok_load _ _ _ _, so_aload_n mT38 dL_law_696 rfl⟩
theorem gT38_697 : sG l g D H0 mT 38 697 (s_load vRf 38 698 0) := ⟨ok_load _ _ _ _, so_aload_n mT38 dL_law_697 rfl⟩
theorem gT38_698 : sG l g D H0 mT 38 698 (s_load vI 38 700 5) := ⟨ok_load _ _ _ _, so_iload mT38 dL_law_698⟩
theorem gT38_700 : sG l g D H0 mT 38 700 (s_const 38 701 (.int 1)) := ⟨ok_const _ _ _, so_iconst mT38 dL_law_700 (by decide)⟩
theorem gT38_701 : sG l g D H0 mT 38 701 (s_bin 38 702 (fun a b => a + b)) := ⟨ok_bin _ _ _, so_iadd mT38 dL_law_701⟩
theorem gT38_702 : sG l g D H0 mT 38 702 (s_ald 38 703 27) := ⟨ok_ald _ _ _, so_iald mT38 a27 dL_law_702⟩
theorem gT38_703 : sG l g D H0 mT 38 703 (s_callvk 38 706 154 3 [0] 4) := ⟨ok_callvk _ _ _ _ _ _, sk_callv (by decide) (so_callV mT38 mo154 (by decide) (t := 3) (C := "HyperVaneModel") (by decide) rfl rfl dL_law_703 q1492 q1493 q1494 q66)⟩
theorem gT38_706 : sG l g D H0 mT 38 706 (s_store vI 38 708 7) := ⟨ok_store _ _ _ _, so_istore mT38 dL_law_706⟩
theorem gT38_708 : sG l g D H0 mT 38 708 (s_load vRf 38 709 2) := ⟨ok_load _ _ _ _, so_aload_n mT38 dL_law_708 rfl⟩
theorem gT38_709 : sG l g D H0 mT 38 709 (s_callvk 38 712 138 3 [] 1) := ⟨ok_callvk _ _ _ _ _ _, sk_callv (by decide) (so_callV mT38 mo138 (by decide) (t := 3) (C := "HyperVaneModel") (by decide) rfl rfl dL_law_709 q1236 q1237 q1238 q66)⟩
theorem gT38_712 : sG l g D H0 mT 38 712 (s_load vI 38 714 6) := ⟨ok_load _ _ _ _, so_iload mT38 dL_law_712⟩
theorem gT38_714 : sG l g D H0 mT 38 714 (s_icmp 38 717 719 (fun a b => a = b)) := ⟨ok_icmp _ _ _ _, so_icmp_eq mT38 dL_law_714 (by decide)⟩
theorem gT38_717 : sG l g D H0 mT 38 717 (s_const 38 718 (.int 0)) := ⟨ok_const _ _ _, so_iconst mT38 dL_law_717 (by decide)⟩
theorem gT38_718 : sG l g D H0 mT 38 718 (s_ret vZ) := ⟨ok_ret _, so_zret mT38 dL_law_718⟩
theorem gT38_719 : sG l g D H0 mT 38 719 (s_load vI 38 721 6) := ⟨ok_load _ _ _ _, so_iload mT38 dL_law_719⟩
theorem gT38_721 : sG l g D H0 mT 38 721 (s_if 38 736 724 (fun a => a = 0)) := ⟨ok_if _ _ _ _, so_if_ne mT38 dL_law_721 (by decide)⟩
theorem gT38_724 : sG l g D H0 mT 38 724 (s_load vRf 38 725 3) := ⟨ok_load _ _ _ _, so_aload_n mT38 dL_law_724 rfl⟩
theorem gT38_725 : sG l g D H0 mT 38 725 (s_const 38 726 (.int 0)) := ⟨ok_const _ _ _, so_iconst mT38 dL_law_725 (by decide)⟩
theorem gT38_726 : sG l g D H0 mT 38 726 (s_ald 38 727 22) := ⟨ok_ald _ _ _, so_lald mT38 a22 dL_law_726⟩
theorem gT38_727 : sG l g D H0 mT 38 727 (s_load vI 38 729 7) := ⟨ok_load _ _ _ _, so_iload mT38 dL_law_727⟩
theorem gT38_729 : sG l g D H0 mT 38 729 (s_i2 38 730 (fun a => .long a.toInt64)) := ⟨ok_i2 _ _ _, so_i2l mT38 dL_law_729⟩
theorem gT38_730 : sG l g D H0 mT 38 730 (s_lbin 38 731 (fun a b => .int (lg_cmp a b))) := ⟨ok_lbin _ _ _, so_lcmp mT38 dL_law_730⟩
theorem gT38_731 : sG l g D H0 mT 38 731 (s_if 38 734 736 (fun a => a = 0)) := ⟨ok_if _ _ _ _, so_if_eq mT38 dL_law_731 (by decide)⟩
theorem gT38_734 : sG l g D H0 mT 38 734 (s_const 38 735 (.int 0)) := ⟨ok_const _ _ _, so_iconst mT38 dL_law_734 (by decide)⟩
theorem gT38_735 : sG l g D H0 mT 38 735 (s_ret vZ) := ⟨ok_ret _, so_zret mT38 dL_law_735⟩
theorem gT38_736 : sG l g D H0 mT 38 736 (s_goto 38 1454) := ⟨ok_goto _ _, so_goto mT38 dL_law_736 (by decide)⟩
theorem gT38_739 : sG l g D H0 mT 38 739 (s_load vRf 38 740 1) := ⟨ok_load _ _ _ _, so_aload_n mT38 dL_law_739 rfl⟩
theorem gT38_740 : sG l g D H0 mT 38 740 (s_load vRf 38 741 0) := ⟨ok_load _ _ _ _, so_aload_n mT38 dL_law_740 rfl⟩
theorem gT38_741 : sG l g D H0 mT 38 741 (s_load vI 38 743 5) := ⟨ok_load _ _ _ _, so_iload mT38 dL_law_741⟩
theorem gT38_743 : sG l g D H0 mT 38 743 (s_const 38 744 (.int 1)) := ⟨ok_const _ _ _, so_iconst mT38 dL_law_743 (by decide)⟩
theorem gT38_744 : sG l g D H0 mT 38 744 (s_bin 38 745 (fun a b => a + b)) := ⟨ok_bin _ _ _, so_iadd mT38 dL_law_744⟩
theorem gT38_745 : sG l g D H0 mT 38 745 (s_ald 38 746 27) := ⟨ok_ald _ _ _, so_iald mT38 a27 dL_law_745⟩
theorem gT38_746 : sG l g D H0 mT 38 746 (s_load vRf 38 747 0) := ⟨ok_load _ _ _ _, so_aload_n mT38 dL_law_746 rfl⟩
theorem gT38_747 : sG l g D H0 mT 38 747 (s_load vI 38 749 5) := ⟨ok_load _ _ _ _, so_iload mT38 dL_law_747⟩
theorem gT38_749 : sG l g D H0 mT 38 749 (s_const 38 750 (.int 2)) := ⟨ok_const _ _ _, so_iconst mT38 dL_law_749 (by decide)⟩
theorem gT38_750 : sG l g D H0 mT 38 750 (s_bin 38 751 (fun a b => a + b)) := ⟨ok_bin _ _ _, so_iadd mT38 dL_law_750⟩
theorem gT38_751 : sG l g D H0 mT 38 751 (s_ald 38 752 27) := ⟨ok_ald _ _ _, so_iald mT38 a27 dL_law_751⟩
theorem gT38_752 : sG l g D H0 mT 38 752 (s_load vRf 38 753 3) := ⟨ok_load _ _ _ _, so_aload_n mT38 dL_law_752 rfl⟩
theorem gT38_753 : sG l g D H0 mT 38 753 (s_callk 38 756 48 [1, 0, 0, 1] 5) := ⟨ok_callk _ _ _ _ _, sk_call (by decide) (so_callSH mT38 mo48 (by decide) dL_law_753 q1102 q1103 q53)⟩
theorem gT38_756 : sG l g D H0 mT 38 756 (s_store vI 38 758 6) := ⟨ok_store _ _ _ _, so_istore mT38 dL_law_756⟩
theorem gT38_758 : sG l g D H0 mT 38 758 (s_load vRf 38 759 2) := ⟨ok_load _ _ _ _, so_aload_n mT38 dL_law_758 rfl⟩
theorem gT38_759 : sG l g D H0 mT 38 759 (s_load vRf 38 760 0) := ⟨ok_load _ _ _ _, so_aload_n mT38 dL_law_759 rfl⟩
theorem gT38_760 : sG l g D H0 mT 38 760 (s_load vI 38 762 5) := ⟨ok_load _ _ _ _, so_iload mT38 dL_law_760⟩
theorem gT38_762 : sG l g D H0 mT 38 762 (s_const 38 763 (.int 1)) := ⟨ok_const _ _ _, so_iconst mT38 dL_law_762 (by decide)⟩
theorem gT38_763 : sG l g D H0 mT 38 763 (s_bin 38 764 (fun a b => a + b)) := ⟨ok_bin _ _ _, so_iadd mT38 dL_law_763⟩
theorem gT38_764 : sG l g D H0 mT 38 764 (s_ald 38 765 27) := ⟨ok_ald _ _ _, so_iald mT38 a27 dL_law_764⟩
theorem gT38_765 : sG l g D H0 mT 38 765 (s_load vRf 38 766 0) := ⟨ok_load _ _ _ _, so_aload_n mT38 dL_law_765 rfl⟩
theorem gT38_766 : sG l g D H0 mT 38 766 (s_load vI 38 768 5) := ⟨ok_load _ _ _ _, so_iload mT38 dL_law_766⟩
theorem gT38_768 : sG l g D H0 mT 38 768 (s_const 38 769 (.int 2)) := ⟨ok_const _ _ _, so_iconst mT38 dL_law_768 (by decide)⟩
theorem gT38_769 : sG l g D H0 mT 38 769 (s_bin 38 770 (fun a b => a + b)) := ⟨ok_bin _ _ _, so_iadd mT38 dL_law_769⟩
theorem gT38_770 : sG l g D H0 mT 38 770 (s_ald 38 771 27) := ⟨ok_ald _ _ _, so_iald mT38 a27 dL_law_770⟩
theorem gT38_771 : sG l g D H0 mT 38 771 (s_callvk 38 774 156 3 [0, 0] 3) := ⟨ok_callvk _ _ _ _ _ _, sk_callv (by decide) (so_callV mT38 mo156 (by decide) (t := 3) (C := "HyperVaneModel") (by decide) rfl rfl dL_law_771 q1560 q1561 q1562 q66)⟩
theorem gT38_774 : sG l g D H0 mT 38 774 (s_store vI 38 776 7) := ⟨ok_store _ _ _ _, so_istore mT38 dL_law_774⟩
theorem gT38_776 : sG l g D H0 mT 38 776 (s_load vRf 38 777 2) := ⟨ok_load _ _ _ _, so_aload_n mT38 dL_law_776 rfl⟩
theorem gT38_777 : sG l g D H0 mT 38 777 (s_callvk 38 780 138 3 [] 1) := ⟨ok_callvk _ _ _ _ _ _, sk_callv (by decide) (so_callV mT38 mo138 (by decide) (t := 3) (C := "HyperVaneModel") (by decide) rfl rfl dL_law_777 q1236 q1237 q1238 q66)⟩
theorem gT38_780 : sG l g D H0 mT 38 780 (s_load vI 38 782 6) := ⟨ok_load _ _ _ _, so_iload mT38 dL_law_780⟩
theorem gT38_782 : sG l g D H0 mT 38 782 (s_icmp 38 785 787 (fun a b => a = b)) := ⟨ok_icmp _ _ _ _, so_icmp_eq mT38 dL_law_782 (by decide)⟩
theorem gT38_785 : sG l g D H0 mT 38 785 (s_const 38 786 (.int 0)) := ⟨ok_const _ _ _, so_iconst mT38 dL_law_785 (by decide)⟩
theorem gT38_786 : sG l g D H0 mT 38 786 (s_ret vZ) := ⟨ok_ret _, so_zret mT38 dL_law_786⟩
theorem gT38_787 : sG l g D H0 mT 38 787 (s_load vI 38 789 6) := ⟨ok_load _ _ _ _, so_iload mT38 dL_law_787⟩
theorem gT38_789 : sG l g D H0 mT 38 789 (s_if 38 804 792 (fun a => a = 0)) := ⟨ok_if _ _ _ _, so_if_ne mT38 dL_law_789 (by decide)⟩
theorem gT38_792 : sG l g D H0 mT 38 792 (s_load vRf 38 793 3) := ⟨ok_load _ _ _ _, so_aload_n mT38 dL_law_792 rfl⟩
theorem gT38_793 : sG l g D H0 mT 38 793 (s_const 38 794 (.int 0)) := ⟨ok_const _ _ _, so_iconst mT38 dL_law_793 (by decide)⟩
theorem gT38_794 : sG l g D H0 mT 38 794 (s_ald 38 795 22) := ⟨ok_ald _ _ _, so_lald mT38 a22 dL_law_794⟩
theorem gT38_795 : sG l g D H0 mT 38 795 (s_load vI 38 797 7) := ⟨ok_load _ _ _ _, so_iload mT38 dL_law_795⟩
theorem gT38_797 : sG l g D H0 mT 38 797 (s_i2 38 798 (fun a => .long a.toInt64)) := ⟨ok_i2 _ _ _, so_i2l mT38 dL_law_797⟩
theorem gT38_798 : sG l g D H0 mT 38 798 (s_lbin 38 799 (fun a b => .int (lg_cmp a b))) := ⟨ok_lbin _ _ _, so_lcmp mT38 dL_law_798⟩
theorem gT38_799 : sG l g D H0 mT 38 799 (s_if 38 802 804 (fun a => a = 0)) := ⟨ok_if _ _ _ _, so_if_eq mT38 dL_law_799 (by decide)⟩
theorem gT38_802 : sG l g D H0 mT 38 802 (s_const 38 803 (.int 0)) := ⟨ok_const _ _ _, so_iconst mT38 dL_law_802 (by decide)⟩
theorem gT38_803 : sG l g D H0 mT 38 803 (s_ret vZ) := ⟨ok_ret _, so_zret mT38 dL_law_803⟩
theorem gT38_804 : sG l g D H0 mT 38 804 (s_goto 38 1454) := ⟨ok_goto _ _, so_goto mT38 dL_law_804 (by decide)⟩
theorem gT38_807 : sG l g D H0 mT 38 807 (s_load vRf 38 808 1) := ⟨ok_load _ _ _ _, so_aload_n mT38 dL_law_807 rfl⟩
theorem gT38_808 : sG l g D H0 mT 38 808 (s_load vRf 38 809 0) := ⟨ok_load _ _ _ _, so_aload_n mT38 dL_law_808 rfl⟩
theorem gT38_809 : sG l g D H0 mT 38 809 (s_load vI 38 811 5) := ⟨ok_load _ _ _ _, so_iload mT38 dL_law_809⟩
theorem gT38_811 : sG l g D H0 mT 38 811 (s_const 38 812 (.int 1)) := ⟨ok_const _ _ _, so_iconst mT38 dL_law_811 (by decide)⟩
theorem gT38_812 : sG l g D H0 mT 38 812 (s_bin 38 813 (fun a b => a + b)) := ⟨ok_bin _ _ _, so_iadd mT38 dL_law_812⟩
theorem gT38_813 : sG l g D H0 mT 38 813 (s_ald 38 814 27) := ⟨ok_ald _ _ _, so_iald mT38 a27 dL_law_813⟩
theorem gT38_814 : sG l g D H0 mT 38 814 (s_load vRf 38 815 0) := ⟨ok_load _ _ _ _, so_aload_n mT38 dL_law_814 rfl⟩
theorem gT38_815 : sG l g D H0 mT 38 815 (s_load vI 38 817 5) := ⟨ok_load _ _ _ _, so_iload mT38 dL_law_815⟩
theorem gT38_817 : sG l g D H0 mT 38 817 (s_const 38 818 (.int 2)) := ⟨ok_const _ _ _, so_iconst mT38 dL_law_817 (by decide)⟩
theorem gT38_818 : sG l g D H0 mT 38 818 (s_bin 38 819 (fun a b => a + b)) := ⟨ok_bin _ _ _, so_iadd mT38 dL_law_818⟩
theorem gT38_819 : sG l g D H0 mT 38 819 (s_ald 38 820 27) := ⟨ok_ald _ _ _, so_iald mT38 a27 dL_law_819⟩
theorem gT38_820 : sG l g D H0 mT 38 820 (s_load vRf 38 821 3) := ⟨ok_load _ _ _ _, so_aload_n mT38 dL_law_820 rfl⟩
theorem gT38_821 : sG l g D H0 mT 38 821 (s_callk 38 824 49 [1, 0, 0, 1] 5) := ⟨ok_callk _ _ _ _ _, sk_call (by decide) (so_callSH mT38 mo49 (by decide) dL_law_821 q1109 q1110 q53)⟩
theorem gT38_824 : sG l g D H0 mT 38 824 (s_store vI 38 826 6) := ⟨ok_store _ _ _ _, so_istore mT38 dL_law_824⟩
theorem gT38_826 : sG l g D H0 mT 38 826 (s_load vRf 38 827 2) := ⟨ok_load _ _ _ _, so_aload_n mT38 dL_law_826 rfl⟩
theorem gT38_827 : sG l g D H0 mT 38 827 (s_load vRf 38 828 0) := ⟨ok_load _ _ _ _, so_aload_n mT38 dL_law_827 rfl⟩
theorem gT38_828 : sG l g D H0 mT 38 828 (s_load vI 38 830 5) := ⟨ok_load _ _ _ _, so_iload mT38 dL_law_828⟩
theorem gT38_830 : sG l g D H0 mT 38 830 (s_const 38 831 (.int 1)) := ⟨ok_const _ _ _, so_iconst mT38 dL_law_830 (by decide)⟩
theorem gT38_831 : sG l g D H0 mT 38 831 (s_bin 38 832 (fun a b => a + b)) := ⟨ok_bin _ _ _, so_iadd mT38 dL_law_831⟩
theorem gT38_832 : sG l g D H0 mT 38 832 (s_ald 38 833 27) := ⟨ok_ald _ _ _, so_iald mT38 a27 dL_law_832⟩
theorem gT38_833 : sG l g D H0 mT 38 833 (s_load vRf 38 834 0) := ⟨ok_load _ _ _ _, so_aload_n mT38 dL_law_833 rfl⟩
theorem gT38_834 : sG l g D H0 mT 38 834 (s_load vI 38 836 5) := ⟨ok_load _ _ _ _, so_iload mT38 dL_law_834⟩
theorem gT38_836 : sG l g D H0 mT 38 836 (s_const 38 837 (.int 2)) := ⟨ok_const _ _ _, so_iconst mT38 dL_law_836 (by decide)⟩
theorem gT38_837 : sG l g D H0 mT 38 837 (s_bin 38 838 (fun a b => a + b)) := ⟨ok_bin _ _ _, so_iadd mT38 dL_law_837⟩
theorem gT38_838 : sG l g D H0 mT 38 838 (s_ald 38 839 27) := ⟨ok_ald _ _ _, so_iald mT38 a27 dL_law_838⟩
theorem gT38_839 : sG l g D H0 mT 38 839 (s_callvk 38 842 158 3 [0, 0] 3) := ⟨ok_callvk _ _ _ _ _ _, sk_callv (by decide) (so_callV mT38 mo158 (by decide) (t := 3) (C := "HyperVaneModel") (by decide) rfl rfl dL_law_839 q1569 q1570 q1571 q66)⟩
theorem gT38_842 : sG l g D H0 mT 38 842 (s_store vI 38 844 7) := ⟨ok_store _ _ _ _, so_istore mT38 dL_law_842⟩
theorem gT38_844 : sG l g D H0 mT 38 844 (s_load vRf 38 845 2) := ⟨ok_load _ _ _ _, so_aload_n mT38 dL_law_844 rfl⟩
theorem gT38_845 : sG l g D H0 mT 38 845 (s_callvk 38 848 138 3 [] 1) := ⟨ok_callvk _ _ _ _ _ _, sk_callv (by decide) (so_callV mT38 mo138 (by decide) (t := 3) (C := "HyperVaneModel") (by decide) rfl rfl dL_law_845 q1236 q1237 q1238 q66)⟩
theorem gT38_848 : sG l g D H0 mT 38 848 (s_load vI 38 850 6) := ⟨ok_load _ _ _ _, so_iload mT38 dL_law_848⟩
theorem gT38_850 : sG l g D H0 mT 38 850 (s_icmp 38 853 855 (fun a b => a = b)) := ⟨ok_icmp _ _ _ _, so_icmp_eq mT38 dL_law_850 (by decide)⟩
theorem gT38_853 : sG l g D H0 mT 38 853 (s_const 38 854 (.int 0)) := ⟨ok_const _ _ _, so_iconst mT38 dL_law_853 (by decide)⟩
theorem gT38_854 : sG l g D H0 mT 38 854 (s_ret vZ) := ⟨ok_ret _, so_zret mT38 dL_law_854⟩
theorem gT38_855 : sG l g D H0 mT 38 855 (s_load vI 38 857 6) := ⟨ok_load _ _ _ _, so_iload mT38 dL_law_855⟩
theorem gT38_857 : sG l g D H0 mT 38 857 (s_if 38 872 860 (fun a => a = 0)) := ⟨ok_if _ _ _ _, so_if_ne mT38 dL_law_857 (by decide)⟩
theorem gT38_860 : sG l g D H0 mT 38 860 (s_load vRf 38 861 3) := ⟨ok_load _ _ _ _, so_aload_n mT38 dL_law_860 rfl⟩
theorem gT38_861 : sG l g D H0 mT 38 861 (s_const 38 862 (.int 0)) := ⟨ok_const _ _ _, so_iconst mT38 dL_law_861 (by decide)⟩
theorem gT38_862 : sG l g D H0 mT 38 862 (s_ald 38 863 22) := ⟨ok_ald _ _ _, so_lald mT38 a22 dL_law_862⟩
theorem gT38_863 : sG l g D H0 mT 38 863 (s_load vI 38 865 7) := ⟨ok_load _ _ _ _, so_iload mT38 dL_law_863⟩
theorem gT38_865 : sG l g D H0 mT 38 865 (s_i2 38 866 (fun a => .long a.toInt64)) := ⟨ok_i2 _ _ _, so_i2l mT38 dL_law_865⟩
theorem gT38_866 : sG l g D H0 mT 38 866 (s_lbin 38 867 (fun a b => .int (lg_cmp a b))) := ⟨ok_lbin _ _ _, so_lcmp mT38 dL_law_866⟩
theorem gT38_867 : sG l g D H0 mT 38 867 (s_if 38 870 872 (fun a => a = 0)) := ⟨ok_if _ _ _ _, so_if_eq mT38 dL_law_867 (by decide)⟩
theorem gT38_870 : sG l g D H0 mT 38 870 (s_const 38 871 (.int 0)) := ⟨ok_const _ _ _, so_iconst mT38 dL_law_870 (by decide)⟩
theorem gT38_871 : sG l g D H0 mT 38 871 (s_ret vZ) := ⟨ok_ret _, so_zret mT38 dL_law_871⟩
theorem gT38_872 : sG l g D H0 mT 38 872 (s_goto 38 1454) := ⟨ok_goto _ _, so_goto mT38 dL_law_872 (by decide)⟩
theorem gT38_875 : sG l g D H0 mT 38 875 (s_load vRf 38 876 1) := ⟨ok_load _ _ _ _, so_aload_n mT38 dL_law_875 rfl⟩
theorem gT38_876 : sG l g D H0 mT 38 876 (s_load vRf 38 877 0) := ⟨ok_load _ _ _ _, so_aload_n mT38 dL_law_876 rfl⟩
theorem gT38_877 : sG l g D H0 mT 38 877 (s_load vI 38 879 5) := ⟨ok_load _ _ _ _, so_iload mT38 dL_law_877⟩
theorem gT38_879 : sG l g D H0 mT 38 879 (s_const 38 880 (.int 1)) := ⟨ok_const _ _ _, so_iconst mT38 dL_law_879 (by decide)⟩
theorem gT38_880 : sG l g D H0 mT 38 880 (s_bin 38 881 (fun a b => a + b)) := ⟨ok_bin _ _ _, so_iadd mT38 dL_law_880⟩
theorem gT38_881 : sG l g D H0 mT 38 881 (s_ald 38 882 27) := ⟨ok_ald _ _ _, so_iald mT38 a27 dL_law_881⟩
theorem gT38_882 : sG l g D H0 mT 38 882 (s_load vRf 38 883 0) := ⟨ok_load _ _ _ _, so_aload_n mT38 dL_law_882 rfl⟩
theorem gT38_883 : sG l g D H0 mT 38 883 (s_load vI 38 885 5) := ⟨ok_load _ _ _ _, so_iload mT38 dL_law_883⟩
theorem gT38_885 : sG l g D H0 mT 38 885 (s_const 38 886 (.int 2)) := ⟨ok_const _ _ _, so_iconst mT38 dL_law_885 (by decide)⟩
theorem gT38_886 : sG l g D H0 mT 38 886 (s_bin 38 887 (fun a b => a + b)) := ⟨ok_bin _ _ _, so_iadd mT38 dL_law_886⟩
theorem gT38_887 : sG l g D H0 mT 38 887 (s_ald 38 888 27) := ⟨ok_ald _ _ _, so_iald mT38 a27 dL_law_887⟩
theorem gT38_888 : sG l g D H0 mT 38 888 (s_load vRf 38 889 0) := ⟨ok_load _ _ _ _, so_aload_n mT38 dL_law_888 rfl⟩
theorem gT38_889 : sG l g D H0 mT 38 889 (s_load vI 38 891 5) := ⟨ok_load _ _ _ _, so_iload mT38 dL_law_889⟩
theorem gT38_891 : sG l g D H0 mT 38 891 (s_const 38 892 (.int 3)) := ⟨ok_const _ _ _, so_iconst mT38 dL_law_891 (by decide)⟩
theorem gT38_892 : sG l g D H0 mT 38 892 (s_bin 38 893 (fun a b => a + b)) := ⟨ok_bin _ _ _, so_iadd mT38 dL_law_892⟩
theorem gT38_893 : sG l g D H0 mT 38 893 (s_ald 38 894 27) := ⟨ok_ald _ _ _, so_iald mT38 a27 dL_law_893⟩
theorem gT38_894 : sG l g D H0 mT 38 894 (s_load vRf 38 895 3) := ⟨ok_load _ _ _ _, so_aload_n mT38 dL_law_894 rfl⟩
theorem gT38_895 : sG l g D H0 mT 38 895 (s_callk 38 898 50 [1, 0, 0, 0, 1] 6) := ⟨ok_callk _ _ _ _ _, sk_call (by decide) (so_callSH mT38 mo50 (by decide) dL_law_895 q1116 q1117 q53)⟩
theorem gT38_898 : sG l g D H0 mT 38 898 (s_store vI 38 900 6) := ⟨ok_store _ _ _ _, so_istore mT38 dL_law_898⟩
theorem gT38_900 : sG l g D H0 mT 38 900 (s_load vRf 38 901 2) := ⟨ok_load _ _ _ _, so_aload_n mT38 dL_law_900 rfl⟩
theorem gT38_901 : sG l g D H0 mT 38 901 (s_load vRf 38 902 0) := ⟨ok_load _ _ _ _, so_aload_n mT38 dL_law_901 rfl⟩
theorem gT38_902 : sG l g D H0 mT 38 902 (s_load vI 38 904 5) := ⟨ok_load _ _ _ _, so_iload mT38 dL_law_902⟩
theorem gT38_904 : sG l g D H0 mT 38 904 (s_const 38 905 (.int 1)) := ⟨ok_const _ _ _, so_iconst mT38 dL_law_904 (by decide)⟩
theorem gT38_905 : sG l g D H0 mT 38 905 (s_bin 38 906 (fun a b => a + b)) := ⟨ok_bin _ _ _, so_iadd mT38 dL_law_905⟩
theorem gT38_906 : sG l g D H0 mT 38 906 (s_ald 38 907 27) := ⟨ok_ald _ _ _, so_iald mT38 a27 dL_law_906⟩
theorem gT38_907 : sG l g D H0 mT 38 907 (s_load vRf 38 908 0) := ⟨ok_load _ _ _ _, so_aload_n mT38 dL_law_907 rfl⟩
theorem gT38_908 : sG l g D H0 mT 38 908 (s_load vI 38 910 5) := ⟨ok_load _ _ _ _, so_iload mT38 dL_law_908⟩
theorem gT38_910 : sG l g D H0 mT 38 910 (s_const 38 911 (.int 2)) := ⟨ok_const _ _ _, so_iconst mT38 dL_law_910 (by decide)⟩
theorem gT38_911 : sG l g D H0 mT 38 911 (s_bin 38 912 (fun a b => a + b)) := ⟨ok_bin _ _ _, so_iadd mT38 dL_law_911⟩
theorem gT38_912 : sG l g D H0 mT 38 912 (s_ald 38 913 27) := ⟨ok_ald _ _ _, so_iald mT38 a27 dL_law_912⟩
theorem gT38_913 : sG l g D H0 mT 38 913 (s_load vRf 38 914 0) := ⟨ok_load _ _ _ _, so_aload_n mT38 dL_law_913 rfl⟩
theorem gT38_914 : sG l g D H0 mT 38 914 (s_load vI 38 916 5) := ⟨ok_load _ _ _ _, so_iload mT38 dL_law_914⟩
theorem gT38_916 : sG l g D H0 mT 38 916 (s_const 38 917 (.int 3)) := ⟨ok_const _ _ _, so_iconst mT38 dL_law_916 (by decide)⟩
theorem gT38_917 : sG l g D H0 mT 38 917 (s_bin 38 918 (fun a b => a + b)) := ⟨ok_bin _ _ _, so_iadd mT38 dL_law_917⟩
theorem gT38_918 : sG l g D H0 mT 38 918 (s_ald 38 919 27) := ⟨ok_ald _ _ _, so_iald mT38 a27 dL_law_918⟩
theorem gT38_919 : sG l g D H0 mT 38 919 (s_callvk 38 922 159 3 [0, 0, 0] 4) := ⟨ok_callvk _ _ _ _ _ _, sk_callv (by decide) (so_callV mT38 mo159 (by decide) (t := 3) (C := "HyperVaneModel") (by decide) rfl rfl dL_law_919 q1573 q1574 q1575 q66)⟩
theorem gT38_922 : sG l g D H0 mT 38 922 (s_store vI 38 924 7) := ⟨ok_store _ _ _ _, so_istore mT38 dL_law_922⟩
theorem gT38_924 : sG l g D H0 mT 38 924 (s_load vRf 38 925 2) := ⟨ok_load _ _ _ _, so_aload_n mT38 dL_law_924 rfl⟩
theorem gT38_925 : sG l g D H0 mT 38 925 (s_callvk 38 928 138 3 [] 1) := ⟨ok_callvk _ _ _ _ _ _, sk_callv (by decide) (so_callV mT38 mo138 (by decide) (t := 3) (C := "HyperVaneModel") (by decide) rfl rfl dL_law_925 q1236 q1237 q1238 q66)⟩
theorem gT38_928 : sG l g D H0 mT 38 928 (s_load vI 38 930 6) := ⟨ok_load _ _ _ _, so_iload mT38 dL_law_928⟩
theorem gT38_930 : sG l g D H0 mT 38 930 (s_icmp 38 933 935 (fun a b => a = b)) := ⟨ok_icmp _ _ _ _, so_icmp_eq mT38 dL_law_930 (by decide)⟩
theorem gT38_933 : sG l g D H0 mT 38 933 (s_const 38 934 (.int 0)) := ⟨ok_const _ _ _, so_iconst mT38 dL_law_933 (by decide)⟩
theorem gT38_934 : sG l g D H0 mT 38 934 (s_ret vZ) := ⟨ok_ret _, so_zret mT38 dL_law_934⟩
theorem gT38_935 : sG l g D H0 mT 38 935 (s_load vI 38 937 6) := ⟨ok_load _ _ _ _, so_iload mT38 dL_law_935⟩
theorem gT38_937 : sG l g D H0 mT 38 937 (s_if 38 952 940 (fun a => a = 0)) := ⟨ok_if _ _ _ _, so_if_ne mT38 dL_law_937 (by decide)⟩
theorem gT38_940 : sG l g D H0 mT 38 940 (s_load vRf 38 941 3) := ⟨ok_load _ _ _ _, so_aload_n mT38 dL_law_940 rfl⟩
theorem gT38_941 : sG l g D H0 mT 38 941 (s_const 38 942 (.int 0)) := ⟨ok_const _ _ _, so_iconst mT38 dL_law_941 (by decide)⟩
theorem gT38_942 : sG l g D H0 mT 38 942 (s_ald 38 943 22) := ⟨ok_ald _ _ _, so_lald mT38 a22 dL_law_942⟩
theorem gT38_943 : sG l g D H0 mT 38 943 (s_load vI 38 945 7) := ⟨ok_load _ _ _ _, so_iload mT38 dL_law_943⟩
theorem gT38_945 : sG l g D H0 mT 38 945 (s_i2 38 946 (fun a => .long a.toInt64)) := ⟨ok_i2 _ _ _, so_i2l mT38 dL_law_945⟩
theorem gT38_946 : sG l g D H0 mT 38 946 (s_lbin 38 947 (fun a b => .int (lg_cmp a b))) := ⟨ok_lbin _ _ _, so_lcmp mT38 dL_law_946⟩
theorem gT38_947 : sG l g D H0 mT 38 947 (s_if 38 950 952 (fun a => a = 0)) := ⟨ok_if _ _ _ _, so_if_eq mT38 dL_law_947 (by decide)⟩
theorem gT38_950 : sG l g D H0 mT 38 950 (s_const 38 951 (.int 0)) := ⟨ok_const _ _ _, so_iconst mT38 dL_law_950 (by decide)⟩
theorem gT38_951 : sG l g D H0 mT 38 951 (s_ret vZ) := ⟨ok_ret _, so_zret mT38 dL_law_951⟩
theorem gT38_952 : sG l g D H0 mT 38 952 (s_goto 38 1454) := ⟨ok_goto _ _, so_goto mT38 dL_law_952 (by decide)⟩
theorem gT38_955 : sG l g D H0 mT 38 955 (s_load vRf 38 956 1) := ⟨ok_load _ _ _ _, so_aload_n mT38 dL_law_955 rfl⟩
theorem gT38_956 : sG l g D H0 mT 38 956 (s_load vRf 38 957 0) := ⟨ok_load _ _ _ _, so_aload_n mT38 dL_law_956 rfl⟩
theorem gT38_957 : sG l g D H0 mT 38 957 (s_load vI 38 959 5) := ⟨ok_load _ _ _ _, so_iload mT38 dL_law_957⟩
theorem gT38_959 : sG l g D H0 mT 38 959 (s_const 38 960 (.int 1)) := ⟨ok_const _ _ _, so_iconst mT38 dL_law_959 (by decide)⟩
theorem gT38_960 : sG l g D H0 mT 38 960 (s_bin 38 961 (fun a b => a + b)) := ⟨ok_bin _ _ _, so_iadd mT38 dL_law_960⟩
theorem gT38_961 : sG l g D H0 mT 38 961 (s_ald 38 962 27) := ⟨ok_ald _ _ _, so_iald mT38 a27 dL_law_961⟩
theorem gT38_962 : sG l g D H0 mT 38 962 (s_load vRf 38 963 0) := ⟨ok_load _ _ _ _, so_aload_n mT38 dL_law_962 rfl⟩
theorem gT38_963 : sG l g D H0 mT 38 963 (s_load vI 38 965 5) := ⟨ok_load _ _ _ _, so_iload mT38 dL_law_963⟩
theorem gT38_965 : sG l g D H0 mT 38 965 (s_const 38 966 (.int 2)) := ⟨ok_const _ _ _, so_iconst mT38 dL_law_965 (by decide)⟩
theorem gT38_966 : sG l g D H0 mT 38 966 (s_bin 38 967 (fun a b => a + b)) := ⟨ok_bin _ _ _, so_iadd mT38 dL_law_966⟩
theorem gT38_967 : sG l g D H0 mT 38 967 (s_ald 38 968 27) := ⟨ok_ald _ _ _, so_iald mT38 a27 dL_law_967⟩
theorem gT38_968 : sG l g D H0 mT 38 968 (s_load vRf 38 969 3) := ⟨ok_load _ _ _ _, so_aload_n mT38 dL_law_968 rfl⟩
theorem gT38_969 : sG l g D H0 mT 38 969 (s_callk 38 972 51 [1, 0, 0, 1] 5) := ⟨ok_callk _ _ _ _ _, sk_call (by decide) (so_callSH mT38 mo51 (by decide) dL_law_969 q1123 q1124 q53)⟩
theorem gT38_972 : sG l g D H0 mT 38 972 (s_store vI 38 974 6) := ⟨ok_store _ _ _ _, so_istore mT38 dL_law_972⟩
theorem gT38_974 : sG l g D H0 mT 38 974 (s_load vRf 38 975 2) := ⟨ok_load _ _ _ _, so_aload_n mT38 dL_law_974 rfl⟩
theorem gT38_975 : sG l g D H0 mT 38 975 (s_load vRf 38 976 0) := ⟨ok_load _ _ _ _, so_aload_n mT38 dL_law_975 rfl⟩
theorem gT38_976 : sG l g D H0 mT 38 976 (s_load vI 38 978 5) := ⟨ok_load _ _ _ _, so_iload mT38 dL_law_976⟩
theorem gT38_978 : sG l g D H0 mT 38 978 (s_const 38 979 (.int 1)) := ⟨ok_const _ _ _, so_iconst mT38 dL_law_978 (by decide)⟩
theorem gT38_979 : sG l g D H0 mT 38 979 (s_bin 38 980 (fun a b => a + b)) := ⟨ok_bin _ _ _, so_iadd mT38 dL_law_979⟩
theorem gT38_980 : sG l g D H0 mT 38 980 (s_ald 38 981 27) := ⟨ok_ald _ _ _, so_iald mT38 a27 dL_law_980⟩
theorem gT38_981 : sG l g D H0 mT 38 981 (s_load vRf 38 982 0) := ⟨ok_load _ _ _ _, so_aload_n mT38 dL_law_981 rfl⟩
theorem gT38_982 : sG l g D H0 mT 38 982 (s_load vI 38 984 5) := ⟨ok_load _ _ _ _, so_iload mT38 dL_law_982⟩
theorem gT38_984 : sG l g D H0 mT 38 984 (s_const 38 985 (.int 2)) := ⟨ok_const _ _ _, so_iconst mT38 dL_law_984 (by decide)⟩
theorem gT38_985 : sG l g D H0 mT 38 985 (s_bin 38 986 (fun a b => a + b)) := ⟨ok_bin _ _ _, so_iadd mT38 dL_law_985⟩
theorem gT38_986 : sG l g D H0 mT 38 986 (s_ald 38 987 27) := ⟨ok_ald _ _ _, so_iald mT38 a27 dL_law_986⟩
theorem gT38_987 : sG l g D H0 mT 38 987 (s_callvk 38 990 162 3 [0, 0] 3) := ⟨ok_callvk _ _ _ _ _ _, sk_callv (by decide) (so_callV mT38 mo162 (by decide) (t := 3) (C := "HyperVaneModel") (by decide) rfl rfl dL_law_987 q1584 q1585 q1586 q66)⟩
theorem gT38_990 : sG l g D H0 mT 38 990 (s_store vI 38 992 7) := ⟨ok_store _ _ _ _, so_istore mT38 dL_law_990⟩
theorem gT38_992 : sG l g D H0 mT 38 992 (s_load vRf 38 993 2) := ⟨ok_load _ _ _ _, so_aload_n mT38 dL_law_992 rfl⟩
theorem gT38_993 : sG l g D H0 mT 38 993 (s_callvk 38 996 138 3 [] 1) := ⟨ok_callvk _ _ _ _ _ _, sk_callv (by decide) (so_callV mT38 mo138 (by decide) (t := 3) (C := "HyperVaneModel") (by decide) rfl rfl dL_law_993 q1236 q1237 q1238 q66)⟩
theorem gT38_996 : sG l g D H0 mT 38 996 (s_load vI 38 998 6) := ⟨ok_load _ _ _ _, so_iload mT38 dL_law_996⟩
theorem gT38_998 : sG l g D H0 mT 38 998 (s_icmp 38 1001 1003 (fun a b => a = b)) := ⟨ok_icmp _ _ _ _, so_icmp_eq mT38 dL_law_998 (by decide)⟩
theorem gT38_1001 : sG l g D H0 mT 38 1001 (s_const 38 1002 (.int 0)) := ⟨ok_const _ _ _, so_iconst mT38 dL_law_1001 (by decide)⟩
theorem gT38_1002 : sG l g D H0 mT 38 1002 (s_ret vZ) := ⟨ok_ret _, so_zret mT38 dL_law_1002⟩
theorem gT38_1003 : sG l g D H0 mT 38 1003 (s_load vI 38 1005 6) := ⟨ok_load _ _ _ _, so_iload mT38 dL_law_1003⟩
theorem gT38_1005 : sG l g D H0 mT 38 1005 (s_if 38 1020 1008 (fun a => a = 0)) := ⟨ok_if _ _ _ _, so_if_ne mT38 dL_law_1005 (by decide)⟩
theorem gT38_1008 : sG l g D H0 mT 38 1008 (s_load vRf 38 1009 3) := ⟨ok_load _ _ _ _, so_aload_n mT38 dL_law_1008 rfl⟩
theorem gT38_1009 : sG l g D H0 mT 38 1009 (s_const 38 1010 (.int 0)) := ⟨ok_const _ _ _, so_iconst mT38 dL_law_1009 (by decide)⟩
theorem gT38_1010 : sG l g D H0 mT 38 1010 (s_ald 38 1011 22) := ⟨ok_ald _ _ _, so_lald mT38 a22 dL_law_1010⟩
theorem gT38_1011 : sG l g D H0 mT 38 1011 (s_load vI 38 1013 7) := ⟨ok_load _ _ _ _, so_iload mT38 dL_law_1011⟩
theorem gT38_1013 : sG l g D H0 mT 38 1013 (s_i2 38 1014 (fun a => .long a.toInt64)) := ⟨ok_i2 _ _ _, so_i2l mT38 dL_law_1013⟩
theorem gT38_1014 : sG l g D H0 mT 38 1014 (s_lbin 38 1015 (fun a b => .int (lg_cmp a b))) := ⟨ok_lbin _ _ _, so_lcmp mT38 dL_law_1014⟩
theorem gT38_1015 : sG l g D H0 mT 38 1015 (s_if 38 1018 1020 (fun a => a = 0)) := ⟨ok_if _ _ _ _, so_if_eq mT38 dL_law_1015 (by decide)⟩
theorem gT38_1018 : sG l g D H0 mT 38 1018 (s_const 38 1019 (.int 0)) := ⟨ok_const _ _ _, so_iconst mT38 dL_law_1018 (by decide)⟩
theorem gT38_1019 : sG l g D H0 mT 38 1019 (s_ret vZ) := ⟨ok_ret _, so_zret mT38 dL_law_1019⟩
theorem gT38_1020 : sG l g D H0 mT 38 1020 (s_goto 38 1454) := ⟨ok_goto _ _, so_goto mT38 dL_law_1020 (by decide)⟩
theorem gT38_1023 : sG l g D H0 mT 38 1023 (s_load vRf 38 1024 1) := ⟨ok_load _ _ _ _, so_aload_n mT38 dL_law_1023 rfl⟩
theorem gT38_1024 : sG l g D H0 mT 38 1024 (s_load vRf 38 1025 0) := ⟨ok_load _ _ _ _, so_aload_n mT38 dL_law_1024 rfl⟩
theorem gT38_1025 : sG l g D H0 mT 38 1025 (s_load vI 38 1027 5) := ⟨ok_load _ _ _ _, so_iload mT38 dL_law_1025⟩
theorem gT38_1027 : sG l g D H0 mT 38 1027 (s_const 38 1028 (.int 1)) := ⟨ok_const _ _ _, so_iconst mT38 dL_law_1027 (by decide)⟩
theorem gT38_1028 : sG l g D H0 mT 38 1028 (s_bin 38 1029 (fun a b => a + b)) := ⟨ok_bin _ _ _, so_iadd mT38 dL_law_1028⟩
theorem gT38_1029 : sG l g D H0 mT 38 1029 (s_ald 38 1030 27) := ⟨ok_ald _ _ _, so_iald mT38 a27 dL_law_1029⟩
theorem gT38_1030 : sG l g D H0 mT 38 1030 (s_load vRf 38 1031 0) := ⟨ok_load _ _ _ _, so_aload_n mT38 dL_law_1030 rfl⟩
theorem gT38_1031 : sG l g D H0 mT 38 1031 (s_load vI 38 1033 5) := ⟨ok_load _ _ _ _, so_iload mT38 dL_law_1031⟩
theorem gT38_1033 : sG l g D H0 mT 38 1033 (s_const 38 1034 (.int 2)) := ⟨ok_const _ _ _, so_iconst mT38 dL_law_1033 (by decide)⟩
theorem gT38_1034 : sG l g D H0 mT 38 1034 (s_bin 38 1035 (fun a b => a + b)) := ⟨ok_bin _ _ _, so_iadd mT38 dL_law_1034⟩
theorem gT38_1035 : sG l g D H0 mT 38 1035 (s_ald 38 1036 27) := ⟨ok_ald _ _ _, so_iald mT38 a27 dL_law_1035⟩
theorem gT38_1036 : sG l g D H0 mT 38 1036 (s_load vRf 38 1037 3) := ⟨ok_load _ _ _ _, so_aload_n mT38 dL_law_1036 rfl⟩
theorem gT38_1037 : sG l g D H0 mT 38 1037 (s_callk 38 1040 52 [1, 0, 0, 1] 5) := ⟨ok_callk _ _ _ _ _, sk_call (by decide) (so_callSH mT38 mo52 (by decide) dL_law_1037 q1130 q1131 q53)⟩
theorem gT38_1040 : sG l g D H0 mT 38 1040 (s_store vI 38 1042 6) := ⟨ok_store _ _ _ _, so_istore mT38 dL_law_1040⟩
theorem gT38_1042 : sG l g D H0 mT 38 1042 (s_load vRf 38 1043 2) := ⟨ok_load _ _ _ _, so_aload_n mT38 dL_law_1042 rfl⟩
theorem gT38_1043 : sG l g D H0 mT 38 1043 (s_load vRf 38 1044 0) := ⟨ok_load _ _ _ _, so_aload_n mT38 dL_law_1043 rfl⟩
theorem gT38_1044 : sG l g D H0 mT 38 1044 (s_load vI 38 1046 5) := ⟨ok_load _ _ _ _, so_iload mT38 dL_law_1044⟩
theorem gT38_1046 : sG l g D H0 mT 38 1046 (s_const 38 1047 (.int 1)) := ⟨ok_const _ _ _, so_iconst mT38 dL_law_1046 (by decide)⟩
theorem gT38_1047 : sG l g D H0 mT 38 1047 (s_bin 38 1048 (fun a b => a + b)) := ⟨ok_bin _ _ _, so_iadd mT38 dL_law_1047⟩
theorem gT38_1048 : sG l g D H0 mT 38 1048 (s_ald 38 1049 27) := ⟨ok_ald _ _ _, so_iald mT38 a27 dL_law_1048⟩
theorem gT38_1049 : sG l g D H0 mT 38 1049 (s_load vRf 38 1050 0) := ⟨ok_load _ _ _ _, so_aload_n mT38 dL_law_1049 rfl⟩
theorem gT38_1050 : sG l g D H0 mT 38 1050 (s_load vI 38 1052 5) := ⟨ok_load _ _ _ _, so_iload mT38 dL_law_1050⟩
theorem gT38_1052 : sG l g D H0 mT 38 1052 (s_const 38 1053 (.int 2)) := ⟨ok_const _ _ _, so_iconst mT38 dL_law_1052 (by decide)⟩
theorem gT38_1053 : sG l g D H0 mT 38 1053 (s_bin 38 1054 (fun a b => a + b)) := ⟨ok_bin _ _ _, so_iadd mT38 dL_law_1053⟩
theorem gT38_1054 : sG l g D H0 mT 38 1054 (s_ald 38 1055 27) := ⟨ok_ald _ _ _, so_iald mT38 a27 dL_law_1054⟩
theorem gT38_1055 : sG l g D H0 mT 38 1055 (s_callvk 38 1058 164 3 [0, 0] 3) := ⟨ok_callvk _ _ _ _ _ _, sk_callv (by decide) (so_callV mT38 mo164 (by decide) (t := 3) (C := "HyperVaneModel") (by decide) rfl rfl dL_law_1055 q1593 q1594 q1595 q66)⟩
theorem gT38_1058 : sG l g D H0 mT 38 1058 (s_store vI 38 1060 7) := ⟨ok_store _ _ _ _, so_istore mT38 dL_law_1058⟩
theorem gT38_1060 : sG l g D H0 mT 38 1060 (s_load vRf 38 1061 2) := ⟨ok_load _ _ _ _, so_aload_n mT38 dL_law_1060 rfl⟩
theorem gT38_1061 : sG l g D H0 mT 38 1061 (s_callvk 38 1064 138 3 [] 1) := ⟨ok_callvk _ _ _ _ _ _, sk_callv (by decide) (so_callV mT38 mo138 (by decide) (t := 3) (C := "HyperVaneModel") (by decide) rfl rfl dL_law_1061 q1236 q1237 q1238 q66)⟩
theorem gT38_1064 : sG l g D H0 mT 38 1064 (s_load vI 38 1066 6) := ⟨ok_load _ _ _ _, so_iload mT38 dL_law_1064⟩
theorem gT38_1066 : sG l g D H0 mT 38 1066 (s_icmp 38 1069 1071 (fun a b => a = b)) := ⟨ok_icmp _ _ _ _, so_icmp_eq mT38 dL_law_1066 (by decide)⟩
theorem gT38_1069 : sG l g D H0 mT 38 1069 (s_const 38 1070 (.int 0)) := ⟨ok_const _ _ _, so_iconst mT38 dL_law_1069 (by decide)⟩
theorem gT38_1070 : sG l g D H0 mT 38 1070 (s_ret vZ) := ⟨ok_ret _, so_zret mT38 dL_law_1070⟩
theorem gT38_1071 : sG l g D H0 mT 38 1071 (s_load vI 38 1073 6) := ⟨ok_load _ _ _ _, so_iload mT38 dL_law_1071⟩
theorem gT38_1073 : sG l g D H0 mT 38 1073 (s_if 38 1088 1076 (fun a => a = 0)) := ⟨ok_if _ _ _ _, so_if_ne mT38 dL_law_1073 (by decide)⟩
theorem gT38_1076 : sG l g D H0 mT 38 1076 (s_load vRf 38 1077 3) := ⟨ok_load _ _ _ _, so_aload_n mT38 dL_law_1076 rfl⟩
theorem gT38_1077 : sG l g D H0 mT 38 1077 (s_const 38 1078 (.int 0)) := ⟨ok_const _ _ _, so_iconst mT38 dL_law_1077 (by decide)⟩
theorem gT38_1078 : sG l g D H0 mT 38 1078 (s_ald 38 1079 22) := ⟨ok_ald _ _ _, so_lald mT38 a22 dL_law_1078⟩
theorem gT38_1079 : sG l g D H0 mT 38 1079 (s_load vI 38 1081 7) := ⟨ok_load _ _ _ _, so_iload mT38 dL_law_1079⟩
theorem gT38_1081 : sG l g D H0 mT 38 1081 (s_i2 38 1082 (fun a => .long a.toInt64)) := ⟨ok_i2 _ _ _, so_i2l mT38 dL_law_1081⟩
theorem gT38_1082 : sG l g D H0 mT 38 1082 (s_lbin 38 1083 (fun a b => .int (lg_cmp a b))) := ⟨ok_lbin _ _ _, so_lcmp mT38 dL_law_1082⟩
theorem gT38_1083 : sG l g D H0 mT 38 1083 (s_if 38 1086 1088 (fun a => a = 0)) := ⟨ok_if _ _ _ _, so_if_eq mT38 dL_law_1083 (by decide)⟩
theorem gT38_1086 : sG l g D H0 mT 38 1086 (s_const 38 1087 (.int 0)) := ⟨ok_const _ _ _, so_iconst mT38 dL_law_1086 (by decide)⟩
theorem gT38_1087 : sG l g D H0 mT 38 1087 (s_ret vZ) := ⟨ok_ret _, so_zret mT38 dL_law_1087⟩
theorem gT38_1088 : sG l g D H0 mT 38 1088 (s_goto 38 1454) := ⟨ok_goto _ _, so_goto mT38 dL_law_1088 (by decide)⟩
theorem gT38_1091 : sG l g D H0 mT 38 1091 (s_load vRf 38 1092 1) := ⟨ok_load _ _ _ _, so_aload_n mT38 dL_law_1091 rfl⟩
theorem gT38_1092 : sG l g D H0 mT 38 1092 (s_load vRf 38 1093 0) := ⟨ok_load _ _ _ _, so_aload_n mT38 dL_law_1092 rfl⟩
theorem gT38_1093 : sG l g D H0 mT 38 1093 (s_load vI 38 1095 5) := ⟨ok_load _ _ _ _, so_iload mT38 dL_law_1093⟩
theorem gT38_1095 : sG l g D H0 mT 38 1095 (s_const 38 1096 (.int 1)) := ⟨ok_const _ _ _, so_iconst mT38 dL_law_1095 (by decide)⟩
theorem gT38_1096 : sG l g D H0 mT 38 1096 (s_bin 38 1097 (fun a b => a + b)) := ⟨ok_bin _ _ _, so_iadd mT38 dL_law_1096⟩
theorem gT38_1097 : sG l g D H0 mT 38 1097 (s_ald 38 1098 27) := ⟨ok_ald _ _ _, so_iald mT38 a27 dL_law_1097⟩
theorem gT38_1098 : sG l g D H0 mT 38 1098 (s_load vRf 38 1099 3) := ⟨ok_load _ _ _ _, so_aload_n mT38 dL_law_1098 rfl⟩
theorem gT38_1099 : sG l g D H0 mT 38 1099 (s_callk 38 1102 53 [1, 0, 1] 4) := ⟨ok_callk _ _ _ _ _, sk_call (by decide) (so_callSH mT38 mo53 (by decide) dL_law_1099 q1137 q1138 q53)⟩
theorem gT38_1102 : sG l g D H0 mT 38 1102 (s_store vI 38 1104 6) := ⟨ok_store _ _ _ _, so_istore mT38 dL_law_1102⟩
theorem gT38_1104 : sG l g D H0 mT 38 1104 (s_load vRf 38 1105 2) := ⟨ok_load _ _ _ _, so_aload_n mT38 dL_law_1104 rfl⟩
theorem gT38_1105 : sG l g D H0 mT 38 1105 (s_load vRf 38 1106 0) := ⟨ok_load _ _ _ _, so_aload_n mT38 dL_law_1105 rfl⟩
theorem gT38_1106 : sG l g D H0 mT 38 1106 (s_load vI 38 1108 5) := ⟨ok_load _ _ _ _, so_iload mT38 dL_law_1106⟩
theorem gT38_1108 : sG l g D H0 mT 38 1108 (s_const 38 1109 (.int 1)) := ⟨ok_const _ _ _, so_iconst mT38 dL_law_1108 (by decide)⟩
theorem gT38_1109 : sG l g D H0 mT 38 1109 (s_bin 38 1110 (fun a b => a + b)) := ⟨ok_bin _ _ _, so_iadd mT38 dL_law_1109⟩
theorem gT38_1110 : sG l g D H0 mT 38 1110 (s_ald 38 1111 27) := ⟨ok_ald _ _ _, so_iald mT38 a27 dL_law_1110⟩
theorem gT38_1111 : sG l g D H0 mT 38 1111 (s_callvk 38 1114 166 3 [0] 2) := ⟨ok_callvk _ _ _ _ _ _, sk_callv (by decide) (so_callV mT38 mo166 (by decide) (t := 3) (C := "HyperVaneModel") (by decide) rfl rfl dL_law_1111 q1603 q1604 q1605 q66)⟩
theorem gT38_1114 : sG l g D H0 mT 38 1114 (s_store vI 38 1116 7) := ⟨ok_store _ _ _ _, so_istore mT38 dL_law_1114⟩
theorem gT38_1116 : sG l g D H0 mT 38 1116 (s_load vRf 38 1117 2) := ⟨ok_load _ _ _ _, so_aload_n mT38 dL_law_1116 rfl⟩
theorem gT38_1117 : sG l g D H0 mT 38 1117 (s_callvk 38 1120 138 3 [] 1) := ⟨ok_callvk _ _ _ _ _ _, sk_callv (by decide) (so_callV mT38 mo138 (by decide) (t := 3) (C := "HyperVaneModel") (by decide) rfl rfl dL_law_1117 q1236 q1237 q1238 q66)⟩
theorem gT38_1120 : sG l g D H0 mT 38 1120 (s_load vI 38 1122 6) := ⟨ok_load _ _ _ _, so_iload mT38 dL_law_1120⟩
theorem gT38_1122 : sG l g D H0 mT 38 1122 (s_icmp 38 1125 1127 (fun a b => a = b)) := ⟨ok_icmp _ _ _ _, so_icmp_eq mT38 dL_law_1122 (by decide)⟩
theorem gT38_1125 : sG l g D H0 mT 38 1125 (s_const 38 1126 (.int 0)) := ⟨ok_const _ _ _, so_iconst mT38 dL_law_1125 (by decide)⟩
theorem gT38_1126 : sG l g D H0 mT 38 1126 (s_ret vZ) := ⟨ok_ret _, so_zret mT38 dL_law_1126⟩
theorem gT38_1127 : sG l g D H0 mT 38 1127 (s_load vI 38 1129 6) := ⟨ok_load _ _ _ _, so_iload mT38 dL_law_1127⟩
theorem gT38_1129 : sG l g D H0 mT 38 1129 (s_if 38 1144 1132 (fun a => a = 0)) := ⟨ok_if _ _ _ _, so_if_ne mT38 dL_law_1129 (by decide)⟩
theorem gT38_1132 : sG l g D H0 mT 38 1132 (s_load vRf 38 1133 3) := ⟨ok_load _ _ _ _, so_aload_n mT38 dL_law_1132 rfl⟩
theorem gT38_1133 : sG l g D H0 mT 38 1133 (s_const 38 1134 (.int 0)) := ⟨ok_const _ _ _, so_iconst mT38 dL_law_1133 (by decide)⟩
theorem gT38_1134 : sG l g D H0 mT 38 1134 (s_ald 38 1135 22) := ⟨ok_ald _ _ _, so_lald mT38 a22 dL_law_1134⟩
theorem gT38_1135 : sG l g D H0 mT 38 1135 (s_load vI 38 1137 7) := ⟨ok_load _ _ _ _, so_iload mT38 dL_law_1135⟩
theorem gT38_1137 : sG l g D H0 mT 38 1137 (s_i2 38 1138 (fun a => .long a.toInt64)) := ⟨ok_i2 _ _ _, so_i2l mT38 dL_law_1137⟩
theorem gT38_1138 : sG l g D H0 mT 38 1138 (s_lbin 38 1139 (fun a b => .int (lg_cmp a b))) := ⟨ok_lbin _ _ _, so_lcmp mT38 dL_law_1138⟩
theorem gT38_1139 : sG l g D H0 mT 38 1139 (s_if 38 1142 1144 (fun a => a = 0)) := ⟨ok_if _ _ _ _, so_if_eq mT38 dL_law_1139 (by decide)⟩
theorem gT38_1142 : sG l g D H0 mT 38 1142 (s_const 38 1143 (.int 0)) := ⟨ok_const _ _ _, so_iconst mT38 dL_law_1142 (by decide)⟩
theorem gT38_1143 : sG l g D H0 mT 38 1143 (s_ret vZ) := ⟨ok_ret _, so_zret mT38 dL_law_1143⟩
theorem gT38_1144 : sG l g D H0 mT 38 1144 (s_goto 38 1454) := ⟨ok_goto _ _, so_goto mT38 dL_law_1144 (by decide)⟩
theorem gT38_1147 : sG l g D H0 mT 38 1147 (s_load vRf 38 1148 1) := ⟨ok_load _ _ _ _, so_aload_n mT38 dL_law_1147 rfl⟩
theorem gT38_1148 : sG l g D H0 mT 38 1148 (s_load vRf 38 1149 0) := ⟨ok_load _ _ _ _, so_aload_n mT38 dL_law_1148 rfl⟩
theorem gT38_1149 : sG l g D H0 mT 38 1149 (s_load vI 38 1151 5) := ⟨ok_load _ _ _ _, so_iload mT38 dL_law_1149⟩
theorem gT38_1151 : sG l g D H0 mT 38 1151 (s_const 38 1152 (.int 1)) := ⟨ok_const _ _ _, so_iconst mT38 dL_law_1151 (by decide)⟩
theorem gT38_1152 : sG l g D H0 mT 38 1152 (s_bin 38 1153 (fun a b => a + b)) := ⟨ok_bin _ _ _, so_iadd mT38 dL_law_1152⟩
theorem gT38_1153 : sG l g D H0 mT 38 1153 (s_ald 38 1154 27) := ⟨ok_ald _ _ _, so_iald mT38 a27 dL_law_1153⟩
theorem gT38_1154 : sG l g D H0 mT 38 1154 (s_load vRf 38 1156 4) := ⟨ok_load _ _ _ _, so_aload mT38 dL_law_1154⟩
theorem gT38_1156 : sG l g D H0 mT 38 1156 (s_callk 38 1159 54 [1, 0, 1] 4) := ⟨ok_callk _ _ _ _ _, sk_call (by decide) (so_callSH mT38 mo54 (by decide) dL_law_1156 q1144 q1145 q53)⟩
theorem gT38_1159 : sG l g D H0 mT 38 1159 (s_store vI 38 1161 6) := ⟨ok_store _ _ _ _, so_istore mT38 dL_law_1159⟩
theorem gT38_1161 : sG l g D H0 mT 38 1161 (s_load vRf 38 1162 2) := ⟨ok_load _ _ _ _, so_aload_n mT38 dL_law_1161 rfl⟩
theorem gT38_1162 : sG l g D H0 mT 38 1162 (s_load vRf 38 1163 0) := ⟨ok_load _ _ _ _, so_aload_n mT38 dL_law_1162 rfl⟩
theorem gT38_1163 : sG l g D H0 mT 38 1163 (s_load vI 38 1165 5) := ⟨ok_load _ _ _ _, so_iload mT38 dL_law_1163⟩
theorem gT38_1165 : sG l g D H0 mT 38 1165 (s_const 38 1166 (.int 1)) := ⟨ok_const _ _ _, so_iconst mT38 dL_law_1165 (by decide)⟩
theorem gT38_1166 : sG l g D H0 mT 38 1166 (s_bin 38 1167 (fun a b => a + b)) := ⟨ok_bin _ _ _, so_iadd mT38 dL_law_1166⟩
theorem gT38_1167 : sG l g D H0 mT 38 1167 (s_ald 38 1168 27) := ⟨ok_ald _ _ _, so_iald mT38 a27 dL_law_1167⟩
theorem gT38_1168 : sG l g D H0 mT 38 1168 (s_callvk 38 1171 168 3 [0] 3) := ⟨ok_callvk _ _ _ _ _ _, sk_callv (by decide) (so_callV mT38 mo168 (by decide) (t := 3) (C := "HyperVaneModel") (by decide) rfl rfl dL_law_1168 q1616 q1617 q1618 q66)⟩
theorem gT38_1171 : sG l g D H0 mT 38 1171 (s_store2 vD 38 1173 7) := ⟨ok_store2 _ _ _ _, so_dstore mT38 dL_law_1171⟩
theorem gT38_1173 : sG l g D H0 mT 38 1173 (s_load vRf 38 1174 2) := ⟨ok_load _ _ _ _, so_aload_n mT38 dL_law_1173 rfl⟩
theorem gT38_1174 : sG l g D H0 mT 38 1174 (s_callvk 38 1177 138 3 [] 1) := ⟨ok_callvk _ _ _ _ _ _, sk_callv (by decide) (so_callV mT38 mo138 (by decide) (t := 3) (C := "HyperVaneModel") (by decide) rfl rfl dL_law_1174 q1236 q1237 q1238 q66)⟩
theorem gT38_1177 : sG l g D H0 mT 38 1177 (s_load vI 38 1179 6) := ⟨ok_load _ _ _ _, so_iload mT38 dL_law_1177⟩
theorem gT38_1179 : sG l g D H0 mT 38 1179 (s_icmp 38 1182 1184 (fun a b => a = b)) := ⟨ok_icmp _ _ _ _, so_icmp_eq mT38 dL_law_1179 (by decide)⟩
theorem gT38_1182 : sG l g D H0 mT 38 1182 (s_const 38 1183 (.int 0)) := ⟨ok_const _ _ _, so_iconst mT38 dL_law_1182 (by decide)⟩
theorem gT38_1183 : sG l g D H0 mT 38 1183 (s_ret vZ) := ⟨ok_ret _, so_zret mT38 dL_law_1183⟩
theorem gT38_1184 : sG l g D H0 mT 38 1184 (s_load vI 38 1186 6) := ⟨ok_load _ _ _ _, so_iload mT38 dL_law_1184⟩
theorem gT38_1186 : sG l g D H0 mT 38 1186 (s_if 38 1221 1189 (fun a => a = 0)) := ⟨ok_if _ _ _ _, so_if_ne mT38 dL_law_1186 (by decide)⟩
theorem gT38_1189 : sG l g D H0 mT 38 1189 (s_load vRf 38 1191 4) := ⟨ok_load _ _ _ _, so_aload mT38 dL_law_1189⟩
theorem gT38_1191 : sG l g D H0 mT 38 1191 (s_const 38 1192 (.int 0)) := ⟨ok_const _ _ _, so_iconst mT38 dL_law_1191 (by decide)⟩
theorem gT38_1192 : sG l g D H0 mT 38 1192 (s_ald 38 1193 23) := ⟨ok_ald _ _ _, so_dald mT38 a23 dL_law_1192⟩
theorem gT38_1193 : sG l g D H0 mT 38 1193 (s_load vD 38 1195 7) := ⟨ok_load _ _ _ _, so_dload mT38 dL_law_1193⟩
theorem gT38_1195 : sG l g D H0 mT 38 1195 (s_dbin 38 1196 (fun a b => .int (Op.cmpValue (FP.dcmp a b) .l))) := ⟨ok_dbin _ _ _, so_dcmp mT38 dL_law_1195⟩
theorem gT38_1196 : sG l g D H0 mT 38 1196 (s_if 38 1199 1221 (fun a => a = 0)) := ⟨ok_if _ _ _ _, so_if_eq mT38 dL_law_1196 (by decide)⟩
theorem gT38_1199 : sG l g D H0 mT 38 1199 (s_load vRf 38 1201 4) := ⟨ok_load _ _ _ _, so_aload mT38 dL_law_1199⟩
theorem gT38_1201 : sG l g D H0 mT 38 1201 (s_const 38 1202 (.int 0)) := ⟨ok_const _ _ _, so_iconst mT38 dL_law_1201 (by decide)⟩
theorem gT38_1202 : sG l g D H0 mT 38 1202 (s_ald 38 1203 23) := ⟨ok_ald _ _ _, so_dald mT38 a23 dL_law_1202⟩
theorem gT38_1203 : sG l g D H0 mT 38 1203 (s_load vRf 38 1205 4) := ⟨ok_load _ _ _ _, so_aload mT38 dL_law_1203⟩
theorem gT38_1205 : sG l g D H0 mT 38 1205 (s_const 38 1206 (.int 0)) := ⟨ok_const _ _ _, so_iconst mT38 dL_law_1205 (by decide)⟩
theorem gT38_1206 : sG l g D H0 mT 38 1206 (s_ald 38 1207 23) := ⟨ok_ald _ _ _, so_dald mT38 a23 dL_law_1206⟩
theorem gT38_1207 : sG l g D H0 mT 38 1207 (s_dbin 38 1208 (fun a b => .int (Op.cmpValue (FP.dcmp a b) .l))) := ⟨ok_dbin _ _ _, so_dcmp mT38 dL_law_1207⟩
theorem gT38_1208 : sG l g D H0 mT 38 1208 (s_if 38 1211 1219 (fun a => a = 0)) := ⟨ok_if _ _ _ _, so_if_eq mT38 dL_law_1208 (by decide)⟩
theorem gT38_1211 : sG l g D H0 mT 38 1211 (s_load vD 38 1213 7) := ⟨ok_load _ _ _ _, so_dload mT38 dL_law_1211⟩
theorem gT38_1213 : sG l g D H0 mT 38 1213 (s_load vD 38 1215 7) := ⟨ok_load _ _ _ _, so_dload mT38 dL_law_1213⟩
theorem gT38_1215 : sG l g D H0 mT 38 1215 (s_dbin 38 1216 (fun a b => .int (Op.cmpValue (FP.dcmp a b) .l))) := ⟨ok_dbin _ _ _, so_dcmp mT38 dL_law_1215⟩
theorem gT38_1216 : sG l g D H0 mT 38 1216 (s_if 38 1221 1219 (fun a => a = 0)) := ⟨ok_if _ _ _ _, so_if_ne mT38 dL_law_1216 (by decide)⟩
theorem gT38_1219 : sG l g D H0 mT 38 1219 (s_const 38 1220 (.int 0)) := ⟨ok_const _ _ _, so_iconst mT38 dL_law_1219 (by decide)⟩
theorem gT38_1220 : sG l g D H0 mT 38 1220 (s_ret vZ) := ⟨ok_ret _, so_zret mT38 dL_law_1220⟩
theorem gT38_1221 : sG l g D H0 mT 38 1221 (s_goto 38 1454) := ⟨ok_goto _ _, so_goto mT38 dL_law_1221 (by decide)⟩
theorem gT38_1224 : sG l g D H0 mT 38 1224 (s_load vRf 38 1225 1) := ⟨ok_load _ _ _ _, so_aload_n mT38 dL_law_1224 rfl⟩
theorem gT38_1225 : sG l g D H0 mT 38 1225 (s_load vRf 38 1226 0) := ⟨ok_load _ _ _ _, so_aload_n mT38 dL_law_1225 rfl⟩
theorem gT38_1226 : sG l g D H0 mT 38 1226 (s_load vI 38 1228 5) := ⟨ok_load _ _ _ _, so_iload mT38 dL_law_1226⟩
theorem gT38_1228 : sG l g D H0 mT 38 1228 (s_const 38 1229 (.int 1)) := ⟨ok_const _ _ _, so_iconst mT38 dL_law_1228 (by decide)⟩
theorem gT38_1229 : sG l g D H0 mT 38 1229 (s_bin 38 1230 (fun a b => a + b)) := ⟨ok_bin _ _ _, so_iadd mT38 dL_law_1229⟩
theorem gT38_1230 : sG l g D H0 mT 38 1230 (s_ald 38 1231 27) := ⟨ok_ald _ _ _, so_iald mT38 a27 dL_law_1230⟩
theorem gT38_1231 : sG l g D H0 mT 38 1231 (s_load vRf 38 1232 0) := ⟨ok_load _ _ _ _, so_aload_n mT38 dL_law_1231 rfl⟩
theorem gT38_1232 : sG l g D H0 mT 38 1232 (s_load vI 38 1234 5) := ⟨ok_load _ _ _ _, so_iload mT38 dL_law_1232⟩
theorem gT38_1234 : sG l g D H0 mT 38 1234 (s_const 38 1235 (.int 2)) := ⟨ok_const _ _ _, so_iconst mT38 dL_law_1234 (by decide)⟩
theorem gT38_1235 : sG l g D H0 mT 38 1235 (s_bin 38 1236 (fun a b => a + b)) := ⟨ok_bin _ _ _, so_iadd mT38 dL_law_1235⟩
theorem gT38_1236 : sG l g D H0 mT 38 1236 (s_ald 38 1237 27) := ⟨ok_ald _ _ _, so_iald mT38 a27 dL_law_1236⟩
theorem gT38_1237 : sG l g D H0 mT 38 1237 (s_load vRf 38 1238 0) := ⟨ok_load _ _ _ _, so_aload_n mT38 dL_law_1237 rfl⟩
theorem gT38_1238 : sG l g D H0 mT 38 1238 (s_load vI 38 1240 5) := ⟨ok_load _ _ _ _, so_iload mT38 dL_law_1238⟩
theorem gT38_1240 : sG l g D H0 mT 38 1240 (s_const 38 1241 (.int 3)) := ⟨ok_const _ _ _, so_iconst mT38 dL_law_1240 (by decide)⟩
theorem gT38_1241 : sG l g D H0 mT 38 1241 (s_bin 38 1242 (fun a b => a + b)) := ⟨ok_bin _ _ _, so_iadd mT38 dL_law_1241⟩
theorem gT38_1242 : sG l g D H0 mT 38 1242 (s_ald 38 1243 27) := ⟨ok_ald _ _ _, so_iald mT38 a27 dL_law_1242⟩
theorem gT38_1243 : sG l g D H0 mT 38 1243 (s_load vRf 38 1244 3) := ⟨ok_load _ _ _ _, so_aload_n mT38 dL_law_1243 rfl⟩
theorem gT38_1244 : sG l g D H0 mT 38 1244 (s_callk 38 1247 55 [1, 0, 0, 0, 1] 6) := ⟨ok_callk _ _ _ _ _, sk_call (by decide) (so_callSH mT38 mo55 (by decide) dL_law_1244 q1151 q1152 q53)⟩
theorem gT38_1247 : sG l g D H0 mT 38 1247 (s_store vI 38 1249 6) := ⟨ok_store _ _ _ _, so_istore mT38 dL_law_1247⟩
theorem gT38_1249 : sG l g D H0 mT 38 1249 (s_load vRf 38 1250 2) := ⟨ok_load _ _ _ _, so_aload_n mT38 dL_law_1249 rfl⟩
theorem gT38_1250 : sG l g D H0 mT 38 1250 (s_load vRf 38 1251 0) := ⟨ok_load _ _ _ _, so_aload_n mT38 dL_law_1250 rfl⟩
theorem gT38_1251 : sG l g D H0 mT 38 1251 (s_load vI 38 1253 5) := ⟨ok_load _ _ _ _, so_iload mT38 dL_law_1251⟩
theorem gT38_1253 : sG l g D H0 mT 38 1253 (s_const 38 1254 (.int 1)) := ⟨ok_const _ _ _, so_iconst mT38 dL_law_1253 (by decide)⟩
theorem gT38_1254 : sG l g D H0 mT 38 1254 (s_bin 38 1255 (fun a b => a + b)) := ⟨ok_bin _ _ _, so_iadd mT38 dL_law_1254⟩
theorem gT38_1255 : sG l g D H0 mT 38 1255 (s_ald 38 1256 27) := ⟨ok_ald _ _ _, so_iald mT38 a27 dL_law_1255⟩
theorem gT38_1256 : sG l g D H0 mT 38 1256 (s_load vRf 38 1257 0) := ⟨ok_load _ _ _ _, so_aload_n mT38 dL_law_1256 rfl⟩
theorem gT38_1257 : sG l g D H0 mT 38 1257 (s_load vI 38 1259 5) := ⟨ok_load _ _ _ _, so_iload mT38 dL_law_1257⟩
theorem gT38_1259 : sG l g D H0 mT 38 1259 (s_const 38 1260 (.int 2)) := ⟨ok_const _ _ _, so_iconst mT38 dL_law_1259 (by decide)⟩
theorem gT38_1260 : sG l g D H0 mT 38 1260 (s_bin 38 1261 (fun a b => a + b)) := ⟨ok_bin _ _ _, so_iadd mT38 dL_law_1260⟩
theorem gT38_1261 : sG l g D H0 mT 38 1261 (s_ald 38 1262 27) := ⟨ok_ald _ _ _, so_iald mT38 a27 dL_law_1261⟩
theorem gT38_1262 : sG l g D H0 mT 38 1262 (s_load vRf 38 1263 0) := ⟨ok_load _ _ _ _, so_aload_n mT38 dL_law_1262 rfl⟩
theorem gT38_1263 : sG l g D H0 mT 38 1263 (s_load vI 38 1265 5) := ⟨ok_load _ _ _ _, so_iload mT38 dL_law_1263⟩
theorem gT38_1265 : sG l g D H0 mT 38 1265 (s_const 38 1266 (.int 3)) := ⟨ok_const _ _ _, so_iconst mT38 dL_law_1265 (by decide)⟩
theorem gT38_1266 : sG l g D H0 mT 38 1266 (s_bin 38 1267 (fun a b => a + b)) := ⟨ok_bin _ _ _, so_iadd mT38 dL_law_1266⟩
theorem gT38_1267 : sG l g D H0 mT 38 1267 (s_ald 38 1268 27) := ⟨ok_ald _ _ _, so_iald mT38 a27 dL_law_1267⟩
theorem gT38_1268 : sG l g D H0 mT 38 1268 (s_callvk 38 1271 169 3 [0, 0, 0] 4) := ⟨ok_callvk _ _ _ _ _ _, sk_callv (by decide) (so_callV mT38 mo169 (by decide) (t := 3) (C := "HyperVaneModel") (by decide) rfl rfl dL_law_1268 q1620 q1621 q1622 q66)⟩
theorem gT38_1271 : sG l g D H0 mT 38 1271 (s_store vI 38 1273 7) := ⟨ok_store _ _ _ _, so_istore mT38 dL_law_1271⟩
theorem gT38_1273 : sG l g D H0 mT 38 1273 (s_load vRf 38 1274 2) := ⟨ok_load _ _ _ _, so_aload_n mT38 dL_law_1273 rfl⟩
theorem gT38_1274 : sG l g D H0 mT 38 1274 (s_callvk 38 1277 138 3 [] 1) := ⟨ok_callvk _ _ _ _ _ _, sk_callv (by decide) (so_callV mT38 mo138 (by decide) (t := 3) (C := "HyperVaneModel") (by decide) rfl rfl dL_law_1274 q1236 q1237 q1238 q66)⟩
theorem gT38_1277 : sG l g D H0 mT 38 1277 (s_load vI 38 1279 6) := ⟨ok_load _ _ _ _, so_iload mT38 dL_law_1277⟩
theorem gT38_1279 : sG l g D H0 mT 38 1279 (s_icmp 38 1282 1284 (fun a b => a = b)) := ⟨ok_icmp _ _ _ _, so_icmp_eq mT38 dL_law_1279 (by decide)⟩
theorem gT38_1282 : sG l g D H0 mT 38 1282 (s_const 38 1283 (.int 0)) := ⟨ok_const _ _ _, so_iconst mT38 dL_law_1282 (by decide)⟩
theorem gT38_1283 : sG l g D H0 mT 38 1283 (s_ret vZ) := ⟨ok_ret _, so_zret mT38 dL_law_1283⟩
theorem gT38_1284 : sG l g D H0 mT 38 1284 (s_load vI 38 1286 6) := ⟨ok_load _ _ _ _, so_iload mT38 dL_law_1284⟩
theorem gT38_1286 : sG l g D H0 mT 38 1286 (s_if 38 1301 1289 (fun a => a = 0)) := ⟨ok_if _ _ _ _, so_if_ne mT38 dL_law_1286 (by decide)⟩
theorem gT38_1289 : sG l g D H0 mT 38 1289 (s_load vRf 38 1290 3) := ⟨ok_load _ _ _ _, so_aload_n mT38 dL_law_1289 rfl⟩
theorem gT38_1290 : sG l g D H0 mT 38 1290 (s_const 38 1291 (.int 0)) := ⟨ok_const _ _ _, so_iconst mT38 dL_law_1290 (by decide)⟩
theorem gT38_1291 : sG l g D H0 mT 38 1291 (s_ald 38 1292 22) := ⟨ok_ald _ _ _, so_lald mT38 a22 dL_law_1291⟩
theorem gT38_1292 : sG l g D H0 mT 38 1292 (s_load vI 38 1294 7) := ⟨ok_load _ _ _ _, so_iload mT38 dL_law_1292⟩
theorem gT38_1294 : sG l g D H0 mT 38 1294 (s_i2 38 1295 (fun a => .long a.toInt64)) := ⟨ok_i2 _ _ _, so_i2l mT38 dL_law_1294⟩
theorem gT38_1295 : sG l g D H0 mT 38 1295 (s_lbin 38 1296 (fun a b => .int (lg_cmp a b))) := ⟨ok_lbin _ _ _, so_lcmp mT38 dL_law_1295⟩
theorem gT38_1296 : sG l g D H0 mT 38 1296 (s_if 38 1299 1301 (fun a => a = 0)) := ⟨ok_if _ _ _ _, so_if_eq mT38 dL_law_1296 (by decide)⟩
theorem gT38_1299 : sG l g D H0 mT 38 1299 (s_const 38 1300 (.int 0)) := ⟨ok_const _ _ _, so_iconst mT38 dL_law_1299 (by decide)⟩
theorem gT38_1300 : sG l g D H0 mT 38 1300 (s_ret vZ) := ⟨ok_ret _, so_zret mT38 dL_law_1300⟩
theorem gT38_1301 : sG l g D H0 mT 38 1301 (s_goto 38 1454) := ⟨ok_goto _ _, so_goto mT38 dL_law_1301 (by decide)⟩
theorem gT38_1304 : sG l g D H0 mT 38 1304 (s_load vRf 38 1305 1) := ⟨ok_load _ _ _ _, so_aload_n mT38 dL_law_1304 rfl⟩
theorem gT38_1305 : sG l g D H0 mT 38 1305 (s_load vRf 38 1306 0) := ⟨ok_load _ _ _ _, so_aload_n mT38 dL_law_1305 rfl⟩
theorem gT38_1306 : sG l g D H0 mT 38 1306 (s_load vI 38 1308 5) := ⟨ok_load _ _ _ _, so_iload mT38 dL_law_1306⟩
theorem gT38_1308 : sG l g D H0 mT 38 1308 (s_const 38 1309 (.int 1)) := ⟨ok_const _ _ _, so_iconst mT38 dL_law_1308 (by decide)⟩
theorem gT38_1309 : sG l g D H0 mT 38 1309 (s_bin 38 1310 (fun a b => a + b)) := ⟨ok_bin _ _ _, so_iadd mT38 dL_law_1309⟩
theorem gT38_1310 : sG l g D H0 mT 38 1310 (s_ald 38 1311 27) := ⟨ok_ald _ _ _, so_iald mT38 a27 dL_law_1310⟩
theorem gT38_1311 : sG l g D H0 mT 38 1311 (s_load vRf 38 1312 0) := ⟨ok_load _ _ _ _, so_aload_n mT38 dL_law_1311 rfl⟩
theorem gT38_1312 : sG l g D H0 mT 38 1312 (s_load vI 38 1314 5) := ⟨ok_load _ _ _ _, so_iload mT38 dL_law_1312⟩
theorem gT38_1314 : sG l g D H0 mT 38 1314 (s_const 38 1315 (.int 2)) := ⟨ok_const _ _ _, so_iconst mT38 dL_law_1314 (by decide)⟩
theorem gT38_1315 : sG l g D H0 mT 38 1315 (s_bin 38 1316 (fun a b => a + b)) := ⟨ok_bin _ _ _, so_iadd mT38 dL_law_1315⟩
theorem gT38_1316 : sG l g D H0 mT 38 1316 (s_ald 38 1317 27) := ⟨ok_ald _ _ _, so_iald mT38 a27 dL_law_1316⟩
theorem gT38_1317 : sG l g D H0 mT 38 1317 (s_load vRf 38 1318 3) := ⟨ok_load _ _ _ _, so_aload_n mT38 dL_law_1317 rfl⟩
theorem gT38_1318 : sG l g D H0 mT 38 1318 (s_callk 38 1321 56 [1, 0, 0, 1] 5) := ⟨ok_callk _ _ _ _ _, sk_call (by decide) (so_callSH mT38 mo56 (by decide) dL_law_1318 q1158 q1159 q53)⟩
theorem gT38_1321 : sG l g D H0 mT 38 1321 (s_store vI 38 1323 6) := ⟨ok_store _ _ _ _, so_istore mT38 dL_law_1321⟩
theorem gT38_1323 : sG l g D H0 mT 38 1323 (s_load vRf 38 1324 2) := ⟨ok_load _ _ _ _, so_aload_n mT38 dL_law_1323 rfl⟩
theorem gT38_1324 : sG l g D H0 mT 38 1324 (s_load vRf 38 1325 0) := ⟨ok_load _ _ _ _, so_aload_n mT38 dL_law_1324 rfl⟩
theorem gT38_1325 : sG l g D H0 mT 38 1325 (s_load vI 38 1327 5) := ⟨ok_load _ _ _ _, so_iload mT38 dL_law_1325⟩
theorem gT38_1327 : sG l g D H0 mT 38 1327 (s_const 38 1328 (.int 1)) := ⟨ok_const _ _ _, so_iconst mT38 dL_law_1327 (by decide)⟩
theorem gT38_1328 : sG l g D H0 mT 38 1328 (s_bin 38 1329 (fun a b => a + b)) := ⟨ok_bin _ _ _, so_iadd mT38 dL_law_1328⟩
theorem gT38_1329 : sG l g D H0 mT 38 1329 (s_ald 38 1330 27) := ⟨ok_ald _ _ _, so_iald mT38 a27 dL_law_1329⟩
theorem gT38_1330 : sG l g D H0 mT 38 1330 (s_load vRf 38 1331 0) := ⟨ok_load _ _ _ _, so_aload_n mT38 dL_law_1330 rfl⟩
theorem gT38_1331 : sG l g D H0 mT 38 1331 (s_load vI 38 1333 5) := ⟨ok_load _ _ _ _, so_iload mT38 dL_law_1331⟩
theorem gT38_1333 : sG l g D H0 mT 38 1333 (s_const 38 1334 (.int 2)) := ⟨ok_const _ _ _, so_iconst mT38 dL_law_1333 (by decide)⟩
theorem gT38_1334 : sG l g D H0 mT 38 1334 (s_bin 38 1335 (fun a b => a + b)) := ⟨ok_bin _ _ _, so_iadd mT38 dL_law_1334⟩
theorem gT38_1335 : sG l g D H0 mT 38 1335 (s_ald 38 1336 27) := ⟨ok_ald _ _ _, so_iald mT38 a27 dL_law_1335⟩
theorem gT38_1336 : sG l g D H0 mT 38 1336 (s_callvk 38 1339 170 3 [0, 0] 3) := ⟨ok_callvk _ _ _ _ _ _, sk_callv (by decide) (so_callV mT38 mo170 (by decide) (t := 3) (C := "HyperVaneModel") (by decide) rfl rfl dL_law_1336 q1636 q1637 q1638 q66)⟩
theorem gT38_1339 : sG l g D H0 mT 38 1339 (s_store vI 38 1341 7) := ⟨ok_store _ _ _ _, so_istore mT38 dL_law_1339⟩
theorem gT38_1341 : sG l g D H0 mT 38 1341 (s_load vRf 38 1342 2) := ⟨ok_load _ _ _ _, so_aload_n mT38 dL_law_1341 rfl⟩
theorem gT38_1342 : sG l g D H0 mT 38 1342 (s_callvk 38 1345 138 3 [] 1) := ⟨ok_callvk _ _ _ _ _ _, sk_callv (by decide) (so_callV mT38 mo138 (by decide) (t := 3) (C := "HyperVaneModel") (by decide) rfl rfl dL_law_1342 q1236 q1237 q1238 q66)⟩
theorem gT38_1345 : sG l g D H0 mT 38 1345 (s_load vI 38 1347 6) := ⟨ok_load _ _ _ _, so_iload mT38 dL_law_1345⟩
theorem gT38_1347 : sG l g D H0 mT 38 1347 (s_icmp 38 1350 1352 (fun a b => a = b)) := ⟨ok_icmp _ _ _ _, so_icmp_eq mT38 dL_law_1347 (by decide)⟩
theorem gT38_1350 : sG l g D H0 mT 38 1350 (s_const 38 1351 (.int 0)) := ⟨ok_const _ _ _, so_iconst mT38 dL_law_1350 (by decide)⟩
theorem gT38_1351 : sG l g D H0 mT 38 1351 (s_ret vZ) := ⟨ok_ret _, so_zret mT38 dL_law_1351⟩
theorem gT38_1352 : sG l g D H0 mT 38 1352 (s_load vI 38 1354 6) := ⟨ok_load _ _ _ _, so_iload mT38 dL_law_1352⟩
theorem gT38_1354 : sG l g D H0 mT 38 1354 (s_if 38 1369 1357 (fun a => a = 0)) := ⟨ok_if _ _ _ _, so_if_ne mT38 dL_law_1354 (by decide)⟩
theorem gT38_1357 : sG l g D H0 mT 38 1357 (s_load vRf 38 1358 3) := ⟨ok_load _ _ _ _, so_aload_n mT38 dL_law_1357 rfl⟩
theorem gT38_1358 : sG l g D H0 mT 38 1358 (s_const 38 1359 (.int 0)) := ⟨ok_const _ _ _, so_iconst mT38 dL_law_1358 (by decide)⟩
theorem gT38_1359 : sG l g D H0 mT 38 1359 (s_ald 38 1360 22) := ⟨ok_ald _ _ _, so_lald mT38 a22 dL_law_1359⟩
theorem gT38_1360 : sG l g D H0 mT 38 1360 (s_load vI 38 1362 7) := ⟨ok_load _ _ _ _, so_iload mT38 dL_law_1360⟩
theorem gT38_1362 : sG l g D H0 mT 38 1362 (s_i2 38 1363 (fun a => .long a.toInt64)) := ⟨ok_i2 _ _ _, so_i2l mT38 dL_law_1362⟩
theorem gT38_1363 : sG l g D H0 mT 38 1363 (s_lbin 38 1364 (fun a b => .int (lg_cmp a b))) := ⟨ok_lbin _ _ _, so_lcmp mT38 dL_law_1363⟩
theorem gT38_1364 : sG l g D H0 mT 38 1364 (s_if 38 1367 1369 (fun a => a = 0)) := ⟨ok_if _ _ _ _, so_if_eq mT38 dL_law_1364 (by decide)⟩
theorem gT38_1367 : sG l g D H0 mT 38 1367 (s_const 38 1368 (.int 0)) := ⟨ok_const _ _ _, so_iconst mT38 dL_law_1367 (by decide)⟩
theorem gT38_1368 : sG l g D H0 mT 38 1368 (s_ret vZ) := ⟨ok_ret _, so_zret mT38 dL_law_1368⟩
theorem gT38_1369 : sG l g D H0 mT 38 1369 (s_goto 38 1454) := ⟨ok_goto _ _, so_goto mT38 dL_law_1369 (by decide)⟩
theorem gT38_1372 : sG l g D H0 mT 38 1372 (s_load vRf 38 1373 1) := ⟨ok_load _ _ _ _, so_aload_n mT38 dL_law_1372 rfl⟩
theorem gT38_1373 : sG l g D H0 mT 38 1373 (s_load vRf 38 1374 0) := ⟨ok_load _ _ _ _, so_aload_n mT38 dL_law_1373 rfl⟩
theorem gT38_1374 : sG l g D H0 mT 38 1374 (s_load vI 38 1376 5) := ⟨ok_load _ _ _ _, so_iload mT38 dL_law_1374⟩
theorem gT38_1376 : sG l g D H0 mT 38 1376 (s_const 38 1377 (.int 1)) := ⟨ok_const _ _ _, so_iconst mT38 dL_law_1376 (by decide)⟩
theorem gT38_1377 : sG l g D H0 mT 38 1377 (s_bin 38 1378 (fun a b => a + b)) := ⟨ok_bin _ _ _, so_iadd mT38 dL_law_1377⟩
theorem gT38_1378 : sG l g D H0 mT 38 1378 (s_ald 38 1379 27) := ⟨ok_ald _ _ _, so_iald mT38 a27 dL_law_1378⟩
theorem gT38_1379 : sG l g D H0 mT 38 1379 (s_load vRf 38 1380 0) := ⟨ok_load _ _ _ _, so_aload_n mT38 dL_law_1379 rfl⟩
theorem gT38_1380 : sG l g D H0 mT 38 1380 (s_load vI 38 1382 5) := ⟨ok_load _ _ _ _, so_iload mT38 dL_law_1380⟩
theorem gT38_1382 : sG l g D H0 mT 38 1382 (s_const 38 1383 (.int 2)) := ⟨ok_const _ _ _, so_iconst mT38 dL_law_1382 (by decide)⟩
theorem gT38_1383 : sG l g D H0 mT 38 1383 (s_bin 38 1384 (fun a b => a + b)) := ⟨ok_bin _ _ _, so_iadd mT38 dL_law_1383⟩
theorem gT38_1384 : sG l g D H0 mT 38 1384 (s_ald 38 1385 27) := ⟨ok_ald _ _ _, so_iald mT38 a27 dL_law_1384⟩
theorem gT38_1385 : sG l g D H0 mT 38 1385 (s_load vRf 38 1386 3) := ⟨ok_load _ _ _ _, so_aload_n mT38 dL_law_1385 rfl⟩
theorem gT38_1386 : sG l g D H0 mT 38 1386 (s_callk 38 1389 57 [1, 0, 0, 1] 5) := ⟨ok_callk _ _ _ _ _, sk_call (by decide) (so_callSH mT38 mo57 (by decide) dL_law_1386 q1165 q1166 q53)⟩
theorem gT38_1389 : sG l g D H0 mT 38 1389 (s_store vI 38 1391 6) := ⟨ok_store _ _ _ _, so_istore mT38 dL_law_1389⟩
theorem gT38_1391 : sG l g D H0 mT 38 1391 (s_load vRf 38 1392 2) := ⟨ok_load _ _ _ _, so_aload_n mT38 dL_law_1391 rfl⟩
theorem gT38_1392 : sG l g D H0 mT 38 1392 (s_load vRf 38 1393 0) := ⟨ok_load _ _ _ _, so_aload_n mT38 dL_law_1392 rfl⟩
theorem gT38_1393 : sG l g D H0 mT 38 1393 (s_load vI 38 1395 5) := ⟨ok_load _ _ _ _, so_iload mT38 dL_law_1393⟩
theorem gT38_1395 : sG l g D H0 mT 38 1395 (s_const 38 1396 (.int 1)) := ⟨ok_const _ _ _, so_iconst mT38 dL_law_1395 (by decide)⟩
theorem gT38_1396 : sG l g D H0 mT 38 1396 (s_bin 38 1397 (fun a b => a + b)) := ⟨ok_bin _ _ _, so_iadd mT38 dL_law_1396⟩
theorem gT38_1397 : sG l g D H0 mT 38 1397 (s_ald 38 1398 27) := ⟨ok_ald _ _ _, so_iald mT38 a27 dL_law_1397⟩
theorem gT38_1398 : sG l g D H0 mT 38 1398 (s_load vRf 38 1399 0) := ⟨ok_load _ _ _ _, so_aload_n mT38 dL_law_1398 rfl⟩
theorem gT38_1399 : sG l g D H0 mT 38 1399 (s_load vI 38 1401 5) := ⟨ok_load _ _ _ _, so_iload mT38 dL_law_1399⟩
theorem gT38_1401 : sG l g D H0 mT 38 1401 (s_const 38 1402 (.int 2)) := ⟨ok_const _ _ _, so_iconst mT38 dL_law_1401 (by decide)⟩
theorem gT38_1402 : sG l g D H0 mT 38 1402 (s_bin 38 1403 (fun a b => a + b)) := ⟨ok_bin _ _ _, so_iadd mT38 dL_law_1402⟩
theorem gT38_1403 : sG l g D H0 mT 38 1403 (s_ald 38 1404 27) := ⟨ok_ald _ _ _, so_iald mT38 a27 dL_law_1403⟩
theorem gT38_1404 : sG l g D H0 mT 38 1404 (s_callvk 38 1407 172 3 [0, 0] 3) := ⟨ok_callvk _ _ _ _ _ _, sk_callv (by decide) (so_callV mT38 mo172 (by decide) (t := 3) (C := "HyperVaneModel") (by decide) rfl rfl dL_law_1404 q1673 q1674 q1675 q66)⟩
theorem gT38_1407 : sG l g D H0 mT 38 1407 (s_store vI 38 1409 7) := ⟨ok_store _ _ _ _, so_istore mT38 dL_law_1407⟩
theorem gT38_1409 : sG l g D H0 mT 38 1409 (s_load vRf 38 1410 2) := ⟨ok_load _ _ _ _, so_aload_n mT38 dL_law_1409 rfl⟩
theorem gT38_1410 : sG l g D H0 mT 38 1410 (s_callvk 38 1413 138 3 [] 1) := ⟨ok_callvk _ _ _ _ _ _, sk_callv (by decide) (so_callV mT38 mo138 (by decide) (t := 3) (C := "HyperVaneModel") (by decide) rfl rfl dL_law_1410 q1236 q1237 q1238 q66)⟩
theorem gT38_1413 : sG l g D H0 mT 38 1413 (s_load vI 38 1415 6) := ⟨ok_load _ _ _ _, so_iload mT38 dL_law_1413⟩
theorem gT38_1415 : sG l g D H0 mT 38 1415 (s_icmp 38 1418 1420 (fun a b => a = b)) := ⟨ok_icmp _ _ _ _, so_icmp_eq mT38 dL_law_1415 (by decide)⟩
theorem gT38_1418 : sG l g D H0 mT 38 1418 (s_const 38 1419 (.int 0)) := ⟨ok_const _ _ _, so_iconst mT38 dL_law_1418 (by decide)⟩
theorem gT38_1419 : sG l g D H0 mT 38 1419 (s_ret vZ) := ⟨ok_ret _, so_zret mT38 dL_law_1419⟩
theorem gT38_1420 : sG l g D H0 mT 38 1420 (s_load vI 38 1422 6) := ⟨ok_load _ _ _ _, so_iload mT38 dL_law_1420⟩
theorem gT38_1422 : sG l g D H0 mT 38 1422 (s_if 38 1437 1425 (fun a => a = 0)) := ⟨ok_if _ _ _ _, so_if_ne mT38 dL_law_1422 (by decide)⟩
theorem gT38_1425 : sG l g D H0 mT 38 1425 (s_load vRf 38 1426 3) := ⟨ok_load _ _ _ _, so_aload_n mT38 dL_law_1425 rfl⟩
theorem gT38_1426 : sG l g D H0 mT 38 1426 (s_const 38 1427 (.int 0)) := ⟨ok_const _ _ _, so_iconst mT38 dL_law_1426 (by decide)⟩
theorem gT38_1427 : sG l g D H0 mT 38 1427 (s_ald 38 1428 22) := ⟨ok_ald _ _ _, so_lald mT38 a22 dL_law_1427⟩
theorem gT38_1428 : sG l g D H0 mT 38 1428 (s_load vI 38 1430 7) := ⟨ok_load _ _ _ _, so_iload mT38 dL_law_1428⟩
theorem gT38_1430 : sG l g D H0 mT 38 1430 (s_i2 38 1431 (fun a => .long a.toInt64)) := ⟨ok_i2 _ _ _, so_i2l mT38 dL_law_1430⟩
theorem gT38_1431 : sG l g D H0 mT 38 1431 (s_lbin 38 1432 (fun a b => .int (lg_cmp a b))) := ⟨ok_lbin _ _ _, so_lcmp mT38 dL_law_1431⟩
theorem gT38_1432 : sG l g D H0 mT 38 1432 (s_if 38 1435 1437 (fun a => a = 0)) := ⟨ok_if _ _ _ _, so_if_eq mT38 dL_law_1432 (by decide)⟩
theorem gT38_1435 : sG l g D H0 mT 38 1435 (s_const 38 1436 (.int 0)) := ⟨ok_const _ _ _, so_iconst mT38 dL_law_1435 (by decide)⟩
theorem gT38_1436 : sG l g D H0 mT 38 1436 (s_ret vZ) := ⟨ok_ret _, so_zret mT38 dL_law_1436⟩
theorem gT38_1437 : sG l g D H0 mT 38 1437 (s_goto 38 1454) := ⟨ok_goto _ _, so_goto mT38 dL_law_1437 (by decide)⟩
theorem gT38_1440 : sG l g D H0 mT 38 1440 (s_load vRf 38 1441 1) := ⟨ok_load _ _ _ _, so_aload_n mT38 dL_law_1440 rfl⟩
theorem gT38_1441 : sG l g D H0 mT 38 1441 (s_callvk 38 1444 59 0 [] 6) := ⟨ok_callvk _ _ _ _ _ _, sk_callv (by decide) (so_callV mT38 mo59 (by decide) (t := 0) (C := "HyperVane") (by decide) rfl rfl dL_law_1441 q293 q294 q295 q54)⟩
theorem gT38_1444 : sG l g D H0 mT 38 1444 (s_load vRf 38 1445 2) := ⟨ok_load _ _ _ _, so_aload_n mT38 dL_law_1444 rfl⟩
theorem gT38_1445 : sG l g D H0 mT 38 1445 (s_callvk 38 1448 174 3 [] 3) := ⟨ok_callvk _ _ _ _ _ _, sk_callv (by decide) (so_callV mT38 mo174 (by decide) (t := 3) (C := "HyperVaneModel") (by decide) rfl rfl dL_law_1445 q1681 q1682 q1683 q66)⟩
theorem gT38_1448 : sG l g D H0 mT 38 1448 (s_lbin 38 1449 (fun a b => .int (lg_cmp a b))) := ⟨ok_lbin _ _ _, so_lcmp mT38 dL_law_1448⟩
theorem gT38_1449 : sG l g D H0 mT 38 1449 (s_if 38 1452 1454 (fun a => a = 0)) := ⟨ok_if _ _ _ _, so_if_eq mT38 dL_law_1449 (by decide)⟩
theorem gT38_1452 : sG l g D H0 mT 38 1452 (s_const 38 1453 (.int 0)) := ⟨ok_const _ _ _, so_iconst mT38 dL_law_1452 (by decide)⟩
theorem gT38_1453 : sG l g D H0 mT 38 1453 (s_ret vZ) := ⟨ok_ret _, so_zret mT38 dL_law_1453⟩
theorem gT38_1454 : sG l g D H0 mT 38 1454 (s_iinc 38 1457 5 4) := ⟨ok_iinc _ _ _ _, so_iinc mT38 dL_law_1454 (by decide)⟩
theorem gT38_1457 : sG l g D H0 mT 38 1457 (s_goto 38 28) := ⟨ok_goto _ _, so_goto mT38 dL_law_1457 (by decide)⟩
theorem gT38_1460 : sG l g D H0 mT 38 1460 (s_const 38 1461 (.int 1)) := ⟨ok_const _ _ _, so_iconst mT38 dL_law_1460 (by decide)⟩
theorem gT38_1461 : sG l g D H0 mT 38 1461 (s_ret vZ) := ⟨ok_ret _, so_zret mT38 dL_law_1461⟩
theorem gT38 (pc : Nat) : sG l g D H0 mT 38 pc (tT38 g pc) := sG_cond (sG_cond (sG_cond (sG_cond (sG_cond (sG_cond (sG_cond (sG_cond (sG_cond (sG_leaf gT38_0) (sG_cond (sG_leaf gT38_3) (sG_leaf gT38_4))) (sG_cond (sG_leaf gT38_7) (sG_cond (sG_leaf gT38_8) (sG_leaf gT38_11)))) (sG_cond (sG_cond (sG_leaf gT38_12) (sG_cond (sG_leaf gT38_15) (sG_leaf gT38_16))) (sG_cond (sG_cond (sG_leaf gT38_17) (sG_leaf gT38_19)) (sG_cond (sG_leaf gT38_20) (sG_leaf gT38_21))))) (sG_cond (sG_cond (sG_cond (sG_leaf gT38_23) (sG_cond (sG_leaf gT38_25) (sG_leaf gT38_26))) (sG_cond (sG_cond (sG_leaf gT38_28) (sG_leaf gT38_30)) (sG_cond (sG_leaf gT38_31) (sG_leaf gT38_32)))) (sG_cond (sG_cond (sG_leaf gT38_33) (sG_cond (sG_leaf gT38_34) (sG_leaf gT38_37))) (sG_cond (sG_cond (sG_leaf gT38_38) (sG_leaf gT38_40)) (sG_cond (sG_leaf gT38_41) (sG_leaf gT38_43)))))) (sG_cond (sG_cond (sG_cond (sG_cond (sG_leaf gT38_44) (sG_cond (sG_leaf gT38_140) (sG_leaf gT38_141))) (sG_cond (sG_cond (sG_leaf gT38_142) (sG_leaf gT38_144)) (sG_cond (sG_leaf gT38_145) (sG_leaf gT38_146)))) (sG_cond (sG_cond (sG_leaf gT38_147) (sG_cond (sG_leaf gT38_148) (sG_leaf gT38_151))) (sG_cond (sG_cond (sG_leaf gT38_153) (sG_leaf gT38_154)) (sG_cond (sG_leaf gT38_155) (sG_leaf gT38_157))))) (sG_cond (sG_cond (sG_cond (sG_leaf gT38_158) (sG_cond (sG_leaf gT38_159) (sG_leaf gT38_160))) (sG_cond (sG_cond (sG_leaf gT38_163) (sG_leaf gT38_165)) (sG_cond (sG_leaf gT38_166) (sG_leaf gT38_169)))) (sG_cond (sG_cond (sG_leaf gT38_171) (sG_cond (sG_leaf gT38_174) (sG_leaf gT38_175))) (sG_cond (sG_cond (sG_leaf gT38_176) (sG_leaf gT38_178)) (sG_cond (sG_leaf gT38_181) (sG_leaf gT38_182))))))) (sG_cond (sG_cond (sG_cond (sG_cond (sG_cond (sG_leaf gT38_183) (sG_cond (sG_leaf gT38_184) (sG_leaf gT38_186))) (sG_cond (sG_leaf gT38_187) (sG_cond (sG_leaf gT38_188) (sG_leaf gT38_191)))) (sG_cond (sG_cond (sG_leaf gT38_192) (sG_cond (sG_leaf gT38_193) (sG_leaf gT38_196))) (sG_cond (sG_cond (sG_leaf gT38_197) (sG_leaf gT38_198)) (sG_cond (sG_leaf gT38_200) (sG_leaf gT38_201))))) (sG_cond (sG_cond (sG_cond (sG_leaf gT38_202) (sG_cond (sG_leaf gT38_203) (sG_leaf gT38_204))) (sG_cond (sG_cond (sG_leaf gT38_206) (sG_leaf gT38_207)) (sG_cond (sG_leaf gT38_208) (sG_leaf gT38_209)))) (sG_cond (sG_cond (sG_leaf gT38_210) (sG_cond (sG_leaf gT38_212) (sG_leaf gT38_213))) (sG_cond (sG_cond (sG_leaf gT38_214) (sG_leaf gT38_215)) (sG_cond (sG_leaf gT38_216) (sG_leaf gT38_219)))))) (sG_cond (sG_cond (sG_cond (sG_cond (sG_leaf gT38_221) (sG_cond (sG_leaf gT38_222) (sG_leaf gT38_223))) (sG_cond (sG_cond (sG_leaf gT38_225) (sG_leaf gT38_226)) (sG_cond (sG_leaf gT38_227) (sG_leaf gT38_228)))) (sG_cond (sG_cond (sG_leaf gT38_229) (sG_cond (sG_leaf gT38_231) (sG_leaf gT38_232))) (sG_cond (sG_cond (sG_leaf gT38_233) (sG_leaf gT38_234)) (sG_cond (sG_leaf gT38_235) (sG_leaf gT38_237))))) (sG_cond (sG_cond (sG_cond (sG_leaf gT38_238) (sG_cond (sG_leaf gT38_239) (sG_leaf gT38_240))) (sG_cond (sG_cond (sG_leaf gT38_243) (sG_leaf gT38_245)) (sG_cond (sG_leaf gT38_246) (sG_leaf gT38_249)))) (sG_cond (sG_cond (sG_leaf gT38_251) (sG_cond (sG_leaf gT38_254) (sG_leaf gT38_255))) (sG_cond (sG_cond (sG_leaf gT38_256) (sG_leaf gT38_258)) (sG_cond (sG_leaf gT38_261) (sG_leaf gT38_262)))))))) (sG_cond (sG_cond (sG_cond (sG_cond (sG_cond (sG_cond (sG_leaf gT38_263) (sG_cond (sG_leaf gT38_264) (sG_leaf gT38_266))) (sG_cond (sG_leaf gT38_267) (sG_cond (sG_leaf gT38_268) (sG_leaf gT38_271)))) (sG_cond (sG_cond (sG_leaf gT38_272) (sG_cond (sG_leaf gT38_273) (sG_leaf gT38_276))) (sG_cond (sG_cond (sG_leaf gT38_277) (sG_leaf gT38_278)) (sG_cond (sG_leaf gT38_280) (sG_leaf gT38_281))))) (sG_cond (sG_cond (sG_cond (sG_leaf gT38_282) (sG_cond (sG_leaf gT38_283) (sG_leaf gT38_284))) (sG_cond (sG_cond (sG_leaf gT38_286) (sG_leaf gT38_287)) (sG_cond (sG_leaf gT38_288) (sG_leaf gT38_289)))) (sG_cond (sG_cond (sG_leaf gT38_290) (sG_cond (sG_leaf gT38_293) (sG_leaf gT38_295))) (sG_cond (sG_cond (sG_leaf gT38_296) (sG_leaf gT38_297)) (sG_cond (sG_leaf gT38_299) (sG_leaf gT38_300)))))) (sG_cond (sG_cond (sG_cond (sG_cond (sG_leaf gT38_301) (sG_cond (sG_leaf gT38_302) (sG_leaf gT38_303))) (sG_cond (sG_cond (sG_leaf gT38_305) (sG_leaf gT38_306)) (sG_cond (sG_leaf gT38_307) (sG_leaf gT38_308)))) (sG_cond (sG_cond (sG_leaf gT38_311) (sG_cond (sG_leaf gT38_313) (sG_leaf gT38_314))) (sG_cond (sG_cond (sG_leaf gT38_317) (sG_leaf gT38_319)) (sG_cond (sG_leaf gT38_322) (sG_leaf gT38_323))))) (sG_cond (sG_cond (sG_cond (sG_leaf gT38_324) (sG_cond (sG_leaf gT38_326) (sG_leaf gT38_329))) (sG_cond (sG_cond (sG_leaf gT38_330) (sG_leaf gT38_331)) (sG_cond (sG_leaf gT38_332) (sG_leaf gT38_334)))) (sG_cond (sG_cond (sG_leaf gT38_335) (sG_cond (sG_leaf gT38_336) (sG_leaf gT38_339))) (sG_cond (sG_cond (sG_leaf gT38_340) (sG_leaf gT38_341)) (sG_cond (sG_leaf gT38_344) (sG_leaf gT38_345))))))) (sG_cond (sG_cond (sG_cond (sG_cond (sG_cond (sG_leaf gT38_346) (sG_cond (sG_leaf gT38_348) (sG_leaf gT38_349))) (sG_cond (sG_cond (sG_leaf gT38_350) (sG_leaf gT38_351)) (sG_cond (sG_leaf gT38_352) (sG_leaf gT38_354)))) (sG_cond (sG_cond (sG_leaf gT38_355) (sG_cond (sG_leaf gT38_356) (sG_leaf gT38_357))) (sG_cond (sG_cond (sG_leaf gT38_360) (sG_leaf gT38_361)) (sG_cond (sG_leaf gT38_364) (sG_leaf gT38_365))))) (sG_cond (sG_cond (sG_cond (sG_leaf gT38_366) (sG_cond (sG_leaf gT38_369) (sG_leaf gT38_371))) (sG_cond (sG_cond (sG_leaf gT38_372) (sG_leaf gT38_373)) (sG_cond (sG_leaf gT38_375) (sG_leaf gT38_376)))) (sG_cond (sG_cond (sG_leaf gT38_377) (sG_cond (sG_leaf gT38_378) (sG_leaf gT38_379))) (sG_cond (sG_cond (sG_leaf gT38_381) (sG_leaf gT38_382)) (sG_cond (sG_leaf gT38_383) (sG_leaf gT38_384)))))) (sG_cond (sG_cond (sG_cond (sG_cond (sG_leaf gT38_387) (sG_cond (sG_leaf gT38_388) (sG_leaf gT38_391))) (sG_cond (sG_cond (sG_leaf gT38_392) (sG_leaf gT38_395)) (sG_cond (sG_leaf gT38_397) (sG_leaf gT38_398)))) (sG_cond (sG_cond (sG_leaf gT38_401) (sG_cond (sG_leaf gT38_403) (sG_leaf gT38_406))) (sG_cond (sG_cond (sG_leaf gT38_407) (sG_leaf gT38_408)) (sG_cond (sG_leaf gT38_410) (sG_leaf gT38_413))))) (sG_cond (sG_cond (sG_cond (sG_leaf gT38_414) (sG_cond (sG_leaf gT38_415) (sG_leaf gT38_416))) (sG_cond (sG_cond (sG_leaf gT38_418) (sG_leaf gT38_421)) (sG_cond (sG_leaf gT38_422) (sG_leaf gT38_425)))) (sG_cond (sG_cond (sG_leaf gT38_426) (sG_cond (sG_leaf gT38_427) (sG_leaf gT38_430))) (sG_cond (sG_cond (sG_leaf gT38_431) (sG_leaf gT38_432)) (sG_cond (sG_leaf gT38_435) (sG_leaf gT38_436))))))))) (sG_cond (sG_cond (sG_cond (sG_cond (sG_cond (sG_cond (sG_cond (sG_leaf gT38_437) (sG_cond (sG_leaf gT38_439) (sG_leaf gT38_440))) (sG_cond (sG_leaf gT38_441) (sG_cond (sG_leaf gT38_442) (sG_leaf gT38_443)))) (sG_cond (sG_cond (sG_leaf gT38_446) (sG_cond (sG_leaf gT38_448) (sG_leaf gT38_449))) (sG_cond (sG_cond (sG_leaf gT38_450) (sG_leaf gT38_452)) (sG_cond (sG_leaf gT38_453) (sG_leaf gT38_454))))) (sG_cond (sG_cond (sG_cond (sG_leaf gT38_455) (sG_cond (sG_leaf gT38_458) (sG_leaf gT38_460))) (sG_cond (sG_cond (sG_leaf gT38_461) (sG_leaf gT38_464)) (sG_cond (sG_leaf gT38_466) (sG_leaf gT38_469)))) (sG_cond (sG_cond (sG_leaf gT38_470) (sG_cond (sG_leaf gT38_471) (sG_leaf gT38_473))) (sG_cond (sG_cond (sG_leaf gT38_476) (sG_leaf gT38_477)) (sG_cond (sG_leaf gT38_478) (sG_leaf gT38_479)))))) (sG_cond (sG_cond (sG_cond (sG_cond (sG_leaf gT38_481) (sG_cond (sG_leaf gT38_482) (sG_leaf gT38_483))) (sG_cond (sG_cond (sG_leaf gT38_486) (sG_leaf gT38_487)) (sG_cond (sG_leaf gT38_488) (sG_leaf gT38_491)))) (sG_cond (sG_cond (sG_leaf gT38_492) (sG_cond (sG_leaf gT38_493) (sG_leaf gT38_495))) (sG_cond (sG_cond (sG_leaf gT38_496) (sG_leaf gT38_497)) (sG_cond (sG_leaf gT38_498) (sG_leaf gT38_499))))) (sG_cond (sG_cond (sG_cond (sG_leaf gT38_501) (sG_cond (sG_leaf gT38_502) (sG_leaf gT38_503))) (sG_cond (sG_cond (sG_leaf gT38_504) (sG_leaf gT38_505)) (sG_cond (sG_leaf gT38_508) (sG_leaf gT38_510)))) (sG_cond (sG_cond (sG_leaf gT38_511) (sG_cond (sG_leaf gT38_512) (sG_leaf gT38_514))) (sG_cond (sG_cond (sG_leaf gT38_515) (sG_leaf gT38_516)) (sG_cond (sG_leaf gT38_517) (sG_leaf gT38_518))))))) (sG_cond (sG_cond (sG_cond (sG_cond (sG_cond (sG_leaf gT38_520) (sG_cond (sG_leaf gT38_521) (sG_leaf gT38_522))) (sG_cond (sG_cond (sG_leaf gT38_523) (sG_leaf gT38_526)) (sG_cond (sG_leaf gT38_528) (sG_leaf gT38_529)))) (sG_cond (sG_cond (sG_leaf gT38_532) (sG_cond (sG_leaf gT38_534) (sG_leaf gT38_537))) (sG_cond (sG_cond (sG_leaf gT38_538) (sG_leaf gT38_539)) (sG_cond (sG_leaf gT38_541) (sG_leaf gT38_544))))) (sG_cond (sG_cond (sG_cond (sG_leaf gT38_545) (sG_cond (sG_leaf gT38_546) (sG_leaf gT38_547))) (sG_cond (sG_cond (sG_leaf gT38_549) (sG_leaf gT38_550)) (sG_cond (sG_leaf gT38_551) (sG_leaf gT38_554)))) (sG_cond (sG_cond (sG_leaf gT38_555) (sG_cond (sG_leaf gT38_556) (sG_leaf gT38_559))) (sG_cond (sG_cond (sG_leaf gT38_560) (sG_leaf gT38_561)) (sG_cond (sG_leaf gT38_563) (sG_leaf gT38_564)))))) (sG_cond (sG_cond (sG_cond (sG_cond (sG_leaf gT38_565) (sG_cond (sG_leaf gT38_566) (sG_leaf gT38_567))) (sG_cond (sG_cond (sG_leaf gT38_569) (sG_leaf gT38_570)) (sG_cond (sG_leaf gT38_571) (sG_leaf gT38_572)))) (sG_cond (sG_cond (sG_leaf gT38_573) (sG_cond (sG_leaf gT38_576) (sG_leaf gT38_578))) (sG_cond (sG_cond (sG_leaf gT38_579) (sG_leaf gT38_580)) (sG_cond (sG_leaf gT38_582) (sG_leaf gT38_583))))) (sG_cond (sG_cond (sG_cond (sG_leaf gT38_584) (sG_cond (sG_leaf gT38_585) (sG_leaf gT38_586))) (sG_cond (sG_cond (sG_leaf gT38_588) (sG_leaf gT38_589)) (sG_cond (sG_leaf gT38_590) (sG_leaf gT38_591)))) (sG_cond (sG_cond (sG_leaf gT38_594) (sG_cond (sG_leaf gT38_596) (sG_leaf gT38_597))) (sG_cond (sG_cond (sG_leaf gT38_600) (sG_leaf gT38_602)) (sG_cond (sG_leaf gT38_605) (sG_leaf gT38_606)))))))) (sG_cond (sG_cond (sG_cond (sG_cond (sG_cond (sG_cond (sG_leaf gT38_607) (sG_cond (sG_leaf gT38_609) (sG_leaf gT38_612))) (sG_cond (sG_leaf gT38_613) (sG_cond (sG_leaf gT38_614) (sG_leaf gT38_615)))) (sG_cond (sG_cond (sG_leaf gT38_617) (sG_cond (sG_leaf gT38_618) (sG_leaf gT38_619))) (sG_cond (sG_cond (sG_leaf gT38_622) (sG_leaf gT38_623)) (sG_cond (sG_leaf gT38_624) (sG_leaf gT38_627))))) (sG_cond (sG_cond (sG_cond (sG_leaf gT38_628) (sG_cond (sG_leaf gT38_629) (sG_leaf gT38_631))) (sG_cond (sG_cond (sG_leaf gT38_632) (sG_leaf gT38_633)) (sG_cond (sG_leaf gT38_634) (sG_leaf gT38_635)))) (sG_cond (sG_cond (sG_leaf gT38_638) (sG_cond (sG_leaf gT38_640) (sG_leaf gT38_641))) (sG_cond (sG_cond (sG_leaf gT38_642) (sG_leaf gT38_644)) (sG_cond (sG_leaf gT38_645) (sG_leaf gT38_646)))))) (sG_cond (sG_cond (sG_cond (sG_cond (sG_leaf gT38_647) (sG_cond (sG_leaf gT38_650) (sG_leaf gT38_652))) (sG_cond (sG_cond (sG_leaf gT38_653) (sG_leaf gT38_656)) (sG_cond (sG_leaf gT38_658) (sG_leaf gT38_661)))) (sG_cond (sG_cond (sG_leaf gT38_662) (sG_cond (sG_leaf gT38_663) (sG_leaf gT38_665))) (sG_cond (sG_cond (sG_leaf gT38_668) (sG_leaf gT38_669)) (sG_cond (sG_leaf gT38_670) (sG_leaf gT38_671))))) (sG_cond (sG_cond (sG_cond (sG_leaf gT38_673) (sG_cond (sG_leaf gT38_674) (sG_leaf gT38_675))) (sG_cond (sG_cond (sG_leaf gT38_678) (sG_leaf gT38_679)) (sG_cond (sG_leaf gT38_680) (sG_leaf gT38_683)))) (sG_cond (sG_cond (sG_leaf gT38_684) (sG_cond (sG_leaf gT38_685) (sG_leaf gT38_687))) (sG_cond (sG_cond (sG_leaf gT38_688) (sG_leaf gT38_689)) (sG_cond (sG_leaf gT38_690) (sG_leaf gT38_691))))))) (sG_cond (sG_cond (sG_cond (sG_cond (sG_cond (sG_leaf gT38_694) (sG_cond (sG_leaf gT38_696) (sG_leaf gT38_697))) (sG_cond (sG_cond (sG_leaf gT38_698) (sG_leaf gT38_700)) (sG_cond (sG_leaf gT38_701) (sG_leaf gT38_702)))) (sG_cond (sG_cond (sG_leaf gT38_703) (sG_cond (sG_leaf gT38_706) (sG_leaf gT38_708))) (sG_cond (sG_cond (sG_leaf gT38_709) (sG_leaf gT38_712)) (sG_cond (sG_leaf gT38_714) (sG_leaf gT38_717))))) (sG_cond (sG_cond (sG_cond (sG_leaf gT38_718) (sG_cond (sG_leaf gT38_719) (sG_leaf gT38_721))) (sG_cond (sG_cond (sG_leaf gT38_724) (sG_leaf gT38_725)) (sG_cond (sG_leaf gT38_726) (sG_leaf gT38_727)))) (sG_cond (sG_cond (sG_leaf gT38_729) (sG_cond (sG_leaf gT38_730) (sG_leaf gT38_731))) (sG_cond (sG_cond (sG_leaf gT38_734) (sG_leaf gT38_735)) (sG_cond (sG_leaf gT38_736) (sG_leaf gT38_739)))))) (sG_cond (sG_cond (sG_cond (sG_cond (sG_leaf gT38_740) (sG_cond (sG_leaf gT38_741) (sG_leaf gT38_743))) (sG_cond (sG_cond (sG_leaf gT38_744) (sG_leaf gT38_745)) (sG_cond (sG_leaf gT38_746) (sG_leaf gT38_747)))) (sG_cond (sG_cond (sG_leaf gT38_749) (sG_cond (sG_leaf gT38_750) (sG_leaf gT38_751))) (sG_cond (sG_cond (sG_leaf gT38_752) (sG_leaf gT38_753)) (sG_cond (sG_leaf gT38_756) (sG_leaf gT38_758))))) (sG_cond (sG_cond (sG_cond (sG_leaf gT38_759) (sG_cond (sG_leaf gT38_760) (sG_leaf gT38_762))) (sG_cond (sG_cond (sG_leaf gT38_763) (sG_leaf gT38_764)) (sG_cond (sG_leaf gT38_765) (sG_leaf gT38_766)))) (sG_cond (sG_cond (sG_leaf gT38_768) (sG_cond (sG_leaf gT38_769) (sG_leaf gT38_770))) (sG_cond (sG_cond (sG_leaf gT38_771) (sG_leaf gT38_774)) (sG_cond (sG_leaf gT38_776) (sG_leaf gT38_777)))))))))) (sG_cond (sG_cond (sG_cond (sG_cond (sG_cond (sG_cond (sG_cond (sG_cond (sG_leaf gT38_780) (sG_cond (sG_leaf gT38_782) (sG_leaf gT38_785))) (sG_cond (sG_leaf gT38_786) (sG_cond (sG_leaf gT38_787) (sG_leaf gT38_789)))) (sG_cond (sG_cond (sG_leaf gT38_792) (sG_cond (sG_leaf gT38_793) (sG_leaf gT38_794))) (sG_cond (sG_cond (sG_leaf gT38_795) (sG_leaf gT38_797)) (sG_cond (sG_leaf gT38_798) (sG_leaf gT38_799))))) (sG_cond (sG_cond (sG_cond (sG_leaf gT38_802) (sG_cond (sG_leaf gT38_803) (sG_leaf gT38_804))) (sG_cond (sG_cond (sG_leaf gT38_807) (sG_leaf gT38_808)) (sG_cond (sG_leaf gT38_809) (sG_leaf gT38_811)))) (sG_cond (sG_cond (sG_leaf gT38_812) (sG_cond (sG_leaf gT38_813) (sG_leaf gT38_814))) (sG_cond (sG_cond (sG_leaf gT38_815) (sG_leaf gT38_817)) (sG_cond (sG_leaf gT38_818) (sG_leaf gT38_819)))))) (sG_cond (sG_cond (sG_cond (sG_cond (sG_leaf gT38_820) (sG_cond (sG_leaf gT38_821) (sG_leaf gT38_824))) (sG_cond (sG_cond (sG_leaf gT38_826) (sG_leaf gT38_827)) (sG_cond (sG_leaf gT38_828) (sG_leaf gT38_830)))) (sG_cond (sG_cond (sG_leaf gT38_831) (sG_cond (sG_leaf gT38_832) (sG_leaf gT38_833))) (sG_cond (sG_cond (sG_leaf gT38_834) (sG_leaf gT38_836)) (sG_cond (sG_leaf gT38_837) (sG_leaf gT38_838))))) (sG_cond (sG_cond (sG_cond (sG_leaf gT38_839) (sG_cond (sG_leaf gT38_842) (sG_leaf gT38_844))) (sG_cond (sG_cond (sG_leaf gT38_845) (sG_leaf gT38_848)) (sG_cond (sG_leaf gT38_850) (sG_leaf gT38_853)))) (sG_cond (sG_cond (sG_leaf gT38_854) (sG_cond (sG_leaf gT38_855) (sG_leaf gT38_857))) (sG_cond (sG_cond (sG_leaf gT38_860) (sG_leaf gT38_861)) (sG_cond (sG_leaf gT38_862) (sG_leaf gT38_863))))))) (sG_cond (sG_cond (sG_cond (sG_cond (sG_cond (sG_leaf gT38_865) (sG_cond (sG_leaf gT38_866) (sG_leaf gT38_867))) (sG_cond (sG_cond (sG_leaf gT38_870) (sG_leaf gT38_871)) (sG_cond (sG_leaf gT38_872) (sG_leaf gT38_875)))) (sG_cond (sG_cond (sG_leaf gT38_876) (sG_cond (sG_leaf gT38_877) (sG_leaf gT38_879))) (sG_cond (sG_cond (sG_leaf gT38_880) (sG_leaf gT38_881)) (sG_cond (sG_leaf gT38_882) (sG_leaf gT38_883))))) (sG_cond (sG_cond (sG_cond (sG_leaf gT38_885) (sG_cond (sG_leaf gT38_886) (sG_leaf gT38_887))) (sG_cond (sG_cond (sG_leaf gT38_888) (sG_leaf gT38_889)) (sG_cond (sG_leaf gT38_891) (sG_leaf gT38_892)))) (sG_cond (sG_cond (sG_leaf gT38_893) (sG_cond (sG_leaf gT38_894) (sG_leaf gT38_895))) (sG_cond (sG_cond (sG_leaf gT38_898) (sG_leaf gT38_900)) (sG_cond (sG_leaf gT38_901) (sG_leaf gT38_902)))))) (sG_cond (sG_cond (sG_cond (sG_cond (sG_leaf gT38_904) (sG_cond (sG_leaf gT38_905) (sG_leaf gT38_906))) (sG_cond (sG_cond (sG_leaf gT38_907) (sG_leaf gT38_908)) (sG_cond (sG_leaf gT38_910) (sG_leaf gT38_911)))) (sG_cond (sG_cond (sG_leaf gT38_912) (sG_cond (sG_leaf gT38_913) (sG_leaf gT38_914))) (sG_cond (sG_cond (sG_leaf gT38_916) (sG_leaf gT38_917)) (sG_cond (sG_leaf gT38_918) (sG_leaf gT38_919))))) (sG_cond (sG_cond (sG_cond (sG_leaf gT38_922) (sG_cond (sG_leaf gT38_924) (sG_leaf gT38_925))) (sG_cond (sG_cond (sG_leaf gT38_928) (sG_leaf gT38_930)) (sG_cond (sG_leaf gT38_933) (sG_leaf gT38_934)))) (sG_cond (sG_cond (sG_leaf gT38_935) (sG_cond (sG_leaf gT38_937) (sG_leaf gT38_940))) (sG_cond (sG_cond (sG_leaf gT38_941) (sG_leaf gT38_942)) (sG_cond (sG_leaf gT38_943) (sG_leaf gT38_945)))))))) (sG_cond (sG_cond (sG_cond (sG_cond (sG_cond (sG_cond (sG_leaf gT38_946) (sG_cond (sG_leaf gT38_947) (sG_leaf gT38_950))) (sG_cond (sG_leaf gT38_951) (sG_cond (sG_leaf gT38_952) (sG_leaf gT38_955)))) (sG_cond (sG_cond (sG_leaf gT38_956) (sG_cond (sG_leaf gT38_957) (sG_leaf gT38_959))) (sG_cond (sG_cond (sG_leaf gT38_960) (sG_leaf gT38_961)) (sG_cond (sG_leaf gT38_962) (sG_leaf gT38_963))))) (sG_cond (sG_cond (sG_cond (sG_leaf gT38_965) (sG_cond (sG_leaf gT38_966) (sG_leaf gT38_967))) (sG_cond (sG_cond (sG_leaf gT38_968) (sG_leaf gT38_969)) (sG_cond (sG_leaf gT38_972) (sG_leaf gT38_974)))) (sG_cond (sG_cond (sG_leaf gT38_975) (sG_cond (sG_leaf gT38_976) (sG_leaf gT38_978))) (sG_cond (sG_cond (sG_leaf gT38_979) (sG_leaf gT38_980)) (sG_cond (sG_leaf gT38_981) (sG_leaf gT38_982)))))) (sG_cond (sG_cond (sG_cond (sG_cond (sG_leaf gT38_984) (sG_cond (sG_leaf gT38_985) (sG_leaf gT38_986))) (sG_cond (sG_cond (sG_leaf gT38_987) (sG_leaf gT38_990)) (sG_cond (sG_leaf gT38_992) (sG_leaf gT38_993)))) (sG_cond (sG_cond (sG_leaf gT38_996) (sG_cond (sG_leaf gT38_998) (sG_leaf gT38_1001))) (sG_cond (sG_cond (sG_leaf gT38_1002) (sG_leaf gT38_1003)) (sG_cond (sG_leaf gT38_1005) (sG_leaf gT38_1008))))) (sG_cond (sG_cond (sG_cond (sG_leaf gT38_1009) (sG_cond (sG_leaf gT38_1010) (sG_leaf gT38_1011))) (sG_cond (sG_cond (sG_leaf gT38_1013) (sG_leaf gT38_1014)) (sG_cond (sG_leaf gT38_1015) (sG_leaf gT38_1018)))) (sG_cond (sG_cond (sG_leaf gT38_1019) (sG_cond (sG_leaf gT38_1020) (sG_leaf gT38_1023))) (sG_cond (sG_cond (sG_leaf gT38_1024) (sG_leaf gT38_1025)) (sG_cond (sG_leaf gT38_1027) (sG_leaf gT38_1028))))))) (sG_cond (sG_cond (sG_cond (sG_cond (sG_cond (sG_leaf gT38_1029) (sG_cond (sG_leaf gT38_1030) (sG_leaf gT38_1031))) (sG_cond (sG_cond (sG_leaf gT38_1033) (sG_leaf gT38_1034)) (sG_cond (sG_leaf gT38_1035) (sG_leaf gT38_1036)))) (sG_cond (sG_cond (sG_leaf gT38_1037) (sG_cond (sG_leaf gT38_1040) (sG_leaf gT38_1042))) (sG_cond (sG_cond (sG_leaf gT38_1043) (sG_leaf gT38_1044)) (sG_cond (sG_leaf gT38_1046) (sG_leaf gT38_1047))))) (sG_cond (sG_cond (sG_cond (sG_leaf gT38_1048) (sG_cond (sG_leaf gT38_1049) (sG_leaf gT38_1050))) (sG_cond (sG_cond (sG_leaf gT38_1052) (sG_leaf gT38_1053)) (sG_cond (sG_leaf gT38_1054) (sG_leaf gT38_1055)))) (sG_cond (sG_cond (sG_leaf gT38_1058) (sG_cond (sG_leaf gT38_1060) (sG_leaf gT38_1061))) (sG_cond (sG_cond (sG_leaf gT38_1064) (sG_leaf gT38_1066)) (sG_cond (sG_leaf gT38_1069) (sG_leaf gT38_1070)))))) (sG_cond (sG_cond (sG_cond (sG_cond (sG_leaf gT38_1071) (sG_cond (sG_leaf gT38_1073) (sG_leaf gT38_1076))) (sG_cond (sG_cond (sG_leaf gT38_1077) (sG_leaf gT38_1078)) (sG_cond (sG_leaf gT38_1079) (sG_leaf gT38_1081)))) (sG_cond (sG_cond (sG_leaf gT38_1082) (sG_cond (sG_leaf gT38_1083) (sG_leaf gT38_1086))) (sG_cond (sG_cond (sG_leaf gT38_1087) (sG_leaf gT38_1088)) (sG_cond (sG_leaf gT38_1091) (sG_leaf gT38_1092))))) (sG_cond (sG_cond (sG_cond (sG_leaf gT38_1093) (sG_cond (sG_leaf gT38_1095) (sG_leaf gT38_1096))) (sG_cond (sG_cond (sG_leaf gT38_1097) (sG_leaf gT38_1098)) (sG_cond (sG_leaf gT38_1099) (sG_leaf gT38_1102)))) (sG_cond (sG_cond (sG_leaf gT38_1104) (sG_cond (sG_leaf gT38_1105) (sG_leaf gT38_1106))) (sG_cond (sG_cond (sG_leaf gT38_1108) (sG_leaf gT38_1109)) (sG_cond (sG_leaf gT38_1110) (sG_leaf gT38_1111))))))))) (sG_cond (sG_cond (sG_cond (sG_cond (sG_cond (sG_cond (sG_cond (sG_leaf gT38_1114) (sG_cond (sG_leaf gT38_1116) (sG_leaf gT38_1117))) (sG_cond (sG_leaf gT38_1120) (sG_cond (sG_leaf gT38_1122) (sG_leaf gT38_1125)))) (sG_cond (sG_cond (sG_leaf gT38_1126) (sG_cond (sG_leaf gT38_1127) (sG_leaf gT38_1129))) (sG_cond (sG_cond (sG_leaf gT38_1132) (sG_leaf gT38_1133)) (sG_cond (sG_leaf gT38_1134) (sG_leaf gT38_1135))))) (sG_cond (sG_cond (sG_cond (sG_leaf gT38_1137) (sG_cond (sG_leaf gT38_1138) (sG_leaf gT38_1139))) (sG_cond (sG_cond (sG_leaf gT38_1142) (sG_leaf gT38_1143)) (sG_cond (sG_leaf gT38_1144) (sG_leaf gT38_1147)))) (sG_cond (sG_cond (sG_leaf gT38_1148) (sG_cond (sG_leaf gT38_1149) (sG_leaf gT38_1151))) (sG_cond (sG_cond (sG_leaf gT38_1152) (sG_leaf gT38_1153)) (sG_cond (sG_leaf gT38_1154) (sG_leaf gT38_1156)))))) (sG_cond (sG_cond (sG_cond (sG_cond (sG_leaf gT38_1159) (sG_cond (sG_leaf gT38_1161) (sG_leaf gT38_1162))) (sG_cond (sG_cond (sG_leaf gT38_1163) (sG_leaf gT38_1165)) (sG_cond (sG_leaf gT38_1166) (sG_leaf gT38_1167)))) (sG_cond (sG_cond (sG_leaf gT38_1168) (sG_cond (sG_leaf gT38_1171) (sG_leaf gT38_1173))) (sG_cond (sG_cond (sG_leaf gT38_1174) (sG_leaf gT38_1177)) (sG_cond (sG_leaf gT38_1179) (sG_leaf gT38_1182))))) (sG_cond (sG_cond (sG_cond (sG_leaf gT38_1183) (sG_cond (sG_leaf gT38_1184) (sG_leaf gT38_1186))) (sG_cond (sG_cond (sG_leaf gT38_1189) (sG_leaf gT38_1191)) (sG_cond (sG_leaf gT38_1192) (sG_leaf gT38_1193)))) (sG_cond (sG_cond (sG_leaf gT38_1195) (sG_cond (sG_leaf gT38_1196) (sG_leaf gT38_1199))) (sG_cond (sG_cond (sG_leaf gT38_1201) (sG_leaf gT38_1202)) (sG_cond (sG_leaf gT38_1203) (sG_leaf gT38_1205))))))) (sG_cond (sG_cond (sG_cond (sG_cond (sG_cond (sG_leaf gT38_1206) (sG_cond (sG_leaf gT38_1207) (sG_leaf gT38_1208))) (sG_cond (sG_cond (sG_leaf gT38_1211) (sG_leaf gT38_1213)) (sG_cond (sG_leaf gT38_1215) (sG_leaf gT38_1216)))) (sG_cond (sG_cond (sG_leaf gT38_1219) (sG_cond (sG_leaf gT38_1220) (sG_leaf gT38_1221))) (sG_cond (sG_cond (sG_leaf gT38_1224) (sG_leaf gT38_1225)) (sG_cond (sG_leaf gT38_1226) (sG_leaf gT38_1228))))) (sG_cond (sG_cond (sG_cond (sG_leaf gT38_1229) (sG_cond (sG_leaf gT38_1230) (sG_leaf gT38_1231))) (sG_cond (sG_cond (sG_leaf gT38_1232) (sG_leaf gT38_1234)) (sG_cond (sG_leaf gT38_1235) (sG_leaf gT38_1236)))) (sG_cond (sG_cond (sG_leaf gT38_1237) (sG_cond (sG_leaf gT38_1238) (sG_leaf gT38_1240))) (sG_cond (sG_cond (sG_leaf gT38_1241) (sG_leaf gT38_1242)) (sG_cond (sG_leaf gT38_1243) (sG_leaf gT38_1244)))))) (sG_cond (sG_cond (sG_cond (sG_cond (sG_leaf gT38_1247) (sG_cond (sG_leaf gT38_1249) (sG_leaf gT38_1250))) (sG_cond (sG_cond (sG_leaf gT38_1251) (sG_leaf gT38_1253)) (sG_cond (sG_leaf gT38_1254) (sG_leaf gT38_1255)))) (sG_cond (sG_cond (sG_leaf gT38_1256) (sG_cond (sG_leaf gT38_1257) (sG_leaf gT38_1259))) (sG_cond (sG_cond (sG_leaf gT38_1260) (sG_leaf gT38_1261)) (sG_cond (sG_leaf gT38_1262) (sG_leaf gT38_1263))))) (sG_cond (sG_cond (sG_cond (sG_leaf gT38_1265) (sG_cond (sG_leaf gT38_1266) (sG_leaf gT38_1267))) (sG_cond (sG_cond (sG_leaf gT38_1268) (sG_leaf gT38_1271)) (sG_cond (sG_leaf gT38_1273) (sG_leaf gT38_1274)))) (sG_cond (sG_cond (sG_leaf gT38_1277) (sG_cond (sG_leaf gT38_1279) (sG_leaf gT38_1282))) (sG_cond (sG_cond (sG_leaf gT38_1283) (sG_leaf gT38_1284)) (sG_cond (sG_leaf gT38_1286) (sG_leaf gT38_1289)))))))) (sG_cond (sG_cond (sG_cond (sG_cond (sG_cond (sG_cond (sG_leaf gT38_1290) (sG_cond (sG_leaf gT38_1291) (sG_leaf gT38_1292))) (sG_cond (sG_leaf gT38_1294) (sG_cond (sG_leaf gT38_1295) (sG_leaf gT38_1296)))) (sG_cond (sG_cond (sG_leaf gT38_1299) (sG_cond (sG_leaf gT38_1300) (sG_leaf gT38_1301))) (sG_cond (sG_cond (sG_leaf gT38_1304) (sG_leaf gT38_1305)) (sG_cond (sG_leaf gT38_1306) (sG_leaf gT38_1308))))) (sG_cond (sG_cond (sG_cond (sG_leaf gT38_1309) (sG_cond (sG_leaf gT38_1310) (sG_leaf gT38_1311))) (sG_cond (sG_cond (sG_leaf gT38_1312) (sG_leaf gT38_1314)) (sG_cond (sG_leaf gT38_1315) (sG_leaf gT38_1316)))) (sG_cond (sG_cond (sG_leaf gT38_1317) (sG_cond (sG_leaf gT38_1318) (sG_leaf gT38_1321))) (sG_cond (sG_cond (sG_leaf gT38_1323) (sG_leaf gT38_1324)) (sG_cond (sG_leaf gT38_1325) (sG_leaf gT38_1327)))))) (sG_cond (sG_cond (sG_cond (sG_cond (sG_leaf gT38_1328) (sG_cond (sG_leaf gT38_1329) (sG_leaf gT38_1330))) (sG_cond (sG_cond (sG_leaf gT38_1331) (sG_leaf gT38_1333)) (sG_cond (sG_leaf gT38_1334) (sG_leaf gT38_1335)))) (sG_cond (sG_cond (sG_leaf gT38_1336) (sG_cond (sG_leaf gT38_1339) (sG_leaf gT38_1341))) (sG_cond (sG_cond (sG_leaf gT38_1342) (sG_leaf gT38_1345)) (sG_cond (sG_leaf gT38_1347) (sG_leaf gT38_1350))))) (sG_cond (sG_cond (sG_cond (sG_leaf gT38_1351) (sG_cond (sG_leaf gT38_1352) (sG_leaf gT38_1354))) (sG_cond (sG_cond (sG_leaf gT38_1357) (sG_leaf gT38_1358)) (sG_cond (sG_leaf gT38_1359) (sG_leaf gT38_1360)))) (sG_cond (sG_cond (sG_leaf gT38_1362) (sG_cond (sG_leaf gT38_1363) (sG_leaf gT38_1364))) (sG_cond (sG_cond (sG_leaf gT38_1367) (sG_leaf gT38_1368)) (sG_cond (sG_leaf gT38_1369) (sG_leaf gT38_1372))))))) (sG_cond (sG_cond (sG_cond (sG_cond (sG_cond (sG_leaf gT38_1373) (sG_cond (sG_leaf gT38_1374) (sG_leaf gT38_1376))) (sG_cond (sG_cond (sG_leaf gT38_1377) (sG_leaf gT38_1378)) (sG_cond (sG_leaf gT38_1379) (sG_leaf gT38_1380)))) (sG_cond (sG_cond (sG_leaf gT38_1382) (sG_cond (sG_leaf gT38_1383) (sG_leaf gT38_1384))) (sG_cond (sG_cond (sG_leaf gT38_1385) (sG_leaf gT38_1386)) (sG_cond (sG_leaf gT38_1389) (sG_leaf gT38_1391))))) (sG_cond (sG_cond (sG_cond (sG_leaf gT38_1392) (sG_cond (sG_leaf gT38_1393) (sG_leaf gT38_1395))) (sG_cond (sG_cond (sG_leaf gT38_1396) (sG_leaf gT38_1397)) (sG_cond (sG_leaf gT38_1398) (sG_leaf gT38_1399)))) (sG_cond (sG_cond (sG_leaf gT38_1401) (sG_cond (sG_leaf gT38_1402) (sG_leaf gT38_1403))) (sG_cond (sG_cond (sG_leaf gT38_1404) (sG_leaf gT38_1407)) (sG_cond (sG_leaf gT38_1409) (sG_leaf gT38_1410)))))) (sG_cond (sG_cond (sG_cond (sG_cond (sG_leaf gT38_1413) (sG_cond (sG_leaf gT38_1415) (sG_leaf gT38_1418))) (sG_cond (sG_cond (sG_leaf gT38_1419) (sG_leaf gT38_1420)) (sG_cond (sG_leaf gT38_1422) (sG_leaf gT38_1425)))) (sG_cond (sG_cond (sG_leaf gT38_1426) (sG_cond (sG_leaf gT38_1427) (sG_leaf gT38_1428))) (sG_cond (sG_cond (sG_leaf gT38_1430) (sG_leaf gT38_1431)) (sG_cond (sG_leaf gT38_1432) (sG_leaf gT38_1435))))) (sG_cond (sG_cond (sG_cond (sG_leaf gT38_1436) (sG_cond (sG_leaf gT38_1437) (sG_leaf gT38_1440))) (sG_cond (sG_cond (sG_leaf gT38_1441) (sG_leaf gT38_1444)) (sG_cond (sG_leaf gT38_1445) (sG_leaf gT38_1448)))) (sG_cond (sG_cond (sG_leaf gT38_1449) (sG_cond (sG_leaf gT38_1452) (sG_leaf gT38_1453))) (sG_cond (sG_cond (sG_leaf gT38_1454) (sG_leaf gT38_1457)) (sG_cond (sG_leaf gT38_1460) (sG_leaf gT38_1461))))))))))
theorem gT39_0 : sG l g D H0 mT 39 0 (s_load vRf 39 1 2) := ⟨ok_load _ _ _ _, so_aload_n mT39 dX0_guest_0 rfl⟩
theorem gT39_1 : sG l g D H0 mT 39 1 (s_const 39 2 (.int 0)) := ⟨ok_const _ _ _, so_iconst mT39 dX0_guest_1 (by decide)⟩
theorem gT39_2 : sG l g D H0 mT 39 2 (s_load vRf 39 3 0) := ⟨ok_load _ _ _ _, so_aload_n mT39 dX0_guest_2 rfl⟩
theorem gT39_3 : sG l g D H0 mT 39 3 (s_load vI 39 4 1) := ⟨ok_load _ _ _ _, so_iload_n mT39 dX0_guest_3 rfl⟩
theorem gT39_4 : sG l g D H0 mT 39 4 (s_callhk (fun k => match k with | 0 => some 12 | 1 => some 15 | _ => none) 39 7 75 0 [0] 2) := ⟨ok_callhk _ _ _ _ _ _ _, sk_callh (by decide) (so_callVH mT39 mo75 (by decide) (t := 0) (C := "HyperVane") (by decide) rfl rfl (h9 := (fun k => match k with | 0 => some 12 | 1 => some 15 | _ => none)) (fun k u hk => by
    match k, hk with
    | 0, hk => cases hk; exact ⟨[], [⟨0, 9, 15, 15⟩], ⟨0, 9, 12, 13⟩, rfl, fun _ hz => absurd hz List.not_mem_nil, rfl, by decide, q833, rfl⟩
    | 1, hk => cases hk; exact ⟨[⟨0, 9, 12, 13⟩], [], ⟨0, 9, 15, 15⟩, rfl, List.forall_mem_cons.mpr ⟨Or.inr ⟨by decide, "java/lang/IllegalArgumentException", q833, by decide +kernel⟩, fun _ hz => absurd hz List.not_mem_nil⟩, rfl, by decide, q834, rfl⟩
    | k + 2, hk => cases hk) dX0_guest_4 q835 q836 q837 q54)⟩
theorem gT39_7 : sG l g D H0 mT 39 7 (s_i2 39 8 (fun a => .long a.toInt64)) := ⟨ok_i2 _ _ _, so_i2l mT39 dX0_guest_7⟩
theorem gT39_8 : sG l g D H0 mT 39 8 (s_ast g (fun _ v => vL v = true) 39 9 22) := ⟨ok_ast _ _ _ _ _, so_last mT39 a22 dX0_guest_8⟩
theorem gT39_9 : sG l g D H0 mT 39 9 (s_goto 39 18) := ⟨ok_goto _ _, so_goto mT39 dX0_guest_9 (by decide)⟩
theorem gT39_12 : sG l g D H0 mT 39 12 (s_store vRf 39 13 3) := ⟨ok_store _ _ _ _, so_astore_n mT39 dX0_guest_12 rfl⟩
theorem gT39_13 : sG l g D H0 mT 39 13 (s_const 39 14 (.int 1)) := ⟨ok_const _ _ _, so_iconst mT39 dX0_guest_13 (by decide)⟩
theorem gT39_14 : sG l g D H0 mT 39 14 (s_ret pI) := ⟨ok_ret _, so_iret mT39 dX0_guest_14⟩
theorem gT39_15 : sG l g D H0 mT 39 15 (s_store vRf 39 16 3) := ⟨ok_store _ _ _ _, so_astore_n mT39 dX0_guest_15 rfl⟩
theorem gT39_16 : sG l g D H0 mT 39 16 (s_const 39 17 (.int 2)) := ⟨ok_const _ _ _, so_iconst mT39 dX0_guest_16 (by decide)⟩
theorem gT39_17 : sG l g D H0 mT 39 17 (s_ret pI) := ⟨ok_ret _, so_iret mT39 dX0_guest_17⟩
theorem gT39_18 : sG l g D H0 mT 39 18 (s_const 39 19 (.int 0)) := ⟨ok_const _ _ _, so_iconst mT39 dX0_guest_18 (by decide)⟩
theorem gT39_19 : sG l g D H0 mT 39 19 (s_ret pI) := ⟨ok_ret _, so_iret mT39 dX0_guest_19⟩
theorem gT39 (pc : Nat) : sG l g D H0 mT 39 pc (tT39 g pc) := sG_cond (sG_cond (sG_cond (sG_cond (sG_leaf gT39_0) (sG_leaf gT39_1)) (sG_cond (sG_leaf gT39_2) (sG_leaf gT39_3))) (sG_cond (sG_cond (sG_leaf gT39_4) (sG_leaf gT39_7)) (sG_cond (sG_leaf gT39_8) (sG_leaf gT39_9)))) (sG_cond (sG_cond (sG_cond (sG_leaf gT39_12) (sG_leaf gT39_13)) (sG_cond (sG_leaf gT39_14) (sG_leaf gT39_15))) (sG_cond (sG_cond (sG_leaf gT39_16) (sG_leaf gT39_17)) (sG_cond (sG_leaf gT39_18) (sG_leaf gT39_19))))
theorem gT40_0 : sG l g D H0 mT 40 0 (s_load vRf 40 2 4) := ⟨ok_load _ _ _ _, so_aload mT40 dX0_op_0⟩
theorem gT40_2 : sG l g D H0 mT 40 2 (s_const 40 3 (.int 0)) := ⟨ok_const _ _ _, so_iconst mT40 dX0_op_2 (by decide)⟩
theorem gT40_3 : sG l g D H0 mT 40 3 (s_load vRf 40 4 0) := ⟨ok_load _ _ _ _, so_aload_n mT40 dX0_op_3 rfl⟩
theorem gT40_4 : sG l g D H0 mT 40 4 (s_load vI 40 5 1) := ⟨ok_load _ _ _ _, so_iload_n mT40 dX0_op_4 rfl⟩
theorem gT40_5 : sG l g D H0 mT 40 5 (s_load vI 40 6 2) := ⟨ok_load _ _ _ _, so_iload_n mT40 dX0_op_5 rfl⟩
theorem gT40_6 : sG l g D H0 mT 40 6 (s_load vI 40 7 3) := ⟨ok_load _ _ _ _, so_iload_n mT40 dX0_op_6 rfl⟩
theorem gT40_7 : sG l g D H0 mT 40 7 (s_callhk (fun k => match k with | 2 => some 15 | 0 => some 19 | 1 => some 23 | _ => none) 40 10 80 0 [0, 0, 0] 5) := ⟨ok_callhk _ _ _ _ _ _ _, sk_callh (by decide) (so_callVH mT40 mo80 (by decide) (t := 0) (C := "HyperVane") (by decide) rfl rfl (h9 := (fun k => match k with | 2 => some 15 | 0 => some 19 | 1 => some 23 | _ => none)) (fun k u hk => by
    match k, hk with
    | 2, hk => cases hk; exact ⟨[], [⟨0, 12, 19, 13⟩, ⟨0, 12, 23, 15⟩], ⟨0, 12, 15, 21⟩, rfl, fun _ hz => absurd hz List.not_mem_nil, rfl, by decide, q936, rfl⟩
    | 0, hk => cases hk; exact ⟨[⟨0, 12, 15, 21⟩], [⟨0, 12, 23, 15⟩], ⟨0, 12, 19, 13⟩, rfl, List.forall_mem_cons.mpr ⟨Or.inr ⟨by decide, "java/lang/IndexOutOfBoundsException", q936, by decide +kernel⟩, fun _ hz => absurd hz List.not_mem_nil⟩, rfl, by decide, q833, rfl⟩
    | 1, hk => cases hk; exact ⟨[⟨0, 12, 15, 21⟩, ⟨0, 12, 19, 13⟩], [], ⟨0, 12, 23, 15⟩, rfl, List.forall_mem_cons.mpr ⟨Or.inr ⟨by decide, "java/lang/IndexOutOfBoundsException", q936, by decide +kernel⟩, List.forall_mem_cons.mpr ⟨Or.inr ⟨by decide, "java/lang/IllegalArgumentException", q833, by decide +kernel⟩, fun _ hz => absurd hz List.not_mem_nil⟩⟩, rfl, by decide, q834, rfl⟩
    | k + 3, hk => cases hk) dX0_op_7 q969 q970 q971 q54)⟩
theorem gT40_10 : sG l g D H0 mT 40 10 (s_i2 40 11 (fun a => .long a.toInt64)) := ⟨ok_i2 _ _ _, so_i2l mT40 dX0_op_10⟩
theorem gT40_11 : sG l g D H0 mT 40 11 (s_ast g (fun _ v => vL v = true) 40 12 22) := ⟨ok_ast _ _ _ _ _, so_last mT40 a22 dX0_op_11⟩
theorem gT40_12 : sG l g D H0 mT 40 12 (s_goto 40 27) := ⟨ok_goto _ _, so_goto mT40 dX0_op_12 (by decide)⟩
theorem gT40_15 : sG l g D H0 mT 40 15 (s_store vRf 40 17 5) := ⟨ok_store _ _ _ _, so_astore mT40 dX0_op_15⟩
theorem gT40_17 : sG l g D H0 mT 40 17 (s_const 40 18 (.int 1)) := ⟨ok_const _ _ _, so_iconst mT40 dX0_op_17 (by decide)⟩
theorem gT40_18 : sG l g D H0 mT 40 18 (s_ret pI) := ⟨ok_ret _, so_iret mT40 dX0_op_18⟩
theorem gT40_19 : sG l g D H0 mT 40 19 (s_store vRf 40 21 5) := ⟨ok_store _ _ _ _, so_astore mT40 dX0_op_19⟩
theorem gT40_21 : sG l g D H0 mT 40 21 (s_const 40 22 (.int 2)) := ⟨ok_const _ _ _, so_iconst mT40 dX0_op_21 (by decide)⟩
theorem gT40_22 : sG l g D H0 mT 40 22 (s_ret pI) := ⟨ok_ret _, so_iret mT40 dX0_op_22⟩
theorem gT40_23 : sG l g D H0 mT 40 23 (s_store vRf 40 25 5) := ⟨ok_store _ _ _ _, so_astore mT40 dX0_op_23⟩
theorem gT40_25 : sG l g D H0 mT 40 25 (s_const 40 26 (.int 3)) := ⟨ok_const _ _ _, so_iconst mT40 dX0_op_25 (by decide)⟩
theorem gT40_26 : sG l g D H0 mT 40 26 (s_ret pI) := ⟨ok_ret _, so_iret mT40 dX0_op_26⟩
theorem gT40_27 : sG l g D H0 mT 40 27 (s_const 40 28 (.int 0)) := ⟨ok_const _ _ _, so_iconst mT40 dX0_op_27 (by decide)⟩
theorem gT40_28 : sG l g D H0 mT 40 28 (s_ret pI) := ⟨ok_ret _, so_iret mT40 dX0_op_28⟩
theorem gT40 (pc : Nat) : sG l g D H0 mT 40 pc (tT40 g pc) := sG_cond (sG_cond (sG_cond (sG_cond (sG_leaf gT40_0) (sG_leaf gT40_2)) (sG_cond (sG_leaf gT40_3) (sG_cond (sG_leaf gT40_4) (sG_leaf gT40_5)))) (sG_cond (sG_cond (sG_leaf gT40_6) (sG_leaf gT40_7)) (sG_cond (sG_leaf gT40_10) (sG_cond (sG_leaf gT40_11) (sG_leaf gT40_12))))) (sG_cond (sG_cond (sG_cond (sG_leaf gT40_15) (sG_leaf gT40_17)) (sG_cond (sG_leaf gT40_18) (sG_cond (sG_leaf gT40_19) (sG_leaf gT40_21)))) (sG_cond (sG_cond (sG_leaf gT40_22) (sG_cond (sG_leaf gT40_23) (sG_leaf gT40_25))) (sG_cond (sG_leaf gT40_26) (sG_cond (sG_leaf gT40_27) (sG_leaf gT40_28)))))
theorem gT41_0 : sG l g D H0 mT 41 0 (s_load vRf 41 1 3) := ⟨ok_load _ _ _ _, so_aload_n mT41 dX0_weight_0 rfl⟩
theorem gT41_1 : sG l g D H0 mT 41 1 (s_const 41 2 (.int 0)) := ⟨ok_const _ _ _, so_iconst mT41 dX0_weight_1 (by decide)⟩
theorem gT41_2 : sG l g D H0 mT 41 2 (s_load vRf 41 3 0) := ⟨ok_load _ _ _ _, so_aload_n mT41 dX0_weight_2 rfl⟩
theorem gT41_3 : sG l g D H0 mT 41 3 (s_load vI 41 4 1) := ⟨ok_load _ _ _ _, so_iload_n mT41 dX0_weight_3 rfl⟩
theorem gT41_4 : sG l g D H0 mT 41 4 (s_load vI 41 5 2) := ⟨ok_load _ _ _ _, so_iload_n mT41 dX0_weight_4 rfl⟩
theorem gT41_5 : sG l g D H0 mT 41 5 (s_callhk (fun k => match k with | 2 => some 13 | 0 => some 17 | _ => none) 41 8 84 0 [0, 0] 5) := ⟨ok_callhk _ _ _ _ _ _ _, sk_callh (by decide) (so_callVH mT41 mo84 (by decide) (t := 0) (C := "HyperVane") (by decide) rfl rfl (h9 := (fun k => match k with | 2 => some 13 | 0 => some 17 | _ => none)) (fun k u hk => by
    match k, hk with
    | 2, hk => cases hk; exact ⟨[], [⟨0, 10, 17, 13⟩], ⟨0, 10, 13, 21⟩, rfl, fun _ hz => absurd hz List.not_mem_nil, rfl, by decide, q936, rfl⟩
    | 0, hk => cases hk; exact ⟨[⟨0, 10, 13, 21⟩], [], ⟨0, 10, 17, 13⟩, rfl, List.forall_mem_cons.mpr ⟨Or.inr ⟨by decide, "java/lang/IndexOutOfBoundsException", q936, by decide +kernel⟩, fun _ hz => absurd hz List.not_mem_nil⟩, rfl, by decide, q833, rfl⟩
    | k + 3, hk => cases hk
    | 1, hk => cases hk) dX0_weight_5 q1034 q1035 q1036 q54)⟩
theorem gT41_8 : sG l g D H0 mT 41 8 (s_i2 41 9 (fun a => .long a.toInt64)) := ⟨ok_i2 _ _ _, so_i2l mT41 dX0_weight_8⟩
theorem gT41_9 : sG l g D H0 mT 41 9 (s_ast g (fun _ v => vL v = true) 41 10 22) := ⟨ok_ast _ _ _ _ _, so_last mT41 a22 dX0_weight_9⟩
theorem gT41_10 : sG l g D H0 mT 41 10 (s_goto 41 21) := ⟨ok_goto _ _, so_goto mT41 dX0_weight_10 (by decide)⟩
theorem gT41_13 : sG l g D H0 mT 41 13 (s_store vRf 41 15 4) := ⟨ok_store _ _ _ _, so_astore mT41 dX0_weight_13⟩
theorem gT41_15 : sG l g D H0 mT 41 15 (s_const 41 16 (.int 1)) := ⟨ok_const _ _ _, so_iconst mT41 dX0_weight_15 (by decide)⟩
theorem gT41_16 : sG l g D H0 mT 41 16 (s_ret pI) := ⟨ok_ret _, so_iret mT41 dX0_weight_16⟩
theorem gT41_17 : sG l g D H0 mT 41 17 (s_store vRf 41 19 4) := ⟨ok_store _ _ _ _, so_astore mT41 dX0_weight_17⟩
theorem gT41_19 : sG l g D H0 mT 41 19 (s_const 41 20 (.int 2)) := ⟨ok_const _ _ _, so_iconst mT41 dX0_weight_19 (by decide)⟩
theorem gT41_20 : sG l g D H0 mT 41 20 (s_ret pI) := ⟨ok_ret _, so_iret mT41 dX0_weight_20⟩
theorem gT41_21 : sG l g D H0 mT 41 21 (s_const 41 22 (.int 0)) := ⟨ok_const _ _ _, so_iconst mT41 dX0_weight_21 (by decide)⟩
theorem gT41_22 : sG l g D H0 mT 41 22 (s_ret pI) := ⟨ok_ret _, so_iret mT41 dX0_weight_22⟩
theorem gT41 (pc : Nat) : sG l g D H0 mT 41 pc (tT41 g pc) := sG_cond (sG_cond (sG_cond (sG_cond (sG_leaf gT41_0) (sG_leaf gT41_1)) (sG_cond (sG_leaf gT41_2) (sG_leaf gT41_3))) (sG_cond (sG_cond (sG_leaf gT41_4) (sG_leaf gT41_5)) (sG_cond (sG_leaf gT41_8) (sG_leaf gT41_9)))) (sG_cond (sG_cond (sG_cond (sG_leaf gT41_10) (sG_leaf gT41_13)) (sG_cond (sG_leaf gT41_15) (sG_leaf gT41_16))) (sG_cond (sG_cond (sG_leaf gT41_17) (sG_leaf gT41_19)) (sG_cond (sG_leaf gT41_20) (sG_cond (sG_leaf gT41_21) (sG_leaf gT41_22)))))
theorem gT42_0 : sG l g D H0 mT 42 0 (s_load vRf 42 1 3) := ⟨ok_load _ _ _ _, so_aload_n mT42 dX0_pause_0 rfl⟩
theorem gT42_1 : sG l g D H0 mT 42 1 (s_const 42 2 (.int 0)) := ⟨ok_const _ _ _, so_iconst mT42 dX0_pause_1 (by decide)⟩
theorem gT42_2 : sG l g D H0 mT 42 2 (s_load vRf 42 3 0) := ⟨ok_load _ _ _ _, so_aload_n mT42 dX0_pause_2 rfl⟩
theorem gT42_3 : sG l g D H0 mT 42 3 (s_load vI 42 4 1) := ⟨ok_load _ _ _ _, so_iload_n mT42 dX0_pause_3 rfl⟩
theorem gT42_4 : sG l g D H0 mT 42 4 (s_load vI 42 5 2) := ⟨ok_load _ _ _ _, so_iload_n mT42 dX0_pause_4 rfl⟩
theorem gT42_5 : sG l g D H0 mT 42 5 (s_callhk (fun k => match k with | 2 => some 20 | 1 => some 24 | _ => none) 42 8 85 0 [0, 0] 5) := ⟨ok_callhk _ _ _ _ _ _ _, sk_callh (by decide) (so_callVH mT42 mo85 (by decide) (t := 0) (C := "HyperVane") (by decide) rfl rfl (h9 := (fun k => match k with | 2 => some 20 | 1 => some 24 | _ => none)) (fun k u hk => by
    match k, hk with
    | 2, hk => cases hk; exact ⟨[], [⟨0, 17, 24, 15⟩], ⟨0, 17, 20, 21⟩, rfl, fun _ hz => absurd hz List.not_mem_nil, rfl, by decide, q936, rfl⟩
    | 1, hk => cases hk; exact ⟨[⟨0, 17, 20, 21⟩], [], ⟨0, 17, 24, 15⟩, rfl, List.forall_mem_cons.mpr ⟨Or.inr ⟨by decide, "java/lang/IndexOutOfBoundsException", q936, by decide +kernel⟩, fun _ hz => absurd hz List.not_mem_nil⟩, rfl, by decide, q834, rfl⟩
    | k + 3, hk => cases hk
    | 0, hk => cases hk) dX0_pause_5 q1041 q1042 q1043 q54)⟩
theorem gT42_8 : sG l g D H0 mT 42 8 (s_if 42 11 15 (fun a => a = 0)) := ⟨ok_if _ _ _ _, so_if_eq mT42 dX0_pause_8 (by decide)⟩
theorem gT42_11 : sG l g D H0 mT 42 11 (s_const 42 12 (.long 1)) := ⟨ok_const _ _ _, so_lconst mT42 dX0_pause_11 (by decide)⟩
theorem gT42_12 : sG l g D H0 mT 42 12 (s_goto 42 16) := ⟨ok_goto _ _, so_goto mT42 dX0_pause_12 (by decide)⟩
theorem gT42_15 : sG l g D H0 mT 42 15 (s_const 42 16 (.long 0)) := ⟨ok_const _ _ _, so_lconst mT42 dX0_pause_15 (by decide)⟩
theorem gT42_16 : sG l g D H0 mT 42 16 (s_ast g (fun _ v => vL v = true) 42 17 22) := ⟨ok_ast _ _ _ _ _, so_last mT42 a22 dX0_pause_16⟩
theorem gT42_17 : sG l g D H0 mT 42 17 (s_goto 42 28) := ⟨ok_goto _ _, so_goto mT42 dX0_pause_17 (by decide)⟩
theorem gT42_20 : sG l g D H0 mT 42 20 (s_store vRf 42 22 4) := ⟨ok_store _ _ _ _, so_astore mT42 dX0_pause_20⟩
theorem gT42_22 : sG l g D H0 mT 42 22 (s_const 42 23 (.int 1)) := ⟨ok_const _ _ _, so_iconst mT42 dX0_pause_22 (by decide)⟩
theorem gT42_23 : sG l g D H0 mT 42 23 (s_ret pI) := ⟨ok_ret _, so_iret mT42 dX0_pause_23⟩
theorem gT42_24 : sG l g D H0 mT 42 24 (s_store vRf 42 26 4) := ⟨ok_store _ _ _ _, so_astore mT42 dX0_pause_24⟩
theorem gT42_26 : sG l g D H0 mT 42 26 (s_const 42 27 (.int 2)) := ⟨ok_const _ _ _, so_iconst mT42 dX0_pause_26 (by decide)⟩
theorem gT42_27 : sG l g D H0 mT 42 27 (s_ret pI) := ⟨ok_ret _, so_iret mT42 dX0_pause_27⟩
theorem gT42_28 : sG l g D H0 mT 42 28 (s_const 42 29 (.int 0)) := ⟨ok_const _ _ _, so_iconst mT42 dX0_pause_28 (by decide)⟩
theorem gT42_29 : sG l g D H0 mT 42 29 (s_ret pI) := ⟨ok_ret _, so_iret mT42 dX0_pause_29⟩
theorem gT42 (pc : Nat) : sG l g D H0 mT 42 pc (tT42 g pc) := sG_cond (sG_cond (sG_cond (sG_cond (sG_leaf gT42_0) (sG_leaf gT42_1)) (sG_cond (sG_leaf gT42_2) (sG_cond (sG_leaf gT42_3) (sG_leaf gT42_4)))) (sG_cond (sG_cond (sG_leaf gT42_5) (sG_leaf gT42_8)) (sG_cond (sG_leaf gT42_11) (sG_cond (sG_leaf gT42_12) (sG_leaf gT42_15))))) (sG_cond (sG_cond (sG_cond (sG_leaf gT42_16) (sG_leaf gT42_17)) (sG_cond (sG_leaf gT42_20) (sG_cond (sG_leaf gT42_22) (sG_leaf gT42_23)))) (sG_cond (sG_cond (sG_leaf gT42_24) (sG_leaf gT42_26)) (sG_cond (sG_leaf gT42_27) (sG_cond (sG_leaf gT42_28) (sG_leaf gT42_29)))))
theorem gT43_0 : sG l g D H0 mT 43 0 (s_load vRf 43 1 2) := ⟨ok_load _ _ _ _, so_aload_n mT43 dX0_frames_0 rfl⟩
theorem gT43_1 : sG l g D H0 mT 43 1 (s_const 43 2 (.int 0)) := ⟨ok_const _ _ _, so_iconst mT43 dX0_frames_1 (by decide)⟩
theorem gT43_2 : sG l g D H0 mT 43 2 (s_load vRf 43 3 0) := ⟨ok_load _ _ _ _, so_aload_n mT43 dX0_frames_2 rfl⟩
theorem gT43_3 : sG l g D H0 mT 43 3 (s_load vI 43 4 1) := ⟨ok_load _ _ _ _, so_iload_n mT43 dX0_frames_3 rfl⟩
theorem gT43_4 : sG l g D H0 mT 43 4 (s_callhk (fun k => match k with | 0 => some 12 | _ => none) 43 7 86 0 [0] 2) := ⟨ok_callhk _ _ _ _ _ _ _, sk_callh (by decide) (so_callVH mT43 mo86 (by decide) (t := 0) (C := "HyperVane") (by decide) rfl rfl (h9 := (fun k => match k with | 0 => some 12 | _ => none)) (fun k u hk => by
    match k, hk with
    | 0, hk => cases hk; exact ⟨[], [], ⟨0, 9, 12, 13⟩, rfl, fun _ hz => absurd hz List.not_mem_nil, rfl, by decide, q833, rfl⟩
    | k + 1, hk => cases hk) dX0_frames_4 q1054 q1055 q1056 q54)⟩
theorem gT43_7 : sG l g D H0 mT 43 7 (s_i2 43 8 (fun a => .long a.toInt64)) := ⟨ok_i2 _ _ _, so_i2l mT43 dX0_frames_7⟩
theorem gT43_8 : sG l g D H0 mT 43 8 (s_ast g (fun _ v => vL v = true) 43 9 22) := ⟨ok_ast _ _ _ _ _, so_last mT43 a22 dX0_frames_8⟩
theorem gT43_9 : sG l g D H0 mT 43 9 (s_goto 43 15) := ⟨ok_goto _ _, so_goto mT43 dX0_frames_9 (by decide)⟩
theorem gT43_12 : sG l g D H0 mT 43 12 (s_store vRf 43 13 3) := ⟨ok_store _ _ _ _, so_astore_n mT43 dX0_frames_12 rfl⟩
theorem gT43_13 : sG l g D H0 mT 43 13 (s_const 43 14 (.int 1)) := ⟨ok_const _ _ _, so_iconst mT43 dX0_frames_13 (by decide)⟩
theorem gT43_14 : sG l g D H0 mT 43 14 (s_ret pI) := ⟨ok_ret _, so_iret mT43 dX0_frames_14⟩
theorem gT43_15 : sG l g D H0 mT 43 15 (s_const 43 16 (.int 0)) := ⟨ok_const _ _ _, so_iconst mT43 dX0_frames_15 (by decide)⟩
theorem gT43_16 : sG l g D H0 mT 43 16 (s_ret pI) := ⟨ok_ret _, so_iret mT43 dX0_frames_16⟩
theorem gT43 (pc : Nat) : sG l g D H0 mT 43 pc (tT43 g pc) := sG_cond (sG_cond (sG_cond (sG_leaf gT43_0) (sG_cond (sG_leaf gT43_1) (sG_leaf gT43_2))) (sG_cond (sG_leaf gT43_3) (sG_cond (sG_leaf gT43_4) (sG_leaf gT43_7)))) (sG_cond (sG_cond (sG_leaf gT43_8) (sG_cond (sG_leaf gT43_9) (sG_leaf gT43_12))) (sG_cond (sG_cond (sG_leaf gT43_13) (sG_leaf gT43_14)) (sG_cond (sG_leaf gT43_15) (sG_leaf gT43_16))))
theorem gT44_0 : sG l g D H0 mT 44 0 (s_load vRf 44 1 3) := ⟨ok_load _ _ _ _, so_aload_n mT44 dX0_giveUp_0 rfl⟩
theorem gT44_1 : sG l g D H0 mT 44 1 (s_const 44 2 (.int 0)) := ⟨ok_const _ _ _, so_iconst mT44 dX0_giveUp_1 (by decide)⟩
theorem gT44_2 : sG l g D H0 mT 44 2 (s_load vRf 44 3 0) := ⟨ok_load _ _ _ _, so_aload_n mT44 dX0_giveUp_2 rfl⟩
theorem gT44_3 : sG l g D H0 mT 44 3 (s_load vI 44 4 1) := ⟨ok_load _ _ _ _, so_iload_n mT44 dX0_giveUp_3 rfl⟩
theorem gT44_4 : sG l g D H0 mT 44 4 (s_load vI 44 5 2) := ⟨ok_load _ _ _ _, so_iload_n mT44 dX0_giveUp_4 rfl⟩
theorem gT44_5 : sG l g D H0 mT 44 5 (s_callhk (fun k => match k with | 2 => some 13 | 0 => some 17 | 1 => some 21 | _ => none) 44 8 87 0 [0, 0] 4) := ⟨ok_callhk _ _ _ _ _ _ _, sk_callh (by decide) (so_callVH mT44 mo87 (by decide) (t := 0) (C := "HyperVane") (by decide) rfl rfl (h9 := (fun k => match k with | 2 => some 13 | 0 => some 17 | 1 => some 21 | _ => none)) (fun k u hk => by
    match k, hk with
    | 2, hk => cases hk; exact ⟨[], [⟨0, 10, 17, 13⟩, ⟨0, 10, 21, 15⟩], ⟨0, 10, 13, 21⟩, rfl, fun _ hz => absurd hz List.not_mem_nil, rfl, by decide, q936, rfl⟩
    | 0, hk => cases hk; exact ⟨[⟨0, 10, 13, 21⟩], [⟨0, 10, 21, 15⟩], ⟨0, 10, 17, 13⟩, rfl, List.forall_mem_cons.mpr ⟨Or.inr ⟨by decide, "java/lang/IndexOutOfBoundsException", q936, by decide +kernel⟩, fun _ hz => absurd hz List.not_mem_nil⟩, rfl, by decide, q833, rfl⟩
    | 1, hk => cases hk; exact ⟨[⟨0, 10, 13, 21⟩, ⟨0, 10, 17, 13⟩], [], ⟨0, 10, 21, 15⟩, rfl, List.forall_mem_cons.mpr ⟨Or.inr ⟨by decide, "java/lang/IndexOutOfBoundsException", q936, by decide +kernel⟩, List.forall_mem_cons.mpr ⟨Or.inr ⟨by decide, "java/lang/IllegalArgumentException", q833, by decide +kernel⟩, fun _ hz => absurd hz List.not_mem_nil⟩⟩, rfl, by decide, q834, rfl⟩
    | k + 3, hk => cases hk) dX0_giveUp_5 q1061 q1062 q1063 q54)⟩
theorem gT44_8 : sG l g D H0 mT 44 8 (s_i2 44 9 (fun a => .long a.toInt64)) := ⟨ok_i2 _ _ _, so_i2l mT44 dX0_giveUp_8⟩
theorem gT44_9 : sG l g D H0 mT 44 9 (s_ast g (fun _ v => vL v = true) 44 10 22) := ⟨ok_ast _ _ _ _ _, so_last mT44 a22 dX0_giveUp_9⟩
theorem gT44_10 : sG l g D H0 mT 44 10 (s_goto 44 25) := ⟨ok_goto _ _, so_goto mT44 dX0_giveUp_10 (by decide)⟩
theorem gT44_13 : sG l g D H0 mT 44 13 (s_store vRf 44 15 4) := ⟨ok_store _ _ _ _, so_astore mT44 dX0_giveUp_13⟩
theorem gT44_15 : sG l g D H0 mT 44 15 (s_const 44 16 (.int 1)) := ⟨ok_const _ _ _, so_iconst mT44 dX0_giveUp_15 (by decide)⟩
theorem gT44_16 : sG l g D H0 mT 44 16 (s_ret pI) := ⟨ok_ret _, so_iret mT44 dX0_giveUp_16⟩
theorem gT44_17 : sG l g D H0 mT 44 17 (s_store vRf 44 19 4) := ⟨ok_store _ _ _ _, so_astore mT44 dX0_giveUp_17⟩
theorem gT44_19 : sG l g D H0 mT 44 19 (s_const 44 20 (.int 2)) := ⟨ok_const _ _ _, so_iconst mT44 dX0_giveUp_19 (by decide)⟩
theorem gT44_20 : sG l g D H0 mT 44 20 (s_ret pI) := ⟨ok_ret _, so_iret mT44 dX0_giveUp_20⟩
theorem gT44_21 : sG l g D H0 mT 44 21 (s_store vRf 44 23 4) := ⟨ok_store _ _ _ _, so_astore mT44 dX0_giveUp_21⟩
theorem gT44_23 : sG l g D H0 mT 44 23 (s_const 44 24 (.int 3)) := ⟨ok_const _ _ _, so_iconst mT44 dX0_giveUp_23 (by decide)⟩
theorem gT44_24 : sG l g D H0 mT 44 24 (s_ret pI) := ⟨ok_ret _, so_iret mT44 dX0_giveUp_24⟩
theorem gT44_25 : sG l g D H0 mT 44 25 (s_const 44 26 (.int 0)) := ⟨ok_const _ _ _, so_iconst mT44 dX0_giveUp_25 (by decide)⟩
theorem gT44_26 : sG l g D H0 mT 44 26 (s_ret pI) := ⟨ok_ret _, so_iret mT44 dX0_giveUp_26⟩
theorem gT44 (pc : Nat) : sG l g D H0 mT 44 pc (tT44 g pc) := sG_cond (sG_cond (sG_cond (sG_cond (sG_leaf gT44_0) (sG_leaf gT44_1)) (sG_cond (sG_leaf gT44_2) (sG_cond (sG_leaf gT44_3) (sG_leaf gT44_4)))) (sG_cond (sG_cond (sG_leaf gT44_5) (sG_leaf gT44_8)) (sG_cond (sG_leaf gT44_9) (sG_cond (sG_leaf gT44_10) (sG_leaf gT44_13))))) (sG_cond (sG_cond (sG_cond (sG_leaf gT44_15) (sG_leaf gT44_16)) (sG_cond (sG_leaf gT44_17) (sG_cond (sG_leaf gT44_19) (sG_leaf gT44_20)))) (sG_cond (sG_cond (sG_leaf gT44_21) (sG_leaf gT44_23)) (sG_cond (sG_leaf gT44_24) (sG_cond (sG_leaf gT44_25) (sG_leaf gT44_26)))))
theorem gT45_0 : sG l g D H0 mT 45 0 (s_load vRf 45 1 3) := ⟨ok_load _ _ _ _, so_aload_n mT45 dX0_move_0 rfl⟩
theorem gT45_1 : sG l g D H0 mT 45 1 (s_const 45 2 (.int 0)) := ⟨ok_const _ _ _, so_iconst mT45 dX0_move_1 (by decide)⟩
theorem gT45_2 : sG l g D H0 mT 45 2 (s_load vRf 45 3 0) := ⟨ok_load _ _ _ _, so_aload_n mT45 dX0_move_2 rfl⟩
theorem gT45_3 : sG l g D H0 mT 45 3 (s_load vI 45 4 1) := ⟨ok_load _ _ _ _, so_iload_n mT45 dX0_move_3 rfl⟩
theorem gT45_4 : sG l g D H0 mT 45 4 (s_load vI 45 5 2) := ⟨ok_load _ _ _ _, so_iload_n mT45 dX0_move_4 rfl⟩
theorem gT45_5 : sG l g D H0 mT 45 5 (s_callhk (fun k => match k with | 2 => some 13 | 0 => some 17 | 1 => some 21 | _ => none) 45 8 88 0 [0, 0] 4) := ⟨ok_callhk _ _ _ _ _ _ _, sk_callh (by decide) (so_callVH mT45 mo88 (by decide) (t := 0) (C := "HyperVane") (by decide) rfl rfl (h9 := (fun k => match k with | 2 => some 13 | 0 => some 17 | 1 => some 21 | _ => none)) (fun k u hk => by
    match k, hk with
    | 2, hk => cases hk; exact ⟨[], [⟨0, 10, 17, 13⟩, ⟨0, 10, 21, 15⟩], ⟨0, 10, 13, 21⟩, rfl, fun _ hz => absurd hz List.not_mem_nil, rfl, by decide, q936, rfl⟩
    | 0, hk => cases hk; exact ⟨[⟨0, 10, 13, 21⟩], [⟨0, 10, 21, 15⟩], ⟨0, 10, 17, 13⟩, rfl, List.forall_mem_cons.mpr ⟨Or.inr ⟨by decide, "java/lang/IndexOutOfBoundsException", q936, by decide +kernel⟩, fun _ hz => absurd hz List.not_mem_nil⟩, rfl, by decide, q833, rfl⟩
    | 1, hk => cases hk; exact ⟨[⟨0, 10, 13, 21⟩, ⟨0, 10, 17, 13⟩], [], ⟨0, 10, 21, 15⟩, rfl, List.forall_mem_cons.mpr ⟨Or.inr ⟨by decide, "java/lang/IndexOutOfBoundsException", q936, by decide +kernel⟩, List.forall_mem_cons.mpr ⟨Or.inr ⟨by decide, "java/lang/IllegalArgumentException", q833, by decide +kernel⟩, fun _ hz => absurd hz List.not_mem_nil⟩⟩, rfl, by decide, q834, rfl⟩
    | k + 3, hk => cases hk) dX0_move_5 q1075 q1076 q1077 q54)⟩
theorem gT45_8 : sG l g D H0 mT 45 8 (s_i2 45 9 (fun a => .long a.toInt64)) := ⟨ok_i2 _ _ _, so_i2l mT45 dX0_move_8⟩
theorem gT45_9 : sG l g D H0 mT 45 9 (s_ast g (fun _ v => vL v = true) 45 10 22) := ⟨ok_ast _ _ _ _ _, so_last mT45 a22 dX0_move_9⟩
theorem gT45_10 : sG l g D H0 mT 45 10 (s_goto 45 25) := ⟨ok_goto _ _, so_goto mT45 dX0_move_10 (by decide)⟩
theorem gT45_13 : sG l g D H0 mT 45 13 (s_store vRf 45 15 4) := ⟨ok_store _ _ _ _, so_astore mT45 dX0_move_13⟩
theorem gT45_15 : sG l g D H0 mT 45 15 (s_const 45 16 (.int 1)) := ⟨ok_const _ _ _, so_iconst mT45 dX0_move_15 (by decide)⟩
theorem gT45_16 : sG l g D H0 mT 45 16 (s_ret pI) := ⟨ok_ret _, so_iret mT45 dX0_move_16⟩
theorem gT45_17 : sG l g D H0 mT 45 17 (s_store vRf 45 19 4) := ⟨ok_store _ _ _ _, so_astore mT45 dX0_move_17⟩
theorem gT45_19 : sG l g D H0 mT 45 19 (s_const 45 20 (.int 2)) := ⟨ok_const _ _ _, so_iconst mT45 dX0_move_19 (by decide)⟩
theorem gT45_20 : sG l g D H0 mT 45 20 (s_ret pI) := ⟨ok_ret _, so_iret mT45 dX0_move_20⟩
theorem gT45_21 : sG l g D H0 mT 45 21 (s_store vRf 45 23 4) := ⟨ok_store _ _ _ _, so_astore mT45 dX0_move_21⟩
theorem gT45_23 : sG l g D H0 mT 45 23 (s_const 45 24 (.int 3)) := ⟨ok_const _ _ _, so_iconst mT45 dX0_move_23 (by decide)⟩
theorem gT45_24 : sG l g D H0 mT 45 24 (s_ret pI) := ⟨ok_ret _, so_iret mT45 dX0_move_24⟩
theorem gT45_25 : sG l g D H0 mT 45 25 (s_const 45 26 (.int 0)) := ⟨ok_const _ _ _, so_iconst mT45 dX0_move_25 (by decide)⟩
theorem gT45_26 : sG l g D H0 mT 45 26 (s_ret pI) := ⟨ok_ret _, so_iret mT45 dX0_move_26⟩
theorem gT45 (pc : Nat) : sG l g D H0 mT 45 pc (tT45 g pc) := sG_cond (sG_cond (sG_cond (sG_cond (sG_leaf gT45_0) (sG_leaf gT45_1)) (sG_cond (sG_leaf gT45_2) (sG_cond (sG_leaf gT45_3) (sG_leaf gT45_4)))) (sG_cond (sG_cond (sG_leaf gT45_5) (sG_leaf gT45_8)) (sG_cond (sG_leaf gT45_9) (sG_cond (sG_leaf gT45_10) (sG_leaf gT45_13))))) (sG_cond (sG_cond (sG_cond (sG_leaf gT45_15) (sG_leaf gT45_16)) (sG_cond (sG_leaf gT45_17) (sG_cond (sG_leaf gT45_19) (sG_leaf gT45_20)))) (sG_cond (sG_cond (sG_leaf gT45_21) (sG_leaf gT45_23)) (sG_cond (sG_leaf gT45_24) (sG_cond (sG_leaf gT45_25) (sG_leaf gT45_26)))))
theorem gT46_0 : sG l g D H0 mT 46 0 (s_load vRf 46 1 2) := ⟨ok_load _ _ _ _, so_aload_n mT46 dX0_snap_0 rfl⟩
theorem gT46_1 : sG l g D H0 mT 46 1 (s_const 46 2 (.int 0)) := ⟨ok_const _ _ _, so_iconst mT46 dX0_snap_1 (by decide)⟩
theorem gT46_2 : sG l g D H0 mT 46 2 (s_load vRf 46 3 0) := ⟨ok_load _ _ _ _, so_aload_n mT46 dX0_snap_2 rfl⟩
theorem gT46_3 : sG l g D H0 mT 46 3 (s_load vI 46 4 1) := ⟨ok_load _ _ _ _, so_iload_n mT46 dX0_snap_3 rfl⟩
theorem gT46_4 : sG l g D H0 mT 46 4 (s_callhk (fun k => match k with | 2 => some 12 | 1 => some 15 | _ => none) 46 7 90 0 [0] 4) := ⟨ok_callhk _ _ _ _ _ _ _, sk_callh (by decide) (so_callVH mT46 mo90 (by decide) (t := 0) (C := "HyperVane") (by decide) rfl rfl (h9 := (fun k => match k with | 2 => some 12 | 1 => some 15 | _ => none)) (fun k u hk => by
    match k, hk with
    | 2, hk => cases hk; exact ⟨[], [⟨0, 9, 15, 15⟩], ⟨0, 9, 12, 21⟩, rfl, fun _ hz => absurd hz List.not_mem_nil, rfl, by decide, q936, rfl⟩
    | 1, hk => cases hk; exact ⟨[⟨0, 9, 12, 21⟩], [], ⟨0, 9, 15, 15⟩, rfl, List.forall_mem_cons.mpr ⟨Or.inr ⟨by decide, "java/lang/IndexOutOfBoundsException", q936, by decide +kernel⟩, fun _ hz => absurd hz List.not_mem_nil⟩, rfl, by decide, q834, rfl⟩
    | k + 3, hk => cases hk
    | 0, hk => cases hk) dX0_snap_4 q1085 q1086 q1087 q54)⟩
theorem gT46_7 : sG l g D H0 mT 46 7 (s_i2 46 8 (fun a => .long a.toInt64)) := ⟨ok_i2 _ _ _, so_i2l mT46 dX0_snap_7⟩
theorem gT46_8 : sG l g D H0 mT 46 8 (s_ast g (fun _ v => vL v = true) 46 9 22) := ⟨ok_ast _ _ _ _ _, so_last mT46 a22 dX0_snap_8⟩
theorem gT46_9 : sG l g D H0 mT 46 9 (s_goto 46 18) := ⟨ok_goto _ _, so_goto mT46 dX0_snap_9 (by decide)⟩
theorem gT46_12 : sG l g D H0 mT 46 12 (s_store vRf 46 13 3) := ⟨ok_store _ _ _ _, so_astore_n mT46 dX0_snap_12 rfl⟩
theorem gT46_13 : sG l g D H0 mT 46 13 (s_const 46 14 (.int 1)) := ⟨ok_const _ _ _, so_iconst mT46 dX0_snap_13 (by decide)⟩
theorem gT46_14 : sG l g D H0 mT 46 14 (s_ret pI) := ⟨ok_ret _, so_iret mT46 dX0_snap_14⟩
theorem gT46_15 : sG l g D H0 mT 46 15 (s_store vRf 46 16 3) := ⟨ok_store _ _ _ _, so_astore_n mT46 dX0_snap_15 rfl⟩
theorem gT46_16 : sG l g D H0 mT 46 16 (s_const 46 17 (.int 2)) := ⟨ok_const _ _ _, so_iconst mT46 dX0_snap_16 (by decide)⟩
theorem gT46_17 : sG l g D H0 mT 46 17 (s_ret pI) := ⟨ok_ret _, so_iret mT46 dX0_snap_17⟩
theorem gT46_18 : sG l g D H0 mT 46 18 (s_const 46 19 (.int 0)) := ⟨ok_const _ _ _, so_iconst mT46 dX0_snap_18 (by decide)⟩
theorem gT46_19 : sG l g D H0 mT 46 19 (s_ret pI) := ⟨ok_ret _, so_iret mT46 dX0_snap_19⟩
theorem gT46 (pc : Nat) : sG l g D H0 mT 46 pc (tT46 g pc) := sG_cond (sG_cond (sG_cond (sG_cond (sG_leaf gT46_0) (sG_leaf gT46_1)) (sG_cond (sG_leaf gT46_2) (sG_leaf gT46_3))) (sG_cond (sG_cond (sG_leaf gT46_4) (sG_leaf gT46_7)) (sG_cond (sG_leaf gT46_8) (sG_leaf gT46_9)))) (sG_cond (sG_cond (sG_cond (sG_leaf gT46_12) (sG_leaf gT46_13)) (sG_cond (sG_leaf gT46_14) (sG_leaf gT46_15))) (sG_cond (sG_cond (sG_leaf gT46_16) (sG_leaf gT46_17)) (sG_cond (sG_leaf gT46_18) (sG_leaf gT46_19))))
theorem gT47_0 : sG l g D H0 mT 47 0 (s_load vRf 47 1 2) := ⟨ok_load _ _ _ _, so_aload_n mT47 dX0_run_0 rfl⟩
theorem gT47_1 : sG l g D H0 mT 47 1 (s_const 47 2 (.int 0)) := ⟨ok_const _ _ _, so_iconst mT47 dX0_run_1 (by decide)⟩
theorem gT47_2 : sG l g D H0 mT 47 2 (s_load vRf 47 3 0) := ⟨ok_load _ _ _ _, so_aload_n mT47 dX0_run_2 rfl⟩
theorem gT47_3 : sG l g D H0 mT 47 3 (s_load vI 47 4 1) := ⟨ok_load _ _ _ _, so_iload_n mT47 dX0_run_3 rfl⟩
theorem gT47_4 : sG l g D H0 mT 47 4 (s_callhk (fun k => match k with | 0 => some 12 | _ => none) 47 7 91 0 [0] 2) := ⟨ok_callhk _ _ _ _ _ _ _, sk_callh (by decide) (so_callVH mT47 mo91 (by decide) (t := 0) (C := "HyperVane") (by decide) rfl rfl (h9 := (fun k => match k with | 0 => some 12 | _ => none)) (fun k u hk => by
    match k, hk with
    | 0, hk => cases hk; exact ⟨[], [], ⟨0, 9, 12, 13⟩, rfl, fun _ hz => absurd hz List.not_mem_nil, rfl, by decide, q833, rfl⟩
    | k + 1, hk => cases hk) dX0_run_4 q1095 q1096 q1097 q54)⟩
theorem gT47_7 : sG l g D H0 mT 47 7 (s_i2 47 8 (fun a => .long a.toInt64)) := ⟨ok_i2 _ _ _, so_i2l mT47 dX0_run_7⟩
theorem gT47_8 : sG l g D H0 mT 47 8 (s_ast g (fun _ v => vL v = true) 47 9 22) := ⟨ok_ast _ _ _ _ _, so_last mT47 a22 dX0_run_8⟩
theorem gT47_9 : sG l g D H0 mT 47 9 (s_goto 47 15) := ⟨ok_goto _ _, so_goto mT47 dX0_run_9 (by decide)⟩
theorem gT47_12 : sG l g D H0 mT 47 12 (s_store vRf 47 13 3) := ⟨ok_store _ _ _ _, so_astore_n mT47 dX0_run_12 rfl⟩
theorem gT47_13 : sG l g D H0 mT 47 13 (s_const 47 14 (.int 1)) := ⟨ok_const _ _ _, so_iconst mT47 dX0_run_13 (by decide)⟩
theorem gT47_14 : sG l g D H0 mT 47 14 (s_ret pI) := ⟨ok_ret _, so_iret mT47 dX0_run_14⟩
theorem gT47_15 : sG l g D H0 mT 47 15 (s_const 47 16 (.int 0)) := ⟨ok_const _ _ _, so_iconst mT47 dX0_run_15 (by decide)⟩
theorem gT47_16 : sG l g D H0 mT 47 16 (s_ret pI) := ⟨ok_ret _, so_iret mT47 dX0_run_16⟩
theorem gT47 (pc : Nat) : sG l g D H0 mT 47 pc (tT47 g pc) := sG_cond (sG_cond (sG_cond (sG_leaf gT47_0) (sG_cond (sG_leaf gT47_1) (sG_leaf gT47_2))) (sG_cond (sG_leaf gT47_3) (sG_cond (sG_leaf gT47_4) (sG_leaf gT47_7)))) (sG_cond (sG_cond (sG_leaf gT47_8) (sG_cond (sG_leaf gT47_9) (sG_leaf gT47_12))) (sG_cond (sG_cond (sG_leaf gT47_13) (sG_leaf gT47_14)) (sG_cond (sG_leaf gT47_15) (sG_leaf gT47_16))))
theorem gT48_0 : sG l g D H0 mT 48 0 (s_load vRf 48 1 3) := ⟨ok_load _ _ _ _, so_aload_n mT48 dX0_ofGuest_0 rfl⟩
theorem gT48_1 : sG l g D H0 mT 48 1 (s_const 48 2 (.int 0)) := ⟨ok_const _ _ _, so_iconst mT48 dX0_ofGuest_1 (by decide)⟩
theorem gT48_2 : sG l g D H0 mT 48 2 (s_load vRf 48 3 0) := ⟨ok_load _ _ _ _, so_aload_n mT48 dX0_ofGuest_2 rfl⟩
theorem gT48_3 : sG l g D H0 mT 48 3 (s_load vI 48 4 1) := ⟨ok_load _ _ _ _, so_iload_n mT48 dX0_ofGuest_3 rfl⟩
theorem gT48_4 : sG l g D H0 mT 48 4 (s_load vI 48 5 2) := ⟨ok_load _ _ _ _, so_iload_n mT48 dX0_ofGuest_4 rfl⟩
theorem gT48_5 : sG l g D H0 mT 48 5 (s_callhk (fun k => match k with | 2 => some 13 | 0 => some 17 | _ => none) 48 8 93 0 [0, 0] 4) := ⟨ok_callhk _ _ _ _ _ _ _, sk_callh (by decide) (so_callVH mT48 mo93 (by decide) (t := 0) (C := "HyperVane") (by decide) rfl rfl (h9 := (fun k => match k with | 2 => some 13 | 0 => some 17 | _ => none)) (fun k u hk => by
    match k, hk with
    | 2, hk => cases hk; exact ⟨[], [⟨0, 10, 17, 13⟩], ⟨0, 10, 13, 21⟩, rfl, fun _ hz => absurd hz List.not_mem_nil, rfl, by decide, q936, rfl⟩
    | 0, hk => cases hk; exact ⟨[⟨0, 10, 13, 21⟩], [], ⟨0, 10, 17, 13⟩, rfl, List.forall_mem_cons.mpr ⟨Or.inr ⟨by decide, "java/lang/IndexOutOfBoundsException", q936, by decide +kernel⟩, fun _ hz => absurd hz List.not_mem_nil⟩, rfl, by decide, q833, rfl⟩
    | k + 3, hk => cases hk
    | 1, hk => cases hk) dX0_ofGuest_5 q1105 q1106 q1107 q54)⟩
theorem gT48_8 : sG l g D H0 mT 48 8 (s_i2 48 9 (fun a => .long a.toInt64)) := ⟨ok_i2 _ _ _, so_i2l mT48 dX0_ofGuest_8⟩
theorem gT48_9 : sG l g D H0 mT 48 9 (s_ast g (fun _ v => vL v = true) 48 10 22) := ⟨ok_ast _ _ _ _ _, so_last mT48 a22 dX0_ofGuest_9⟩
theorem gT48_10 : sG l g D H0 mT 48 10 (s_goto 48 21) := ⟨ok_goto _ _, so_goto mT48 dX0_ofGuest_10 (by decide)⟩
theorem gT48_13 : sG l g D H0 mT 48 13 (s_store vRf 48 15 4) := ⟨ok_store _ _ _ _, so_astore mT48 dX0_ofGuest_13⟩
theorem gT48_15 : sG l g D H0 mT 48 15 (s_const 48 16 (.int 1)) := ⟨ok_const _ _ _, so_iconst mT48 dX0_ofGuest_15 (by decide)⟩
theorem gT48_16 : sG l g D H0 mT 48 16 (s_ret pI) := ⟨ok_ret _, so_iret mT48 dX0_ofGuest_16⟩
theorem gT48_17 : sG l g D H0 mT 48 17 (s_store vRf 48 19 4) := ⟨ok_store _ _ _ _, so_astore mT48 dX0_ofGuest_17⟩
theorem gT48_19 : sG l g D H0 mT 48 19 (s_const 48 20 (.int 2)) := ⟨ok_const _ _ _, so_iconst mT48 dX0_ofGuest_19 (by decide)⟩
theorem gT48_20 : sG l g D H0 mT 48 20 (s_ret pI) := ⟨ok_ret _, so_iret mT48 dX0_ofGuest_20⟩
theorem gT48_21 : sG l g D H0 mT 48 21 (s_const 48 22 (.int 0)) := ⟨ok_const _ _ _, so_iconst mT48 dX0_ofGuest_21 (by decide)⟩
theorem gT48_22 : sG l g D H0 mT 48 22 (s_ret pI) := ⟨ok_ret _, so_iret mT48 dX0_ofGuest_22⟩
theorem gT48 (pc : Nat) : sG l g D H0 mT 48 pc (tT48 g pc) := sG_cond (sG_cond (sG_cond (sG_cond (sG_leaf gT48_0) (sG_leaf gT48_1)) (sG_cond (sG_leaf gT48_2) (sG_leaf gT48_3))) (sG_cond (sG_cond (sG_leaf gT48_4) (sG_leaf gT48_5)) (sG_cond (sG_leaf gT48_8) (sG_leaf gT48_9)))) (sG_cond (sG_cond (sG_cond (sG_leaf gT48_10) (sG_leaf gT48_13)) (sG_cond (sG_leaf gT48_15) (sG_leaf gT48_16))) (sG_cond (sG_cond (sG_leaf gT48_17) (sG_leaf gT48_19)) (sG_cond (sG_leaf gT48_20) (sG_cond (sG_leaf gT48_21) (sG_leaf gT48_22)))))
theorem gT49_0 : sG l g D H0 mT 49 0 (s_load vRf 49 1 3) := ⟨ok_load _ _ _ _, so_aload_n mT49 dX0_exits_0 rfl⟩
theorem gT49_1 : sG l g D H0 mT 49 1 (s_const 49 2 (.int 0)) := ⟨ok_const _ _ _, so_iconst mT49 dX0_exits_1 (by decide)⟩
theorem gT49_2 : sG l g D H0 mT 49 2 (s_load vRf 49 3 0) := ⟨ok_load _ _ _ _, so_aload_n mT49 dX0_exits_2 rfl⟩
theorem gT49_3 : sG l g D H0 mT 49 3 (s_load vI 49 4 1) := ⟨ok_load _ _ _ _, so_iload_n mT49 dX0_exits_3 rfl⟩
theorem gT49_4 : sG l g D H0 mT 49 4 (s_load vI 49 5 2) := ⟨ok_load _ _ _ _, so_iload_n mT49 dX0_exits_4 rfl⟩
theorem gT49_5 : sG l g D H0 mT 49 5 (s_callhk (fun k => match k with | 2 => some 13 | 0 => some 17 | _ => none) 49 8 94 0 [0, 0] 4) := ⟨ok_callhk _ _ _ _ _ _ _, sk_callh (by decide) (so_callVH mT49 mo94 (by decide) (t := 0) (C := "HyperVane") (by decide) rfl rfl (h9 := (fun k => match k with | 2 => some 13 | 0 => some 17 | _ => none)) (fun k u hk => by
    match k, hk with
    | 2, hk => cases hk; exact ⟨[], [⟨0, 10, 17, 13⟩], ⟨0, 10, 13, 21⟩, rfl, fun _ hz => absurd hz List.not_mem_nil, rfl, by decide, q936, rfl⟩
    | 0, hk => cases hk; exact ⟨[⟨0, 10, 13, 21⟩], [], ⟨0, 10, 17, 13⟩, rfl, List.forall_mem_cons.mpr ⟨Or.inr ⟨by decide, "java/lang/IndexOutOfBoundsException", q936, by decide +kernel⟩, fun _ hz => absurd hz List.not_mem_nil⟩, rfl, by decide, q833, rfl⟩
    | k + 3, hk => cases hk
    | 1, hk => cases hk) dX0_exits_5 q1112 q1113 q1114 q54)⟩
theorem gT49_8 : sG l g D H0 mT 49 8 (s_i2 49 9 (fun a => .long a.toInt64)) := ⟨ok_i2 _ _ _, so_i2l mT49 dX0_exits_8⟩
theorem gT49_9 : sG l g D H0 mT 49 9 (s_ast g (fun _ v => vL v = true) 49 10 22) := ⟨ok_ast _ _ _ _ _, so_last mT49 a22 dX0_exits_9⟩
theorem gT49_10 : sG l g D H0 mT 49 10 (s_goto 49 21) := ⟨ok_goto _ _, so_goto mT49 dX0_exits_10 (by decide)⟩
theorem gT49_13 : sG l g D H0 mT 49 13 (s_store vRf 49 15 4) := ⟨ok_store _ _ _ _, so_astore mT49 dX0_exits_13⟩
theorem gT49_15 : sG l g D H0 mT 49 15 (s_const 49 16 (.int 1)) := ⟨ok_const _ _ _, so_iconst mT49 dX0_exits_15 (by decide)⟩
theorem gT49_16 : sG l g D H0 mT 49 16 (s_ret pI) := ⟨ok_ret _, so_iret mT49 dX0_exits_16⟩
theorem gT49_17 : sG l g D H0 mT 49 17 (s_store vRf 49 19 4) := ⟨ok_store _ _ _ _, so_astore mT49 dX0_exits_17⟩
theorem gT49_19 : sG l g D H0 mT 49 19 (s_const 49 20 (.int 2)) := ⟨ok_const _ _ _, so_iconst mT49 dX0_exits_19 (by decide)⟩
theorem gT49_20 : sG l g D H0 mT 49 20 (s_ret pI) := ⟨ok_ret _, so_iret mT49 dX0_exits_20⟩
theorem gT49_21 : sG l g D H0 mT 49 21 (s_const 49 22 (.int 0)) := ⟨ok_const _ _ _, so_iconst mT49 dX0_exits_21 (by decide)⟩
theorem gT49_22 : sG l g D H0 mT 49 22 (s_ret pI) := ⟨ok_ret _, so_iret mT49 dX0_exits_22⟩
theorem gT49 (pc : Nat) : sG l g D H0 mT 49 pc (tT49 g pc) := sG_cond (sG_cond (sG_cond (sG_cond (sG_leaf gT49_0) (sG_leaf gT49_1)) (sG_cond (sG_leaf gT49_2) (sG_leaf gT49_3))) (sG_cond (sG_cond (sG_leaf gT49_4) (sG_leaf gT49_5)) (sG_cond (sG_leaf gT49_8) (sG_leaf gT49_9)))) (sG_cond (sG_cond (sG_cond (sG_leaf gT49_10) (sG_leaf gT49_13)) (sG_cond (sG_leaf gT49_15) (sG_leaf gT49_16))) (sG_cond (sG_cond (sG_leaf gT49_17) (sG_leaf gT49_19)) (sG_cond (sG_leaf gT49_20) (sG_cond (sG_leaf gT49_21) (sG_leaf gT49_22)))))
theorem gT50_0 : sG l g D H0 mT 50 0 (s_load vRf 50 2 4) := ⟨ok_load _ _ _ _, so_aload mT50 dX0_ofPage_0⟩
theorem gT50_2 : sG l g D H0 mT 50 2 (s_const 50 3 (.int 0)) := ⟨ok_const _ _ _, so_iconst mT50 dX0_ofPage_2 (by decide)⟩
theorem gT50_3 : sG l g D H0 mT 50 3 (s_load vRf 50 4 0) := ⟨ok_load _ _ _ _, so_aload_n mT50 dX0_ofPage_3 rfl⟩
theorem gT50_4 : sG l g D H0 mT 50 4 (s_load vI 50 5 1) := ⟨ok_load _ _ _ _, so_iload_n mT50 dX0_ofPage_4 rfl⟩
theorem gT50_5 : sG l g D H0 mT 50 5 (s_load vI 50 6 2) := ⟨ok_load _ _ _ _, so_iload_n mT50 dX0_ofPage_5 rfl⟩
theorem gT50_6 : sG l g D H0 mT 50 6 (s_load vI 50 7 3) := ⟨ok_load _ _ _ _, so_iload_n mT50 dX0_ofPage_6 rfl⟩
theorem gT50_7 : sG l g D H0 mT 50 7 (s_callhk (fun k => match k with | 2 => some 15 | 0 => some 19 | _ => none) 50 10 95 0 [0, 0, 0] 5) := ⟨ok_callhk _ _ _ _ _ _ _, sk_callh (by decide) (so_callVH mT50 mo95 (by decide) (t := 0) (C := "HyperVane") (by decide) rfl rfl (h9 := (fun k => match k with | 2 => some 15 | 0 => some 19 | _ => none)) (fun k u hk => by
    match k, hk with
    | 2, hk => cases hk; exact ⟨[], [⟨0, 12, 19, 13⟩], ⟨0, 12, 15, 21⟩, rfl, fun _ hz => absurd hz List.not_mem_nil, rfl, by decide, q936, rfl⟩
    | 0, hk => cases hk; exact ⟨[⟨0, 12, 15, 21⟩], [], ⟨0, 12, 19, 13⟩, rfl, List.forall_mem_cons.mpr ⟨Or.inr ⟨by decide, "java/lang/IndexOutOfBoundsException", q936, by decide +kernel⟩, fun _ hz => absurd hz List.not_mem_nil⟩, rfl, by decide, q833, rfl⟩
    | k + 3, hk => cases hk
    | 1, hk => cases hk) dX0_ofPage_7 q1119 q1120 q1121 q54)⟩
theorem gT50_10 : sG l g D H0 mT 50 10 (s_i2 50 11 (fun a => .long a.toInt64)) := ⟨ok_i2 _ _ _, so_i2l mT50 dX0_ofPage_10⟩
theorem gT50_11 : sG l g D H0 mT 50 11 (s_ast g (fun _ v => vL v = true) 50 12 22) := ⟨ok_ast _ _ _ _ _, so_last mT50 a22 dX0_ofPage_11⟩
theorem gT50_12 : sG l g D H0 mT 50 12 (s_goto 50 23) := ⟨ok_goto _ _, so_goto mT50 dX0_ofPage_12 (by decide)⟩
theorem gT50_15 : sG l g D H0 mT 50 15 (s_store vRf 50 17 5) := ⟨ok_store _ _ _ _, so_astore mT50 dX0_ofPage_15⟩
theorem gT50_17 : sG l g D H0 mT 50 17 (s_const 50 18 (.int 1)) := ⟨ok_const _ _ _, so_iconst mT50 dX0_ofPage_17 (by decide)⟩
theorem gT50_18 : sG l g D H0 mT 50 18 (s_ret pI) := ⟨ok_ret _, so_iret mT50 dX0_ofPage_18⟩
theorem gT50_19 : sG l g D H0 mT 50 19 (s_store vRf 50 21 5) := ⟨ok_store _ _ _ _, so_astore mT50 dX0_ofPage_19⟩
theorem gT50_21 : sG l g D H0 mT 50 21 (s_const 50 22 (.int 2)) := ⟨ok_const _ _ _, so_iconst mT50 dX0_ofPage_21 (by decide)⟩
theorem gT50_22 : sG l g D H0 mT 50 22 (s_ret pI) := ⟨ok_ret _, so_iret mT50 dX0_ofPage_22⟩
theorem gT50_23 : sG l g D H0 mT 50 23 (s_const 50 24 (.int 0)) := ⟨ok_const _ _ _, so_iconst mT50 dX0_ofPage_23 (by decide)⟩
theorem gT50_24 : sG l g D H0 mT 50 24 (s_ret pI) := ⟨ok_ret _, so_iret mT50 dX0_ofPage_24⟩
theorem gT50 (pc : Nat) : sG l g D H0 mT 50 pc (tT50 g pc) := sG_cond (sG_cond (sG_cond (sG_cond (sG_leaf gT50_0) (sG_leaf gT50_2)) (sG_cond (sG_leaf gT50_3) (sG_leaf gT50_4))) (sG_cond (sG_cond (sG_leaf gT50_5) (sG_leaf gT50_6)) (sG_cond (sG_leaf gT50_7) (sG_cond (sG_leaf gT50_10) (sG_leaf gT50_11))))) (sG_cond (sG_cond (sG_cond (sG_leaf gT50_12) (sG_leaf gT50_15)) (sG_cond (sG_leaf gT50_17) (sG_leaf gT50_18))) (sG_cond (sG_cond (sG_leaf gT50_19) (sG_leaf gT50_21)) (sG_cond (sG_leaf gT50_22) (sG_cond (sG_leaf gT50_23) (sG_leaf gT50_24)))))
theorem gT51_0 : sG l g D H0 mT 51 0 (s_load vRf 51 1 3) := ⟨ok_load _ _ _ _, so_aload_n mT51 dX0_ofFrame_0 rfl⟩
theorem gT51_1 : sG l g D H0 mT 51 1 (s_const 51 2 (.int 0)) := ⟨ok_const _ _ _, so_iconst mT51 dX0_ofFrame_1 (by decide)⟩
theorem gT51_2 : sG l g D H0 mT 51 2 (s_load vRf 51 3 0) := ⟨ok_load _ _ _ _, so_aload_n mT51 dX0_ofFrame_2 rfl⟩
theorem gT51_3 : sG l g D H0 mT 51 3 (s_load vI 51 4 1) := ⟨ok_load _ _ _ _, so_iload_n mT51 dX0_ofFrame_3 rfl⟩
theorem gT51_4 : sG l g D H0 mT 51 4 (s_load vI 51 5 2) := ⟨ok_load _ _ _ _, so_iload_n mT51 dX0_ofFrame_4 rfl⟩
theorem gT51_5 : sG l g D H0 mT 51 5 (s_callhk (fun k => match k with | 2 => some 13 | 0 => some 17 | _ => none) 51 8 96 0 [0, 0] 4) := ⟨ok_callhk _ _ _ _ _ _ _, sk_callh (by decide) (so_callVH mT51 mo96 (by decide) (t := 0) (C := "HyperVane") (by decide) rfl rfl (h9 := (fun k => match k with | 2 => some 13 | 0 => some 17 | _ => none)) (fun k u hk => by
    match k, hk with
    | 2, hk => cases hk; exact ⟨[], [⟨0, 10, 17, 13⟩], ⟨0, 10, 13, 21⟩, rfl, fun _ hz => absurd hz List.not_mem_nil, rfl, by decide, q936, rfl⟩
    | 0, hk => cases hk; exact ⟨[⟨0, 10, 13, 21⟩], [], ⟨0, 10, 17, 13⟩, rfl, List.forall_mem_cons.mpr ⟨Or.inr ⟨by decide, "java/lang/IndexOutOfBoundsException", q936, by decide +kernel⟩, fun _ hz => absurd hz List.not_mem_nil⟩, rfl, by decide, q833, rfl⟩
    | k + 3, hk => cases hk
    | 1, hk => cases hk) dX0_ofFrame_5 q1126 q1127 q1128 q54)⟩
theorem gT51_8 : sG l g D H0 mT 51 8 (s_i2 51 9 (fun a => .long a.toInt64)) := ⟨ok_i2 _ _ _, so_i2l mT51 dX0_ofFrame_8⟩
theorem gT51_9 : sG l g D H0 mT 51 9 (s_ast g (fun _ v => vL v = true) 51 10 22) := ⟨ok_ast _ _ _ _ _, so_last mT51 a22 dX0_ofFrame_9⟩
theorem gT51_10 : sG l g D H0 mT 51 10 (s_goto 51 21) := ⟨ok_goto _ _, so_goto mT51 dX0_ofFrame_10 (by decide)⟩
theorem gT51_13 : sG l g D H0 mT 51 13 (s_store vRf 51 15 4) := ⟨ok_store _ _ _ _, so_astore mT51 dX0_ofFrame_13⟩
theorem gT51_15 : sG l g D H0 mT 51 15 (s_const 51 16 (.int 1)) := ⟨ok_const _ _ _, so_iconst mT51 dX0_ofFrame_15 (by decide)⟩
theorem gT51_16 : sG l g D H0 mT 51 16 (s_ret pI) := ⟨ok_ret _, so_iret mT51 dX0_ofFrame_16⟩
theorem gT51_17 : sG l g D H0 mT 51 17 (s_store vRf 51 19 4) := ⟨ok_store _ _ _ _, so_astore mT51 dX0_ofFrame_17⟩
theorem gT51_19 : sG l g D H0 mT 51 19 (s_const 51 20 (.int 2)) := ⟨ok_const _ _ _, so_iconst mT51 dX0_ofFrame_19 (by decide)⟩
theorem gT51_20 : sG l g D H0 mT 51 20 (s_ret pI) := ⟨ok_ret _, so_iret mT51 dX0_ofFrame_20⟩
theorem gT51_21 : sG l g D H0 mT 51 21 (s_const 51 22 (.int 0)) := ⟨ok_const _ _ _, so_iconst mT51 dX0_ofFrame_21 (by decide)⟩
theorem gT51_22 : sG l g D H0 mT 51 22 (s_ret pI) := ⟨ok_ret _, so_iret mT51 dX0_ofFrame_22⟩
theorem gT51 (pc : Nat) : sG l g D H0 mT 51 pc (tT51 g pc) := sG_cond (sG_cond (sG_cond (sG_cond (sG_leaf gT51_0) (sG_leaf gT51_1)) (sG_cond (sG_leaf gT51_2) (sG_leaf gT51_3))) (sG_cond (sG_cond (sG_leaf gT51_4) (sG_leaf gT51_5)) (sG_cond (sG_leaf gT51_8) (sG_leaf gT51_9)))) (sG_cond (sG_cond (sG_cond (sG_leaf gT51_10) (sG_leaf gT51_13)) (sG_cond (sG_leaf gT51_15) (sG_leaf gT51_16))) (sG_cond (sG_cond (sG_leaf gT51_17) (sG_leaf gT51_19)) (sG_cond (sG_leaf gT51_20) (sG_cond (sG_leaf gT51_21) (sG_leaf gT51_22)))))
theorem gT52_0 : sG l g D H0 mT 52 0 (s_load vRf 52 1 3) := ⟨ok_load _ _ _ _, so_aload_n mT52 dX0_logged_0 rfl⟩
theorem gT52_1 : sG l g D H0 mT 52 1 (s_const 52 2 (.int 0)) := ⟨ok_const _ _ _, so_iconst mT52 dX0_logged_1 (by decide)⟩
theorem gT52_2 : sG l g D H0 mT 52 2 (s_load vRf 52 3 0) := ⟨ok_load _ _ _ _, so_aload_n mT52 dX0_logged_2 rfl⟩
theorem gT52_3 : sG l g D H0 mT 52 3 (s_load vI 52 4 1) := ⟨ok_load _ _ _ _, so_iload_n mT52 dX0_logged_3 rfl⟩
theorem gT52_4 : sG l g D H0 mT 52 4 (s_load vI 52 5 2) := ⟨ok_load _ _ _ _, so_iload_n mT52 dX0_logged_4 rfl⟩
theorem gT52_5 : sG l g D H0 mT 52 5 (s_callhk (fun k => match k with | 2 => some 13 | 0 => some 17 | _ => none) 52 8 97 0 [0, 0] 4) := ⟨ok_callhk _ _ _ _ _ _ _, sk_callh (by decide) (so_callVH mT52 mo97 (by decide) (t := 0) (C := "HyperVane") (by decide) rfl rfl (h9 := (fun k => match k with | 2 => some 13 | 0 => some 17 | _ => none)) (fun k u hk => by
    match k, hk with
    | 2, hk => cases hk; exact ⟨[], [⟨0, 10, 17, 13⟩], ⟨0, 10, 13, 21⟩, rfl, fun _ hz => absurd hz List.not_mem_nil, rfl, by decide, q936, rfl⟩
    | 0, hk => cases hk; exact ⟨[⟨0, 10, 13, 21⟩], [], ⟨0, 10, 17, 13⟩, rfl, List.forall_mem_cons.mpr ⟨Or.inr ⟨by decide, "java/lang/IndexOutOfBoundsException", q936, by decide +kernel⟩, fun _ hz => absurd hz List.not_mem_nil⟩, rfl, by decide, q833, rfl⟩
    | k + 3, hk => cases hk
    | 1, hk => cases hk) dX0_logged_5 q1133 q1134 q1135 q54)⟩
theorem gT52_8 : sG l g D H0 mT 52 8 (s_i2 52 9 (fun a => .long a.toInt64)) := ⟨ok_i2 _ _ _, so_i2l mT52 dX0_logged_8⟩
theorem gT52_9 : sG l g D H0 mT 52 9 (s_ast g (fun _ v => vL v = true) 52 10 22) := ⟨ok_ast _ _ _ _ _, so_last mT52 a22 dX0_logged_9⟩
theorem gT52_10 : sG l g D H0 mT 52 10 (s_goto 52 21) := ⟨ok_goto _ _, so_goto mT52 dX0_logged_10 (by decide)⟩
theorem gT52_13 : sG l g D H0 mT 52 13 (s_store vRf 52 15 4) := ⟨ok_store _ _ _ _, so_astore mT52 dX0_logged_13⟩
theorem gT52_15 : sG l g D H0 mT 52 15 (s_const 52 16 (.int 1)) := ⟨ok_const _ _ _, so_iconst mT52 dX0_logged_15 (by decide)⟩
theorem gT52_16 : sG l g D H0 mT 52 16 (s_ret pI) := ⟨ok_ret _, so_iret mT52 dX0_logged_16⟩
theorem gT52_17 : sG l g D H0 mT 52 17 (s_store vRf 52 19 4) := ⟨ok_store _ _ _ _, so_astore mT52 dX0_logged_17⟩
theorem gT52_19 : sG l g D H0 mT 52 19 (s_const 52 20 (.int 2)) := ⟨ok_const _ _ _, so_iconst mT52 dX0_logged_19 (by decide)⟩
theorem gT52_20 : sG l g D H0 mT 52 20 (s_ret pI) := ⟨ok_ret _, so_iret mT52 dX0_logged_20⟩
theorem gT52_21 : sG l g D H0 mT 52 21 (s_const 52 22 (.int 0)) := ⟨ok_const _ _ _, so_iconst mT52 dX0_logged_21 (by decide)⟩
theorem gT52_22 : sG l g D H0 mT 52 22 (s_ret pI) := ⟨ok_ret _, so_iret mT52 dX0_logged_22⟩
theorem gT52 (pc : Nat) : sG l g D H0 mT 52 pc (tT52 g pc) := sG_cond (sG_cond (sG_cond (sG_cond (sG_leaf gT52_0) (sG_leaf gT52_1)) (sG_cond (sG_leaf gT52_2) (sG_leaf gT52_3))) (sG_cond (sG_cond (sG_leaf gT52_4) (sG_leaf gT52_5)) (sG_cond (sG_leaf gT52_8) (sG_leaf gT52_9)))) (sG_cond (sG_cond (sG_cond (sG_leaf gT52_10) (sG_leaf gT52_13)) (sG_cond (sG_leaf gT52_15) (sG_leaf gT52_16))) (sG_cond (sG_cond (sG_leaf gT52_17) (sG_leaf gT52_19)) (sG_cond (sG_leaf gT52_20) (sG_cond (sG_leaf gT52_21) (sG_leaf gT52_22)))))
theorem gT53_0 : sG l g D H0 mT 53 0 (s_load vRf 53 1 2) := ⟨ok_load _ _ _ _, so_aload_n mT53 dX0_many_0 rfl⟩
theorem gT53_1 : sG l g D H0 mT 53 1 (s_const 53 2 (.int 0)) := ⟨ok_const _ _ _, so_iconst mT53 dX0_many_1 (by decide)⟩
theorem gT53_2 : sG l g D H0 mT 53 2 (s_load vRf 53 3 0) := ⟨ok_load _ _ _ _, so_aload_n mT53 dX0_many_2 rfl⟩
theorem gT53_3 : sG l g D H0 mT 53 3 (s_load vI 53 4 1) := ⟨ok_load _ _ _ _, so_iload_n mT53 dX0_many_3 rfl⟩
theorem gT53_4 : sG l g D H0 mT 53 4 (s_callhk (fun k => match k with | 0 => some 12 | _ => none) 53 7 98 0 [0] 2) := ⟨ok_callhk _ _ _ _ _ _ _, sk_callh (by decide) (so_callVH mT53 mo98 (by decide) (t := 0) (C := "HyperVane") (by decide) rfl rfl (h9 := (fun k => match k with | 0 => some 12 | _ => none)) (fun k u hk => by
    match k, hk with
    | 0, hk => cases hk; exact ⟨[], [], ⟨0, 9, 12, 13⟩, rfl, fun _ hz => absurd hz List.not_mem_nil, rfl, by decide, q833, rfl⟩
    | k + 1, hk => cases hk) dX0_many_4 q1140 q1141 q1142 q54)⟩
theorem gT53_7 : sG l g D H0 mT 53 7 (s_i2 53 8 (fun a => .long a.toInt64)) := ⟨ok_i2 _ _ _, so_i2l mT53 dX0_many_7⟩
theorem gT53_8 : sG l g D H0 mT 53 8 (s_ast g (fun _ v => vL v = true) 53 9 22) := ⟨ok_ast _ _ _ _ _, so_last mT53 a22 dX0_many_8⟩
theorem gT53_9 : sG l g D H0 mT 53 9 (s_goto 53 15) := ⟨ok_goto _ _, so_goto mT53 dX0_many_9 (by decide)⟩
theorem gT53_12 : sG l g D H0 mT 53 12 (s_store vRf 53 13 3) := ⟨ok_store _ _ _ _, so_astore_n mT53 dX0_many_12 rfl⟩
theorem gT53_13 : sG l g D H0 mT 53 13 (s_const 53 14 (.int 1)) := ⟨ok_const _ _ _, so_iconst mT53 dX0_many_13 (by decide)⟩
theorem gT53_14 : sG l g D H0 mT 53 14 (s_ret pI) := ⟨ok_ret _, so_iret mT53 dX0_many_14⟩
theorem gT53_15 : sG l g D H0 mT 53 15 (s_const 53 16 (.int 0)) := ⟨ok_const _ _ _, so_iconst mT53 dX0_many_15 (by decide)⟩
theorem gT53_16 : sG l g D H0 mT 53 16 (s_ret pI) := ⟨ok_ret _, so_iret mT53 dX0_many_16⟩
theorem gT53 (pc : Nat) : sG l g D H0 mT 53 pc (tT53 g pc) := sG_cond (sG_cond (sG_cond (sG_leaf gT53_0) (sG_cond (sG_leaf gT53_1) (sG_leaf gT53_2))) (sG_cond (sG_leaf gT53_3) (sG_cond (sG_leaf gT53_4) (sG_leaf gT53_7)))) (sG_cond (sG_cond (sG_leaf gT53_8) (sG_cond (sG_leaf gT53_9) (sG_leaf gT53_12))) (sG_cond (sG_cond (sG_leaf gT53_13) (sG_leaf gT53_14)) (sG_cond (sG_leaf gT53_15) (sG_leaf gT53_16))))
theorem gT54_0 : sG l g D H0 mT 54 0 (s_load vRf 54 1 2) := ⟨ok_load _ _ _ _, so_aload_n mT54 dX0_meanDone_0 rfl⟩
theorem gT54_1 : sG l g D H0 mT 54 1 (s_const 54 2 (.int 0)) := ⟨ok_const _ _ _, so_iconst mT54 dX0_meanDone_1 (by decide)⟩
theorem gT54_2 : sG l g D H0 mT 54 2 (s_load vRf 54 3 0) := ⟨ok_load _ _ _ _, so_aload_n mT54 dX0_meanDone_2 rfl⟩
theorem gT54_3 : sG l g D H0 mT 54 3 (s_load vI 54 4 1) := ⟨ok_load _ _ _ _, so_iload_n mT54 dX0_meanDone_3 rfl⟩
theorem gT54_4 : sG l g D H0 mT 54 4 (s_callhk (fun k => match k with | 2 => some 11 | _ => none) 54 7 99 0 [0] 3) := ⟨ok_callhk _ _ _ _ _ _ _, sk_callh (by decide) (so_callVH mT54 mo99 (by decide) (t := 0) (C := "HyperVane") (by decide) rfl rfl (h9 := (fun k => match k with | 2 => some 11 | _ => none)) (fun k u hk => by
    match k, hk with
    | 2, hk => cases hk; exact ⟨[], [], ⟨0, 8, 11, 21⟩, rfl, fun _ hz => absurd hz List.not_mem_nil, rfl, by decide, q936, rfl⟩
    | k + 3, hk => cases hk
    | 0, hk => cases hk
    | 1, hk => cases hk) dX0_meanDone_4 q1147 q1148 q1149 q54)⟩
theorem gT54_7 : sG l g D H0 mT 54 7 (s_ast g (fun _ v => vD v = true) 54 8 23) := ⟨ok_ast _ _ _ _ _, so_dast mT54 a23 dX0_meanDone_7⟩
theorem gT54_8 : sG l g D H0 mT 54 8 (s_goto 54 14) := ⟨ok_goto _ _, so_goto mT54 dX0_meanDone_8 (by decide)⟩
theorem gT54_11 : sG l g D H0 mT 54 11 (s_store vRf 54 12 3) := ⟨ok_store _ _ _ _, so_astore_n mT54 dX0_meanDone_11 rfl⟩
theorem gT54_12 : sG l g D H0 mT 54 12 (s_const 54 13 (.int 1)) := ⟨ok_const _ _ _, so_iconst mT54 dX0_meanDone_12 (by decide)⟩
theorem gT54_13 : sG l g D H0 mT 54 13 (s_ret pI) := ⟨ok_ret _, so_iret mT54 dX0_meanDone_13⟩
theorem gT54_14 : sG l g D H0 mT 54 14 (s_const 54 15 (.int 0)) := ⟨ok_const _ _ _, so_iconst mT54 dX0_meanDone_14 (by decide)⟩
theorem gT54_15 : sG l g D H0 mT 54 15 (s_ret pI) := ⟨ok_ret _, so_iret mT54 dX0_meanDone_15⟩
theorem gT54 (pc : Nat) : sG l g D H0 mT 54 pc (tT54 g pc) := sG_cond (sG_cond (sG_cond (sG_leaf gT54_0) (sG_cond (sG_leaf gT54_1) (sG_leaf gT54_2))) (sG_cond (sG_leaf gT54_3) (sG_cond (sG_leaf gT54_4) (sG_leaf gT54_7)))) (sG_cond (sG_cond (sG_leaf gT54_8) (sG_cond (sG_leaf gT54_11) (sG_leaf gT54_12))) (sG_cond (sG_leaf gT54_13) (sG_cond (sG_leaf gT54_14) (sG_leaf gT54_15))))
theorem gT55_0 : sG l g D H0 mT 55 0 (s_load vRf 55 2 4) := ⟨ok_load _ _ _ _, so_aload mT55 dX0_replayed_0⟩
theorem gT55_2 : sG l g D H0 mT 55 2 (s_const 55 3 (.int 0)) := ⟨ok_const _ _ _, so_iconst mT55 dX0_replayed_2 (by decide)⟩
theorem gT55_3 : sG l g D H0 mT 55 3 (s_load vRf 55 4 0) := ⟨ok_load _ _ _ _, so_aload_n mT55 dX0_replayed_3 rfl⟩
theorem gT55_4 : sG l g D H0 mT 55 4 (s_load vI 55 5 1) := ⟨ok_load _ _ _ _, so_iload_n mT55 dX0_replayed_4 rfl⟩
theorem gT55_5 : sG l g D H0 mT 55 5 (s_load vI 55 6 2) := ⟨ok_load _ _ _ _, so_iload_n mT55 dX0_replayed_5 rfl⟩
theorem gT55_6 : sG l g D H0 mT 55 6 (s_load vI 55 7 3) := ⟨ok_load _ _ _ _, so_iload_n mT55 dX0_replayed_6 rfl⟩
theorem gT55_7 : sG l g D H0 mT 55 7 (s_callhk (fun k => match k with | 2 => some 15 | 0 => some 19 | _ => none) 55 10 100 0 [0, 0, 0] 5) := ⟨ok_callhk _ _ _ _ _ _ _, sk_callh (by decide) (so_callVH mT55 mo100 (by decide) (t := 0) (C := "HyperVane") (by decide) rfl rfl (h9 := (fun k => match k with | 2 => some 15 | 0 => some 19 | _ => none)) (fun k u hk => by
    match k, hk with
    | 2, hk => cases hk; exact ⟨[], [⟨0, 12, 19, 13⟩], ⟨0, 12, 15, 21⟩, rfl, fun _ hz => absurd hz List.not_mem_nil, rfl, by decide, q936, rfl⟩
    | 0, hk => cases hk; exact ⟨[⟨0, 12, 15, 21⟩], [], ⟨0, 12, 19, 13⟩, rfl, List.forall_mem_cons.mpr ⟨Or.inr ⟨by decide, "java/lang/IndexOutOfBoundsException", q936, by decide +kernel⟩, fun _ hz => absurd hz List.not_mem_nil⟩, rfl, by decide, q833, rfl⟩
    | k + 3, hk => cases hk
    | 1, hk => cases hk) dX0_replayed_7 q1154 q1155 q1156 q54)⟩
theorem gT55_10 : sG l g D H0 mT 55 10 (s_i2 55 11 (fun a => .long a.toInt64)) := ⟨ok_i2 _ _ _, so_i2l mT55 dX0_replayed_10⟩
theorem gT55_11 : sG l g D H0 mT 55 11 (s_ast g (fun _ v => vL v = true) 55 12 22) := ⟨ok_ast _ _ _ _ _, so_last mT55 a22 dX0_replayed_11⟩
theorem gT55_12 : sG l g D H0 mT 55 12 (s_goto 55 23) := ⟨ok_goto _ _, so_goto mT55 dX0_replayed_12 (by decide)⟩
theorem gT55_15 : sG l g D H0 mT 55 15 (s_store vRf 55 17 5) := ⟨ok_store _ _ _ _, so_astore mT55 dX0_replayed_15⟩
theorem gT55_17 : sG l g D H0 mT 55 17 (s_const 55 18 (.int 1)) := ⟨ok_const _ _ _, so_iconst mT55 dX0_replayed_17 (by decide)⟩
theorem gT55_18 : sG l g D H0 mT 55 18 (s_ret pI) := ⟨ok_ret _, so_iret mT55 dX0_replayed_18⟩
theorem gT55_19 : sG l g D H0 mT 55 19 (s_store vRf 55 21 5) := ⟨ok_store _ _ _ _, so_astore mT55 dX0_replayed_19⟩
theorem gT55_21 : sG l g D H0 mT 55 21 (s_const 55 22 (.int 2)) := ⟨ok_const _ _ _, so_iconst mT55 dX0_replayed_21 (by decide)⟩
theorem gT55_22 : sG l g D H0 mT 55 22 (s_ret pI) := ⟨ok_ret _, so_iret mT55 dX0_replayed_22⟩
theorem gT55_23 : sG l g D H0 mT 55 23 (s_const 55 24 (.int 0)) := ⟨ok_const _ _ _, so_iconst mT55 dX0_replayed_23 (by decide)⟩
theorem gT55_24 : sG l g D H0 mT 55 24 (s_ret pI) := ⟨ok_ret _, so_iret mT55 dX0_replayed_24⟩
theorem gT55 (pc : Nat) : sG l g D H0 mT 55 pc (tT55 g pc) := sG_cond (sG_cond (sG_cond (sG_cond (sG_leaf gT55_0) (sG_leaf gT55_2)) (sG_cond (sG_leaf gT55_3) (sG_leaf gT55_4))) (sG_cond (sG_cond (sG_leaf gT55_5) (sG_leaf gT55_6)) (sG_cond (sG_leaf gT55_7) (sG_cond (sG_leaf gT55_10) (sG_leaf gT55_11))))) (sG_cond (sG_cond (sG_cond (sG_leaf gT55_12) (sG_leaf gT55_15)) (sG_cond (sG_leaf gT55_17) (sG_leaf gT55_18))) (sG_cond (sG_cond (sG_leaf gT55_19) (sG_leaf gT55_21)) (sG_cond (sG_leaf gT55_22) (sG_cond (sG_leaf gT55_23) (sG_leaf gT55_24)))))
theorem gT56_0 : sG l g D H0 mT 56 0 (s_load vRf 56 1 3) := ⟨ok_load _ _ _ _, so_aload_n mT56 dX0_doneIn_0 rfl⟩
theorem gT56_1 : sG l g D H0 mT 56 1 (s_const 56 2 (.int 0)) := ⟨ok_const _ _ _, so_iconst mT56 dX0_doneIn_1 (by decide)⟩
theorem gT56_2 : sG l g D H0 mT 56 2 (s_load vRf 56 3 0) := ⟨ok_load _ _ _ _, so_aload_n mT56 dX0_doneIn_2 rfl⟩
theorem gT56_3 : sG l g D H0 mT 56 3 (s_load vI 56 4 1) := ⟨ok_load _ _ _ _, so_iload_n mT56 dX0_doneIn_3 rfl⟩
theorem gT56_4 : sG l g D H0 mT 56 4 (s_load vI 56 5 2) := ⟨ok_load _ _ _ _, so_iload_n mT56 dX0_doneIn_4 rfl⟩
theorem gT56_5 : sG l g D H0 mT 56 5 (s_callhk (fun k => match k with | 2 => some 13 | 0 => some 17 | _ => none) 56 8 101 0 [0, 0] 3) := ⟨ok_callhk _ _ _ _ _ _ _, sk_callh (by decide) (so_callVH mT56 mo101 (by decide) (t := 0) (C := "HyperVane") (by decide) rfl rfl (h9 := (fun k => match k with | 2 => some 13 | 0 => some 17 | _ => none)) (fun k u hk => by
    match k, hk with
    | 2, hk => cases hk; exact ⟨[], [⟨0, 10, 17, 13⟩], ⟨0, 10, 13, 21⟩, rfl, fun _ hz => absurd hz List.not_mem_nil, rfl, by decide, q936, rfl⟩
    | 0, hk => cases hk; exact ⟨[⟨0, 10, 13, 21⟩], [], ⟨0, 10, 17, 13⟩, rfl, List.forall_mem_cons.mpr ⟨Or.inr ⟨by decide, "java/lang/IndexOutOfBoundsException", q936, by decide +kernel⟩, fun _ hz => absurd hz List.not_mem_nil⟩, rfl, by decide, q833, rfl⟩
    | k + 3, hk => cases hk
    | 1, hk => cases hk) dX0_doneIn_5 q1161 q1162 q1163 q54)⟩
theorem gT56_8 : sG l g D H0 mT 56 8 (s_i2 56 9 (fun a => .long a.toInt64)) := ⟨ok_i2 _ _ _, so_i2l mT56 dX0_doneIn_8⟩
theorem gT56_9 : sG l g D H0 mT 56 9 (s_ast g (fun _ v => vL v = true) 56 10 22) := ⟨ok_ast _ _ _ _ _, so_last mT56 a22 dX0_doneIn_9⟩
theorem gT56_10 : sG l g D H0 mT 56 10 (s_goto 56 21) := ⟨ok_goto _ _, so_goto mT56 dX0_doneIn_10 (by decide)⟩
theorem gT56_13 : sG l g D H0 mT 56 13 (s_store vRf 56 15 4) := ⟨ok_store _ _ _ _, so_astore mT56 dX0_doneIn_13⟩
theorem gT56_15 : sG l g D H0 mT 56 15 (s_const 56 16 (.int 1)) := ⟨ok_const _ _ _, so_iconst mT56 dX0_doneIn_15 (by decide)⟩
theorem gT56_16 : sG l g D H0 mT 56 16 (s_ret pI) := ⟨ok_ret _, so_iret mT56 dX0_doneIn_16⟩
theorem gT56_17 : sG l g D H0 mT 56 17 (s_store vRf 56 19 4) := ⟨ok_store _ _ _ _, so_astore mT56 dX0_doneIn_17⟩
theorem gT56_19 : sG l g D H0 mT 56 19 (s_const 56 20 (.int 2)) := ⟨ok_const _ _ _, so_iconst mT56 dX0_doneIn_19 (by decide)⟩
theorem gT56_20 : sG l g D H0 mT 56 20 (s_ret pI) := ⟨ok_ret _, so_iret mT56 dX0_doneIn_20⟩
theorem gT56_21 : sG l g D H0 mT 56 21 (s_const 56 22 (.int 0)) := ⟨ok_const _ _ _, so_iconst mT56 dX0_doneIn_21 (by decide)⟩
theorem gT56_22 : sG l g D H0 mT 56 22 (s_ret pI) := ⟨ok_ret _, so_iret mT56 dX0_doneIn_22⟩
theorem gT56 (pc : Nat) : sG l g D H0 mT 56 pc (tT56 g pc) := sG_cond (sG_cond (sG_cond (sG_cond (sG_leaf gT56_0) (sG_leaf gT56_1)) (sG_cond (sG_leaf gT56_2) (sG_leaf gT56_3))) (sG_cond (sG_cond (sG_leaf gT56_4) (sG_leaf gT56_5)) (sG_cond (sG_leaf gT56_8) (sG_leaf gT56_9)))) (sG_cond (sG_cond (sG_cond (sG_leaf gT56_10) (sG_leaf gT56_13)) (sG_cond (sG_leaf gT56_15) (sG_leaf gT56_16))) (sG_cond (sG_cond (sG_leaf gT56_17) (sG_leaf gT56_19)) (sG_cond (sG_leaf gT56_20) (sG_cond (sG_leaf gT56_21) (sG_leaf gT56_22)))))
theorem gT57_0 : sG l g D H0 mT 57 0 (s_load vRf 57 1 3) := ⟨ok_load _ _ _ _, so_aload_n mT57 dX0_awayIn_0 rfl⟩
theorem gT57_1 : sG l g D H0 mT 57 1 (s_const 57 2 (.int 0)) := ⟨ok_const _ _ _, so_iconst mT57 dX0_awayIn_1 (by decide)⟩
theorem gT57_2 : sG l g D H0 mT 57 2 (s_load vRf 57 3 0) := ⟨ok_load _ _ _ _, so_aload_n mT57 dX0_awayIn_2 rfl⟩
theorem gT57_3 : sG l g D H0 mT 57 3 (s_load vI 57 4 1) := ⟨ok_load _ _ _ _, so_iload_n mT57 dX0_awayIn_3 rfl⟩
theorem gT57_4 : sG l g D H0 mT 57 4 (s_load vI 57 5 2) := ⟨ok_load _ _ _ _, so_iload_n mT57 dX0_awayIn_4 rfl⟩
theorem gT57_5 : sG l g D H0 mT 57 5 (s_callhk (fun k => match k with | 2 => some 13 | 0 => some 17 | 1 => some 21 | _ => none) 57 8 102 0 [0, 0] 4) := ⟨ok_callhk _ _ _ _ _ _ _, sk_callh (by decide) (so_callVH mT57 mo102 (by decide) (t := 0) (C := "HyperVane") (by decide) rfl rfl (h9 := (fun k => match k with | 2 => some 13 | 0 => some 17 | 1 => some 21 | _ => none)) (fun k u hk => by
    match k, hk with
    | 2, hk => cases hk; exact ⟨[], [⟨0, 10, 17, 13⟩, ⟨0, 10, 21, 15⟩], ⟨0, 10, 13, 21⟩, rfl, fun _ hz => absurd hz List.not_mem_nil, rfl, by decide, q936, rfl⟩
    | 0, hk => cases hk; exact ⟨[⟨0, 10, 13, 21⟩], [⟨0, 10, 21, 15⟩], ⟨0, 10, 17, 13⟩, rfl, List.forall_mem_cons.mpr ⟨Or.inr ⟨by decide, "java/lang/IndexOutOfBoundsException", q936, by decide +kernel⟩, fun _ hz => absurd hz List.not_mem_nil⟩, rfl, by decide, q833, rfl⟩
    | 1, hk => cases hk; exact ⟨[⟨0, 10, 13, 21⟩, ⟨0, 10, 17, 13⟩], [], ⟨0, 10, 21, 15⟩, rfl, List.forall_mem_cons.mpr ⟨Or.inr ⟨by decide, "java/lang/IndexOutOfBoundsException", q936, by decide +kernel⟩, List.forall_mem_cons.mpr ⟨Or.inr ⟨by decide, "java/lang/IllegalArgumentException", q833, by decide +kernel⟩, fun _ hz => absurd hz List.not_mem_nil⟩⟩, rfl, by decide, q834, rfl⟩
    | k + 3, hk => cases hk) dX0_awayIn_5 q1168 q1169 q1170 q54)⟩
theorem gT57_8 : sG l g D H0 mT 57 8 (s_i2 57 9 (fun a => .long a.toInt64)) := ⟨ok_i2 _ _ _, so_i2l mT57 dX0_awayIn_8⟩
theorem gT57_9 : sG l g D H0 mT 57 9 (s_ast g (fun _ v => vL v = true) 57 10 22) := ⟨ok_ast _ _ _ _ _, so_last mT57 a22 dX0_awayIn_9⟩
theorem gT57_10 : sG l g D H0 mT 57 10 (s_goto 57 25) := ⟨ok_goto _ _, so_goto mT57 dX0_awayIn_10 (by decide)⟩
theorem gT57_13 : sG l g D H0 mT 57 13 (s_store vRf 57 15 4) := ⟨ok_store _ _ _ _, so_astore mT57 dX0_awayIn_13⟩
theorem gT57_15 : sG l g D H0 mT 57 15 (s_const 57 16 (.int 1)) := ⟨ok_const _ _ _, so_iconst mT57 dX0_awayIn_15 (by decide)⟩
theorem gT57_16 : sG l g D H0 mT 57 16 (s_ret pI) := ⟨ok_ret _, so_iret mT57 dX0_awayIn_16⟩
theorem gT57_17 : sG l g D H0 mT 57 17 (s_store vRf 57 19 4) := ⟨ok_store _ _ _ _, so_astore mT57 dX0_awayIn_17⟩
theorem gT57_19 : sG l g D H0 mT 57 19 (s_const 57 20 (.int 2)) := ⟨ok_const _ _ _, so_iconst mT57 dX0_awayIn_19 (by decide)⟩
theorem gT57_20 : sG l g D H0 mT 57 20 (s_ret pI) := ⟨ok_ret _, so_iret mT57 dX0_awayIn_20⟩
theorem gT57_21 : sG l g D H0 mT 57 21 (s_store vRf 57 23 4) := ⟨ok_store _ _ _ _, so_astore mT57 dX0_awayIn_21⟩
theorem gT57_23 : sG l g D H0 mT 57 23 (s_const 57 24 (.int 3)) := ⟨ok_const _ _ _, so_iconst mT57 dX0_awayIn_23 (by decide)⟩
theorem gT57_24 : sG l g D H0 mT 57 24 (s_ret pI) := ⟨ok_ret _, so_iret mT57 dX0_awayIn_24⟩
theorem gT57_25 : sG l g D H0 mT 57 25 (s_const 57 26 (.int 0)) := ⟨ok_const _ _ _, so_iconst mT57 dX0_awayIn_25 (by decide)⟩
theorem gT57_26 : sG l g D H0 mT 57 26 (s_ret pI) := ⟨ok_ret _, so_iret mT57 dX0_awayIn_26⟩
theorem gT57 (pc : Nat) : sG l g D H0 mT 57 pc (tT57 g pc) := sG_cond (sG_cond (sG_cond (sG_cond (sG_leaf gT57_0) (sG_leaf gT57_1)) (sG_cond (sG_leaf gT57_2) (sG_cond (sG_leaf gT57_3) (sG_leaf gT57_4)))) (sG_cond (sG_cond (sG_leaf gT57_5) (sG_leaf gT57_8)) (sG_cond (sG_leaf gT57_9) (sG_cond (sG_leaf gT57_10) (sG_leaf gT57_13))))) (sG_cond (sG_cond (sG_cond (sG_leaf gT57_15) (sG_leaf gT57_16)) (sG_cond (sG_leaf gT57_17) (sG_cond (sG_leaf gT57_19) (sG_leaf gT57_20)))) (sG_cond (sG_cond (sG_leaf gT57_21) (sG_leaf gT57_23)) (sG_cond (sG_leaf gT57_24) (sG_cond (sG_leaf gT57_25) (sG_leaf gT57_26)))))
end SND
