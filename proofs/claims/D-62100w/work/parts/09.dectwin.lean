theorem d_Mod_init_0 : decode b_Mod_init 0 = .ok (.aload_n 0, 1) := by decide +kernel
theorem d_Mod_init_1 : decode b_Mod_init 1 = .ok (.invokespecial 1, 3) := by decide +kernel
theorem d_Mod_init_4 : decode b_Mod_init 4 = .ok (.aload_n 0, 1) := by decide +kernel
theorem d_Mod_init_5 : decode b_Mod_init 5 = .ok (.bipush 8, 2) := by decide +kernel
theorem d_Mod_init_7 : decode b_Mod_init 7 = .ok (.newarray .int, 2) := by decide +kernel
theorem d_Mod_init_9 : decode b_Mod_init 9 = .ok (.putfield 7, 3) := by decide +kernel
theorem d_Mod_init_12 : decode b_Mod_init 12 = .ok (.aload_n 0, 1) := by decide +kernel
theorem d_Mod_init_13 : decode b_Mod_init 13 = .ok (.bipush 8, 2) := by decide +kernel
theorem d_Mod_init_15 : decode b_Mod_init 15 = .ok (.newarray .int, 2) := by decide +kernel
theorem d_Mod_init_17 : decode b_Mod_init 17 = .ok (.putfield 13, 3) := by decide +kernel
theorem d_Mod_init_20 : decode b_Mod_init 20 = .ok (.aload_n 0, 1) := by decide +kernel
theorem d_Mod_init_21 : decode b_Mod_init 21 = .ok (.bipush 80, 2) := by decide +kernel
theorem d_Mod_init_23 : decode b_Mod_init 23 = .ok (.newarray .int, 2) := by decide +kernel
theorem d_Mod_init_25 : decode b_Mod_init 25 = .ok (.putfield 16, 3) := by decide +kernel
theorem d_Mod_init_28 : decode b_Mod_init 28 = .ok (.aload_n 0, 1) := by decide +kernel
theorem d_Mod_init_29 : decode b_Mod_init 29 = .ok (.bipush 80, 2) := by decide +kernel
theorem d_Mod_init_31 : decode b_Mod_init 31 = .ok (.newarray .int, 2) := by decide +kernel
theorem d_Mod_init_33 : decode b_Mod_init 33 = .ok (.putfield 19, 3) := by decide +kernel
theorem d_Mod_init_36 : decode b_Mod_init 36 = .ok (.aload_n 0, 1) := by decide +kernel
theorem d_Mod_init_37 : decode b_Mod_init 37 = .ok (.bipush 80, 2) := by decide +kernel
theorem d_Mod_init_39 : decode b_Mod_init 39 = .ok (.newarray .int, 2) := by decide +kernel
theorem d_Mod_init_41 : decode b_Mod_init 41 = .ok (.putfield 22, 3) := by decide +kernel
theorem d_Mod_init_44 : decode b_Mod_init 44 = .ok (.aload_n 0, 1) := by decide +kernel
theorem d_Mod_init_45 : decode b_Mod_init 45 = .ok (.bipush 80, 2) := by decide +kernel
theorem d_Mod_init_47 : decode b_Mod_init 47 = .ok (.newarray .int, 2) := by decide +kernel
theorem d_Mod_init_49 : decode b_Mod_init 49 = .ok (.putfield 25, 3) := by decide +kernel
theorem d_Mod_init_52 : decode b_Mod_init 52 = .ok (.aload_n 0, 1) := by decide +kernel
theorem d_Mod_init_53 : decode b_Mod_init 53 = .ok (.bipush 80, 2) := by decide +kernel
theorem d_Mod_init_55 : decode b_Mod_init 55 = .ok (.newarray .int, 2) := by decide +kernel
theorem d_Mod_init_57 : decode b_Mod_init 57 = .ok (.putfield 28, 3) := by decide +kernel
theorem d_Mod_init_60 : decode b_Mod_init 60 = .ok (.aload_n 0, 1) := by decide +kernel
theorem d_Mod_init_61 : decode b_Mod_init 61 = .ok (.bipush 8, 2) := by decide +kernel
theorem d_Mod_init_63 : decode b_Mod_init 63 = .ok (.newarray .int, 2) := by decide +kernel
theorem d_Mod_init_65 : decode b_Mod_init 65 = .ok (.putfield 31, 3) := by decide +kernel
theorem d_Mod_init_68 : decode b_Mod_init 68 = .ok (.aload_n 0, 1) := by decide +kernel
theorem d_Mod_init_69 : decode b_Mod_init 69 = .ok (.bipush 8, 2) := by decide +kernel
theorem d_Mod_init_71 : decode b_Mod_init 71 = .ok (.newarray .int, 2) := by decide +kernel
theorem d_Mod_init_73 : decode b_Mod_init 73 = .ok (.putfield 34, 3) := by decide +kernel
theorem d_Mod_init_76 : decode b_Mod_init 76 = .ok (.aload_n 0, 1) := by decide +kernel
theorem d_Mod_init_77 : decode b_Mod_init 77 = .ok (.bipush 8, 2) := by decide +kernel
theorem d_Mod_init_79 : decode b_Mod_init 79 = .ok (.newarray .int, 2) := by decide +kernel
theorem d_Mod_init_81 : decode b_Mod_init 81 = .ok (.putfield 37, 3) := by decide +kernel
theorem d_Mod_init_84 : decode b_Mod_init 84 = .ok (.aload_n 0, 1) := by decide +kernel
theorem d_Mod_init_85 : decode b_Mod_init 85 = .ok (.bipush 8, 2) := by decide +kernel
theorem d_Mod_init_87 : decode b_Mod_init 87 = .ok (.newarray .int, 2) := by decide +kernel
theorem d_Mod_init_89 : decode b_Mod_init 89 = .ok (.putfield 40, 3) := by decide +kernel
theorem d_Mod_init_92 : decode b_Mod_init 92 = .ok (.aload_n 0, 1) := by decide +kernel
theorem d_Mod_init_93 : decode b_Mod_init 93 = .ok (.bipush 8, 2) := by decide +kernel
theorem d_Mod_init_95 : decode b_Mod_init 95 = .ok (.newarray .int, 2) := by decide +kernel
theorem d_Mod_init_97 : decode b_Mod_init 97 = .ok (.putfield 43, 3) := by decide +kernel
theorem d_Mod_init_100 : decode b_Mod_init 100 = .ok (.aload_n 0, 1) := by decide +kernel
theorem d_Mod_init_101 : decode b_Mod_init 101 = .ok (.bipush 8, 2) := by decide +kernel
theorem d_Mod_init_103 : decode b_Mod_init 103 = .ok (.newarray .int, 2) := by decide +kernel
theorem d_Mod_init_105 : decode b_Mod_init 105 = .ok (.putfield 46, 3) := by decide +kernel
theorem d_Mod_init_108 : decode b_Mod_init 108 = .ok (.aload_n 0, 1) := by decide +kernel
theorem d_Mod_init_109 : decode b_Mod_init 109 = .ok (.bipush 8, 2) := by decide +kernel
theorem d_Mod_init_111 : decode b_Mod_init 111 = .ok (.newarray .int, 2) := by decide +kernel
theorem d_Mod_init_113 : decode b_Mod_init 113 = .ok (.putfield 49, 3) := by decide +kernel
theorem d_Mod_init_116 : decode b_Mod_init 116 = .ok (.aload_n 0, 1) := by decide +kernel
theorem d_Mod_init_117 : decode b_Mod_init 117 = .ok (.bipush 8, 2) := by decide +kernel
theorem d_Mod_init_119 : decode b_Mod_init 119 = .ok (.newarray .int, 2) := by decide +kernel
theorem d_Mod_init_121 : decode b_Mod_init 121 = .ok (.putfield 52, 3) := by decide +kernel
theorem d_Mod_init_124 : decode b_Mod_init 124 = .ok (.aload_n 0, 1) := by decide +kernel
theorem d_Mod_init_125 : decode b_Mod_init 125 = .ok (.bipush 8, 2) := by decide +kernel
theorem d_Mod_init_127 : decode b_Mod_init 127 = .ok (.newarray .boolean, 2) := by decide +kernel
theorem d_Mod_init_129 : decode b_Mod_init 129 = .ok (.putfield 55, 3) := by decide +kernel
theorem d_Mod_init_132 : decode b_Mod_init 132 = .ok (.aload_n 0, 1) := by decide +kernel
theorem d_Mod_init_133 : decode b_Mod_init 133 = .ok (.bipush 32, 2) := by decide +kernel
theorem d_Mod_init_135 : decode b_Mod_init 135 = .ok (.newarray .int, 2) := by decide +kernel
theorem d_Mod_init_137 : decode b_Mod_init 137 = .ok (.putfield 59, 3) := by decide +kernel
theorem d_Mod_init_140 : decode b_Mod_init 140 = .ok (.aload_n 0, 1) := by decide +kernel
theorem d_Mod_init_141 : decode b_Mod_init 141 = .ok (.bipush 8, 2) := by decide +kernel
theorem d_Mod_init_143 : decode b_Mod_init 143 = .ok (.newarray .int, 2) := by decide +kernel
theorem d_Mod_init_145 : decode b_Mod_init 145 = .ok (.putfield 62, 3) := by decide +kernel
theorem d_Mod_init_148 : decode b_Mod_init 148 = .ok (.aload_n 0, 1) := by decide +kernel
theorem d_Mod_init_149 : decode b_Mod_init 149 = .ok (.bipush 16, 2) := by decide +kernel
theorem d_Mod_init_151 : decode b_Mod_init 151 = .ok (.newarray .int, 2) := by decide +kernel
theorem d_Mod_init_153 : decode b_Mod_init 153 = .ok (.putfield 65, 3) := by decide +kernel
theorem d_Mod_init_156 : decode b_Mod_init 156 = .ok (.aload_n 0, 1) := by decide +kernel
theorem d_Mod_init_157 : decode b_Mod_init 157 = .ok (.bipush 16, 2) := by decide +kernel
theorem d_Mod_init_159 : decode b_Mod_init 159 = .ok (.newarray .boolean, 2) := by decide +kernel
theorem d_Mod_init_161 : decode b_Mod_init 161 = .ok (.putfield 68, 3) := by decide +kernel
theorem d_Mod_init_164 : decode b_Mod_init 164 = .ok (.aload_n 0, 1) := by decide +kernel
theorem d_Mod_init_165 : decode b_Mod_init 165 = .ok (.iconst 4, 1) := by decide +kernel
theorem d_Mod_init_166 : decode b_Mod_init 166 = .ok (.newarray .boolean, 2) := by decide +kernel
theorem d_Mod_init_168 : decode b_Mod_init 168 = .ok (.putfield 71, 3) := by decide +kernel
theorem d_Mod_init_171 : decode b_Mod_init 171 = .ok (.aload_n 0, 1) := by decide +kernel
theorem d_Mod_init_172 : decode b_Mod_init 172 = .ok (.bipush 10, 2) := by decide +kernel
theorem d_Mod_init_174 : decode b_Mod_init 174 = .ok (.newarray .int, 2) := by decide +kernel
theorem d_Mod_init_176 : decode b_Mod_init 176 = .ok (.putfield 74, 3) := by decide +kernel
theorem d_Mod_init_179 : decode b_Mod_init 179 = .ok (.aload_n 0, 1) := by decide +kernel
theorem d_Mod_init_180 : decode b_Mod_init 180 = .ok (.bipush 64, 2) := by decide +kernel
theorem d_Mod_init_182 : decode b_Mod_init 182 = .ok (.newarray .int, 2) := by decide +kernel
theorem d_Mod_init_184 : decode b_Mod_init 184 = .ok (.putfield 77, 3) := by decide +kernel
theorem d_Mod_init_187 : decode b_Mod_init 187 = .ok (.aload_n 0, 1) := by decide +kernel
theorem d_Mod_init_188 : decode b_Mod_init 188 = .ok (.bipush 64, 2) := by decide +kernel
theorem d_Mod_init_190 : decode b_Mod_init 190 = .ok (.newarray .int, 2) := by decide +kernel
theorem d_Mod_init_192 : decode b_Mod_init 192 = .ok (.putfield 80, 3) := by decide +kernel
theorem d_Mod_init_195 : decode b_Mod_init 195 = .ok (.aload_n 0, 1) := by decide +kernel
theorem d_Mod_init_196 : decode b_Mod_init 196 = .ok (.bipush 64, 2) := by decide +kernel
theorem d_Mod_init_198 : decode b_Mod_init 198 = .ok (.newarray .boolean, 2) := by decide +kernel
theorem d_Mod_init_200 : decode b_Mod_init 200 = .ok (.putfield 83, 3) := by decide +kernel
theorem d_Mod_init_203 : decode b_Mod_init 203 = .ok (.aload_n 0, 1) := by decide +kernel
theorem d_Mod_init_204 : decode b_Mod_init 204 = .ok (.bipush 10, 2) := by decide +kernel
theorem d_Mod_init_206 : decode b_Mod_init 206 = .ok (.newarray .int, 2) := by decide +kernel
theorem d_Mod_init_208 : decode b_Mod_init 208 = .ok (.putfield 86, 3) := by decide +kernel
theorem d_Mod_init_211 : decode b_Mod_init 211 = .ok (.aload_n 0, 1) := by decide +kernel
theorem d_Mod_init_212 : decode b_Mod_init 212 = .ok (.bipush 10, 2) := by decide +kernel
theorem d_Mod_init_214 : decode b_Mod_init 214 = .ok (.newarray .int, 2) := by decide +kernel
theorem d_Mod_init_216 : decode b_Mod_init 216 = .ok (.putfield 89, 3) := by decide +kernel
theorem d_Mod_init_219 : decode b_Mod_init 219 = .ok (.aload_n 0, 1) := by decide +kernel
theorem d_Mod_init_220 : decode b_Mod_init 220 = .ok (.iconst 4, 1) := by decide +kernel
theorem d_Mod_init_221 : decode b_Mod_init 221 = .ok (.newarray .boolean, 2) := by decide +kernel
theorem d_Mod_init_223 : decode b_Mod_init 223 = .ok (.putfield 92, 3) := by decide +kernel
theorem d_Mod_init_226 : decode b_Mod_init 226 = .ok (.aload_n 0, 1) := by decide +kernel
theorem d_Mod_init_227 : decode b_Mod_init 227 = .ok (.iconst 4, 1) := by decide +kernel
theorem d_Mod_init_228 : decode b_Mod_init 228 = .ok (.newarray .int, 2) := by decide +kernel
theorem d_Mod_init_230 : decode b_Mod_init 230 = .ok (.putfield 95, 3) := by decide +kernel
theorem d_Mod_init_233 : decode b_Mod_init 233 = .ok (.iconst 0, 1) := by decide +kernel
theorem d_Mod_init_234 : decode b_Mod_init 234 = .ok (.istore_n 1, 1) := by decide +kernel
theorem d_Mod_init_235 : decode b_Mod_init 235 = .ok (.iload_n 1, 1) := by decide +kernel
theorem d_Mod_init_236 : decode b_Mod_init 236 = .ok (.bipush 16, 2) := by decide +kernel
theorem d_Mod_init_238 : decode b_Mod_init 238 = .ok (.if_icmp .ge 16, 3) := by decide +kernel
theorem d_Mod_init_241 : decode b_Mod_init 241 = .ok (.aload_n 0, 1) := by decide +kernel
theorem d_Mod_init_242 : decode b_Mod_init 242 = .ok (.getfield 65, 3) := by decide +kernel
theorem d_Mod_init_245 : decode b_Mod_init 245 = .ok (.iload_n 1, 1) := by decide +kernel
theorem d_Mod_init_246 : decode b_Mod_init 246 = .ok (.iconst (-1), 1) := by decide +kernel
theorem d_Mod_init_247 : decode b_Mod_init 247 = .ok (.iastore, 1) := by decide +kernel
theorem d_Mod_init_248 : decode b_Mod_init 248 = .ok (.iinc 1 1, 3) := by decide +kernel
theorem d_Mod_init_251 : decode b_Mod_init 251 = .ok (.goto (-16), 3) := by decide +kernel
theorem d_Mod_init_254 : decode b_Mod_init 254 = .ok (.iconst 0, 1) := by decide +kernel
theorem d_Mod_init_255 : decode b_Mod_init 255 = .ok (.istore_n 1, 1) := by decide +kernel
theorem d_Mod_init_256 : decode b_Mod_init 256 = .ok (.iload_n 1, 1) := by decide +kernel
theorem d_Mod_init_257 : decode b_Mod_init 257 = .ok (.bipush 10, 2) := by decide +kernel
theorem d_Mod_init_259 : decode b_Mod_init 259 = .ok (.if_icmp .ge 23, 3) := by decide +kernel
theorem d_Mod_init_262 : decode b_Mod_init 262 = .ok (.aload_n 0, 1) := by decide +kernel
theorem d_Mod_init_263 : decode b_Mod_init 263 = .ok (.getfield 86, 3) := by decide +kernel
theorem d_Mod_init_266 : decode b_Mod_init 266 = .ok (.iload_n 1, 1) := by decide +kernel
theorem d_Mod_init_267 : decode b_Mod_init 267 = .ok (.iconst 4, 1) := by decide +kernel
theorem d_Mod_init_268 : decode b_Mod_init 268 = .ok (.iastore, 1) := by decide +kernel
theorem d_Mod_init_269 : decode b_Mod_init 269 = .ok (.aload_n 0, 1) := by decide +kernel
theorem d_Mod_init_270 : decode b_Mod_init 270 = .ok (.getfield 89, 3) := by decide +kernel
theorem d_Mod_init_273 : decode b_Mod_init 273 = .ok (.iload_n 1, 1) := by decide +kernel
theorem d_Mod_init_274 : decode b_Mod_init 274 = .ok (.iload_n 1, 1) := by decide +kernel
theorem d_Mod_init_275 : decode b_Mod_init 275 = .ok (.iastore, 1) := by decide +kernel
theorem d_Mod_init_276 : decode b_Mod_init 276 = .ok (.iinc 1 1, 3) := by decide +kernel
theorem d_Mod_init_279 : decode b_Mod_init 279 = .ok (.goto (-23), 3) := by decide +kernel
theorem d_Mod_init_282 : decode b_Mod_init 282 = .ok (.aload_n 0, 1) := by decide +kernel
theorem d_Mod_init_283 : decode b_Mod_init 283 = .ok (.bipush 10, 2) := by decide +kernel
theorem d_Mod_init_285 : decode b_Mod_init 285 = .ok (.putfield 98, 3) := by decide +kernel
theorem d_Mod_init_288 : decode b_Mod_init 288 = .ok (.return_, 1) := by decide +kernel
theorem d_Mod_thread_0 : decode b_Mod_thread 0 = .ok (.iload_n 1, 1) := by decide +kernel
theorem d_Mod_thread_1 : decode b_Mod_thread 1 = .ok (.invokestatic 102, 3) := by decide +kernel
theorem d_Mod_thread_4 : decode b_Mod_thread 4 = .ok (.ifCond .ne 12, 3) := by decide +kernel
theorem d_Mod_thread_7 : decode b_Mod_thread 7 = .ok (.aload_n 0, 1) := by decide +kernel
theorem d_Mod_thread_8 : decode b_Mod_thread 8 = .ok (.getfield 106, 3) := by decide +kernel
theorem d_Mod_thread_11 : decode b_Mod_thread 11 = .ok (.bipush 8, 2) := by decide +kernel
theorem d_Mod_thread_13 : decode b_Mod_thread 13 = .ok (.if_icmp .ne 5, 3) := by decide +kernel
theorem d_Mod_thread_16 : decode b_Mod_thread 16 = .ok (.iconst (-1), 1) := by decide +kernel
theorem d_Mod_thread_17 : decode b_Mod_thread 17 = .ok (.ireturn, 1) := by decide +kernel
theorem d_Mod_thread_18 : decode b_Mod_thread 18 = .ok (.aload_n 0, 1) := by decide +kernel
theorem d_Mod_thread_19 : decode b_Mod_thread 19 = .ok (.getfield 31, 3) := by decide +kernel
theorem d_Mod_thread_22 : decode b_Mod_thread 22 = .ok (.aload_n 0, 1) := by decide +kernel
theorem d_Mod_thread_23 : decode b_Mod_thread 23 = .ok (.getfield 106, 3) := by decide +kernel
theorem d_Mod_thread_26 : decode b_Mod_thread 26 = .ok (.iload_n 1, 1) := by decide +kernel
theorem d_Mod_thread_27 : decode b_Mod_thread 27 = .ok (.iastore, 1) := by decide +kernel
theorem d_Mod_thread_28 : decode b_Mod_thread 28 = .ok (.aload_n 0, 1) := by decide +kernel
theorem d_Mod_thread_29 : decode b_Mod_thread 29 = .ok (.getfield 34, 3) := by decide +kernel
theorem d_Mod_thread_32 : decode b_Mod_thread 32 = .ok (.aload_n 0, 1) := by decide +kernel
theorem d_Mod_thread_33 : decode b_Mod_thread 33 = .ok (.getfield 106, 3) := by decide +kernel
theorem d_Mod_thread_36 : decode b_Mod_thread 36 = .ok (.iconst 0, 1) := by decide +kernel
theorem d_Mod_thread_37 : decode b_Mod_thread 37 = .ok (.iastore, 1) := by decide +kernel
theorem d_Mod_thread_38 : decode b_Mod_thread 38 = .ok (.aload_n 0, 1) := by decide +kernel
theorem d_Mod_thread_39 : decode b_Mod_thread 39 = .ok (.dup, 1) := by decide +kernel
theorem d_Mod_thread_40 : decode b_Mod_thread 40 = .ok (.getfield 106, 3) := by decide +kernel
theorem d_Mod_thread_43 : decode b_Mod_thread 43 = .ok (.iconst 1, 1) := by decide +kernel
theorem d_Mod_thread_44 : decode b_Mod_thread 44 = .ok (.iadd, 1) := by decide +kernel
theorem d_Mod_thread_45 : decode b_Mod_thread 45 = .ok (.putfield 106, 3) := by decide +kernel
theorem d_Mod_thread_48 : decode b_Mod_thread 48 = .ok (.aload_n 0, 1) := by decide +kernel
theorem d_Mod_thread_49 : decode b_Mod_thread 49 = .ok (.getfield 106, 3) := by decide +kernel
theorem d_Mod_thread_52 : decode b_Mod_thread 52 = .ok (.iconst 1, 1) := by decide +kernel
theorem d_Mod_thread_53 : decode b_Mod_thread 53 = .ok (.isub, 1) := by decide +kernel
theorem d_Mod_thread_54 : decode b_Mod_thread 54 = .ok (.ireturn, 1) := by decide +kernel
theorem d_Mod_noProcessor_0 : decode b_Mod_noProcessor 0 = .ok (.iload_n 0, 1) := by decide +kernel
theorem d_Mod_noProcessor_1 : decode b_Mod_noProcessor 1 = .ok (.ifCond .lt 8, 3) := by decide +kernel
theorem d_Mod_noProcessor_4 : decode b_Mod_noProcessor 4 = .ok (.iload_n 0, 1) := by decide +kernel
theorem d_Mod_noProcessor_5 : decode b_Mod_noProcessor 5 = .ok (.iconst 3, 1) := by decide +kernel
theorem d_Mod_noProcessor_6 : decode b_Mod_noProcessor 6 = .ok (.if_icmp .le 7, 3) := by decide +kernel
theorem d_Mod_noProcessor_9 : decode b_Mod_noProcessor 9 = .ok (.iconst 1, 1) := by decide +kernel
theorem d_Mod_noProcessor_10 : decode b_Mod_noProcessor 10 = .ok (.goto 4, 3) := by decide +kernel
theorem d_Mod_noProcessor_13 : decode b_Mod_noProcessor 13 = .ok (.iconst 0, 1) := by decide +kernel
theorem d_Mod_noProcessor_14 : decode b_Mod_noProcessor 14 = .ok (.ireturn, 1) := by decide +kernel
theorem d_Mod_load_0 : decode b_Mod_load 0 = .ok (.iload_n 2, 1) := by decide +kernel
theorem d_Mod_load_1 : decode b_Mod_load 1 = .ok (.invokestatic 117, 3) := by decide +kernel
theorem d_Mod_load_4 : decode b_Mod_load 4 = .ok (.ifCond .eq 7, 3) := by decide +kernel
theorem d_Mod_load_7 : decode b_Mod_load 7 = .ok (.iconst (-1), 1) := by decide +kernel
theorem d_Mod_load_8 : decode b_Mod_load 8 = .ok (.goto 12, 3) := by decide +kernel
theorem d_Mod_load_11 : decode b_Mod_load 11 = .ok (.aload_n 0, 1) := by decide +kernel
theorem d_Mod_load_12 : decode b_Mod_load 12 = .ok (.iload_n 1, 1) := by decide +kernel
theorem d_Mod_load_13 : decode b_Mod_load 13 = .ok (.iconst 0, 1) := by decide +kernel
theorem d_Mod_load_14 : decode b_Mod_load 14 = .ok (.iload_n 2, 1) := by decide +kernel
theorem d_Mod_load_15 : decode b_Mod_load 15 = .ok (.iconst 1, 1) := by decide +kernel
theorem d_Mod_load_16 : decode b_Mod_load 16 = .ok (.iconst 0, 1) := by decide +kernel
theorem d_Mod_load_17 : decode b_Mod_load 17 = .ok (.invokevirtual 120, 3) := by decide +kernel
theorem d_Mod_load_20 : decode b_Mod_load 20 = .ok (.ireturn, 1) := by decide +kernel
theorem d_Mod_noPage_0 : decode b_Mod_noPage 0 = .ok (.iload_n 0, 1) := by decide +kernel
theorem d_Mod_noPage_1 : decode b_Mod_noPage 1 = .ok (.ifCond .lt 9, 3) := by decide +kernel
theorem d_Mod_noPage_4 : decode b_Mod_noPage 4 = .ok (.iload_n 0, 1) := by decide +kernel
theorem d_Mod_noPage_5 : decode b_Mod_noPage 5 = .ok (.bipush 15, 2) := by decide +kernel
theorem d_Mod_noPage_7 : decode b_Mod_noPage 7 = .ok (.if_icmp .le 7, 3) := by decide +kernel
theorem d_Mod_noPage_10 : decode b_Mod_noPage 10 = .ok (.iconst 1, 1) := by decide +kernel
theorem d_Mod_noPage_11 : decode b_Mod_noPage 11 = .ok (.goto 4, 3) := by decide +kernel
theorem d_Mod_noPage_14 : decode b_Mod_noPage 14 = .ok (.iconst 0, 1) := by decide +kernel
theorem d_Mod_noPage_15 : decode b_Mod_noPage 15 = .ok (.ireturn, 1) := by decide +kernel
theorem d_Mod_order_0 : decode b_Mod_order 0 = .ok (.iload_n 1, 1) := by decide +kernel
theorem d_Mod_order_1 : decode b_Mod_order 1 = .ok (.ifCond .lt 22, 3) := by decide +kernel
theorem d_Mod_order_4 : decode b_Mod_order 4 = .ok (.iload_n 1, 1) := by decide +kernel
theorem d_Mod_order_5 : decode b_Mod_order 5 = .ok (.aload_n 0, 1) := by decide +kernel
theorem d_Mod_order_6 : decode b_Mod_order 6 = .ok (.getfield 106, 3) := by decide +kernel
theorem d_Mod_order_9 : decode b_Mod_order 9 = .ok (.if_icmp .ge 14, 3) := by decide +kernel
theorem d_Mod_order_12 : decode b_Mod_order 12 = .ok (.aload_n 0, 1) := by decide +kernel
theorem d_Mod_order_13 : decode b_Mod_order 13 = .ok (.getfield 7, 3) := by decide +kernel
theorem d_Mod_order_16 : decode b_Mod_order 16 = .ok (.iload_n 1, 1) := by decide +kernel
theorem d_Mod_order_17 : decode b_Mod_order 17 = .ok (.iaload, 1) := by decide +kernel
theorem d_Mod_order_18 : decode b_Mod_order 18 = .ok (.bipush 10, 2) := by decide +kernel
theorem d_Mod_order_20 : decode b_Mod_order 20 = .ok (.if_icmp .ne 5, 3) := by decide +kernel
theorem d_Mod_order_23 : decode b_Mod_order 23 = .ok (.iconst (-1), 1) := by decide +kernel
theorem d_Mod_order_24 : decode b_Mod_order 24 = .ok (.ireturn, 1) := by decide +kernel
theorem d_Mod_order_25 : decode b_Mod_order 25 = .ok (.bipush 10, 2) := by decide +kernel
theorem d_Mod_order_27 : decode b_Mod_order 27 = .ok (.iload_n 1, 1) := by decide +kernel
theorem d_Mod_order_28 : decode b_Mod_order 28 = .ok (.imul, 1) := by decide +kernel
theorem d_Mod_order_29 : decode b_Mod_order 29 = .ok (.aload_n 0, 1) := by decide +kernel
theorem d_Mod_order_30 : decode b_Mod_order 30 = .ok (.getfield 7, 3) := by decide +kernel
theorem d_Mod_order_33 : decode b_Mod_order 33 = .ok (.iload_n 1, 1) := by decide +kernel
theorem d_Mod_order_34 : decode b_Mod_order 34 = .ok (.iaload, 1) := by decide +kernel
theorem d_Mod_order_35 : decode b_Mod_order 35 = .ok (.iadd, 1) := by decide +kernel
theorem d_Mod_order_36 : decode b_Mod_order 36 = .ok (.istore 6, 2) := by decide +kernel
theorem d_Mod_order_38 : decode b_Mod_order 38 = .ok (.aload_n 0, 1) := by decide +kernel
theorem d_Mod_order_39 : decode b_Mod_order 39 = .ok (.getfield 16, 3) := by decide +kernel
theorem d_Mod_order_42 : decode b_Mod_order 42 = .ok (.iload 6, 2) := by decide +kernel
theorem d_Mod_order_44 : decode b_Mod_order 44 = .ok (.iload_n 2, 1) := by decide +kernel
theorem d_Mod_order_45 : decode b_Mod_order 45 = .ok (.iastore, 1) := by decide +kernel
theorem d_Mod_order_46 : decode b_Mod_order 46 = .ok (.aload_n 0, 1) := by decide +kernel
theorem d_Mod_order_47 : decode b_Mod_order 47 = .ok (.getfield 19, 3) := by decide +kernel
theorem d_Mod_order_50 : decode b_Mod_order 50 = .ok (.iload 6, 2) := by decide +kernel
theorem d_Mod_order_52 : decode b_Mod_order 52 = .ok (.iload_n 3, 1) := by decide +kernel
theorem d_Mod_order_53 : decode b_Mod_order 53 = .ok (.iastore, 1) := by decide +kernel
theorem d_Mod_order_54 : decode b_Mod_order 54 = .ok (.aload_n 0, 1) := by decide +kernel
theorem d_Mod_order_55 : decode b_Mod_order 55 = .ok (.getfield 22, 3) := by decide +kernel
theorem d_Mod_order_58 : decode b_Mod_order 58 = .ok (.iload 6, 2) := by decide +kernel
theorem d_Mod_order_60 : decode b_Mod_order 60 = .ok (.iload 4, 2) := by decide +kernel
theorem d_Mod_order_62 : decode b_Mod_order 62 = .ok (.iastore, 1) := by decide +kernel
theorem d_Mod_order_63 : decode b_Mod_order 63 = .ok (.aload_n 0, 1) := by decide +kernel
theorem d_Mod_order_64 : decode b_Mod_order 64 = .ok (.getfield 25, 3) := by decide +kernel
theorem d_Mod_order_67 : decode b_Mod_order 67 = .ok (.iload 6, 2) := by decide +kernel
theorem d_Mod_order_69 : decode b_Mod_order 69 = .ok (.iload 5, 2) := by decide +kernel
theorem d_Mod_order_71 : decode b_Mod_order 71 = .ok (.iastore, 1) := by decide +kernel
theorem d_Mod_order_72 : decode b_Mod_order 72 = .ok (.aload_n 0, 1) := by decide +kernel
theorem d_Mod_order_73 : decode b_Mod_order 73 = .ok (.getfield 7, 3) := by decide +kernel
theorem d_Mod_order_76 : decode b_Mod_order 76 = .ok (.iload_n 1, 1) := by decide +kernel
theorem d_Mod_order_77 : decode b_Mod_order 77 = .ok (.dup2, 1) := by decide +kernel
theorem d_Mod_order_78 : decode b_Mod_order 78 = .ok (.iaload, 1) := by decide +kernel
theorem d_Mod_order_79 : decode b_Mod_order 79 = .ok (.iconst 1, 1) := by decide +kernel
theorem d_Mod_order_80 : decode b_Mod_order 80 = .ok (.iadd, 1) := by decide +kernel
theorem d_Mod_order_81 : decode b_Mod_order 81 = .ok (.iastore, 1) := by decide +kernel
theorem d_Mod_order_82 : decode b_Mod_order 82 = .ok (.aload_n 0, 1) := by decide +kernel
theorem d_Mod_order_83 : decode b_Mod_order 83 = .ok (.getfield 34, 3) := by decide +kernel
theorem d_Mod_order_86 : decode b_Mod_order 86 = .ok (.iload_n 1, 1) := by decide +kernel
theorem d_Mod_order_87 : decode b_Mod_order 87 = .ok (.iaload, 1) := by decide +kernel
theorem d_Mod_order_88 : decode b_Mod_order 88 = .ok (.ifCond .ne 25, 3) := by decide +kernel
theorem d_Mod_order_91 : decode b_Mod_order 91 = .ok (.aload_n 0, 1) := by decide +kernel
theorem d_Mod_order_92 : decode b_Mod_order 92 = .ok (.getfield 34, 3) := by decide +kernel
theorem d_Mod_order_95 : decode b_Mod_order 95 = .ok (.iload_n 1, 1) := by decide +kernel
theorem d_Mod_order_96 : decode b_Mod_order 96 = .ok (.iconst 1, 1) := by decide +kernel
theorem d_Mod_order_97 : decode b_Mod_order 97 = .ok (.iastore, 1) := by decide +kernel
theorem d_Mod_order_98 : decode b_Mod_order 98 = .ok (.aload_n 0, 1) := by decide +kernel
theorem d_Mod_order_99 : decode b_Mod_order 99 = .ok (.getfield 37, 3) := by decide +kernel
theorem d_Mod_order_102 : decode b_Mod_order 102 = .ok (.iload_n 1, 1) := by decide +kernel
theorem d_Mod_order_103 : decode b_Mod_order 103 = .ok (.aload_n 0, 1) := by decide +kernel
theorem d_Mod_order_104 : decode b_Mod_order 104 = .ok (.invokevirtual 109, 3) := by decide +kernel
theorem d_Mod_order_107 : decode b_Mod_order 107 = .ok (.iastore, 1) := by decide +kernel
theorem d_Mod_order_108 : decode b_Mod_order 108 = .ok (.aload_n 0, 1) := by decide +kernel
theorem d_Mod_order_109 : decode b_Mod_order 109 = .ok (.iload_n 1, 1) := by decide +kernel
theorem d_Mod_order_110 : decode b_Mod_order 110 = .ok (.invokevirtual 113, 3) := by decide +kernel
theorem d_Mod_order_113 : decode b_Mod_order 113 = .ok (.aload_n 0, 1) := by decide +kernel
theorem d_Mod_order_114 : decode b_Mod_order 114 = .ok (.getfield 7, 3) := by decide +kernel
theorem d_Mod_order_117 : decode b_Mod_order 117 = .ok (.iload_n 1, 1) := by decide +kernel
theorem d_Mod_order_118 : decode b_Mod_order 118 = .ok (.iaload, 1) := by decide +kernel
theorem d_Mod_order_119 : decode b_Mod_order 119 = .ok (.iconst 1, 1) := by decide +kernel
theorem d_Mod_order_120 : decode b_Mod_order 120 = .ok (.isub, 1) := by decide +kernel
theorem d_Mod_order_121 : decode b_Mod_order 121 = .ok (.ireturn, 1) := by decide +kernel
theorem d_Mod_tick_0 : decode b_Mod_tick 0 = .ok (.aload_n 0, 1) := by decide +kernel
theorem d_Mod_tick_1 : decode b_Mod_tick 1 = .ok (.dup, 1) := by decide +kernel
theorem d_Mod_tick_2 : decode b_Mod_tick 2 = .ok (.getfield 98, 3) := by decide +kernel
theorem d_Mod_tick_5 : decode b_Mod_tick 5 = .ok (.iconst 1, 1) := by decide +kernel
theorem d_Mod_tick_6 : decode b_Mod_tick 6 = .ok (.iadd, 1) := by decide +kernel
theorem d_Mod_tick_7 : decode b_Mod_tick 7 = .ok (.putfield 98, 3) := by decide +kernel
theorem d_Mod_tick_10 : decode b_Mod_tick 10 = .ok (.aload_n 0, 1) := by decide +kernel
theorem d_Mod_tick_11 : decode b_Mod_tick 11 = .ok (.getfield 98, 3) := by decide +kernel
theorem d_Mod_tick_14 : decode b_Mod_tick 14 = .ok (.ireturn, 1) := by decide +kernel
theorem d_Mod_begin_0 : decode b_Mod_begin 0 = .ok (.aload_n 0, 1) := by decide +kernel
theorem d_Mod_begin_1 : decode b_Mod_begin 1 = .ok (.getfield 16, 3) := by decide +kernel
theorem d_Mod_begin_4 : decode b_Mod_begin 4 = .ok (.bipush 10, 2) := by decide +kernel
theorem d_Mod_begin_6 : decode b_Mod_begin 6 = .ok (.iload_n 1, 1) := by decide +kernel
theorem d_Mod_begin_7 : decode b_Mod_begin 7 = .ok (.imul, 1) := by decide +kernel
theorem d_Mod_begin_8 : decode b_Mod_begin 8 = .ok (.aload_n 0, 1) := by decide +kernel
theorem d_Mod_begin_9 : decode b_Mod_begin 9 = .ok (.getfield 13, 3) := by decide +kernel
theorem d_Mod_begin_12 : decode b_Mod_begin 12 = .ok (.iload_n 1, 1) := by decide +kernel
theorem d_Mod_begin_13 : decode b_Mod_begin 13 = .ok (.iaload, 1) := by decide +kernel
theorem d_Mod_begin_14 : decode b_Mod_begin 14 = .ok (.iadd, 1) := by decide +kernel
theorem d_Mod_begin_15 : decode b_Mod_begin 15 = .ok (.iaload, 1) := by decide +kernel
theorem d_Mod_begin_16 : decode b_Mod_begin 16 = .ok (.istore_n 2, 1) := by decide +kernel
theorem d_Mod_begin_17 : decode b_Mod_begin 17 = .ok (.aload_n 0, 1) := by decide +kernel
theorem d_Mod_begin_18 : decode b_Mod_begin 18 = .ok (.getfield 40, 3) := by decide +kernel
theorem d_Mod_begin_21 : decode b_Mod_begin 21 = .ok (.iload_n 1, 1) := by decide +kernel
theorem d_Mod_begin_22 : decode b_Mod_begin 22 = .ok (.iload_n 2, 1) := by decide +kernel
theorem d_Mod_begin_23 : decode b_Mod_begin 23 = .ok (.iconst 1, 1) := by decide +kernel
theorem d_Mod_begin_24 : decode b_Mod_begin 24 = .ok (.if_icmp .gt 7, 3) := by decide +kernel
theorem d_Mod_begin_27 : decode b_Mod_begin 27 = .ok (.iconst 4, 1) := by decide +kernel
theorem d_Mod_begin_28 : decode b_Mod_begin 28 = .ok (.goto 15, 3) := by decide +kernel
theorem d_Mod_begin_31 : decode b_Mod_begin 31 = .ok (.iload_n 2, 1) := by decide +kernel
theorem d_Mod_begin_32 : decode b_Mod_begin 32 = .ok (.iconst 5, 1) := by decide +kernel
theorem d_Mod_begin_33 : decode b_Mod_begin 33 = .ok (.if_icmp .ne 8, 3) := by decide +kernel
theorem d_Mod_begin_36 : decode b_Mod_begin 36 = .ok (.bipush 15, 2) := by decide +kernel
theorem d_Mod_begin_38 : decode b_Mod_begin 38 = .ok (.goto 5, 3) := by decide +kernel
theorem d_Mod_begin_41 : decode b_Mod_begin 41 = .ok (.bipush 7, 2) := by decide +kernel
theorem d_Mod_begin_43 : decode b_Mod_begin 43 = .ok (.iastore, 1) := by decide +kernel
theorem d_Mod_begin_44 : decode b_Mod_begin 44 = .ok (.aload_n 0, 1) := by decide +kernel
theorem d_Mod_begin_45 : decode b_Mod_begin 45 = .ok (.getfield 46, 3) := by decide +kernel
theorem d_Mod_begin_48 : decode b_Mod_begin 48 = .ok (.iload_n 1, 1) := by decide +kernel
theorem d_Mod_begin_49 : decode b_Mod_begin 49 = .ok (.iconst 0, 1) := by decide +kernel
theorem d_Mod_begin_50 : decode b_Mod_begin 50 = .ok (.iastore, 1) := by decide +kernel
theorem d_Mod_begin_51 : decode b_Mod_begin 51 = .ok (.aload_n 0, 1) := by decide +kernel
theorem d_Mod_begin_52 : decode b_Mod_begin 52 = .ok (.getfield 49, 3) := by decide +kernel
theorem d_Mod_begin_55 : decode b_Mod_begin 55 = .ok (.iload_n 1, 1) := by decide +kernel
theorem d_Mod_begin_56 : decode b_Mod_begin 56 = .ok (.iconst 0, 1) := by decide +kernel
theorem d_Mod_begin_57 : decode b_Mod_begin 57 = .ok (.iastore, 1) := by decide +kernel
theorem d_Mod_begin_58 : decode b_Mod_begin 58 = .ok (.aload_n 0, 1) := by decide +kernel
theorem d_Mod_begin_59 : decode b_Mod_begin 59 = .ok (.getfield 52, 3) := by decide +kernel
theorem d_Mod_begin_62 : decode b_Mod_begin 62 = .ok (.iload_n 1, 1) := by decide +kernel
theorem d_Mod_begin_63 : decode b_Mod_begin 63 = .ok (.iconst 0, 1) := by decide +kernel
theorem d_Mod_begin_64 : decode b_Mod_begin 64 = .ok (.iastore, 1) := by decide +kernel
theorem d_Mod_begin_65 : decode b_Mod_begin 65 = .ok (.aload_n 0, 1) := by decide +kernel
theorem d_Mod_begin_66 : decode b_Mod_begin 66 = .ok (.getfield 62, 3) := by decide +kernel
theorem d_Mod_begin_69 : decode b_Mod_begin 69 = .ok (.iload_n 1, 1) := by decide +kernel
theorem d_Mod_begin_70 : decode b_Mod_begin 70 = .ok (.iconst 0, 1) := by decide +kernel
theorem d_Mod_begin_71 : decode b_Mod_begin 71 = .ok (.iastore, 1) := by decide +kernel
theorem d_Mod_begin_72 : decode b_Mod_begin 72 = .ok (.aload_n 0, 1) := by decide +kernel
theorem d_Mod_begin_73 : decode b_Mod_begin 73 = .ok (.getfield 55, 3) := by decide +kernel
theorem d_Mod_begin_76 : decode b_Mod_begin 76 = .ok (.iload_n 1, 1) := by decide +kernel
theorem d_Mod_begin_77 : decode b_Mod_begin 77 = .ok (.iconst 0, 1) := by decide +kernel
theorem d_Mod_begin_78 : decode b_Mod_begin 78 = .ok (.bastore, 1) := by decide +kernel
theorem d_Mod_begin_79 : decode b_Mod_begin 79 = .ok (.return_, 1) := by decide +kernel
theorem d_Mod_store_0 : decode b_Mod_store 0 = .ok (.iload_n 2, 1) := by decide +kernel
theorem d_Mod_store_1 : decode b_Mod_store 1 = .ok (.invokestatic 117, 3) := by decide +kernel
theorem d_Mod_store_4 : decode b_Mod_store 4 = .ok (.ifCond .ne 14, 3) := by decide +kernel
theorem d_Mod_store_7 : decode b_Mod_store 7 = .ok (.iload_n 3, 1) := by decide +kernel
theorem d_Mod_store_8 : decode b_Mod_store 8 = .ok (.ifCond .lt 10, 3) := by decide +kernel
theorem d_Mod_store_11 : decode b_Mod_store 11 = .ok (.iload_n 3, 1) := by decide +kernel
theorem d_Mod_store_12 : decode b_Mod_store 12 = .ok (.sipush 999, 3) := by decide +kernel
theorem d_Mod_store_15 : decode b_Mod_store 15 = .ok (.if_icmp .le 7, 3) := by decide +kernel
theorem d_Mod_store_18 : decode b_Mod_store 18 = .ok (.iconst (-1), 1) := by decide +kernel
theorem d_Mod_store_19 : decode b_Mod_store 19 = .ok (.goto 12, 3) := by decide +kernel
theorem d_Mod_store_22 : decode b_Mod_store 22 = .ok (.aload_n 0, 1) := by decide +kernel
theorem d_Mod_store_23 : decode b_Mod_store 23 = .ok (.iload_n 1, 1) := by decide +kernel
theorem d_Mod_store_24 : decode b_Mod_store 24 = .ok (.iconst 1, 1) := by decide +kernel
theorem d_Mod_store_25 : decode b_Mod_store 25 = .ok (.iload_n 2, 1) := by decide +kernel
theorem d_Mod_store_26 : decode b_Mod_store 26 = .ok (.iconst 1, 1) := by decide +kernel
theorem d_Mod_store_27 : decode b_Mod_store 27 = .ok (.iload_n 3, 1) := by decide +kernel
theorem d_Mod_store_28 : decode b_Mod_store 28 = .ok (.invokevirtual 120, 3) := by decide +kernel
theorem d_Mod_store_31 : decode b_Mod_store 31 = .ok (.ireturn, 1) := by decide +kernel
theorem d_Mod_map_0 : decode b_Mod_map 0 = .ok (.iload_n 2, 1) := by decide +kernel
theorem d_Mod_map_1 : decode b_Mod_map 1 = .ok (.iload_n 3, 1) := by decide +kernel
theorem d_Mod_map_2 : decode b_Mod_map 2 = .ok (.invokestatic 124, 3) := by decide +kernel
theorem d_Mod_map_5 : decode b_Mod_map 5 = .ok (.ifCond .eq 7, 3) := by decide +kernel
theorem d_Mod_map_8 : decode b_Mod_map 8 = .ok (.iconst (-1), 1) := by decide +kernel
theorem d_Mod_map_9 : decode b_Mod_map 9 = .ok (.goto 21, 3) := by decide +kernel
theorem d_Mod_map_12 : decode b_Mod_map 12 = .ok (.aload_n 0, 1) := by decide +kernel
theorem d_Mod_map_13 : decode b_Mod_map 13 = .ok (.iload_n 1, 1) := by decide +kernel
theorem d_Mod_map_14 : decode b_Mod_map 14 = .ok (.iconst 2, 1) := by decide +kernel
theorem d_Mod_map_15 : decode b_Mod_map 15 = .ok (.iload_n 2, 1) := by decide +kernel
theorem d_Mod_map_16 : decode b_Mod_map 16 = .ok (.iload_n 3, 1) := by decide +kernel
theorem d_Mod_map_17 : decode b_Mod_map 17 = .ok (.iload 4, 2) := by decide +kernel
theorem d_Mod_map_19 : decode b_Mod_map 19 = .ok (.ifCond .eq 7, 3) := by decide +kernel
theorem d_Mod_map_22 : decode b_Mod_map 22 = .ok (.iconst 1, 1) := by decide +kernel
theorem d_Mod_map_23 : decode b_Mod_map 23 = .ok (.goto 4, 3) := by decide +kernel
theorem d_Mod_map_26 : decode b_Mod_map 26 = .ok (.iconst 0, 1) := by decide +kernel
theorem d_Mod_map_27 : decode b_Mod_map 27 = .ok (.invokevirtual 120, 3) := by decide +kernel
theorem d_Mod_map_30 : decode b_Mod_map 30 = .ok (.ireturn, 1) := by decide +kernel
theorem d_Mod_noRange_0 : decode b_Mod_noRange 0 = .ok (.iload_n 1, 1) := by decide +kernel
theorem d_Mod_noRange_1 : decode b_Mod_noRange 1 = .ok (.iconst 1, 1) := by decide +kernel
theorem d_Mod_noRange_2 : decode b_Mod_noRange 2 = .ok (.if_icmp .lt 20, 3) := by decide +kernel
theorem d_Mod_noRange_5 : decode b_Mod_noRange 5 = .ok (.iload_n 1, 1) := by decide +kernel
theorem d_Mod_noRange_6 : decode b_Mod_noRange 6 = .ok (.iconst 4, 1) := by decide +kernel
theorem d_Mod_noRange_7 : decode b_Mod_noRange 7 = .ok (.if_icmp .gt 15, 3) := by decide +kernel
theorem d_Mod_noRange_10 : decode b_Mod_noRange 10 = .ok (.iload_n 0, 1) := by decide +kernel
theorem d_Mod_noRange_11 : decode b_Mod_noRange 11 = .ok (.ifCond .lt 11, 3) := by decide +kernel
theorem d_Mod_noRange_14 : decode b_Mod_noRange 14 = .ok (.iload_n 0, 1) := by decide +kernel
theorem d_Mod_noRange_15 : decode b_Mod_noRange 15 = .ok (.bipush 16, 2) := by decide +kernel
theorem d_Mod_noRange_17 : decode b_Mod_noRange 17 = .ok (.iload_n 1, 1) := by decide +kernel
theorem d_Mod_noRange_18 : decode b_Mod_noRange 18 = .ok (.isub, 1) := by decide +kernel
theorem d_Mod_noRange_19 : decode b_Mod_noRange 19 = .ok (.if_icmp .le 7, 3) := by decide +kernel
theorem d_Mod_noRange_22 : decode b_Mod_noRange 22 = .ok (.iconst 1, 1) := by decide +kernel
theorem d_Mod_noRange_23 : decode b_Mod_noRange 23 = .ok (.goto 4, 3) := by decide +kernel
theorem d_Mod_noRange_26 : decode b_Mod_noRange 26 = .ok (.iconst 0, 1) := by decide +kernel
theorem d_Mod_noRange_27 : decode b_Mod_noRange 27 = .ok (.ireturn, 1) := by decide +kernel
theorem d_Mod_unmap_0 : decode b_Mod_unmap 0 = .ok (.iload_n 2, 1) := by decide +kernel
theorem d_Mod_unmap_1 : decode b_Mod_unmap 1 = .ok (.iload_n 3, 1) := by decide +kernel
theorem d_Mod_unmap_2 : decode b_Mod_unmap 2 = .ok (.invokestatic 124, 3) := by decide +kernel
theorem d_Mod_unmap_5 : decode b_Mod_unmap 5 = .ok (.ifCond .eq 7, 3) := by decide +kernel
theorem d_Mod_unmap_8 : decode b_Mod_unmap 8 = .ok (.iconst (-1), 1) := by decide +kernel
theorem d_Mod_unmap_9 : decode b_Mod_unmap 9 = .ok (.goto 12, 3) := by decide +kernel
theorem d_Mod_unmap_12 : decode b_Mod_unmap 12 = .ok (.aload_n 0, 1) := by decide +kernel
theorem d_Mod_unmap_13 : decode b_Mod_unmap 13 = .ok (.iload_n 1, 1) := by decide +kernel
theorem d_Mod_unmap_14 : decode b_Mod_unmap 14 = .ok (.iconst 3, 1) := by decide +kernel
theorem d_Mod_unmap_15 : decode b_Mod_unmap 15 = .ok (.iload_n 2, 1) := by decide +kernel
theorem d_Mod_unmap_16 : decode b_Mod_unmap 16 = .ok (.iload_n 3, 1) := by decide +kernel
theorem d_Mod_unmap_17 : decode b_Mod_unmap 17 = .ok (.iconst 0, 1) := by decide +kernel
theorem d_Mod_unmap_18 : decode b_Mod_unmap 18 = .ok (.invokevirtual 120, 3) := by decide +kernel
theorem d_Mod_unmap_21 : decode b_Mod_unmap 21 = .ok (.ireturn, 1) := by decide +kernel
theorem d_Mod_protect_0 : decode b_Mod_protect 0 = .ok (.iload_n 2, 1) := by decide +kernel
theorem d_Mod_protect_1 : decode b_Mod_protect 1 = .ok (.iload_n 3, 1) := by decide +kernel
theorem d_Mod_protect_2 : decode b_Mod_protect 2 = .ok (.invokestatic 124, 3) := by decide +kernel
theorem d_Mod_protect_5 : decode b_Mod_protect 5 = .ok (.ifCond .eq 7, 3) := by decide +kernel
theorem d_Mod_protect_8 : decode b_Mod_protect 8 = .ok (.iconst (-1), 1) := by decide +kernel
theorem d_Mod_protect_9 : decode b_Mod_protect 9 = .ok (.goto 12, 3) := by decide +kernel
theorem d_Mod_protect_12 : decode b_Mod_protect 12 = .ok (.aload_n 0, 1) := by decide +kernel
theorem d_Mod_protect_13 : decode b_Mod_protect 13 = .ok (.iload_n 1, 1) := by decide +kernel
theorem d_Mod_protect_14 : decode b_Mod_protect 14 = .ok (.iconst 4, 1) := by decide +kernel
theorem d_Mod_protect_15 : decode b_Mod_protect 15 = .ok (.iload_n 2, 1) := by decide +kernel
theorem d_Mod_protect_16 : decode b_Mod_protect 16 = .ok (.iload_n 3, 1) := by decide +kernel
theorem d_Mod_protect_17 : decode b_Mod_protect 17 = .ok (.iconst 0, 1) := by decide +kernel
theorem d_Mod_protect_18 : decode b_Mod_protect 18 = .ok (.invokevirtual 120, 3) := by decide +kernel
theorem d_Mod_protect_21 : decode b_Mod_protect 21 = .ok (.ireturn, 1) := by decide +kernel
theorem d_Mod_move_0 : decode b_Mod_move 0 = .ok (.iload_n 2, 1) := by decide +kernel
theorem d_Mod_move_1 : decode b_Mod_move 1 = .ok (.invokestatic 102, 3) := by decide +kernel
theorem d_Mod_move_4 : decode b_Mod_move 4 = .ok (.ifCond .eq 7, 3) := by decide +kernel
theorem d_Mod_move_7 : decode b_Mod_move 7 = .ok (.iconst (-1), 1) := by decide +kernel
theorem d_Mod_move_8 : decode b_Mod_move 8 = .ok (.goto 12, 3) := by decide +kernel
theorem d_Mod_move_11 : decode b_Mod_move 11 = .ok (.aload_n 0, 1) := by decide +kernel
theorem d_Mod_move_12 : decode b_Mod_move 12 = .ok (.iload_n 1, 1) := by decide +kernel
theorem d_Mod_move_13 : decode b_Mod_move 13 = .ok (.iconst 5, 1) := by decide +kernel
theorem d_Mod_move_14 : decode b_Mod_move 14 = .ok (.iload_n 2, 1) := by decide +kernel
theorem d_Mod_move_15 : decode b_Mod_move 15 = .ok (.iconst 1, 1) := by decide +kernel
theorem d_Mod_move_16 : decode b_Mod_move 16 = .ok (.iconst 0, 1) := by decide +kernel
theorem d_Mod_move_17 : decode b_Mod_move 17 = .ok (.invokevirtual 120, 3) := by decide +kernel
theorem d_Mod_move_20 : decode b_Mod_move 20 = .ok (.ireturn, 1) := by decide +kernel
theorem d_Mod_step_0 : decode b_Mod_step 0 = .ok (.iload_n 1, 1) := by decide +kernel
theorem d_Mod_step_1 : decode b_Mod_step 1 = .ok (.invokestatic 102, 3) := by decide +kernel
theorem d_Mod_step_4 : decode b_Mod_step 4 = .ok (.ifCond .eq 5, 3) := by decide +kernel
theorem d_Mod_step_7 : decode b_Mod_step 7 = .ok (.iconst (-1), 1) := by decide +kernel
theorem d_Mod_step_8 : decode b_Mod_step 8 = .ok (.ireturn, 1) := by decide +kernel
theorem d_Mod_step_9 : decode b_Mod_step 9 = .ok (.aload_n 0, 1) := by decide +kernel
theorem d_Mod_step_10 : decode b_Mod_step 10 = .ok (.dup, 1) := by decide +kernel
theorem d_Mod_step_11 : decode b_Mod_step 11 = .ok (.getfield 136, 3) := by decide +kernel
theorem d_Mod_step_14 : decode b_Mod_step 14 = .ok (.iconst 1, 1) := by decide +kernel
theorem d_Mod_step_15 : decode b_Mod_step 15 = .ok (.iadd, 1) := by decide +kernel
theorem d_Mod_step_16 : decode b_Mod_step 16 = .ok (.putfield 136, 3) := by decide +kernel
theorem d_Mod_step_19 : decode b_Mod_step 19 = .ok (.aload_n 0, 1) := by decide +kernel
theorem d_Mod_step_20 : decode b_Mod_step 20 = .ok (.getfield 92, 3) := by decide +kernel
theorem d_Mod_step_23 : decode b_Mod_step 23 = .ok (.iload_n 1, 1) := by decide +kernel
theorem d_Mod_step_24 : decode b_Mod_step 24 = .ok (.baload, 1) := by decide +kernel
theorem d_Mod_step_25 : decode b_Mod_step 25 = .ok (.ifCond .eq 35, 3) := by decide +kernel
theorem d_Mod_step_28 : decode b_Mod_step 28 = .ok (.aload_n 0, 1) := by decide +kernel
theorem d_Mod_step_29 : decode b_Mod_step 29 = .ok (.getfield 95, 3) := by decide +kernel
theorem d_Mod_step_32 : decode b_Mod_step 32 = .ok (.iload_n 1, 1) := by decide +kernel
theorem d_Mod_step_33 : decode b_Mod_step 33 = .ok (.iaload, 1) := by decide +kernel
theorem d_Mod_step_34 : decode b_Mod_step 34 = .ok (.istore_n 2, 1) := by decide +kernel
theorem d_Mod_step_35 : decode b_Mod_step 35 = .ok (.aload_n 0, 1) := by decide +kernel
theorem d_Mod_step_36 : decode b_Mod_step 36 = .ok (.getfield 92, 3) := by decide +kernel
theorem d_Mod_step_39 : decode b_Mod_step 39 = .ok (.iload_n 1, 1) := by decide +kernel
theorem d_Mod_step_40 : decode b_Mod_step 40 = .ok (.iconst 0, 1) := by decide +kernel
theorem d_Mod_step_41 : decode b_Mod_step 41 = .ok (.bastore, 1) := by decide +kernel
theorem d_Mod_step_42 : decode b_Mod_step 42 = .ok (.aload_n 0, 1) := by decide +kernel
theorem d_Mod_step_43 : decode b_Mod_step 43 = .ok (.iload_n 1, 1) := by decide +kernel
theorem d_Mod_step_44 : decode b_Mod_step 44 = .ok (.iload_n 2, 1) := by decide +kernel
theorem d_Mod_step_45 : decode b_Mod_step 45 = .ok (.invokevirtual 139, 3) := by decide +kernel
theorem d_Mod_step_48 : decode b_Mod_step 48 = .ok (.aload_n 0, 1) := by decide +kernel
theorem d_Mod_step_49 : decode b_Mod_step 49 = .ok (.getfield 49, 3) := by decide +kernel
theorem d_Mod_step_52 : decode b_Mod_step 52 = .ok (.iload_n 2, 1) := by decide +kernel
theorem d_Mod_step_53 : decode b_Mod_step 53 = .ok (.dup2, 1) := by decide +kernel
theorem d_Mod_step_54 : decode b_Mod_step 54 = .ok (.iaload, 1) := by decide +kernel
theorem d_Mod_step_55 : decode b_Mod_step 55 = .ok (.iconst 1, 1) := by decide +kernel
theorem d_Mod_step_56 : decode b_Mod_step 56 = .ok (.isub, 1) := by decide +kernel
theorem d_Mod_step_57 : decode b_Mod_step 57 = .ok (.iastore, 1) := by decide +kernel
theorem d_Mod_step_58 : decode b_Mod_step 58 = .ok (.iconst 1, 1) := by decide +kernel
theorem d_Mod_step_59 : decode b_Mod_step 59 = .ok (.ireturn, 1) := by decide +kernel
theorem d_Mod_step_60 : decode b_Mod_step 60 = .ok (.aload_n 0, 1) := by decide +kernel
theorem d_Mod_step_61 : decode b_Mod_step 61 = .ok (.iload_n 1, 1) := by decide +kernel
theorem d_Mod_step_62 : decode b_Mod_step 62 = .ok (.invokevirtual 143, 3) := by decide +kernel
theorem d_Mod_step_65 : decode b_Mod_step 65 = .ok (.istore_n 2, 1) := by decide +kernel
theorem d_Mod_step_66 : decode b_Mod_step 66 = .ok (.iload_n 2, 1) := by decide +kernel
theorem d_Mod_step_67 : decode b_Mod_step 67 = .ok (.ifCond .lt 10, 3) := by decide +kernel
theorem d_Mod_step_70 : decode b_Mod_step 70 = .ok (.aload_n 0, 1) := by decide +kernel
theorem d_Mod_step_71 : decode b_Mod_step 71 = .ok (.iload_n 1, 1) := by decide +kernel
theorem d_Mod_step_72 : decode b_Mod_step 72 = .ok (.iload_n 2, 1) := by decide +kernel
theorem d_Mod_step_73 : decode b_Mod_step 73 = .ok (.invokevirtual 146, 3) := by decide +kernel
theorem d_Mod_step_76 : decode b_Mod_step 76 = .ok (.ireturn, 1) := by decide +kernel
theorem d_Mod_step_77 : decode b_Mod_step 77 = .ok (.aload_n 0, 1) := by decide +kernel
theorem d_Mod_step_78 : decode b_Mod_step 78 = .ok (.iload_n 1, 1) := by decide +kernel
theorem d_Mod_step_79 : decode b_Mod_step 79 = .ok (.iconst 0, 1) := by decide +kernel
theorem d_Mod_step_80 : decode b_Mod_step 80 = .ok (.invokevirtual 149, 3) := by decide +kernel
theorem d_Mod_step_83 : decode b_Mod_step 83 = .ok (.istore_n 3, 1) := by decide +kernel
theorem d_Mod_step_84 : decode b_Mod_step 84 = .ok (.iload_n 3, 1) := by decide +kernel
theorem d_Mod_step_85 : decode b_Mod_step 85 = .ok (.ifCond .lt 11, 3) := by decide +kernel
theorem d_Mod_step_88 : decode b_Mod_step 88 = .ok (.aload_n 0, 1) := by decide +kernel
theorem d_Mod_step_89 : decode b_Mod_step 89 = .ok (.iload_n 1, 1) := by decide +kernel
theorem d_Mod_step_90 : decode b_Mod_step 90 = .ok (.iload_n 3, 1) := by decide +kernel
theorem d_Mod_step_91 : decode b_Mod_step 91 = .ok (.invokevirtual 152, 3) := by decide +kernel
theorem d_Mod_step_94 : decode b_Mod_step 94 = .ok (.iconst 2, 1) := by decide +kernel
theorem d_Mod_step_95 : decode b_Mod_step 95 = .ok (.ireturn, 1) := by decide +kernel
theorem d_Mod_step_96 : decode b_Mod_step 96 = .ok (.aload_n 0, 1) := by decide +kernel
theorem d_Mod_step_97 : decode b_Mod_step 97 = .ok (.invokevirtual 155, 3) := by decide +kernel
theorem d_Mod_step_100 : decode b_Mod_step 100 = .ok (.istore 4, 2) := by decide +kernel
theorem d_Mod_step_102 : decode b_Mod_step 102 = .ok (.aload_n 0, 1) := by decide +kernel
theorem d_Mod_step_103 : decode b_Mod_step 103 = .ok (.iload 4, 2) := by decide +kernel
theorem d_Mod_step_105 : decode b_Mod_step 105 = .ok (.invokevirtual 132, 3) := by decide +kernel
theorem d_Mod_step_108 : decode b_Mod_step 108 = .ok (.istore 5, 2) := by decide +kernel
theorem d_Mod_step_110 : decode b_Mod_step 110 = .ok (.iload 5, 2) := by decide +kernel
theorem d_Mod_step_112 : decode b_Mod_step 112 = .ok (.iconst 2, 1) := by decide +kernel
theorem d_Mod_step_113 : decode b_Mod_step 113 = .ok (.if_icmp .ge 5, 3) := by decide +kernel
theorem d_Mod_step_116 : decode b_Mod_step 116 = .ok (.iconst 0, 1) := by decide +kernel
theorem d_Mod_step_117 : decode b_Mod_step 117 = .ok (.ireturn, 1) := by decide +kernel
theorem d_Mod_step_118 : decode b_Mod_step 118 = .ok (.aload_n 0, 1) := by decide +kernel
theorem d_Mod_step_119 : decode b_Mod_step 119 = .ok (.iload 4, 2) := by decide +kernel
theorem d_Mod_step_121 : decode b_Mod_step 121 = .ok (.iload 5, 2) := by decide +kernel
theorem d_Mod_step_123 : decode b_Mod_step 123 = .ok (.iconst 1, 1) := by decide +kernel
theorem d_Mod_step_124 : decode b_Mod_step 124 = .ok (.isub, 1) := by decide +kernel
theorem d_Mod_step_125 : decode b_Mod_step 125 = .ok (.invokevirtual 149, 3) := by decide +kernel
theorem d_Mod_step_128 : decode b_Mod_step 128 = .ok (.istore 6, 2) := by decide +kernel
theorem d_Mod_step_130 : decode b_Mod_step 130 = .ok (.aload_n 0, 1) := by decide +kernel
theorem d_Mod_step_131 : decode b_Mod_step 131 = .ok (.iload_n 1, 1) := by decide +kernel
theorem d_Mod_step_132 : decode b_Mod_step 132 = .ok (.iload 6, 2) := by decide +kernel
theorem d_Mod_step_134 : decode b_Mod_step 134 = .ok (.invokevirtual 152, 3) := by decide +kernel
theorem d_Mod_step_137 : decode b_Mod_step 137 = .ok (.iconst 3, 1) := by decide +kernel
theorem d_Mod_step_138 : decode b_Mod_step 138 = .ok (.ireturn, 1) := by decide +kernel
theorem d_Mod_forget_0 : decode b_Mod_forget 0 = .ok (.bipush 10, 2) := by decide +kernel
theorem d_Mod_forget_2 : decode b_Mod_forget 2 = .ok (.iload_n 2, 1) := by decide +kernel
theorem d_Mod_forget_3 : decode b_Mod_forget 3 = .ok (.imul, 1) := by decide +kernel
theorem d_Mod_forget_4 : decode b_Mod_forget 4 = .ok (.aload_n 0, 1) := by decide +kernel
theorem d_Mod_forget_5 : decode b_Mod_forget 5 = .ok (.getfield 13, 3) := by decide +kernel
theorem d_Mod_forget_8 : decode b_Mod_forget 8 = .ok (.iload_n 2, 1) := by decide +kernel
theorem d_Mod_forget_9 : decode b_Mod_forget 9 = .ok (.iaload, 1) := by decide +kernel
theorem d_Mod_forget_10 : decode b_Mod_forget 10 = .ok (.iadd, 1) := by decide +kernel
theorem d_Mod_forget_11 : decode b_Mod_forget 11 = .ok (.istore_n 3, 1) := by decide +kernel
theorem d_Mod_forget_12 : decode b_Mod_forget 12 = .ok (.iconst 0, 1) := by decide +kernel
theorem d_Mod_forget_13 : decode b_Mod_forget 13 = .ok (.istore 4, 2) := by decide +kernel
theorem d_Mod_forget_15 : decode b_Mod_forget 15 = .ok (.iload 4, 2) := by decide +kernel
theorem d_Mod_forget_17 : decode b_Mod_forget 17 = .ok (.aload_n 0, 1) := by decide +kernel
theorem d_Mod_forget_18 : decode b_Mod_forget 18 = .ok (.getfield 22, 3) := by decide +kernel
theorem d_Mod_forget_21 : decode b_Mod_forget 21 = .ok (.iload_n 3, 1) := by decide +kernel
theorem d_Mod_forget_22 : decode b_Mod_forget 22 = .ok (.iaload, 1) := by decide +kernel
theorem d_Mod_forget_23 : decode b_Mod_forget 23 = .ok (.if_icmp .ge 29, 3) := by decide +kernel
theorem d_Mod_forget_26 : decode b_Mod_forget 26 = .ok (.aload_n 0, 1) := by decide +kernel
theorem d_Mod_forget_27 : decode b_Mod_forget 27 = .ok (.getfield 77, 3) := by decide +kernel
theorem d_Mod_forget_30 : decode b_Mod_forget 30 = .ok (.bipush 16, 2) := by decide +kernel
theorem d_Mod_forget_32 : decode b_Mod_forget 32 = .ok (.iload_n 1, 1) := by decide +kernel
theorem d_Mod_forget_33 : decode b_Mod_forget 33 = .ok (.imul, 1) := by decide +kernel
theorem d_Mod_forget_34 : decode b_Mod_forget 34 = .ok (.aload_n 0, 1) := by decide +kernel
theorem d_Mod_forget_35 : decode b_Mod_forget 35 = .ok (.getfield 19, 3) := by decide +kernel
theorem d_Mod_forget_38 : decode b_Mod_forget 38 = .ok (.iload_n 3, 1) := by decide +kernel
theorem d_Mod_forget_39 : decode b_Mod_forget 39 = .ok (.iaload, 1) := by decide +kernel
theorem d_Mod_forget_40 : decode b_Mod_forget 40 = .ok (.iadd, 1) := by decide +kernel
theorem d_Mod_forget_41 : decode b_Mod_forget 41 = .ok (.iload 4, 2) := by decide +kernel
theorem d_Mod_forget_43 : decode b_Mod_forget 43 = .ok (.iadd, 1) := by decide +kernel
theorem d_Mod_forget_44 : decode b_Mod_forget 44 = .ok (.iconst 0, 1) := by decide +kernel
theorem d_Mod_forget_45 : decode b_Mod_forget 45 = .ok (.iastore, 1) := by decide +kernel
theorem d_Mod_forget_46 : decode b_Mod_forget 46 = .ok (.iinc 4 1, 3) := by decide +kernel
theorem d_Mod_forget_49 : decode b_Mod_forget 49 = .ok (.goto (-34), 3) := by decide +kernel
theorem d_Mod_forget_52 : decode b_Mod_forget 52 = .ok (.return_, 1) := by decide +kernel
theorem d_Mod_currentOf_0 : decode b_Mod_currentOf 0 = .ok (.iconst (-1), 1) := by decide +kernel
theorem d_Mod_currentOf_1 : decode b_Mod_currentOf 1 = .ok (.istore_n 2, 1) := by decide +kernel
theorem d_Mod_currentOf_2 : decode b_Mod_currentOf 2 = .ok (.iconst 0, 1) := by decide +kernel
theorem d_Mod_currentOf_3 : decode b_Mod_currentOf 3 = .ok (.istore_n 3, 1) := by decide +kernel
theorem d_Mod_currentOf_4 : decode b_Mod_currentOf 4 = .ok (.iload_n 3, 1) := by decide +kernel
theorem d_Mod_currentOf_5 : decode b_Mod_currentOf 5 = .ok (.aload_n 0, 1) := by decide +kernel
theorem d_Mod_currentOf_6 : decode b_Mod_currentOf 6 = .ok (.getfield 106, 3) := by decide +kernel
theorem d_Mod_currentOf_9 : decode b_Mod_currentOf 9 = .ok (.if_icmp .ge 35, 3) := by decide +kernel
theorem d_Mod_currentOf_12 : decode b_Mod_currentOf 12 = .ok (.aload_n 0, 1) := by decide +kernel
theorem d_Mod_currentOf_13 : decode b_Mod_currentOf 13 = .ok (.getfield 34, 3) := by decide +kernel
theorem d_Mod_currentOf_16 : decode b_Mod_currentOf 16 = .ok (.iload_n 3, 1) := by decide +kernel
theorem d_Mod_currentOf_17 : decode b_Mod_currentOf 17 = .ok (.iaload, 1) := by decide +kernel
theorem d_Mod_currentOf_18 : decode b_Mod_currentOf 18 = .ok (.iconst 2, 1) := by decide +kernel
theorem d_Mod_currentOf_19 : decode b_Mod_currentOf 19 = .ok (.if_icmp .ne 17, 3) := by decide +kernel
theorem d_Mod_currentOf_22 : decode b_Mod_currentOf 22 = .ok (.aload_n 0, 1) := by decide +kernel
theorem d_Mod_currentOf_23 : decode b_Mod_currentOf 23 = .ok (.getfield 31, 3) := by decide +kernel
theorem d_Mod_currentOf_26 : decode b_Mod_currentOf 26 = .ok (.iload_n 3, 1) := by decide +kernel
theorem d_Mod_currentOf_27 : decode b_Mod_currentOf 27 = .ok (.iaload, 1) := by decide +kernel
theorem d_Mod_currentOf_28 : decode b_Mod_currentOf 28 = .ok (.iload_n 1, 1) := by decide +kernel
theorem d_Mod_currentOf_29 : decode b_Mod_currentOf 29 = .ok (.if_icmp .ne 7, 3) := by decide +kernel
theorem d_Mod_currentOf_32 : decode b_Mod_currentOf 32 = .ok (.iload_n 3, 1) := by decide +kernel
theorem d_Mod_currentOf_33 : decode b_Mod_currentOf 33 = .ok (.goto 4, 3) := by decide +kernel
theorem d_Mod_currentOf_36 : decode b_Mod_currentOf 36 = .ok (.iload_n 2, 1) := by decide +kernel
theorem d_Mod_currentOf_37 : decode b_Mod_currentOf 37 = .ok (.istore_n 2, 1) := by decide +kernel
theorem d_Mod_currentOf_38 : decode b_Mod_currentOf 38 = .ok (.iinc 3 1, 3) := by decide +kernel
theorem d_Mod_currentOf_41 : decode b_Mod_currentOf 41 = .ok (.goto (-37), 3) := by decide +kernel
theorem d_Mod_currentOf_44 : decode b_Mod_currentOf 44 = .ok (.iload_n 2, 1) := by decide +kernel
theorem d_Mod_currentOf_45 : decode b_Mod_currentOf 45 = .ok (.ireturn, 1) := by decide +kernel
theorem d_Mod_act_0 : decode b_Mod_act 0 = .ok (.aload_n 0, 1) := by decide +kernel
theorem d_Mod_act_1 : decode b_Mod_act 1 = .ok (.getfield 40, 3) := by decide +kernel
theorem d_Mod_act_4 : decode b_Mod_act 4 = .ok (.iload_n 2, 1) := by decide +kernel
theorem d_Mod_act_5 : decode b_Mod_act 5 = .ok (.iaload, 1) := by decide +kernel
theorem d_Mod_act_6 : decode b_Mod_act 6 = .ok (.istore_n 3, 1) := by decide +kernel
theorem d_Mod_act_7 : decode b_Mod_act 7 = .ok (.bipush 10, 2) := by decide +kernel
theorem d_Mod_act_9 : decode b_Mod_act 9 = .ok (.iload_n 2, 1) := by decide +kernel
theorem d_Mod_act_10 : decode b_Mod_act 10 = .ok (.imul, 1) := by decide +kernel
theorem d_Mod_act_11 : decode b_Mod_act 11 = .ok (.aload_n 0, 1) := by decide +kernel
theorem d_Mod_act_12 : decode b_Mod_act 12 = .ok (.getfield 13, 3) := by decide +kernel
theorem d_Mod_act_15 : decode b_Mod_act 15 = .ok (.iload_n 2, 1) := by decide +kernel
theorem d_Mod_act_16 : decode b_Mod_act 16 = .ok (.iaload, 1) := by decide +kernel
theorem d_Mod_act_17 : decode b_Mod_act 17 = .ok (.iadd, 1) := by decide +kernel
theorem d_Mod_act_18 : decode b_Mod_act 18 = .ok (.istore 4, 2) := by decide +kernel
theorem d_Mod_act_20 : decode b_Mod_act 20 = .ok (.iload_n 3, 1) := by decide +kernel
theorem d_Mod_act_21 : decode b_Mod_act 21 = .ok (.bipush 6, 2) := by decide +kernel
theorem d_Mod_act_23 : decode b_Mod_act 23 = .ok (.if_icmp .gt 14, 3) := by decide +kernel
theorem d_Mod_act_26 : decode b_Mod_act 26 = .ok (.aload_n 0, 1) := by decide +kernel
theorem d_Mod_act_27 : decode b_Mod_act 27 = .ok (.iload_n 1, 1) := by decide +kernel
theorem d_Mod_act_28 : decode b_Mod_act 28 = .ok (.iload_n 2, 1) := by decide +kernel
theorem d_Mod_act_29 : decode b_Mod_act 29 = .ok (.iload 4, 2) := by decide +kernel
theorem d_Mod_act_31 : decode b_Mod_act 31 = .ok (.invokevirtual 161, 3) := by decide +kernel
theorem d_Mod_act_34 : decode b_Mod_act 34 = .ok (.goto 28, 3) := by decide +kernel
theorem d_Mod_act_37 : decode b_Mod_act 37 = .ok (.iload_n 3, 1) := by decide +kernel
theorem d_Mod_act_38 : decode b_Mod_act 38 = .ok (.bipush 10, 2) := by decide +kernel
theorem d_Mod_act_40 : decode b_Mod_act 40 = .ok (.if_icmp .gt 14, 3) := by decide +kernel
theorem d_Mod_act_43 : decode b_Mod_act 43 = .ok (.aload_n 0, 1) := by decide +kernel
theorem d_Mod_act_44 : decode b_Mod_act 44 = .ok (.iload_n 1, 1) := by decide +kernel
theorem d_Mod_act_45 : decode b_Mod_act 45 = .ok (.iload_n 2, 1) := by decide +kernel
theorem d_Mod_act_46 : decode b_Mod_act 46 = .ok (.iload 4, 2) := by decide +kernel
theorem d_Mod_act_48 : decode b_Mod_act 48 = .ok (.invokevirtual 165, 3) := by decide +kernel
theorem d_Mod_act_51 : decode b_Mod_act 51 = .ok (.goto 11, 3) := by decide +kernel
theorem d_Mod_act_54 : decode b_Mod_act 54 = .ok (.aload_n 0, 1) := by decide +kernel
theorem d_Mod_act_55 : decode b_Mod_act 55 = .ok (.iload_n 1, 1) := by decide +kernel
theorem d_Mod_act_56 : decode b_Mod_act 56 = .ok (.iload_n 2, 1) := by decide +kernel
theorem d_Mod_act_57 : decode b_Mod_act 57 = .ok (.iload 4, 2) := by decide +kernel
theorem d_Mod_act_59 : decode b_Mod_act 59 = .ok (.invokevirtual 168, 3) := by decide +kernel
theorem d_Mod_act_62 : decode b_Mod_act 62 = .ok (.istore 5, 2) := by decide +kernel
theorem d_Mod_act_64 : decode b_Mod_act 64 = .ok (.iload 5, 2) := by decide +kernel
theorem d_Mod_act_66 : decode b_Mod_act 66 = .ok (.ifCond .ne 5, 3) := by decide +kernel
theorem d_Mod_act_69 : decode b_Mod_act 69 = .ok (.iload_n 3, 1) := by decide +kernel
theorem d_Mod_act_70 : decode b_Mod_act 70 = .ok (.ireturn, 1) := by decide +kernel
theorem d_Mod_act_71 : decode b_Mod_act 71 = .ok (.iload_n 3, 1) := by decide +kernel
theorem d_Mod_act_72 : decode b_Mod_act 72 = .ok (.bipush 15, 2) := by decide +kernel
theorem d_Mod_act_74 : decode b_Mod_act 74 = .ok (.if_icmp .ne 13, 3) := by decide +kernel
theorem d_Mod_act_77 : decode b_Mod_act 77 = .ok (.aload_n 0, 1) := by decide +kernel
theorem d_Mod_act_78 : decode b_Mod_act 78 = .ok (.getfield 19, 3) := by decide +kernel
theorem d_Mod_act_81 : decode b_Mod_act 81 = .ok (.iload 4, 2) := by decide +kernel
theorem d_Mod_act_83 : decode b_Mod_act 83 = .ok (.iaload, 1) := by decide +kernel
theorem d_Mod_act_84 : decode b_Mod_act 84 = .ok (.goto 4, 3) := by decide +kernel
theorem d_Mod_act_87 : decode b_Mod_act 87 = .ok (.iload_n 1, 1) := by decide +kernel
theorem d_Mod_act_88 : decode b_Mod_act 88 = .ok (.istore 6, 2) := by decide +kernel
theorem d_Mod_act_90 : decode b_Mod_act 90 = .ok (.aload_n 0, 1) := by decide +kernel
theorem d_Mod_act_91 : decode b_Mod_act 91 = .ok (.getfield 13, 3) := by decide +kernel
theorem d_Mod_act_94 : decode b_Mod_act 94 = .ok (.iload_n 2, 1) := by decide +kernel
theorem d_Mod_act_95 : decode b_Mod_act 95 = .ok (.dup2, 1) := by decide +kernel
theorem d_Mod_act_96 : decode b_Mod_act 96 = .ok (.iaload, 1) := by decide +kernel
theorem d_Mod_act_97 : decode b_Mod_act 97 = .ok (.iconst 1, 1) := by decide +kernel
theorem d_Mod_act_98 : decode b_Mod_act 98 = .ok (.iadd, 1) := by decide +kernel
theorem d_Mod_act_99 : decode b_Mod_act 99 = .ok (.iastore, 1) := by decide +kernel
theorem d_Mod_act_100 : decode b_Mod_act 100 = .ok (.aload_n 0, 1) := by decide +kernel
theorem d_Mod_act_101 : decode b_Mod_act 101 = .ok (.getfield 13, 3) := by decide +kernel
theorem d_Mod_act_104 : decode b_Mod_act 104 = .ok (.iload_n 2, 1) := by decide +kernel
theorem d_Mod_act_105 : decode b_Mod_act 105 = .ok (.iaload, 1) := by decide +kernel
theorem d_Mod_act_106 : decode b_Mod_act 106 = .ok (.aload_n 0, 1) := by decide +kernel
theorem d_Mod_act_107 : decode b_Mod_act 107 = .ok (.getfield 7, 3) := by decide +kernel
theorem d_Mod_act_110 : decode b_Mod_act 110 = .ok (.iload_n 2, 1) := by decide +kernel
theorem d_Mod_act_111 : decode b_Mod_act 111 = .ok (.iaload, 1) := by decide +kernel
theorem d_Mod_act_112 : decode b_Mod_act 112 = .ok (.if_icmp .ge 7, 3) := by decide +kernel
theorem d_Mod_act_115 : decode b_Mod_act 115 = .ok (.iconst 1, 1) := by decide +kernel
theorem d_Mod_act_116 : decode b_Mod_act 116 = .ok (.goto 4, 3) := by decide +kernel
theorem d_Mod_act_119 : decode b_Mod_act 119 = .ok (.iconst 0, 1) := by decide +kernel
theorem d_Mod_act_120 : decode b_Mod_act 120 = .ok (.istore 7, 2) := by decide +kernel
theorem d_Mod_act_122 : decode b_Mod_act 122 = .ok (.iload_n 3, 1) := by decide +kernel
theorem d_Mod_act_123 : decode b_Mod_act 123 = .ok (.bipush 15, 2) := by decide +kernel
theorem d_Mod_act_125 : decode b_Mod_act 125 = .ok (.if_icmp .eq 16, 3) := by decide +kernel
theorem d_Mod_act_128 : decode b_Mod_act 128 = .ok (.iload 7, 2) := by decide +kernel
theorem d_Mod_act_130 : decode b_Mod_act 130 = .ok (.ifCond .eq 11, 3) := by decide +kernel
theorem d_Mod_act_133 : decode b_Mod_act 133 = .ok (.aload_n 0, 1) := by decide +kernel
theorem d_Mod_act_134 : decode b_Mod_act 134 = .ok (.iload_n 1, 1) := by decide +kernel
theorem d_Mod_act_135 : decode b_Mod_act 135 = .ok (.invokevirtual 132, 3) := by decide +kernel
theorem d_Mod_act_138 : decode b_Mod_act 138 = .ok (.ifCond .le 7, 3) := by decide +kernel
theorem d_Mod_act_141 : decode b_Mod_act 141 = .ok (.iconst 1, 1) := by decide +kernel
theorem d_Mod_act_142 : decode b_Mod_act 142 = .ok (.goto 4, 3) := by decide +kernel
theorem d_Mod_act_145 : decode b_Mod_act 145 = .ok (.iconst 0, 1) := by decide +kernel
theorem d_Mod_act_146 : decode b_Mod_act 146 = .ok (.istore 8, 2) := by decide +kernel
theorem d_Mod_act_148 : decode b_Mod_act 148 = .ok (.iload 8, 2) := by decide +kernel
theorem d_Mod_act_150 : decode b_Mod_act 150 = .ok (.ifCond .eq 37, 3) := by decide +kernel
theorem d_Mod_act_153 : decode b_Mod_act 153 = .ok (.aload_n 0, 1) := by decide +kernel
theorem d_Mod_act_154 : decode b_Mod_act 154 = .ok (.getfield 31, 3) := by decide +kernel
theorem d_Mod_act_157 : decode b_Mod_act 157 = .ok (.iload_n 2, 1) := by decide +kernel
theorem d_Mod_act_158 : decode b_Mod_act 158 = .ok (.iload 6, 2) := by decide +kernel
theorem d_Mod_act_160 : decode b_Mod_act 160 = .ok (.iastore, 1) := by decide +kernel
theorem d_Mod_act_161 : decode b_Mod_act 161 = .ok (.aload_n 0, 1) := by decide +kernel
theorem d_Mod_act_162 : decode b_Mod_act 162 = .ok (.getfield 34, 3) := by decide +kernel
theorem d_Mod_act_165 : decode b_Mod_act 165 = .ok (.iload_n 2, 1) := by decide +kernel
theorem d_Mod_act_166 : decode b_Mod_act 166 = .ok (.iload 7, 2) := by decide +kernel
theorem d_Mod_act_168 : decode b_Mod_act 168 = .ok (.ifCond .eq 7, 3) := by decide +kernel
theorem d_Mod_act_171 : decode b_Mod_act 171 = .ok (.iconst 1, 1) := by decide +kernel
theorem d_Mod_act_172 : decode b_Mod_act 172 = .ok (.goto 4, 3) := by decide +kernel
theorem d_Mod_act_175 : decode b_Mod_act 175 = .ok (.iconst 0, 1) := by decide +kernel
theorem d_Mod_act_176 : decode b_Mod_act 176 = .ok (.iastore, 1) := by decide +kernel
theorem d_Mod_act_177 : decode b_Mod_act 177 = .ok (.aload_n 0, 1) := by decide +kernel
theorem d_Mod_act_178 : decode b_Mod_act 178 = .ok (.getfield 37, 3) := by decide +kernel
theorem d_Mod_act_181 : decode b_Mod_act 181 = .ok (.iload_n 2, 1) := by decide +kernel
theorem d_Mod_act_182 : decode b_Mod_act 182 = .ok (.aload_n 0, 1) := by decide +kernel
theorem d_Mod_act_183 : decode b_Mod_act 183 = .ok (.invokevirtual 109, 3) := by decide +kernel
theorem d_Mod_act_186 : decode b_Mod_act 186 = .ok (.iastore, 1) := by decide +kernel
theorem d_Mod_act_187 : decode b_Mod_act 187 = .ok (.iload 7, 2) := by decide +kernel
theorem d_Mod_act_189 : decode b_Mod_act 189 = .ok (.ifCond .eq 8, 3) := by decide +kernel
theorem d_Mod_act_192 : decode b_Mod_act 192 = .ok (.aload_n 0, 1) := by decide +kernel
theorem d_Mod_act_193 : decode b_Mod_act 193 = .ok (.iload_n 2, 1) := by decide +kernel
theorem d_Mod_act_194 : decode b_Mod_act 194 = .ok (.invokevirtual 113, 3) := by decide +kernel
theorem d_Mod_act_197 : decode b_Mod_act 197 = .ok (.iload_n 3, 1) := by decide +kernel
theorem d_Mod_act_198 : decode b_Mod_act 198 = .ok (.bipush 16, 2) := by decide +kernel
theorem d_Mod_act_200 : decode b_Mod_act 200 = .ok (.iadd, 1) := by decide +kernel
theorem d_Mod_act_201 : decode b_Mod_act 201 = .ok (.ireturn, 1) := by decide +kernel
theorem d_Mod_access_0 : decode b_Mod_access 0 = .ok (.aload_n 0, 1) := by decide +kernel
theorem d_Mod_access_1 : decode b_Mod_access 1 = .ok (.getfield 19, 3) := by decide +kernel
theorem d_Mod_access_4 : decode b_Mod_access 4 = .ok (.iload_n 3, 1) := by decide +kernel
theorem d_Mod_access_5 : decode b_Mod_access 5 = .ok (.iaload, 1) := by decide +kernel
theorem d_Mod_access_6 : decode b_Mod_access 6 = .ok (.istore 4, 2) := by decide +kernel
theorem d_Mod_access_8 : decode b_Mod_access 8 = .ok (.bipush 16, 2) := by decide +kernel
theorem d_Mod_access_10 : decode b_Mod_access 10 = .ok (.iload_n 1, 1) := by decide +kernel
theorem d_Mod_access_11 : decode b_Mod_access 11 = .ok (.imul, 1) := by decide +kernel
theorem d_Mod_access_12 : decode b_Mod_access 12 = .ok (.iload 4, 2) := by decide +kernel
theorem d_Mod_access_14 : decode b_Mod_access 14 = .ok (.iadd, 1) := by decide +kernel
theorem d_Mod_access_15 : decode b_Mod_access 15 = .ok (.istore 5, 2) := by decide +kernel
theorem d_Mod_access_17 : decode b_Mod_access 17 = .ok (.aload_n 0, 1) := by decide +kernel
theorem d_Mod_access_18 : decode b_Mod_access 18 = .ok (.getfield 16, 3) := by decide +kernel
theorem d_Mod_access_21 : decode b_Mod_access 21 = .ok (.iload_n 3, 1) := by decide +kernel
theorem d_Mod_access_22 : decode b_Mod_access 22 = .ok (.iaload, 1) := by decide +kernel
theorem d_Mod_access_23 : decode b_Mod_access 23 = .ok (.iconst 1, 1) := by decide +kernel
theorem d_Mod_access_24 : decode b_Mod_access 24 = .ok (.if_icmp .ne 7, 3) := by decide +kernel
theorem d_Mod_access_27 : decode b_Mod_access 27 = .ok (.iconst 1, 1) := by decide +kernel
theorem d_Mod_access_28 : decode b_Mod_access 28 = .ok (.goto 4, 3) := by decide +kernel
theorem d_Mod_access_31 : decode b_Mod_access 31 = .ok (.iconst 0, 1) := by decide +kernel
theorem d_Mod_access_32 : decode b_Mod_access 32 = .ok (.istore 6, 2) := by decide +kernel
theorem d_Mod_access_34 : decode b_Mod_access 34 = .ok (.aload_n 0, 1) := by decide +kernel
theorem d_Mod_access_35 : decode b_Mod_access 35 = .ok (.getfield 40, 3) := by decide +kernel
theorem d_Mod_access_38 : decode b_Mod_access 38 = .ok (.iload_n 2, 1) := by decide +kernel
theorem d_Mod_access_39 : decode b_Mod_access 39 = .ok (.iaload, 1) := by decide +kernel
theorem d_Mod_access_40 : decode b_Mod_access 40 = .ok (.iconst 4, 1) := by decide +kernel
theorem d_Mod_access_41 : decode b_Mod_access 41 = .ok (.if_icmp .ne 90, 3) := by decide +kernel
theorem d_Mod_access_44 : decode b_Mod_access 44 = .ok (.aload_n 0, 1) := by decide +kernel
theorem d_Mod_access_45 : decode b_Mod_access 45 = .ok (.getfield 77, 3) := by decide +kernel
theorem d_Mod_access_48 : decode b_Mod_access 48 = .ok (.iload 5, 2) := by decide +kernel
theorem d_Mod_access_50 : decode b_Mod_access 50 = .ok (.iaload, 1) := by decide +kernel
theorem d_Mod_access_51 : decode b_Mod_access 51 = .ok (.ifCond .ne 12, 3) := by decide +kernel
theorem d_Mod_access_54 : decode b_Mod_access 54 = .ok (.aload_n 0, 1) := by decide +kernel
theorem d_Mod_access_55 : decode b_Mod_access 55 = .ok (.getfield 40, 3) := by decide +kernel
theorem d_Mod_access_58 : decode b_Mod_access 58 = .ok (.iload_n 2, 1) := by decide +kernel
theorem d_Mod_access_59 : decode b_Mod_access 59 = .ok (.iconst 5, 1) := by decide +kernel
theorem d_Mod_access_60 : decode b_Mod_access 60 = .ok (.iastore, 1) := by decide +kernel
theorem d_Mod_access_61 : decode b_Mod_access 61 = .ok (.iconst 0, 1) := by decide +kernel
theorem d_Mod_access_62 : decode b_Mod_access 62 = .ok (.ireturn, 1) := by decide +kernel
theorem d_Mod_access_63 : decode b_Mod_access 63 = .ok (.iload 6, 2) := by decide +kernel
theorem d_Mod_access_65 : decode b_Mod_access 65 = .ok (.ifCond .eq 21, 3) := by decide +kernel
theorem d_Mod_access_68 : decode b_Mod_access 68 = .ok (.aload_n 0, 1) := by decide +kernel
theorem d_Mod_access_69 : decode b_Mod_access 69 = .ok (.getfield 83, 3) := by decide +kernel
theorem d_Mod_access_72 : decode b_Mod_access 72 = .ok (.iload 5, 2) := by decide +kernel
theorem d_Mod_access_74 : decode b_Mod_access 74 = .ok (.baload, 1) := by decide +kernel
theorem d_Mod_access_75 : decode b_Mod_access 75 = .ok (.ifCond .ne 11, 3) := by decide +kernel
theorem d_Mod_access_78 : decode b_Mod_access 78 = .ok (.aload_n 0, 1) := by decide +kernel
theorem d_Mod_access_79 : decode b_Mod_access 79 = .ok (.iload_n 3, 1) := by decide +kernel
theorem d_Mod_access_80 : decode b_Mod_access 80 = .ok (.bipush (-2), 2) := by decide +kernel
theorem d_Mod_access_82 : decode b_Mod_access 82 = .ok (.invokevirtual 171, 3) := by decide +kernel
theorem d_Mod_access_85 : decode b_Mod_access 85 = .ok (.ireturn, 1) := by decide +kernel
theorem d_Mod_access_86 : decode b_Mod_access 86 = .ok (.aload_n 0, 1) := by decide +kernel
theorem d_Mod_access_87 : decode b_Mod_access 87 = .ok (.getfield 74, 3) := by decide +kernel
theorem d_Mod_access_90 : decode b_Mod_access 90 = .ok (.aload_n 0, 1) := by decide +kernel
theorem d_Mod_access_91 : decode b_Mod_access 91 = .ok (.getfield 80, 3) := by decide +kernel
theorem d_Mod_access_94 : decode b_Mod_access 94 = .ok (.iload 5, 2) := by decide +kernel
theorem d_Mod_access_96 : decode b_Mod_access 96 = .ok (.iaload, 1) := by decide +kernel
theorem d_Mod_access_97 : decode b_Mod_access 97 = .ok (.iaload, 1) := by decide +kernel
theorem d_Mod_access_98 : decode b_Mod_access 98 = .ok (.istore 7, 2) := by decide +kernel
theorem d_Mod_access_100 : decode b_Mod_access 100 = .ok (.iload 6, 2) := by decide +kernel
theorem d_Mod_access_102 : decode b_Mod_access 102 = .ok (.ifCond .eq 21, 3) := by decide +kernel
theorem d_Mod_access_105 : decode b_Mod_access 105 = .ok (.aload_n 0, 1) := by decide +kernel
theorem d_Mod_access_106 : decode b_Mod_access 106 = .ok (.getfield 74, 3) := by decide +kernel
theorem d_Mod_access_109 : decode b_Mod_access 109 = .ok (.aload_n 0, 1) := by decide +kernel
theorem d_Mod_access_110 : decode b_Mod_access 110 = .ok (.getfield 80, 3) := by decide +kernel
theorem d_Mod_access_113 : decode b_Mod_access 113 = .ok (.iload 5, 2) := by decide +kernel
theorem d_Mod_access_115 : decode b_Mod_access 115 = .ok (.iaload, 1) := by decide +kernel
theorem d_Mod_access_116 : decode b_Mod_access 116 = .ok (.aload_n 0, 1) := by decide +kernel
theorem d_Mod_access_117 : decode b_Mod_access 117 = .ok (.getfield 25, 3) := by decide +kernel
theorem d_Mod_access_120 : decode b_Mod_access 120 = .ok (.iload_n 3, 1) := by decide +kernel
theorem d_Mod_access_121 : decode b_Mod_access 121 = .ok (.iaload, 1) := by decide +kernel
theorem d_Mod_access_122 : decode b_Mod_access 122 = .ok (.iastore, 1) := by decide +kernel
theorem d_Mod_access_123 : decode b_Mod_access 123 = .ok (.aload_n 0, 1) := by decide +kernel
theorem d_Mod_access_124 : decode b_Mod_access 124 = .ok (.iload_n 3, 1) := by decide +kernel
theorem d_Mod_access_125 : decode b_Mod_access 125 = .ok (.iload 7, 2) := by decide +kernel
theorem d_Mod_access_127 : decode b_Mod_access 127 = .ok (.invokevirtual 171, 3) := by decide +kernel
theorem d_Mod_access_130 : decode b_Mod_access 130 = .ok (.ireturn, 1) := by decide +kernel
theorem d_Mod_access_131 : decode b_Mod_access 131 = .ok (.aload_n 0, 1) := by decide +kernel
theorem d_Mod_access_132 : decode b_Mod_access 132 = .ok (.getfield 40, 3) := by decide +kernel
theorem d_Mod_access_135 : decode b_Mod_access 135 = .ok (.iload_n 2, 1) := by decide +kernel
theorem d_Mod_access_136 : decode b_Mod_access 136 = .ok (.iaload, 1) := by decide +kernel
theorem d_Mod_access_137 : decode b_Mod_access 137 = .ok (.iconst 5, 1) := by decide +kernel
theorem d_Mod_access_138 : decode b_Mod_access 138 = .ok (.if_icmp .ne 33, 3) := by decide +kernel
theorem d_Mod_access_141 : decode b_Mod_access 141 = .ok (.aload_n 0, 1) := by decide +kernel
theorem d_Mod_access_142 : decode b_Mod_access 142 = .ok (.getfield 71, 3) := by decide +kernel
theorem d_Mod_access_145 : decode b_Mod_access 145 = .ok (.iload 4, 2) := by decide +kernel
theorem d_Mod_access_147 : decode b_Mod_access 147 = .ok (.iconst 4, 1) := by decide +kernel
theorem d_Mod_access_148 : decode b_Mod_access 148 = .ok (.idiv, 1) := by decide +kernel
theorem d_Mod_access_149 : decode b_Mod_access 149 = .ok (.baload, 1) := by decide +kernel
theorem d_Mod_access_150 : decode b_Mod_access 150 = .ok (.ifCond .ne 11, 3) := by decide +kernel
theorem d_Mod_access_153 : decode b_Mod_access 153 = .ok (.aload_n 0, 1) := by decide +kernel
theorem d_Mod_access_154 : decode b_Mod_access 154 = .ok (.iload_n 3, 1) := by decide +kernel
theorem d_Mod_access_155 : decode b_Mod_access 155 = .ok (.bipush (-2), 2) := by decide +kernel
theorem d_Mod_access_157 : decode b_Mod_access 157 = .ok (.invokevirtual 171, 3) := by decide +kernel
theorem d_Mod_access_160 : decode b_Mod_access 160 = .ok (.ireturn, 1) := by decide +kernel
theorem d_Mod_access_161 : decode b_Mod_access 161 = .ok (.aload_n 0, 1) := by decide +kernel
theorem d_Mod_access_162 : decode b_Mod_access 162 = .ok (.getfield 40, 3) := by decide +kernel
theorem d_Mod_access_165 : decode b_Mod_access 165 = .ok (.iload_n 2, 1) := by decide +kernel
theorem d_Mod_access_166 : decode b_Mod_access 166 = .ok (.bipush 6, 2) := by decide +kernel
theorem d_Mod_access_168 : decode b_Mod_access 168 = .ok (.iastore, 1) := by decide +kernel
theorem d_Mod_access_169 : decode b_Mod_access 169 = .ok (.iconst 0, 1) := by decide +kernel
theorem d_Mod_access_170 : decode b_Mod_access 170 = .ok (.ireturn, 1) := by decide +kernel
theorem d_Mod_access_171 : decode b_Mod_access 171 = .ok (.aload_n 0, 1) := by decide +kernel
theorem d_Mod_access_172 : decode b_Mod_access 172 = .ok (.getfield 65, 3) := by decide +kernel
theorem d_Mod_access_175 : decode b_Mod_access 175 = .ok (.iload 4, 2) := by decide +kernel
theorem d_Mod_access_177 : decode b_Mod_access 177 = .ok (.iaload, 1) := by decide +kernel
theorem d_Mod_access_178 : decode b_Mod_access 178 = .ok (.ifCond .lt 18, 3) := by decide +kernel
theorem d_Mod_access_181 : decode b_Mod_access 181 = .ok (.iload 6, 2) := by decide +kernel
theorem d_Mod_access_183 : decode b_Mod_access 183 = .ok (.ifCond .eq 21, 3) := by decide +kernel
theorem d_Mod_access_186 : decode b_Mod_access 186 = .ok (.aload_n 0, 1) := by decide +kernel
theorem d_Mod_access_187 : decode b_Mod_access 187 = .ok (.getfield 68, 3) := by decide +kernel
theorem d_Mod_access_190 : decode b_Mod_access 190 = .ok (.iload 4, 2) := by decide +kernel
theorem d_Mod_access_192 : decode b_Mod_access 192 = .ok (.baload, 1) := by decide +kernel
theorem d_Mod_access_193 : decode b_Mod_access 193 = .ok (.ifCond .ne 11, 3) := by decide +kernel
theorem d_Mod_access_196 : decode b_Mod_access 196 = .ok (.aload_n 0, 1) := by decide +kernel
theorem d_Mod_access_197 : decode b_Mod_access 197 = .ok (.iload_n 3, 1) := by decide +kernel
theorem d_Mod_access_198 : decode b_Mod_access 198 = .ok (.bipush (-2), 2) := by decide +kernel
theorem d_Mod_access_200 : decode b_Mod_access 200 = .ok (.invokevirtual 171, 3) := by decide +kernel
theorem d_Mod_access_203 : decode b_Mod_access 203 = .ok (.ireturn, 1) := by decide +kernel
theorem d_Mod_access_204 : decode b_Mod_access 204 = .ok (.aload_n 0, 1) := by decide +kernel
theorem d_Mod_access_205 : decode b_Mod_access 205 = .ok (.iload_n 1, 1) := by decide +kernel
theorem d_Mod_access_206 : decode b_Mod_access 206 = .ok (.iload 4, 2) := by decide +kernel
theorem d_Mod_access_208 : decode b_Mod_access 208 = .ok (.invokevirtual 174, 3) := by decide +kernel
theorem d_Mod_access_211 : decode b_Mod_access 211 = .ok (.aload_n 0, 1) := by decide +kernel
theorem d_Mod_access_212 : decode b_Mod_access 212 = .ok (.getfield 40, 3) := by decide +kernel
theorem d_Mod_access_215 : decode b_Mod_access 215 = .ok (.iload_n 2, 1) := by decide +kernel
theorem d_Mod_access_216 : decode b_Mod_access 216 = .ok (.iconst 4, 1) := by decide +kernel
theorem d_Mod_access_217 : decode b_Mod_access 217 = .ok (.iastore, 1) := by decide +kernel
theorem d_Mod_access_218 : decode b_Mod_access 218 = .ok (.iconst 0, 1) := by decide +kernel
theorem d_Mod_access_219 : decode b_Mod_access 219 = .ok (.ireturn, 1) := by decide +kernel
theorem d_Mod_end_0 : decode b_Mod_end 0 = .ok (.aload_n 0, 1) := by decide +kernel
theorem d_Mod_end_1 : decode b_Mod_end 1 = .ok (.getfield 28, 3) := by decide +kernel
theorem d_Mod_end_4 : decode b_Mod_end 4 = .ok (.iload_n 1, 1) := by decide +kernel
theorem d_Mod_end_5 : decode b_Mod_end 5 = .ok (.iload_n 2, 1) := by decide +kernel
theorem d_Mod_end_6 : decode b_Mod_end 6 = .ok (.iastore, 1) := by decide +kernel
theorem d_Mod_end_7 : decode b_Mod_end 7 = .ok (.iconst 1, 1) := by decide +kernel
theorem d_Mod_end_8 : decode b_Mod_end 8 = .ok (.ireturn, 1) := by decide +kernel
theorem d_Mod_know_0 : decode b_Mod_know 0 = .ok (.iconst 0, 1) := by decide +kernel
theorem d_Mod_know_1 : decode b_Mod_know 1 = .ok (.istore_n 3, 1) := by decide +kernel
theorem d_Mod_know_2 : decode b_Mod_know 2 = .ok (.iconst (-1), 1) := by decide +kernel
theorem d_Mod_know_3 : decode b_Mod_know 3 = .ok (.istore 4, 2) := by decide +kernel
theorem d_Mod_know_5 : decode b_Mod_know 5 = .ok (.bipush 16, 2) := by decide +kernel
theorem d_Mod_know_7 : decode b_Mod_know 7 = .ok (.iload_n 1, 1) := by decide +kernel
theorem d_Mod_know_8 : decode b_Mod_know 8 = .ok (.imul, 1) := by decide +kernel
theorem d_Mod_know_9 : decode b_Mod_know 9 = .ok (.istore 5, 2) := by decide +kernel
theorem d_Mod_know_11 : decode b_Mod_know 11 = .ok (.iload 5, 2) := by decide +kernel
theorem d_Mod_know_13 : decode b_Mod_know 13 = .ok (.bipush 16, 2) := by decide +kernel
theorem d_Mod_know_15 : decode b_Mod_know 15 = .ok (.iload_n 1, 1) := by decide +kernel
theorem d_Mod_know_16 : decode b_Mod_know 16 = .ok (.imul, 1) := by decide +kernel
theorem d_Mod_know_17 : decode b_Mod_know 17 = .ok (.bipush 16, 2) := by decide +kernel
theorem d_Mod_know_19 : decode b_Mod_know 19 = .ok (.iadd, 1) := by decide +kernel
theorem d_Mod_know_20 : decode b_Mod_know 20 = .ok (.if_icmp .ge 53, 3) := by decide +kernel
theorem d_Mod_know_23 : decode b_Mod_know 23 = .ok (.aload_n 0, 1) := by decide +kernel
theorem d_Mod_know_24 : decode b_Mod_know 24 = .ok (.getfield 77, 3) := by decide +kernel
theorem d_Mod_know_27 : decode b_Mod_know 27 = .ok (.iload 5, 2) := by decide +kernel
theorem d_Mod_know_29 : decode b_Mod_know 29 = .ok (.iaload, 1) := by decide +kernel
theorem d_Mod_know_30 : decode b_Mod_know 30 = .ok (.ifCond .le 37, 3) := by decide +kernel
theorem d_Mod_know_33 : decode b_Mod_know 33 = .ok (.iinc 3 1, 3) := by decide +kernel
theorem d_Mod_know_36 : decode b_Mod_know 36 = .ok (.iload 4, 2) := by decide +kernel
theorem d_Mod_know_38 : decode b_Mod_know 38 = .ok (.ifCond .lt 20, 3) := by decide +kernel
theorem d_Mod_know_41 : decode b_Mod_know 41 = .ok (.aload_n 0, 1) := by decide +kernel
theorem d_Mod_know_42 : decode b_Mod_know 42 = .ok (.getfield 77, 3) := by decide +kernel
theorem d_Mod_know_45 : decode b_Mod_know 45 = .ok (.iload 5, 2) := by decide +kernel
theorem d_Mod_know_47 : decode b_Mod_know 47 = .ok (.iaload, 1) := by decide +kernel
theorem d_Mod_know_48 : decode b_Mod_know 48 = .ok (.aload_n 0, 1) := by decide +kernel
theorem d_Mod_know_49 : decode b_Mod_know 49 = .ok (.getfield 77, 3) := by decide +kernel
theorem d_Mod_know_52 : decode b_Mod_know 52 = .ok (.iload 4, 2) := by decide +kernel
theorem d_Mod_know_54 : decode b_Mod_know 54 = .ok (.iaload, 1) := by decide +kernel
theorem d_Mod_know_55 : decode b_Mod_know 55 = .ok (.if_icmp .ge 8, 3) := by decide +kernel
theorem d_Mod_know_58 : decode b_Mod_know 58 = .ok (.iload 5, 2) := by decide +kernel
theorem d_Mod_know_60 : decode b_Mod_know 60 = .ok (.goto 5, 3) := by decide +kernel
theorem d_Mod_know_63 : decode b_Mod_know 63 = .ok (.iload 4, 2) := by decide +kernel
theorem d_Mod_know_65 : decode b_Mod_know 65 = .ok (.istore 4, 2) := by decide +kernel
theorem d_Mod_know_67 : decode b_Mod_know 67 = .ok (.iinc 5 1, 3) := by decide +kernel
theorem d_Mod_know_70 : decode b_Mod_know 70 = .ok (.goto (-59), 3) := by decide +kernel
theorem d_Mod_know_73 : decode b_Mod_know 73 = .ok (.iload_n 3, 1) := by decide +kernel
theorem d_Mod_know_74 : decode b_Mod_know 74 = .ok (.iconst 3, 1) := by decide +kernel
theorem d_Mod_know_75 : decode b_Mod_know 75 = .ok (.if_icmp .ne 11, 3) := by decide +kernel
theorem d_Mod_know_78 : decode b_Mod_know 78 = .ok (.aload_n 0, 1) := by decide +kernel
theorem d_Mod_know_79 : decode b_Mod_know 79 = .ok (.getfield 77, 3) := by decide +kernel
theorem d_Mod_know_82 : decode b_Mod_know 82 = .ok (.iload 4, 2) := by decide +kernel
theorem d_Mod_know_84 : decode b_Mod_know 84 = .ok (.iconst 0, 1) := by decide +kernel
theorem d_Mod_know_85 : decode b_Mod_know 85 = .ok (.iastore, 1) := by decide +kernel
theorem d_Mod_know_86 : decode b_Mod_know 86 = .ok (.aload_n 0, 1) := by decide +kernel
theorem d_Mod_know_87 : decode b_Mod_know 87 = .ok (.getfield 77, 3) := by decide +kernel
theorem d_Mod_know_90 : decode b_Mod_know 90 = .ok (.bipush 16, 2) := by decide +kernel
theorem d_Mod_know_92 : decode b_Mod_know 92 = .ok (.iload_n 1, 1) := by decide +kernel
theorem d_Mod_know_93 : decode b_Mod_know 93 = .ok (.imul, 1) := by decide +kernel
theorem d_Mod_know_94 : decode b_Mod_know 94 = .ok (.iload_n 2, 1) := by decide +kernel
theorem d_Mod_know_95 : decode b_Mod_know 95 = .ok (.iadd, 1) := by decide +kernel
theorem d_Mod_know_96 : decode b_Mod_know 96 = .ok (.aload_n 0, 1) := by decide +kernel
theorem d_Mod_know_97 : decode b_Mod_know 97 = .ok (.invokevirtual 109, 3) := by decide +kernel
theorem d_Mod_know_100 : decode b_Mod_know 100 = .ok (.iastore, 1) := by decide +kernel
theorem d_Mod_know_101 : decode b_Mod_know 101 = .ok (.aload_n 0, 1) := by decide +kernel
theorem d_Mod_know_102 : decode b_Mod_know 102 = .ok (.getfield 80, 3) := by decide +kernel
theorem d_Mod_know_105 : decode b_Mod_know 105 = .ok (.bipush 16, 2) := by decide +kernel
theorem d_Mod_know_107 : decode b_Mod_know 107 = .ok (.iload_n 1, 1) := by decide +kernel
theorem d_Mod_know_108 : decode b_Mod_know 108 = .ok (.imul, 1) := by decide +kernel
theorem d_Mod_know_109 : decode b_Mod_know 109 = .ok (.iload_n 2, 1) := by decide +kernel
theorem d_Mod_know_110 : decode b_Mod_know 110 = .ok (.iadd, 1) := by decide +kernel
theorem d_Mod_know_111 : decode b_Mod_know 111 = .ok (.aload_n 0, 1) := by decide +kernel
theorem d_Mod_know_112 : decode b_Mod_know 112 = .ok (.getfield 65, 3) := by decide +kernel
theorem d_Mod_know_115 : decode b_Mod_know 115 = .ok (.iload_n 2, 1) := by decide +kernel
theorem d_Mod_know_116 : decode b_Mod_know 116 = .ok (.iaload, 1) := by decide +kernel
theorem d_Mod_know_117 : decode b_Mod_know 117 = .ok (.iastore, 1) := by decide +kernel
theorem d_Mod_know_118 : decode b_Mod_know 118 = .ok (.aload_n 0, 1) := by decide +kernel
theorem d_Mod_know_119 : decode b_Mod_know 119 = .ok (.getfield 83, 3) := by decide +kernel
theorem d_Mod_know_122 : decode b_Mod_know 122 = .ok (.bipush 16, 2) := by decide +kernel
theorem d_Mod_know_124 : decode b_Mod_know 124 = .ok (.iload_n 1, 1) := by decide +kernel
theorem d_Mod_know_125 : decode b_Mod_know 125 = .ok (.imul, 1) := by decide +kernel
theorem d_Mod_know_126 : decode b_Mod_know 126 = .ok (.iload_n 2, 1) := by decide +kernel
theorem d_Mod_know_127 : decode b_Mod_know 127 = .ok (.iadd, 1) := by decide +kernel
theorem d_Mod_know_128 : decode b_Mod_know 128 = .ok (.aload_n 0, 1) := by decide +kernel
theorem d_Mod_know_129 : decode b_Mod_know 129 = .ok (.getfield 68, 3) := by decide +kernel
theorem d_Mod_know_132 : decode b_Mod_know 132 = .ok (.iload_n 2, 1) := by decide +kernel
theorem d_Mod_know_133 : decode b_Mod_know 133 = .ok (.baload, 1) := by decide +kernel
theorem d_Mod_know_134 : decode b_Mod_know 134 = .ok (.bastore, 1) := by decide +kernel
theorem d_Mod_know_135 : decode b_Mod_know 135 = .ok (.return_, 1) := by decide +kernel
theorem d_Mod_change_0 : decode b_Mod_change 0 = .ok (.aload_n 0, 1) := by decide +kernel
theorem d_Mod_change_1 : decode b_Mod_change 1 = .ok (.getfield 40, 3) := by decide +kernel
theorem d_Mod_change_4 : decode b_Mod_change 4 = .ok (.iload_n 2, 1) := by decide +kernel
theorem d_Mod_change_5 : decode b_Mod_change 5 = .ok (.iaload, 1) := by decide +kernel
theorem d_Mod_change_6 : decode b_Mod_change 6 = .ok (.bipush 7, 2) := by decide +kernel
theorem d_Mod_change_8 : decode b_Mod_change 8 = .ok (.if_icmp .ne 34, 3) := by decide +kernel
theorem d_Mod_change_11 : decode b_Mod_change 11 = .ok (.aload_n 0, 1) := by decide +kernel
theorem d_Mod_change_12 : decode b_Mod_change 12 = .ok (.getfield 43, 3) := by decide +kernel
theorem d_Mod_change_15 : decode b_Mod_change 15 = .ok (.iload_n 2, 1) := by decide +kernel
theorem d_Mod_change_16 : decode b_Mod_change 16 = .ok (.aload_n 0, 1) := by decide +kernel
theorem d_Mod_change_17 : decode b_Mod_change 17 = .ok (.getfield 177, 3) := by decide +kernel
theorem d_Mod_change_20 : decode b_Mod_change 20 = .ok (.iastore, 1) := by decide +kernel
theorem d_Mod_change_21 : decode b_Mod_change 21 = .ok (.aload_n 0, 1) := by decide +kernel
theorem d_Mod_change_22 : decode b_Mod_change 22 = .ok (.dup, 1) := by decide +kernel
theorem d_Mod_change_23 : decode b_Mod_change 23 = .ok (.getfield 177, 3) := by decide +kernel
theorem d_Mod_change_26 : decode b_Mod_change 26 = .ok (.iconst 1, 1) := by decide +kernel
theorem d_Mod_change_27 : decode b_Mod_change 27 = .ok (.iadd, 1) := by decide +kernel
theorem d_Mod_change_28 : decode b_Mod_change 28 = .ok (.putfield 177, 3) := by decide +kernel
theorem d_Mod_change_31 : decode b_Mod_change 31 = .ok (.aload_n 0, 1) := by decide +kernel
theorem d_Mod_change_32 : decode b_Mod_change 32 = .ok (.getfield 40, 3) := by decide +kernel
theorem d_Mod_change_35 : decode b_Mod_change 35 = .ok (.iload_n 2, 1) := by decide +kernel
theorem d_Mod_change_36 : decode b_Mod_change 36 = .ok (.bipush 8, 2) := by decide +kernel
theorem d_Mod_change_38 : decode b_Mod_change 38 = .ok (.iastore, 1) := by decide +kernel
theorem d_Mod_change_39 : decode b_Mod_change 39 = .ok (.goto 233, 3) := by decide +kernel
theorem d_Mod_change_42 : decode b_Mod_change 42 = .ok (.aload_n 0, 1) := by decide +kernel
theorem d_Mod_change_43 : decode b_Mod_change 43 = .ok (.getfield 40, 3) := by decide +kernel
theorem d_Mod_change_46 : decode b_Mod_change 46 = .ok (.iload_n 2, 1) := by decide +kernel
theorem d_Mod_change_47 : decode b_Mod_change 47 = .ok (.iaload, 1) := by decide +kernel
theorem d_Mod_change_48 : decode b_Mod_change 48 = .ok (.bipush 8, 2) := by decide +kernel
theorem d_Mod_change_50 : decode b_Mod_change 50 = .ok (.if_icmp .ne 42, 3) := by decide +kernel
theorem d_Mod_change_53 : decode b_Mod_change 53 = .ok (.aload_n 0, 1) := by decide +kernel
theorem d_Mod_change_54 : decode b_Mod_change 54 = .ok (.getfield 180, 3) := by decide +kernel
theorem d_Mod_change_57 : decode b_Mod_change 57 = .ok (.aload_n 0, 1) := by decide +kernel
theorem d_Mod_change_58 : decode b_Mod_change 58 = .ok (.getfield 43, 3) := by decide +kernel
theorem d_Mod_change_61 : decode b_Mod_change 61 = .ok (.iload_n 2, 1) := by decide +kernel
theorem d_Mod_change_62 : decode b_Mod_change 62 = .ok (.iaload, 1) := by decide +kernel
theorem d_Mod_change_63 : decode b_Mod_change 63 = .ok (.if_icmp .ne 209, 3) := by decide +kernel
theorem d_Mod_change_66 : decode b_Mod_change 66 = .ok (.aload_n 0, 1) := by decide +kernel
theorem d_Mod_change_67 : decode b_Mod_change 67 = .ok (.getfield 40, 3) := by decide +kernel
theorem d_Mod_change_70 : decode b_Mod_change 70 = .ok (.iload_n 2, 1) := by decide +kernel
theorem d_Mod_change_71 : decode b_Mod_change 71 = .ok (.aload_n 0, 1) := by decide +kernel
theorem d_Mod_change_72 : decode b_Mod_change 72 = .ok (.getfield 16, 3) := by decide +kernel
theorem d_Mod_change_75 : decode b_Mod_change 75 = .ok (.iload_n 3, 1) := by decide +kernel
theorem d_Mod_change_76 : decode b_Mod_change 76 = .ok (.iaload, 1) := by decide +kernel
theorem d_Mod_change_77 : decode b_Mod_change 77 = .ok (.iconst 2, 1) := by decide +kernel
theorem d_Mod_change_78 : decode b_Mod_change 78 = .ok (.if_icmp .ne 8, 3) := by decide +kernel
theorem d_Mod_change_81 : decode b_Mod_change 81 = .ok (.bipush 9, 2) := by decide +kernel
theorem d_Mod_change_83 : decode b_Mod_change 83 = .ok (.goto 5, 3) := by decide +kernel
theorem d_Mod_change_86 : decode b_Mod_change 86 = .ok (.bipush 10, 2) := by decide +kernel
theorem d_Mod_change_88 : decode b_Mod_change 88 = .ok (.iastore, 1) := by decide +kernel
theorem d_Mod_change_89 : decode b_Mod_change 89 = .ok (.goto 183, 3) := by decide +kernel
theorem d_Mod_change_92 : decode b_Mod_change 92 = .ok (.aload_n 0, 1) := by decide +kernel
theorem d_Mod_change_93 : decode b_Mod_change 93 = .ok (.getfield 40, 3) := by decide +kernel
theorem d_Mod_change_96 : decode b_Mod_change 96 = .ok (.iload_n 2, 1) := by decide +kernel
theorem d_Mod_change_97 : decode b_Mod_change 97 = .ok (.iaload, 1) := by decide +kernel
theorem d_Mod_change_98 : decode b_Mod_change 98 = .ok (.bipush 9, 2) := by decide +kernel
theorem d_Mod_change_100 : decode b_Mod_change 100 = .ok (.if_icmp .ne 67, 3) := by decide +kernel
theorem d_Mod_change_103 : decode b_Mod_change 103 = .ok (.aload_n 0, 1) := by decide +kernel
theorem d_Mod_change_104 : decode b_Mod_change 104 = .ok (.getfield 55, 3) := by decide +kernel
theorem d_Mod_change_107 : decode b_Mod_change 107 = .ok (.iload_n 2, 1) := by decide +kernel
theorem d_Mod_change_108 : decode b_Mod_change 108 = .ok (.aload_n 0, 1) := by decide +kernel
theorem d_Mod_change_109 : decode b_Mod_change 109 = .ok (.iload_n 3, 1) := by decide +kernel
theorem d_Mod_change_110 : decode b_Mod_change 110 = .ok (.invokevirtual 183, 3) := by decide +kernel
theorem d_Mod_change_113 : decode b_Mod_change 113 = .ok (.ifCond .ne 23, 3) := by decide +kernel
theorem d_Mod_change_116 : decode b_Mod_change 116 = .ok (.aload_n 0, 1) := by decide +kernel
theorem d_Mod_change_117 : decode b_Mod_change 117 = .ok (.iload_n 1, 1) := by decide +kernel
theorem d_Mod_change_118 : decode b_Mod_change 118 = .ok (.invokevirtual 186, 3) := by decide +kernel
theorem d_Mod_change_121 : decode b_Mod_change 121 = .ok (.aload_n 0, 1) := by decide +kernel
theorem d_Mod_change_122 : decode b_Mod_change 122 = .ok (.iconst 4, 1) := by decide +kernel
theorem d_Mod_change_123 : decode b_Mod_change 123 = .ok (.invokevirtual 186, 3) := by decide +kernel
theorem d_Mod_change_126 : decode b_Mod_change 126 = .ok (.iadd, 1) := by decide +kernel
theorem d_Mod_change_127 : decode b_Mod_change 127 = .ok (.aload_n 0, 1) := by decide +kernel
theorem d_Mod_change_128 : decode b_Mod_change 128 = .ok (.getfield 22, 3) := by decide +kernel
theorem d_Mod_change_131 : decode b_Mod_change 131 = .ok (.iload_n 3, 1) := by decide +kernel
theorem d_Mod_change_132 : decode b_Mod_change 132 = .ok (.iaload, 1) := by decide +kernel
theorem d_Mod_change_133 : decode b_Mod_change 133 = .ok (.if_icmp .ge 7, 3) := by decide +kernel
theorem d_Mod_change_136 : decode b_Mod_change 136 = .ok (.iconst 1, 1) := by decide +kernel
theorem d_Mod_change_137 : decode b_Mod_change 137 = .ok (.goto 4, 3) := by decide +kernel
theorem d_Mod_change_140 : decode b_Mod_change 140 = .ok (.iconst 0, 1) := by decide +kernel
theorem d_Mod_change_141 : decode b_Mod_change 141 = .ok (.bastore, 1) := by decide +kernel
theorem d_Mod_change_142 : decode b_Mod_change 142 = .ok (.aload_n 0, 1) := by decide +kernel
theorem d_Mod_change_143 : decode b_Mod_change 143 = .ok (.getfield 40, 3) := by decide +kernel
theorem d_Mod_change_146 : decode b_Mod_change 146 = .ok (.iload_n 2, 1) := by decide +kernel
theorem d_Mod_change_147 : decode b_Mod_change 147 = .ok (.aload_n 0, 1) := by decide +kernel
theorem d_Mod_change_148 : decode b_Mod_change 148 = .ok (.getfield 55, 3) := by decide +kernel
theorem d_Mod_change_151 : decode b_Mod_change 151 = .ok (.iload_n 2, 1) := by decide +kernel
theorem d_Mod_change_152 : decode b_Mod_change 152 = .ok (.baload, 1) := by decide +kernel
theorem d_Mod_change_153 : decode b_Mod_change 153 = .ok (.ifCond .eq 8, 3) := by decide +kernel
theorem d_Mod_change_156 : decode b_Mod_change 156 = .ok (.bipush 14, 2) := by decide +kernel
theorem d_Mod_change_158 : decode b_Mod_change 158 = .ok (.goto 5, 3) := by decide +kernel
theorem d_Mod_change_161 : decode b_Mod_change 161 = .ok (.bipush 10, 2) := by decide +kernel
theorem d_Mod_change_163 : decode b_Mod_change 163 = .ok (.iastore, 1) := by decide +kernel
theorem d_Mod_change_164 : decode b_Mod_change 164 = .ok (.goto 108, 3) := by decide +kernel
theorem d_Mod_change_167 : decode b_Mod_change 167 = .ok (.aload_n 0, 1) := by decide +kernel
theorem d_Mod_change_168 : decode b_Mod_change 168 = .ok (.getfield 19, 3) := by decide +kernel
theorem d_Mod_change_171 : decode b_Mod_change 171 = .ok (.iload_n 3, 1) := by decide +kernel
theorem d_Mod_change_172 : decode b_Mod_change 172 = .ok (.iaload, 1) := by decide +kernel
theorem d_Mod_change_173 : decode b_Mod_change 173 = .ok (.aload_n 0, 1) := by decide +kernel
theorem d_Mod_change_174 : decode b_Mod_change 174 = .ok (.getfield 46, 3) := by decide +kernel
theorem d_Mod_change_177 : decode b_Mod_change 177 = .ok (.iload_n 2, 1) := by decide +kernel
theorem d_Mod_change_178 : decode b_Mod_change 178 = .ok (.iaload, 1) := by decide +kernel
theorem d_Mod_change_179 : decode b_Mod_change 179 = .ok (.iadd, 1) := by decide +kernel
theorem d_Mod_change_180 : decode b_Mod_change 180 = .ok (.istore 4, 2) := by decide +kernel
theorem d_Mod_change_182 : decode b_Mod_change 182 = .ok (.aload_n 0, 1) := by decide +kernel
theorem d_Mod_change_183 : decode b_Mod_change 183 = .ok (.getfield 52, 3) := by decide +kernel
theorem d_Mod_change_186 : decode b_Mod_change 186 = .ok (.iload_n 2, 1) := by decide +kernel
theorem d_Mod_change_187 : decode b_Mod_change 187 = .ok (.dup2, 1) := by decide +kernel
theorem d_Mod_change_188 : decode b_Mod_change 188 = .ok (.iaload, 1) := by decide +kernel
theorem d_Mod_change_189 : decode b_Mod_change 189 = .ok (.aload_n 0, 1) := by decide +kernel
theorem d_Mod_change_190 : decode b_Mod_change 190 = .ok (.iload_n 1, 1) := by decide +kernel
theorem d_Mod_change_191 : decode b_Mod_change 191 = .ok (.iload_n 2, 1) := by decide +kernel
theorem d_Mod_change_192 : decode b_Mod_change 192 = .ok (.iload_n 3, 1) := by decide +kernel
theorem d_Mod_change_193 : decode b_Mod_change 193 = .ok (.iload 4, 2) := by decide +kernel
theorem d_Mod_change_195 : decode b_Mod_change 195 = .ok (.invokevirtual 189, 3) := by decide +kernel
theorem d_Mod_change_198 : decode b_Mod_change 198 = .ok (.ifCond .eq 7, 3) := by decide +kernel
theorem d_Mod_change_201 : decode b_Mod_change 201 = .ok (.iconst 1, 1) := by decide +kernel
theorem d_Mod_change_202 : decode b_Mod_change 202 = .ok (.goto 4, 3) := by decide +kernel
theorem d_Mod_change_205 : decode b_Mod_change 205 = .ok (.iconst 0, 1) := by decide +kernel
theorem d_Mod_change_206 : decode b_Mod_change 206 = .ok (.iadd, 1) := by decide +kernel
theorem d_Mod_change_207 : decode b_Mod_change 207 = .ok (.iastore, 1) := by decide +kernel
theorem d_Mod_change_208 : decode b_Mod_change 208 = .ok (.aload_n 0, 1) := by decide +kernel
theorem d_Mod_change_209 : decode b_Mod_change 209 = .ok (.getfield 46, 3) := by decide +kernel
theorem d_Mod_change_212 : decode b_Mod_change 212 = .ok (.iload_n 2, 1) := by decide +kernel
theorem d_Mod_change_213 : decode b_Mod_change 213 = .ok (.dup2, 1) := by decide +kernel
theorem d_Mod_change_214 : decode b_Mod_change 214 = .ok (.iaload, 1) := by decide +kernel
theorem d_Mod_change_215 : decode b_Mod_change 215 = .ok (.iconst 1, 1) := by decide +kernel
theorem d_Mod_change_216 : decode b_Mod_change 216 = .ok (.iadd, 1) := by decide +kernel
theorem d_Mod_change_217 : decode b_Mod_change 217 = .ok (.iastore, 1) := by decide +kernel
theorem d_Mod_change_218 : decode b_Mod_change 218 = .ok (.aload_n 0, 1) := by decide +kernel
theorem d_Mod_change_219 : decode b_Mod_change 219 = .ok (.getfield 46, 3) := by decide +kernel
theorem d_Mod_change_222 : decode b_Mod_change 222 = .ok (.iload_n 2, 1) := by decide +kernel
theorem d_Mod_change_223 : decode b_Mod_change 223 = .ok (.iaload, 1) := by decide +kernel
theorem d_Mod_change_224 : decode b_Mod_change 224 = .ok (.aload_n 0, 1) := by decide +kernel
theorem d_Mod_change_225 : decode b_Mod_change 225 = .ok (.getfield 22, 3) := by decide +kernel
theorem d_Mod_change_228 : decode b_Mod_change 228 = .ok (.iload_n 3, 1) := by decide +kernel
theorem d_Mod_change_229 : decode b_Mod_change 229 = .ok (.iaload, 1) := by decide +kernel
theorem d_Mod_change_230 : decode b_Mod_change 230 = .ok (.if_icmp .ne 42, 3) := by decide +kernel
theorem d_Mod_change_233 : decode b_Mod_change 233 = .ok (.aload_n 0, 1) := by decide +kernel
theorem d_Mod_change_234 : decode b_Mod_change 234 = .ok (.getfield 46, 3) := by decide +kernel
theorem d_Mod_change_237 : decode b_Mod_change 237 = .ok (.iload_n 2, 1) := by decide +kernel
theorem d_Mod_change_238 : decode b_Mod_change 238 = .ok (.iconst 0, 1) := by decide +kernel
theorem d_Mod_change_239 : decode b_Mod_change 239 = .ok (.iastore, 1) := by decide +kernel
theorem d_Mod_change_240 : decode b_Mod_change 240 = .ok (.aload_n 0, 1) := by decide +kernel
theorem d_Mod_change_241 : decode b_Mod_change 241 = .ok (.getfield 40, 3) := by decide +kernel
theorem d_Mod_change_244 : decode b_Mod_change 244 = .ok (.iload_n 2, 1) := by decide +kernel
theorem d_Mod_change_245 : decode b_Mod_change 245 = .ok (.aload_n 0, 1) := by decide +kernel
theorem d_Mod_change_246 : decode b_Mod_change 246 = .ok (.getfield 16, 3) := by decide +kernel
theorem d_Mod_change_249 : decode b_Mod_change 249 = .ok (.iload_n 3, 1) := by decide +kernel
theorem d_Mod_change_250 : decode b_Mod_change 250 = .ok (.iaload, 1) := by decide +kernel
theorem d_Mod_change_251 : decode b_Mod_change 251 = .ok (.iconst 2, 1) := by decide +kernel
theorem d_Mod_change_252 : decode b_Mod_change 252 = .ok (.if_icmp .eq 17, 3) := by decide +kernel
theorem d_Mod_change_255 : decode b_Mod_change 255 = .ok (.aload_n 0, 1) := by decide +kernel
theorem d_Mod_change_256 : decode b_Mod_change 256 = .ok (.getfield 52, 3) := by decide +kernel
theorem d_Mod_change_259 : decode b_Mod_change 259 = .ok (.iload_n 2, 1) := by decide +kernel
theorem d_Mod_change_260 : decode b_Mod_change 260 = .ok (.iaload, 1) := by decide +kernel
theorem d_Mod_change_261 : decode b_Mod_change 261 = .ok (.ifCond .le 8, 3) := by decide +kernel
theorem d_Mod_change_264 : decode b_Mod_change 264 = .ok (.bipush 11, 2) := by decide +kernel
theorem d_Mod_change_266 : decode b_Mod_change 266 = .ok (.goto 5, 3) := by decide +kernel
theorem d_Mod_change_269 : decode b_Mod_change 269 = .ok (.bipush 14, 2) := by decide +kernel
theorem d_Mod_change_271 : decode b_Mod_change 271 = .ok (.iastore, 1) := by decide +kernel
theorem d_Mod_change_272 : decode b_Mod_change 272 = .ok (.iconst 0, 1) := by decide +kernel
theorem d_Mod_change_273 : decode b_Mod_change 273 = .ok (.ireturn, 1) := by decide +kernel
theorem d_Mod_some_0 : decode b_Mod_some 0 = .ok (.iconst 0, 1) := by decide +kernel
theorem d_Mod_some_1 : decode b_Mod_some 1 = .ok (.istore_n 2, 1) := by decide +kernel
theorem d_Mod_some_2 : decode b_Mod_some 2 = .ok (.iconst 0, 1) := by decide +kernel
theorem d_Mod_some_3 : decode b_Mod_some 3 = .ok (.istore_n 3, 1) := by decide +kernel
theorem d_Mod_some_4 : decode b_Mod_some 4 = .ok (.iload_n 3, 1) := by decide +kernel
theorem d_Mod_some_5 : decode b_Mod_some 5 = .ok (.aload_n 0, 1) := by decide +kernel
theorem d_Mod_some_6 : decode b_Mod_some 6 = .ok (.getfield 22, 3) := by decide +kernel
theorem d_Mod_some_9 : decode b_Mod_some 9 = .ok (.iload_n 1, 1) := by decide +kernel
theorem d_Mod_some_10 : decode b_Mod_some 10 = .ok (.iaload, 1) := by decide +kernel
theorem d_Mod_some_11 : decode b_Mod_some 11 = .ok (.if_icmp .ge 35, 3) := by decide +kernel
theorem d_Mod_some_14 : decode b_Mod_some 14 = .ok (.iload_n 2, 1) := by decide +kernel
theorem d_Mod_some_15 : decode b_Mod_some 15 = .ok (.ifCond .ne 19, 3) := by decide +kernel
theorem d_Mod_some_18 : decode b_Mod_some 18 = .ok (.aload_n 0, 1) := by decide +kernel
theorem d_Mod_some_19 : decode b_Mod_some 19 = .ok (.getfield 65, 3) := by decide +kernel
theorem d_Mod_some_22 : decode b_Mod_some 22 = .ok (.aload_n 0, 1) := by decide +kernel
theorem d_Mod_some_23 : decode b_Mod_some 23 = .ok (.getfield 19, 3) := by decide +kernel
theorem d_Mod_some_26 : decode b_Mod_some 26 = .ok (.iload_n 1, 1) := by decide +kernel
theorem d_Mod_some_27 : decode b_Mod_some 27 = .ok (.iaload, 1) := by decide +kernel
theorem d_Mod_some_28 : decode b_Mod_some 28 = .ok (.iload_n 3, 1) := by decide +kernel
theorem d_Mod_some_29 : decode b_Mod_some 29 = .ok (.iadd, 1) := by decide +kernel
theorem d_Mod_some_30 : decode b_Mod_some 30 = .ok (.iaload, 1) := by decide +kernel
theorem d_Mod_some_31 : decode b_Mod_some 31 = .ok (.ifCond .lt 7, 3) := by decide +kernel
theorem d_Mod_some_34 : decode b_Mod_some 34 = .ok (.iconst 1, 1) := by decide +kernel
theorem d_Mod_some_35 : decode b_Mod_some 35 = .ok (.goto 4, 3) := by decide +kernel
theorem d_Mod_some_38 : decode b_Mod_some 38 = .ok (.iconst 0, 1) := by decide +kernel
theorem d_Mod_some_39 : decode b_Mod_some 39 = .ok (.istore_n 2, 1) := by decide +kernel
theorem d_Mod_some_40 : decode b_Mod_some 40 = .ok (.iinc 3 1, 3) := by decide +kernel
theorem d_Mod_some_43 : decode b_Mod_some 43 = .ok (.goto (-39), 3) := by decide +kernel
theorem d_Mod_some_46 : decode b_Mod_some 46 = .ok (.iload_n 2, 1) := by decide +kernel
theorem d_Mod_some_47 : decode b_Mod_some 47 = .ok (.ireturn, 1) := by decide +kernel
theorem d_Mod_framesAt_0 : decode b_Mod_framesAt 0 = .ok (.iconst 0, 1) := by decide +kernel
theorem d_Mod_framesAt_1 : decode b_Mod_framesAt 1 = .ok (.istore_n 2, 1) := by decide +kernel
theorem d_Mod_framesAt_2 : decode b_Mod_framesAt 2 = .ok (.iconst 0, 1) := by decide +kernel
theorem d_Mod_framesAt_3 : decode b_Mod_framesAt 3 = .ok (.istore_n 3, 1) := by decide +kernel
theorem d_Mod_framesAt_4 : decode b_Mod_framesAt 4 = .ok (.iload_n 3, 1) := by decide +kernel
theorem d_Mod_framesAt_5 : decode b_Mod_framesAt 5 = .ok (.bipush 10, 2) := by decide +kernel
theorem d_Mod_framesAt_7 : decode b_Mod_framesAt 7 = .ok (.if_icmp .ge 27, 3) := by decide +kernel
theorem d_Mod_framesAt_10 : decode b_Mod_framesAt 10 = .ok (.iload_n 2, 1) := by decide +kernel
theorem d_Mod_framesAt_11 : decode b_Mod_framesAt 11 = .ok (.aload_n 0, 1) := by decide +kernel
theorem d_Mod_framesAt_12 : decode b_Mod_framesAt 12 = .ok (.getfield 86, 3) := by decide +kernel
theorem d_Mod_framesAt_15 : decode b_Mod_framesAt 15 = .ok (.iload_n 3, 1) := by decide +kernel
theorem d_Mod_framesAt_16 : decode b_Mod_framesAt 16 = .ok (.iaload, 1) := by decide +kernel
theorem d_Mod_framesAt_17 : decode b_Mod_framesAt 17 = .ok (.iload_n 1, 1) := by decide +kernel
theorem d_Mod_framesAt_18 : decode b_Mod_framesAt 18 = .ok (.if_icmp .ne 7, 3) := by decide +kernel
theorem d_Mod_framesAt_21 : decode b_Mod_framesAt 21 = .ok (.iconst 1, 1) := by decide +kernel
theorem d_Mod_framesAt_22 : decode b_Mod_framesAt 22 = .ok (.goto 4, 3) := by decide +kernel
theorem d_Mod_framesAt_25 : decode b_Mod_framesAt 25 = .ok (.iconst 0, 1) := by decide +kernel
theorem d_Mod_framesAt_26 : decode b_Mod_framesAt 26 = .ok (.iadd, 1) := by decide +kernel
theorem d_Mod_framesAt_27 : decode b_Mod_framesAt 27 = .ok (.istore_n 2, 1) := by decide +kernel
theorem d_Mod_framesAt_28 : decode b_Mod_framesAt 28 = .ok (.iinc 3 1, 3) := by decide +kernel
theorem d_Mod_framesAt_31 : decode b_Mod_framesAt 31 = .ok (.goto (-27), 3) := by decide +kernel
theorem d_Mod_framesAt_34 : decode b_Mod_framesAt 34 = .ok (.iload_n 2, 1) := by decide +kernel
theorem d_Mod_framesAt_35 : decode b_Mod_framesAt 35 = .ok (.ireturn, 1) := by decide +kernel
theorem d_Mod_changed_0 : decode b_Mod_changed 0 = .ok (.aload_n 0, 1) := by decide +kernel
theorem d_Mod_changed_1 : decode b_Mod_changed 1 = .ok (.getfield 16, 3) := by decide +kernel
theorem d_Mod_changed_4 : decode b_Mod_changed 4 = .ok (.iload_n 3, 1) := by decide +kernel
theorem d_Mod_changed_5 : decode b_Mod_changed 5 = .ok (.iaload, 1) := by decide +kernel
theorem d_Mod_changed_6 : decode b_Mod_changed 6 = .ok (.iconst 2, 1) := by decide +kernel
theorem d_Mod_changed_7 : decode b_Mod_changed 7 = .ok (.if_icmp .ne 69, 3) := by decide +kernel
theorem d_Mod_changed_10 : decode b_Mod_changed 10 = .ok (.aload_n 0, 1) := by decide +kernel
theorem d_Mod_changed_11 : decode b_Mod_changed 11 = .ok (.iload_n 1, 1) := by decide +kernel
theorem d_Mod_changed_12 : decode b_Mod_changed 12 = .ok (.invokevirtual 193, 3) := by decide +kernel
theorem d_Mod_changed_15 : decode b_Mod_changed 15 = .ok (.istore 5, 2) := by decide +kernel
theorem d_Mod_changed_17 : decode b_Mod_changed 17 = .ok (.aload_n 0, 1) := by decide +kernel
theorem d_Mod_changed_18 : decode b_Mod_changed 18 = .ok (.getfield 86, 3) := by decide +kernel
theorem d_Mod_changed_21 : decode b_Mod_changed 21 = .ok (.iload 5, 2) := by decide +kernel
theorem d_Mod_changed_23 : decode b_Mod_changed 23 = .ok (.iconst (-1), 1) := by decide +kernel
theorem d_Mod_changed_24 : decode b_Mod_changed 24 = .ok (.iastore, 1) := by decide +kernel
theorem d_Mod_changed_25 : decode b_Mod_changed 25 = .ok (.aload_n 0, 1) := by decide +kernel
theorem d_Mod_changed_26 : decode b_Mod_changed 26 = .ok (.getfield 74, 3) := by decide +kernel
theorem d_Mod_changed_29 : decode b_Mod_changed 29 = .ok (.iload 5, 2) := by decide +kernel
theorem d_Mod_changed_31 : decode b_Mod_changed 31 = .ok (.iconst 0, 1) := by decide +kernel
theorem d_Mod_changed_32 : decode b_Mod_changed 32 = .ok (.iastore, 1) := by decide +kernel
theorem d_Mod_changed_33 : decode b_Mod_changed 33 = .ok (.aload_n 0, 1) := by decide +kernel
theorem d_Mod_changed_34 : decode b_Mod_changed 34 = .ok (.getfield 65, 3) := by decide +kernel
theorem d_Mod_changed_37 : decode b_Mod_changed 37 = .ok (.iload 4, 2) := by decide +kernel
theorem d_Mod_changed_39 : decode b_Mod_changed 39 = .ok (.iload 5, 2) := by decide +kernel
theorem d_Mod_changed_41 : decode b_Mod_changed 41 = .ok (.iastore, 1) := by decide +kernel
theorem d_Mod_changed_42 : decode b_Mod_changed 42 = .ok (.aload_n 0, 1) := by decide +kernel
theorem d_Mod_changed_43 : decode b_Mod_changed 43 = .ok (.getfield 68, 3) := by decide +kernel
theorem d_Mod_changed_46 : decode b_Mod_changed 46 = .ok (.iload 4, 2) := by decide +kernel
theorem d_Mod_changed_48 : decode b_Mod_changed 48 = .ok (.aload_n 0, 1) := by decide +kernel
theorem d_Mod_changed_49 : decode b_Mod_changed 49 = .ok (.getfield 25, 3) := by decide +kernel
theorem d_Mod_changed_52 : decode b_Mod_changed 52 = .ok (.iload_n 3, 1) := by decide +kernel
theorem d_Mod_changed_53 : decode b_Mod_changed 53 = .ok (.iaload, 1) := by decide +kernel
theorem d_Mod_changed_54 : decode b_Mod_changed 54 = .ok (.iconst 1, 1) := by decide +kernel
theorem d_Mod_changed_55 : decode b_Mod_changed 55 = .ok (.if_icmp .ne 7, 3) := by decide +kernel
theorem d_Mod_changed_58 : decode b_Mod_changed 58 = .ok (.iconst 1, 1) := by decide +kernel
theorem d_Mod_changed_59 : decode b_Mod_changed 59 = .ok (.goto 4, 3) := by decide +kernel
theorem d_Mod_changed_62 : decode b_Mod_changed 62 = .ok (.iconst 0, 1) := by decide +kernel
theorem d_Mod_changed_63 : decode b_Mod_changed 63 = .ok (.bastore, 1) := by decide +kernel
theorem d_Mod_changed_64 : decode b_Mod_changed 64 = .ok (.aload_n 0, 1) := by decide +kernel
theorem d_Mod_changed_65 : decode b_Mod_changed 65 = .ok (.getfield 71, 3) := by decide +kernel
theorem d_Mod_changed_68 : decode b_Mod_changed 68 = .ok (.iload 4, 2) := by decide +kernel
theorem d_Mod_changed_70 : decode b_Mod_changed 70 = .ok (.iconst 4, 1) := by decide +kernel
theorem d_Mod_changed_71 : decode b_Mod_changed 71 = .ok (.idiv, 1) := by decide +kernel
theorem d_Mod_changed_72 : decode b_Mod_changed 72 = .ok (.iconst 1, 1) := by decide +kernel
theorem d_Mod_changed_73 : decode b_Mod_changed 73 = .ok (.bastore, 1) := by decide +kernel
theorem d_Mod_changed_74 : decode b_Mod_changed 74 = .ok (.iconst 1, 1) := by decide +kernel
theorem d_Mod_changed_75 : decode b_Mod_changed 75 = .ok (.ireturn, 1) := by decide +kernel
theorem d_Mod_changed_76 : decode b_Mod_changed 76 = .ok (.aload_n 0, 1) := by decide +kernel
theorem d_Mod_changed_77 : decode b_Mod_changed 77 = .ok (.getfield 65, 3) := by decide +kernel
theorem d_Mod_changed_80 : decode b_Mod_changed 80 = .ok (.iload 4, 2) := by decide +kernel
theorem d_Mod_changed_82 : decode b_Mod_changed 82 = .ok (.iaload, 1) := by decide +kernel
theorem d_Mod_changed_83 : decode b_Mod_changed 83 = .ok (.ifCond .lt 23, 3) := by decide +kernel
theorem d_Mod_changed_86 : decode b_Mod_changed 86 = .ok (.aload_n 0, 1) := by decide +kernel
theorem d_Mod_changed_87 : decode b_Mod_changed 87 = .ok (.getfield 16, 3) := by decide +kernel
theorem d_Mod_changed_90 : decode b_Mod_changed 90 = .ok (.iload_n 3, 1) := by decide +kernel
theorem d_Mod_changed_91 : decode b_Mod_changed 91 = .ok (.iaload, 1) := by decide +kernel
theorem d_Mod_changed_92 : decode b_Mod_changed 92 = .ok (.iconst 4, 1) := by decide +kernel
theorem d_Mod_changed_93 : decode b_Mod_changed 93 = .ok (.if_icmp .ne 15, 3) := by decide +kernel
theorem d_Mod_changed_96 : decode b_Mod_changed 96 = .ok (.aload_n 0, 1) := by decide +kernel
theorem d_Mod_changed_97 : decode b_Mod_changed 97 = .ok (.getfield 68, 3) := by decide +kernel
theorem d_Mod_changed_100 : decode b_Mod_changed 100 = .ok (.iload 4, 2) := by decide +kernel
theorem d_Mod_changed_102 : decode b_Mod_changed 102 = .ok (.baload, 1) := by decide +kernel
theorem d_Mod_changed_103 : decode b_Mod_changed 103 = .ok (.ifCond .ne 5, 3) := by decide +kernel
theorem d_Mod_changed_106 : decode b_Mod_changed 106 = .ok (.iconst 0, 1) := by decide +kernel
theorem d_Mod_changed_107 : decode b_Mod_changed 107 = .ok (.ireturn, 1) := by decide +kernel
theorem d_Mod_changed_108 : decode b_Mod_changed 108 = .ok (.aload_n 0, 1) := by decide +kernel
theorem d_Mod_changed_109 : decode b_Mod_changed 109 = .ok (.getfield 16, 3) := by decide +kernel
theorem d_Mod_changed_112 : decode b_Mod_changed 112 = .ok (.iload_n 3, 1) := by decide +kernel
theorem d_Mod_changed_113 : decode b_Mod_changed 113 = .ok (.iaload, 1) := by decide +kernel
theorem d_Mod_changed_114 : decode b_Mod_changed 114 = .ok (.iconst 4, 1) := by decide +kernel
theorem d_Mod_changed_115 : decode b_Mod_changed 115 = .ok (.if_icmp .ne 13, 3) := by decide +kernel
theorem d_Mod_changed_118 : decode b_Mod_changed 118 = .ok (.aload_n 0, 1) := by decide +kernel
theorem d_Mod_changed_119 : decode b_Mod_changed 119 = .ok (.getfield 68, 3) := by decide +kernel
theorem d_Mod_changed_122 : decode b_Mod_changed 122 = .ok (.iload 4, 2) := by decide +kernel
theorem d_Mod_changed_124 : decode b_Mod_changed 124 = .ok (.iconst 0, 1) := by decide +kernel
theorem d_Mod_changed_125 : decode b_Mod_changed 125 = .ok (.bastore, 1) := by decide +kernel
theorem d_Mod_changed_126 : decode b_Mod_changed 126 = .ok (.iconst 1, 1) := by decide +kernel
theorem d_Mod_changed_127 : decode b_Mod_changed 127 = .ok (.ireturn, 1) := by decide +kernel
theorem d_Mod_changed_128 : decode b_Mod_changed 128 = .ok (.aload_n 0, 1) := by decide +kernel
theorem d_Mod_changed_129 : decode b_Mod_changed 129 = .ok (.getfield 59, 3) := by decide +kernel
theorem d_Mod_changed_132 : decode b_Mod_changed 132 = .ok (.iconst 4, 1) := by decide +kernel
theorem d_Mod_changed_133 : decode b_Mod_changed 133 = .ok (.iload_n 2, 1) := by decide +kernel
theorem d_Mod_changed_134 : decode b_Mod_changed 134 = .ok (.imul, 1) := by decide +kernel
theorem d_Mod_changed_135 : decode b_Mod_changed 135 = .ok (.aload_n 0, 1) := by decide +kernel
theorem d_Mod_changed_136 : decode b_Mod_changed 136 = .ok (.getfield 62, 3) := by decide +kernel
theorem d_Mod_changed_139 : decode b_Mod_changed 139 = .ok (.iload_n 2, 1) := by decide +kernel
theorem d_Mod_changed_140 : decode b_Mod_changed 140 = .ok (.iaload, 1) := by decide +kernel
theorem d_Mod_changed_141 : decode b_Mod_changed 141 = .ok (.iadd, 1) := by decide +kernel
theorem d_Mod_changed_142 : decode b_Mod_changed 142 = .ok (.aload_n 0, 1) := by decide +kernel
theorem d_Mod_changed_143 : decode b_Mod_changed 143 = .ok (.getfield 65, 3) := by decide +kernel
theorem d_Mod_changed_146 : decode b_Mod_changed 146 = .ok (.iload 4, 2) := by decide +kernel
theorem d_Mod_changed_148 : decode b_Mod_changed 148 = .ok (.iaload, 1) := by decide +kernel
theorem d_Mod_changed_149 : decode b_Mod_changed 149 = .ok (.iastore, 1) := by decide +kernel
theorem d_Mod_changed_150 : decode b_Mod_changed 150 = .ok (.aload_n 0, 1) := by decide +kernel
theorem d_Mod_changed_151 : decode b_Mod_changed 151 = .ok (.getfield 62, 3) := by decide +kernel
theorem d_Mod_changed_154 : decode b_Mod_changed 154 = .ok (.iload_n 2, 1) := by decide +kernel
theorem d_Mod_changed_155 : decode b_Mod_changed 155 = .ok (.dup2, 1) := by decide +kernel
theorem d_Mod_changed_156 : decode b_Mod_changed 156 = .ok (.iaload, 1) := by decide +kernel
theorem d_Mod_changed_157 : decode b_Mod_changed 157 = .ok (.iconst 1, 1) := by decide +kernel
theorem d_Mod_changed_158 : decode b_Mod_changed 158 = .ok (.iadd, 1) := by decide +kernel
theorem d_Mod_changed_159 : decode b_Mod_changed 159 = .ok (.iastore, 1) := by decide +kernel
theorem d_Mod_changed_160 : decode b_Mod_changed 160 = .ok (.aload_n 0, 1) := by decide +kernel
theorem d_Mod_changed_161 : decode b_Mod_changed 161 = .ok (.getfield 65, 3) := by decide +kernel
theorem d_Mod_changed_164 : decode b_Mod_changed 164 = .ok (.iload 4, 2) := by decide +kernel
theorem d_Mod_changed_166 : decode b_Mod_changed 166 = .ok (.iconst (-1), 1) := by decide +kernel
theorem d_Mod_changed_167 : decode b_Mod_changed 167 = .ok (.iastore, 1) := by decide +kernel
theorem d_Mod_changed_168 : decode b_Mod_changed 168 = .ok (.iconst 1, 1) := by decide +kernel
theorem d_Mod_changed_169 : decode b_Mod_changed 169 = .ok (.ireturn, 1) := by decide +kernel
theorem d_Mod_frameFor_0 : decode b_Mod_frameFor 0 = .ok (.iconst (-1), 1) := by decide +kernel
theorem d_Mod_frameFor_1 : decode b_Mod_frameFor 1 = .ok (.istore_n 2, 1) := by decide +kernel
theorem d_Mod_frameFor_2 : decode b_Mod_frameFor 2 = .ok (.iconst 0, 1) := by decide +kernel
theorem d_Mod_frameFor_3 : decode b_Mod_frameFor 3 = .ok (.istore_n 3, 1) := by decide +kernel
theorem d_Mod_frameFor_4 : decode b_Mod_frameFor 4 = .ok (.iload_n 3, 1) := by decide +kernel
theorem d_Mod_frameFor_5 : decode b_Mod_frameFor 5 = .ok (.bipush 10, 2) := by decide +kernel
theorem d_Mod_frameFor_7 : decode b_Mod_frameFor 7 = .ok (.if_icmp .ge 44, 3) := by decide +kernel
theorem d_Mod_frameFor_10 : decode b_Mod_frameFor 10 = .ok (.aload_n 0, 1) := by decide +kernel
theorem d_Mod_frameFor_11 : decode b_Mod_frameFor 11 = .ok (.getfield 86, 3) := by decide +kernel
theorem d_Mod_frameFor_14 : decode b_Mod_frameFor 14 = .ok (.iload_n 3, 1) := by decide +kernel
theorem d_Mod_frameFor_15 : decode b_Mod_frameFor 15 = .ok (.iaload, 1) := by decide +kernel
theorem d_Mod_frameFor_16 : decode b_Mod_frameFor 16 = .ok (.iload_n 1, 1) := by decide +kernel
theorem d_Mod_frameFor_17 : decode b_Mod_frameFor 17 = .ok (.if_icmp .ne 26, 3) := by decide +kernel
theorem d_Mod_frameFor_20 : decode b_Mod_frameFor 20 = .ok (.iload_n 2, 1) := by decide +kernel
theorem d_Mod_frameFor_21 : decode b_Mod_frameFor 21 = .ok (.ifCond .lt 18, 3) := by decide +kernel
theorem d_Mod_frameFor_24 : decode b_Mod_frameFor 24 = .ok (.aload_n 0, 1) := by decide +kernel
theorem d_Mod_frameFor_25 : decode b_Mod_frameFor 25 = .ok (.getfield 89, 3) := by decide +kernel
theorem d_Mod_frameFor_28 : decode b_Mod_frameFor 28 = .ok (.iload_n 3, 1) := by decide +kernel
theorem d_Mod_frameFor_29 : decode b_Mod_frameFor 29 = .ok (.iaload, 1) := by decide +kernel
theorem d_Mod_frameFor_30 : decode b_Mod_frameFor 30 = .ok (.aload_n 0, 1) := by decide +kernel
theorem d_Mod_frameFor_31 : decode b_Mod_frameFor 31 = .ok (.getfield 89, 3) := by decide +kernel
theorem d_Mod_frameFor_34 : decode b_Mod_frameFor 34 = .ok (.iload_n 2, 1) := by decide +kernel
theorem d_Mod_frameFor_35 : decode b_Mod_frameFor 35 = .ok (.iaload, 1) := by decide +kernel
theorem d_Mod_frameFor_36 : decode b_Mod_frameFor 36 = .ok (.if_icmp .le 7, 3) := by decide +kernel
theorem d_Mod_frameFor_39 : decode b_Mod_frameFor 39 = .ok (.iload_n 3, 1) := by decide +kernel
theorem d_Mod_frameFor_40 : decode b_Mod_frameFor 40 = .ok (.goto 4, 3) := by decide +kernel
theorem d_Mod_frameFor_43 : decode b_Mod_frameFor 43 = .ok (.iload_n 2, 1) := by decide +kernel
theorem d_Mod_frameFor_44 : decode b_Mod_frameFor 44 = .ok (.istore_n 2, 1) := by decide +kernel
theorem d_Mod_frameFor_45 : decode b_Mod_frameFor 45 = .ok (.iinc 3 1, 3) := by decide +kernel
theorem d_Mod_frameFor_48 : decode b_Mod_frameFor 48 = .ok (.goto (-44), 3) := by decide +kernel
theorem d_Mod_frameFor_51 : decode b_Mod_frameFor 51 = .ok (.iload_n 2, 1) := by decide +kernel
theorem d_Mod_frameFor_52 : decode b_Mod_frameFor 52 = .ok (.ifCond .lt 5, 3) := by decide +kernel
theorem d_Mod_frameFor_55 : decode b_Mod_frameFor 55 = .ok (.iload_n 2, 1) := by decide +kernel
theorem d_Mod_frameFor_56 : decode b_Mod_frameFor 56 = .ok (.ireturn, 1) := by decide +kernel
theorem d_Mod_frameFor_57 : decode b_Mod_frameFor 57 = .ok (.iconst 0, 1) := by decide +kernel
theorem d_Mod_frameFor_58 : decode b_Mod_frameFor 58 = .ok (.istore_n 3, 1) := by decide +kernel
theorem d_Mod_frameFor_59 : decode b_Mod_frameFor 59 = .ok (.iload_n 3, 1) := by decide +kernel
theorem d_Mod_frameFor_60 : decode b_Mod_frameFor 60 = .ok (.bipush 10, 2) := by decide +kernel
theorem d_Mod_frameFor_62 : decode b_Mod_frameFor 62 = .ok (.if_icmp .ge 44, 3) := by decide +kernel
theorem d_Mod_frameFor_65 : decode b_Mod_frameFor 65 = .ok (.aload_n 0, 1) := by decide +kernel
theorem d_Mod_frameFor_66 : decode b_Mod_frameFor 66 = .ok (.getfield 86, 3) := by decide +kernel
theorem d_Mod_frameFor_69 : decode b_Mod_frameFor 69 = .ok (.iload_n 3, 1) := by decide +kernel
theorem d_Mod_frameFor_70 : decode b_Mod_frameFor 70 = .ok (.iaload, 1) := by decide +kernel
theorem d_Mod_frameFor_71 : decode b_Mod_frameFor 71 = .ok (.iconst 4, 1) := by decide +kernel
theorem d_Mod_frameFor_72 : decode b_Mod_frameFor 72 = .ok (.if_icmp .ne 26, 3) := by decide +kernel
theorem d_Mod_frameFor_75 : decode b_Mod_frameFor 75 = .ok (.iload_n 2, 1) := by decide +kernel
theorem d_Mod_frameFor_76 : decode b_Mod_frameFor 76 = .ok (.ifCond .lt 18, 3) := by decide +kernel
theorem d_Mod_frameFor_79 : decode b_Mod_frameFor 79 = .ok (.aload_n 0, 1) := by decide +kernel
theorem d_Mod_frameFor_80 : decode b_Mod_frameFor 80 = .ok (.getfield 89, 3) := by decide +kernel
theorem d_Mod_frameFor_83 : decode b_Mod_frameFor 83 = .ok (.iload_n 3, 1) := by decide +kernel
theorem d_Mod_frameFor_84 : decode b_Mod_frameFor 84 = .ok (.iaload, 1) := by decide +kernel
theorem d_Mod_frameFor_85 : decode b_Mod_frameFor 85 = .ok (.aload_n 0, 1) := by decide +kernel
theorem d_Mod_frameFor_86 : decode b_Mod_frameFor 86 = .ok (.getfield 89, 3) := by decide +kernel
theorem d_Mod_frameFor_89 : decode b_Mod_frameFor 89 = .ok (.iload_n 2, 1) := by decide +kernel
theorem d_Mod_frameFor_90 : decode b_Mod_frameFor 90 = .ok (.iaload, 1) := by decide +kernel
theorem d_Mod_frameFor_91 : decode b_Mod_frameFor 91 = .ok (.if_icmp .ge 7, 3) := by decide +kernel
theorem d_Mod_frameFor_94 : decode b_Mod_frameFor 94 = .ok (.iload_n 3, 1) := by decide +kernel
theorem d_Mod_frameFor_95 : decode b_Mod_frameFor 95 = .ok (.goto 4, 3) := by decide +kernel
theorem d_Mod_frameFor_98 : decode b_Mod_frameFor 98 = .ok (.iload_n 2, 1) := by decide +kernel
theorem d_Mod_frameFor_99 : decode b_Mod_frameFor 99 = .ok (.istore_n 2, 1) := by decide +kernel
theorem d_Mod_frameFor_100 : decode b_Mod_frameFor 100 = .ok (.iinc 3 1, 3) := by decide +kernel
theorem d_Mod_frameFor_103 : decode b_Mod_frameFor 103 = .ok (.goto (-44), 3) := by decide +kernel
theorem d_Mod_frameFor_106 : decode b_Mod_frameFor 106 = .ok (.iload_n 2, 1) := by decide +kernel
theorem d_Mod_frameFor_107 : decode b_Mod_frameFor 107 = .ok (.ireturn, 1) := by decide +kernel
theorem d_Mod_shoot_0 : decode b_Mod_shoot 0 = .ok (.aload_n 0, 1) := by decide +kernel
theorem d_Mod_shoot_1 : decode b_Mod_shoot 1 = .ok (.getfield 40, 3) := by decide +kernel
theorem d_Mod_shoot_4 : decode b_Mod_shoot 4 = .ok (.iload_n 2, 1) := by decide +kernel
theorem d_Mod_shoot_5 : decode b_Mod_shoot 5 = .ok (.iaload, 1) := by decide +kernel
theorem d_Mod_shoot_6 : decode b_Mod_shoot 6 = .ok (.bipush 11, 2) := by decide +kernel
theorem d_Mod_shoot_8 : decode b_Mod_shoot 8 = .ok (.if_icmp .ne 91, 3) := by decide +kernel
theorem d_Mod_shoot_11 : decode b_Mod_shoot 11 = .ok (.aload_n 0, 1) := by decide +kernel
theorem d_Mod_shoot_12 : decode b_Mod_shoot 12 = .ok (.getfield 46, 3) := by decide +kernel
theorem d_Mod_shoot_15 : decode b_Mod_shoot 15 = .ok (.iload_n 2, 1) := by decide +kernel
theorem d_Mod_shoot_16 : decode b_Mod_shoot 16 = .ok (.iaload, 1) := by decide +kernel
theorem d_Mod_shoot_17 : decode b_Mod_shoot 17 = .ok (.iload_n 1, 1) := by decide +kernel
theorem d_Mod_shoot_18 : decode b_Mod_shoot 18 = .ok (.if_icmp .ne 12, 3) := by decide +kernel
theorem d_Mod_shoot_21 : decode b_Mod_shoot 21 = .ok (.aload_n 0, 1) := by decide +kernel
theorem d_Mod_shoot_22 : decode b_Mod_shoot 22 = .ok (.iload_n 1, 1) := by decide +kernel
theorem d_Mod_shoot_23 : decode b_Mod_shoot 23 = .ok (.iload_n 2, 1) := by decide +kernel
theorem d_Mod_shoot_24 : decode b_Mod_shoot 24 = .ok (.invokevirtual 139, 3) := by decide +kernel
theorem d_Mod_shoot_27 : decode b_Mod_shoot 27 = .ok (.goto 37, 3) := by decide +kernel
theorem d_Mod_shoot_30 : decode b_Mod_shoot 30 = .ok (.aload_n 0, 1) := by decide +kernel
theorem d_Mod_shoot_31 : decode b_Mod_shoot 31 = .ok (.getfield 92, 3) := by decide +kernel
theorem d_Mod_shoot_34 : decode b_Mod_shoot 34 = .ok (.aload_n 0, 1) := by decide +kernel
theorem d_Mod_shoot_35 : decode b_Mod_shoot 35 = .ok (.getfield 46, 3) := by decide +kernel
theorem d_Mod_shoot_38 : decode b_Mod_shoot 38 = .ok (.iload_n 2, 1) := by decide +kernel
theorem d_Mod_shoot_39 : decode b_Mod_shoot 39 = .ok (.iaload, 1) := by decide +kernel
theorem d_Mod_shoot_40 : decode b_Mod_shoot 40 = .ok (.iconst 1, 1) := by decide +kernel
theorem d_Mod_shoot_41 : decode b_Mod_shoot 41 = .ok (.bastore, 1) := by decide +kernel
theorem d_Mod_shoot_42 : decode b_Mod_shoot 42 = .ok (.aload_n 0, 1) := by decide +kernel
theorem d_Mod_shoot_43 : decode b_Mod_shoot 43 = .ok (.getfield 95, 3) := by decide +kernel
theorem d_Mod_shoot_46 : decode b_Mod_shoot 46 = .ok (.aload_n 0, 1) := by decide +kernel
theorem d_Mod_shoot_47 : decode b_Mod_shoot 47 = .ok (.getfield 46, 3) := by decide +kernel
theorem d_Mod_shoot_50 : decode b_Mod_shoot 50 = .ok (.iload_n 2, 1) := by decide +kernel
theorem d_Mod_shoot_51 : decode b_Mod_shoot 51 = .ok (.iaload, 1) := by decide +kernel
theorem d_Mod_shoot_52 : decode b_Mod_shoot 52 = .ok (.iload_n 2, 1) := by decide +kernel
theorem d_Mod_shoot_53 : decode b_Mod_shoot 53 = .ok (.iastore, 1) := by decide +kernel
theorem d_Mod_shoot_54 : decode b_Mod_shoot 54 = .ok (.aload_n 0, 1) := by decide +kernel
theorem d_Mod_shoot_55 : decode b_Mod_shoot 55 = .ok (.getfield 49, 3) := by decide +kernel
theorem d_Mod_shoot_58 : decode b_Mod_shoot 58 = .ok (.iload_n 2, 1) := by decide +kernel
theorem d_Mod_shoot_59 : decode b_Mod_shoot 59 = .ok (.dup2, 1) := by decide +kernel
theorem d_Mod_shoot_60 : decode b_Mod_shoot 60 = .ok (.iaload, 1) := by decide +kernel
theorem d_Mod_shoot_61 : decode b_Mod_shoot 61 = .ok (.iconst 1, 1) := by decide +kernel
theorem d_Mod_shoot_62 : decode b_Mod_shoot 62 = .ok (.iadd, 1) := by decide +kernel
theorem d_Mod_shoot_63 : decode b_Mod_shoot 63 = .ok (.iastore, 1) := by decide +kernel
theorem d_Mod_shoot_64 : decode b_Mod_shoot 64 = .ok (.aload_n 0, 1) := by decide +kernel
theorem d_Mod_shoot_65 : decode b_Mod_shoot 65 = .ok (.getfield 46, 3) := by decide +kernel
theorem d_Mod_shoot_68 : decode b_Mod_shoot 68 = .ok (.iload_n 2, 1) := by decide +kernel
theorem d_Mod_shoot_69 : decode b_Mod_shoot 69 = .ok (.dup2, 1) := by decide +kernel
theorem d_Mod_shoot_70 : decode b_Mod_shoot 70 = .ok (.iaload, 1) := by decide +kernel
theorem d_Mod_shoot_71 : decode b_Mod_shoot 71 = .ok (.iconst 1, 1) := by decide +kernel
theorem d_Mod_shoot_72 : decode b_Mod_shoot 72 = .ok (.iadd, 1) := by decide +kernel
theorem d_Mod_shoot_73 : decode b_Mod_shoot 73 = .ok (.iastore, 1) := by decide +kernel
theorem d_Mod_shoot_74 : decode b_Mod_shoot 74 = .ok (.aload_n 0, 1) := by decide +kernel
theorem d_Mod_shoot_75 : decode b_Mod_shoot 75 = .ok (.getfield 40, 3) := by decide +kernel
theorem d_Mod_shoot_78 : decode b_Mod_shoot 78 = .ok (.iload_n 2, 1) := by decide +kernel
theorem d_Mod_shoot_79 : decode b_Mod_shoot 79 = .ok (.aload_n 0, 1) := by decide +kernel
theorem d_Mod_shoot_80 : decode b_Mod_shoot 80 = .ok (.getfield 46, 3) := by decide +kernel
theorem d_Mod_shoot_83 : decode b_Mod_shoot 83 = .ok (.iload_n 2, 1) := by decide +kernel
theorem d_Mod_shoot_84 : decode b_Mod_shoot 84 = .ok (.iaload, 1) := by decide +kernel
theorem d_Mod_shoot_85 : decode b_Mod_shoot 85 = .ok (.iconst 4, 1) := by decide +kernel
theorem d_Mod_shoot_86 : decode b_Mod_shoot 86 = .ok (.if_icmp .ne 8, 3) := by decide +kernel
theorem d_Mod_shoot_89 : decode b_Mod_shoot 89 = .ok (.bipush 12, 2) := by decide +kernel
theorem d_Mod_shoot_91 : decode b_Mod_shoot 91 = .ok (.goto 5, 3) := by decide +kernel
theorem d_Mod_shoot_94 : decode b_Mod_shoot 94 = .ok (.bipush 11, 2) := by decide +kernel
theorem d_Mod_shoot_96 : decode b_Mod_shoot 96 = .ok (.iastore, 1) := by decide +kernel
theorem d_Mod_shoot_97 : decode b_Mod_shoot 97 = .ok (.iconst 0, 1) := by decide +kernel
theorem d_Mod_shoot_98 : decode b_Mod_shoot 98 = .ok (.ireturn, 1) := by decide +kernel
theorem d_Mod_shoot_99 : decode b_Mod_shoot 99 = .ok (.aload_n 0, 1) := by decide +kernel
theorem d_Mod_shoot_100 : decode b_Mod_shoot 100 = .ok (.getfield 40, 3) := by decide +kernel
theorem d_Mod_shoot_103 : decode b_Mod_shoot 103 = .ok (.iload_n 2, 1) := by decide +kernel
theorem d_Mod_shoot_104 : decode b_Mod_shoot 104 = .ok (.iaload, 1) := by decide +kernel
theorem d_Mod_shoot_105 : decode b_Mod_shoot 105 = .ok (.bipush 12, 2) := by decide +kernel
theorem d_Mod_shoot_107 : decode b_Mod_shoot 107 = .ok (.if_icmp .ne 44, 3) := by decide +kernel
theorem d_Mod_shoot_110 : decode b_Mod_shoot 110 = .ok (.aload_n 0, 1) := by decide +kernel
theorem d_Mod_shoot_111 : decode b_Mod_shoot 111 = .ok (.getfield 46, 3) := by decide +kernel
theorem d_Mod_shoot_114 : decode b_Mod_shoot 114 = .ok (.iload_n 2, 1) := by decide +kernel
theorem d_Mod_shoot_115 : decode b_Mod_shoot 115 = .ok (.iconst 0, 1) := by decide +kernel
theorem d_Mod_shoot_116 : decode b_Mod_shoot 116 = .ok (.iastore, 1) := by decide +kernel
theorem d_Mod_shoot_117 : decode b_Mod_shoot 117 = .ok (.aload_n 0, 1) := by decide +kernel
theorem d_Mod_shoot_118 : decode b_Mod_shoot 118 = .ok (.getfield 49, 3) := by decide +kernel
theorem d_Mod_shoot_121 : decode b_Mod_shoot 121 = .ok (.iload_n 2, 1) := by decide +kernel
theorem d_Mod_shoot_122 : decode b_Mod_shoot 122 = .ok (.iaload, 1) := by decide +kernel
theorem d_Mod_shoot_123 : decode b_Mod_shoot 123 = .ok (.ifCond .ne 26, 3) := by decide +kernel
theorem d_Mod_shoot_126 : decode b_Mod_shoot 126 = .ok (.aload_n 0, 1) := by decide +kernel
theorem d_Mod_shoot_127 : decode b_Mod_shoot 127 = .ok (.getfield 40, 3) := by decide +kernel
theorem d_Mod_shoot_130 : decode b_Mod_shoot 130 = .ok (.iload_n 2, 1) := by decide +kernel
theorem d_Mod_shoot_131 : decode b_Mod_shoot 131 = .ok (.aload_n 0, 1) := by decide +kernel
theorem d_Mod_shoot_132 : decode b_Mod_shoot 132 = .ok (.getfield 16, 3) := by decide +kernel
theorem d_Mod_shoot_135 : decode b_Mod_shoot 135 = .ok (.iload_n 3, 1) := by decide +kernel
theorem d_Mod_shoot_136 : decode b_Mod_shoot 136 = .ok (.iaload, 1) := by decide +kernel
theorem d_Mod_shoot_137 : decode b_Mod_shoot 137 = .ok (.iconst 3, 1) := by decide +kernel
theorem d_Mod_shoot_138 : decode b_Mod_shoot 138 = .ok (.if_icmp .ne 8, 3) := by decide +kernel
theorem d_Mod_shoot_141 : decode b_Mod_shoot 141 = .ok (.bipush 13, 2) := by decide +kernel
theorem d_Mod_shoot_143 : decode b_Mod_shoot 143 = .ok (.goto 5, 3) := by decide +kernel
theorem d_Mod_shoot_146 : decode b_Mod_shoot 146 = .ok (.bipush 14, 2) := by decide +kernel
theorem d_Mod_shoot_148 : decode b_Mod_shoot 148 = .ok (.iastore, 1) := by decide +kernel
theorem d_Mod_shoot_149 : decode b_Mod_shoot 149 = .ok (.iconst 0, 1) := by decide +kernel
theorem d_Mod_shoot_150 : decode b_Mod_shoot 150 = .ok (.ireturn, 1) := by decide +kernel
theorem d_Mod_shoot_151 : decode b_Mod_shoot 151 = .ok (.aload_n 0, 1) := by decide +kernel
theorem d_Mod_shoot_152 : decode b_Mod_shoot 152 = .ok (.getfield 40, 3) := by decide +kernel
theorem d_Mod_shoot_155 : decode b_Mod_shoot 155 = .ok (.iload_n 2, 1) := by decide +kernel
theorem d_Mod_shoot_156 : decode b_Mod_shoot 156 = .ok (.iaload, 1) := by decide +kernel
theorem d_Mod_shoot_157 : decode b_Mod_shoot 157 = .ok (.bipush 13, 2) := by decide +kernel
theorem d_Mod_shoot_159 : decode b_Mod_shoot 159 = .ok (.if_icmp .ne 92, 3) := by decide +kernel
theorem d_Mod_shoot_162 : decode b_Mod_shoot 162 = .ok (.aload_n 0, 1) := by decide +kernel
theorem d_Mod_shoot_163 : decode b_Mod_shoot 163 = .ok (.getfield 59, 3) := by decide +kernel
theorem d_Mod_shoot_166 : decode b_Mod_shoot 166 = .ok (.iconst 4, 1) := by decide +kernel
theorem d_Mod_shoot_167 : decode b_Mod_shoot 167 = .ok (.iload_n 2, 1) := by decide +kernel
theorem d_Mod_shoot_168 : decode b_Mod_shoot 168 = .ok (.imul, 1) := by decide +kernel
theorem d_Mod_shoot_169 : decode b_Mod_shoot 169 = .ok (.aload_n 0, 1) := by decide +kernel
theorem d_Mod_shoot_170 : decode b_Mod_shoot 170 = .ok (.getfield 46, 3) := by decide +kernel
theorem d_Mod_shoot_173 : decode b_Mod_shoot 173 = .ok (.iload_n 2, 1) := by decide +kernel
theorem d_Mod_shoot_174 : decode b_Mod_shoot 174 = .ok (.iaload, 1) := by decide +kernel
theorem d_Mod_shoot_175 : decode b_Mod_shoot 175 = .ok (.iadd, 1) := by decide +kernel
theorem d_Mod_shoot_176 : decode b_Mod_shoot 176 = .ok (.iaload, 1) := by decide +kernel
theorem d_Mod_shoot_177 : decode b_Mod_shoot 177 = .ok (.istore 4, 2) := by decide +kernel
theorem d_Mod_shoot_179 : decode b_Mod_shoot 179 = .ok (.aload_n 0, 1) := by decide +kernel
theorem d_Mod_shoot_180 : decode b_Mod_shoot 180 = .ok (.getfield 86, 3) := by decide +kernel
theorem d_Mod_shoot_183 : decode b_Mod_shoot 183 = .ok (.iload 4, 2) := by decide +kernel
theorem d_Mod_shoot_185 : decode b_Mod_shoot 185 = .ok (.aload_n 0, 1) := by decide +kernel
theorem d_Mod_shoot_186 : decode b_Mod_shoot 186 = .ok (.iload_n 1, 1) := by decide +kernel
theorem d_Mod_shoot_187 : decode b_Mod_shoot 187 = .ok (.invokevirtual 186, 3) := by decide +kernel
theorem d_Mod_shoot_190 : decode b_Mod_shoot 190 = .ok (.iconst 2, 1) := by decide +kernel
theorem d_Mod_shoot_191 : decode b_Mod_shoot 191 = .ok (.if_icmp .ge 7, 3) := by decide +kernel
theorem d_Mod_shoot_194 : decode b_Mod_shoot 194 = .ok (.iload_n 1, 1) := by decide +kernel
theorem d_Mod_shoot_195 : decode b_Mod_shoot 195 = .ok (.goto 4, 3) := by decide +kernel
theorem d_Mod_shoot_198 : decode b_Mod_shoot 198 = .ok (.iconst 4, 1) := by decide +kernel
theorem d_Mod_shoot_199 : decode b_Mod_shoot 199 = .ok (.iastore, 1) := by decide +kernel
theorem d_Mod_shoot_200 : decode b_Mod_shoot 200 = .ok (.aload_n 0, 1) := by decide +kernel
theorem d_Mod_shoot_201 : decode b_Mod_shoot 201 = .ok (.getfield 89, 3) := by decide +kernel
theorem d_Mod_shoot_204 : decode b_Mod_shoot 204 = .ok (.iload 4, 2) := by decide +kernel
theorem d_Mod_shoot_206 : decode b_Mod_shoot 206 = .ok (.aload_n 0, 1) := by decide +kernel
theorem d_Mod_shoot_207 : decode b_Mod_shoot 207 = .ok (.invokevirtual 109, 3) := by decide +kernel
theorem d_Mod_shoot_210 : decode b_Mod_shoot 210 = .ok (.iastore, 1) := by decide +kernel
theorem d_Mod_shoot_211 : decode b_Mod_shoot 211 = .ok (.aload_n 0, 1) := by decide +kernel
theorem d_Mod_shoot_212 : decode b_Mod_shoot 212 = .ok (.getfield 46, 3) := by decide +kernel
theorem d_Mod_shoot_215 : decode b_Mod_shoot 215 = .ok (.iload_n 2, 1) := by decide +kernel
theorem d_Mod_shoot_216 : decode b_Mod_shoot 216 = .ok (.dup2, 1) := by decide +kernel
theorem d_Mod_shoot_217 : decode b_Mod_shoot 217 = .ok (.iaload, 1) := by decide +kernel
theorem d_Mod_shoot_218 : decode b_Mod_shoot 218 = .ok (.iconst 1, 1) := by decide +kernel
theorem d_Mod_shoot_219 : decode b_Mod_shoot 219 = .ok (.iadd, 1) := by decide +kernel
theorem d_Mod_shoot_220 : decode b_Mod_shoot 220 = .ok (.iastore, 1) := by decide +kernel
theorem d_Mod_shoot_221 : decode b_Mod_shoot 221 = .ok (.aload_n 0, 1) := by decide +kernel
theorem d_Mod_shoot_222 : decode b_Mod_shoot 222 = .ok (.getfield 40, 3) := by decide +kernel
theorem d_Mod_shoot_225 : decode b_Mod_shoot 225 = .ok (.iload_n 2, 1) := by decide +kernel
theorem d_Mod_shoot_226 : decode b_Mod_shoot 226 = .ok (.aload_n 0, 1) := by decide +kernel
theorem d_Mod_shoot_227 : decode b_Mod_shoot 227 = .ok (.getfield 46, 3) := by decide +kernel
theorem d_Mod_shoot_230 : decode b_Mod_shoot 230 = .ok (.iload_n 2, 1) := by decide +kernel
theorem d_Mod_shoot_231 : decode b_Mod_shoot 231 = .ok (.iaload, 1) := by decide +kernel
theorem d_Mod_shoot_232 : decode b_Mod_shoot 232 = .ok (.aload_n 0, 1) := by decide +kernel
theorem d_Mod_shoot_233 : decode b_Mod_shoot 233 = .ok (.getfield 62, 3) := by decide +kernel
theorem d_Mod_shoot_236 : decode b_Mod_shoot 236 = .ok (.iload_n 2, 1) := by decide +kernel
theorem d_Mod_shoot_237 : decode b_Mod_shoot 237 = .ok (.iaload, 1) := by decide +kernel
theorem d_Mod_shoot_238 : decode b_Mod_shoot 238 = .ok (.if_icmp .ne 8, 3) := by decide +kernel
theorem d_Mod_shoot_241 : decode b_Mod_shoot 241 = .ok (.bipush 14, 2) := by decide +kernel
theorem d_Mod_shoot_243 : decode b_Mod_shoot 243 = .ok (.goto 5, 3) := by decide +kernel
theorem d_Mod_shoot_246 : decode b_Mod_shoot 246 = .ok (.bipush 13, 2) := by decide +kernel
theorem d_Mod_shoot_248 : decode b_Mod_shoot 248 = .ok (.iastore, 1) := by decide +kernel
theorem d_Mod_shoot_249 : decode b_Mod_shoot 249 = .ok (.iconst 0, 1) := by decide +kernel
theorem d_Mod_shoot_250 : decode b_Mod_shoot 250 = .ok (.ireturn, 1) := by decide +kernel
theorem d_Mod_shoot_251 : decode b_Mod_shoot 251 = .ok (.aload_n 0, 1) := by decide +kernel
theorem d_Mod_shoot_252 : decode b_Mod_shoot 252 = .ok (.getfield 40, 3) := by decide +kernel
theorem d_Mod_shoot_255 : decode b_Mod_shoot 255 = .ok (.iload_n 2, 1) := by decide +kernel
theorem d_Mod_shoot_256 : decode b_Mod_shoot 256 = .ok (.iaload, 1) := by decide +kernel
theorem d_Mod_shoot_257 : decode b_Mod_shoot 257 = .ok (.bipush 14, 2) := by decide +kernel
theorem d_Mod_shoot_259 : decode b_Mod_shoot 259 = .ok (.if_icmp .ne 39, 3) := by decide +kernel
theorem d_Mod_shoot_262 : decode b_Mod_shoot 262 = .ok (.aload_n 0, 1) := by decide +kernel
theorem d_Mod_shoot_263 : decode b_Mod_shoot 263 = .ok (.dup, 1) := by decide +kernel
theorem d_Mod_shoot_264 : decode b_Mod_shoot 264 = .ok (.getfield 180, 3) := by decide +kernel
theorem d_Mod_shoot_267 : decode b_Mod_shoot 267 = .ok (.iconst 1, 1) := by decide +kernel
theorem d_Mod_shoot_268 : decode b_Mod_shoot 268 = .ok (.iadd, 1) := by decide +kernel
theorem d_Mod_shoot_269 : decode b_Mod_shoot 269 = .ok (.putfield 180, 3) := by decide +kernel
theorem d_Mod_shoot_272 : decode b_Mod_shoot 272 = .ok (.aload_n 0, 1) := by decide +kernel
theorem d_Mod_shoot_273 : decode b_Mod_shoot 273 = .ok (.iload_n 3, 1) := by decide +kernel
theorem d_Mod_shoot_274 : decode b_Mod_shoot 274 = .ok (.aload_n 0, 1) := by decide +kernel
theorem d_Mod_shoot_275 : decode b_Mod_shoot 275 = .ok (.getfield 55, 3) := by decide +kernel
theorem d_Mod_shoot_278 : decode b_Mod_shoot 278 = .ok (.iload_n 2, 1) := by decide +kernel
theorem d_Mod_shoot_279 : decode b_Mod_shoot 279 = .ok (.baload, 1) := by decide +kernel
theorem d_Mod_shoot_280 : decode b_Mod_shoot 280 = .ok (.ifCond .eq 8, 3) := by decide +kernel
theorem d_Mod_shoot_283 : decode b_Mod_shoot 283 = .ok (.bipush (-3), 2) := by decide +kernel
theorem d_Mod_shoot_285 : decode b_Mod_shoot 285 = .ok (.goto 9, 3) := by decide +kernel
theorem d_Mod_shoot_288 : decode b_Mod_shoot 288 = .ok (.aload_n 0, 1) := by decide +kernel
theorem d_Mod_shoot_289 : decode b_Mod_shoot 289 = .ok (.getfield 52, 3) := by decide +kernel
theorem d_Mod_shoot_292 : decode b_Mod_shoot 292 = .ok (.iload_n 2, 1) := by decide +kernel
theorem d_Mod_shoot_293 : decode b_Mod_shoot 293 = .ok (.iaload, 1) := by decide +kernel
theorem d_Mod_shoot_294 : decode b_Mod_shoot 294 = .ok (.invokevirtual 171, 3) := by decide +kernel
theorem d_Mod_shoot_297 : decode b_Mod_shoot 297 = .ok (.ireturn, 1) := by decide +kernel
theorem d_Mod_shoot_298 : decode b_Mod_shoot 298 = .ok (.aload_n 0, 1) := by decide +kernel
theorem d_Mod_shoot_299 : decode b_Mod_shoot 299 = .ok (.iload_n 3, 1) := by decide +kernel
theorem d_Mod_shoot_300 : decode b_Mod_shoot 300 = .ok (.iconst 0, 1) := by decide +kernel
theorem d_Mod_shoot_301 : decode b_Mod_shoot 301 = .ok (.invokevirtual 171, 3) := by decide +kernel
theorem d_Mod_shoot_304 : decode b_Mod_shoot 304 = .ok (.ireturn, 1) := by decide +kernel
theorem d_Mod_lengthOf_0 : decode b_Mod_lengthOf 0 = .ok (.iconst 0, 1) := by decide +kernel
theorem d_Mod_lengthOf_1 : decode b_Mod_lengthOf 1 = .ok (.istore_n 2, 1) := by decide +kernel
theorem d_Mod_lengthOf_2 : decode b_Mod_lengthOf 2 = .ok (.iconst 0, 1) := by decide +kernel
theorem d_Mod_lengthOf_3 : decode b_Mod_lengthOf 3 = .ok (.istore_n 3, 1) := by decide +kernel
theorem d_Mod_lengthOf_4 : decode b_Mod_lengthOf 4 = .ok (.iload_n 3, 1) := by decide +kernel
theorem d_Mod_lengthOf_5 : decode b_Mod_lengthOf 5 = .ok (.aload_n 0, 1) := by decide +kernel
theorem d_Mod_lengthOf_6 : decode b_Mod_lengthOf 6 = .ok (.getfield 106, 3) := by decide +kernel
theorem d_Mod_lengthOf_9 : decode b_Mod_lengthOf 9 = .ok (.if_icmp .ge 37, 3) := by decide +kernel
theorem d_Mod_lengthOf_12 : decode b_Mod_lengthOf 12 = .ok (.iload_n 2, 1) := by decide +kernel
theorem d_Mod_lengthOf_13 : decode b_Mod_lengthOf 13 = .ok (.aload_n 0, 1) := by decide +kernel
theorem d_Mod_lengthOf_14 : decode b_Mod_lengthOf 14 = .ok (.getfield 34, 3) := by decide +kernel
theorem d_Mod_lengthOf_17 : decode b_Mod_lengthOf 17 = .ok (.iload_n 3, 1) := by decide +kernel
theorem d_Mod_lengthOf_18 : decode b_Mod_lengthOf 18 = .ok (.iaload, 1) := by decide +kernel
theorem d_Mod_lengthOf_19 : decode b_Mod_lengthOf 19 = .ok (.iconst 1, 1) := by decide +kernel
theorem d_Mod_lengthOf_20 : decode b_Mod_lengthOf 20 = .ok (.if_icmp .ne 17, 3) := by decide +kernel
theorem d_Mod_lengthOf_23 : decode b_Mod_lengthOf 23 = .ok (.aload_n 0, 1) := by decide +kernel
theorem d_Mod_lengthOf_24 : decode b_Mod_lengthOf 24 = .ok (.getfield 31, 3) := by decide +kernel
theorem d_Mod_lengthOf_27 : decode b_Mod_lengthOf 27 = .ok (.iload_n 3, 1) := by decide +kernel
theorem d_Mod_lengthOf_28 : decode b_Mod_lengthOf 28 = .ok (.iaload, 1) := by decide +kernel
theorem d_Mod_lengthOf_29 : decode b_Mod_lengthOf 29 = .ok (.iload_n 1, 1) := by decide +kernel
theorem d_Mod_lengthOf_30 : decode b_Mod_lengthOf 30 = .ok (.if_icmp .ne 7, 3) := by decide +kernel
theorem d_Mod_lengthOf_33 : decode b_Mod_lengthOf 33 = .ok (.iconst 1, 1) := by decide +kernel
theorem d_Mod_lengthOf_34 : decode b_Mod_lengthOf 34 = .ok (.goto 4, 3) := by decide +kernel
theorem d_Mod_lengthOf_37 : decode b_Mod_lengthOf 37 = .ok (.iconst 0, 1) := by decide +kernel
theorem d_Mod_lengthOf_38 : decode b_Mod_lengthOf 38 = .ok (.iadd, 1) := by decide +kernel
theorem d_Mod_lengthOf_39 : decode b_Mod_lengthOf 39 = .ok (.istore_n 2, 1) := by decide +kernel
theorem d_Mod_lengthOf_40 : decode b_Mod_lengthOf 40 = .ok (.iinc 3 1, 3) := by decide +kernel
theorem d_Mod_lengthOf_43 : decode b_Mod_lengthOf 43 = .ok (.goto (-39), 3) := by decide +kernel
theorem d_Mod_lengthOf_46 : decode b_Mod_lengthOf 46 = .ok (.iload_n 2, 1) := by decide +kernel
theorem d_Mod_lengthOf_47 : decode b_Mod_lengthOf 47 = .ok (.ireturn, 1) := by decide +kernel
theorem d_Mod_at_0 : decode b_Mod_at 0 = .ok (.iconst (-1), 1) := by decide +kernel
theorem d_Mod_at_1 : decode b_Mod_at 1 = .ok (.istore_n 3, 1) := by decide +kernel
theorem d_Mod_at_2 : decode b_Mod_at 2 = .ok (.iconst 0, 1) := by decide +kernel
theorem d_Mod_at_3 : decode b_Mod_at 3 = .ok (.istore 4, 2) := by decide +kernel
theorem d_Mod_at_5 : decode b_Mod_at 5 = .ok (.iload 4, 2) := by decide +kernel
theorem d_Mod_at_7 : decode b_Mod_at 7 = .ok (.aload_n 0, 1) := by decide +kernel
theorem d_Mod_at_8 : decode b_Mod_at 8 = .ok (.getfield 106, 3) := by decide +kernel
theorem d_Mod_at_11 : decode b_Mod_at 11 = .ok (.if_icmp .ge 49, 3) := by decide +kernel
theorem d_Mod_at_14 : decode b_Mod_at 14 = .ok (.aload_n 0, 1) := by decide +kernel
theorem d_Mod_at_15 : decode b_Mod_at 15 = .ok (.getfield 34, 3) := by decide +kernel
theorem d_Mod_at_18 : decode b_Mod_at 18 = .ok (.iload 4, 2) := by decide +kernel
theorem d_Mod_at_20 : decode b_Mod_at 20 = .ok (.iaload, 1) := by decide +kernel
theorem d_Mod_at_21 : decode b_Mod_at 21 = .ok (.iconst 1, 1) := by decide +kernel
theorem d_Mod_at_22 : decode b_Mod_at 22 = .ok (.if_icmp .ne 30, 3) := by decide +kernel
theorem d_Mod_at_25 : decode b_Mod_at 25 = .ok (.aload_n 0, 1) := by decide +kernel
theorem d_Mod_at_26 : decode b_Mod_at 26 = .ok (.getfield 31, 3) := by decide +kernel
theorem d_Mod_at_29 : decode b_Mod_at 29 = .ok (.iload 4, 2) := by decide +kernel
theorem d_Mod_at_31 : decode b_Mod_at 31 = .ok (.iaload, 1) := by decide +kernel
theorem d_Mod_at_32 : decode b_Mod_at 32 = .ok (.iload_n 1, 1) := by decide +kernel
theorem d_Mod_at_33 : decode b_Mod_at 33 = .ok (.if_icmp .ne 19, 3) := by decide +kernel
theorem d_Mod_at_36 : decode b_Mod_at 36 = .ok (.aload_n 0, 1) := by decide +kernel
theorem d_Mod_at_37 : decode b_Mod_at 37 = .ok (.iload_n 1, 1) := by decide +kernel
theorem d_Mod_at_38 : decode b_Mod_at 38 = .ok (.iload 4, 2) := by decide +kernel
theorem d_Mod_at_40 : decode b_Mod_at 40 = .ok (.invokevirtual 128, 3) := by decide +kernel
theorem d_Mod_at_43 : decode b_Mod_at 43 = .ok (.iload_n 2, 1) := by decide +kernel
theorem d_Mod_at_44 : decode b_Mod_at 44 = .ok (.if_icmp .ne 8, 3) := by decide +kernel
theorem d_Mod_at_47 : decode b_Mod_at 47 = .ok (.iload 4, 2) := by decide +kernel
theorem d_Mod_at_49 : decode b_Mod_at 49 = .ok (.goto 4, 3) := by decide +kernel
theorem d_Mod_at_52 : decode b_Mod_at 52 = .ok (.iload_n 3, 1) := by decide +kernel
theorem d_Mod_at_53 : decode b_Mod_at 53 = .ok (.istore_n 3, 1) := by decide +kernel
theorem d_Mod_at_54 : decode b_Mod_at 54 = .ok (.iinc 4 1, 3) := by decide +kernel
theorem d_Mod_at_57 : decode b_Mod_at 57 = .ok (.goto (-52), 3) := by decide +kernel
theorem d_Mod_at_60 : decode b_Mod_at 60 = .ok (.iload_n 3, 1) := by decide +kernel
theorem d_Mod_at_61 : decode b_Mod_at 61 = .ok (.ireturn, 1) := by decide +kernel
theorem d_Mod_ahead_0 : decode b_Mod_ahead 0 = .ok (.iconst 0, 1) := by decide +kernel
theorem d_Mod_ahead_1 : decode b_Mod_ahead 1 = .ok (.istore_n 3, 1) := by decide +kernel
theorem d_Mod_ahead_2 : decode b_Mod_ahead 2 = .ok (.iconst 0, 1) := by decide +kernel
theorem d_Mod_ahead_3 : decode b_Mod_ahead 3 = .ok (.istore 4, 2) := by decide +kernel
theorem d_Mod_ahead_5 : decode b_Mod_ahead 5 = .ok (.iload 4, 2) := by decide +kernel
theorem d_Mod_ahead_7 : decode b_Mod_ahead 7 = .ok (.aload_n 0, 1) := by decide +kernel
theorem d_Mod_ahead_8 : decode b_Mod_ahead 8 = .ok (.getfield 106, 3) := by decide +kernel
theorem d_Mod_ahead_11 : decode b_Mod_ahead 11 = .ok (.if_icmp .ge 55, 3) := by decide +kernel
theorem d_Mod_ahead_14 : decode b_Mod_ahead 14 = .ok (.iload_n 3, 1) := by decide +kernel
theorem d_Mod_ahead_15 : decode b_Mod_ahead 15 = .ok (.aload_n 0, 1) := by decide +kernel
theorem d_Mod_ahead_16 : decode b_Mod_ahead 16 = .ok (.getfield 34, 3) := by decide +kernel
theorem d_Mod_ahead_19 : decode b_Mod_ahead 19 = .ok (.iload 4, 2) := by decide +kernel
theorem d_Mod_ahead_21 : decode b_Mod_ahead 21 = .ok (.iaload, 1) := by decide +kernel
theorem d_Mod_ahead_22 : decode b_Mod_ahead 22 = .ok (.iconst 1, 1) := by decide +kernel
theorem d_Mod_ahead_23 : decode b_Mod_ahead 23 = .ok (.if_icmp .ne 34, 3) := by decide +kernel
theorem d_Mod_ahead_26 : decode b_Mod_ahead 26 = .ok (.aload_n 0, 1) := by decide +kernel
theorem d_Mod_ahead_27 : decode b_Mod_ahead 27 = .ok (.getfield 31, 3) := by decide +kernel
theorem d_Mod_ahead_30 : decode b_Mod_ahead 30 = .ok (.iload 4, 2) := by decide +kernel
theorem d_Mod_ahead_32 : decode b_Mod_ahead 32 = .ok (.iaload, 1) := by decide +kernel
theorem d_Mod_ahead_33 : decode b_Mod_ahead 33 = .ok (.iload_n 1, 1) := by decide +kernel
theorem d_Mod_ahead_34 : decode b_Mod_ahead 34 = .ok (.if_icmp .ne 23, 3) := by decide +kernel
theorem d_Mod_ahead_37 : decode b_Mod_ahead 37 = .ok (.aload_n 0, 1) := by decide +kernel
theorem d_Mod_ahead_38 : decode b_Mod_ahead 38 = .ok (.getfield 37, 3) := by decide +kernel
theorem d_Mod_ahead_41 : decode b_Mod_ahead 41 = .ok (.iload 4, 2) := by decide +kernel
theorem d_Mod_ahead_43 : decode b_Mod_ahead 43 = .ok (.iaload, 1) := by decide +kernel
theorem d_Mod_ahead_44 : decode b_Mod_ahead 44 = .ok (.aload_n 0, 1) := by decide +kernel
theorem d_Mod_ahead_45 : decode b_Mod_ahead 45 = .ok (.getfield 37, 3) := by decide +kernel
theorem d_Mod_ahead_48 : decode b_Mod_ahead 48 = .ok (.iload_n 2, 1) := by decide +kernel
theorem d_Mod_ahead_49 : decode b_Mod_ahead 49 = .ok (.iaload, 1) := by decide +kernel
theorem d_Mod_ahead_50 : decode b_Mod_ahead 50 = .ok (.if_icmp .ge 7, 3) := by decide +kernel
theorem d_Mod_ahead_53 : decode b_Mod_ahead 53 = .ok (.iconst 1, 1) := by decide +kernel
theorem d_Mod_ahead_54 : decode b_Mod_ahead 54 = .ok (.goto 4, 3) := by decide +kernel
theorem d_Mod_ahead_57 : decode b_Mod_ahead 57 = .ok (.iconst 0, 1) := by decide +kernel
theorem d_Mod_ahead_58 : decode b_Mod_ahead 58 = .ok (.iadd, 1) := by decide +kernel
theorem d_Mod_ahead_59 : decode b_Mod_ahead 59 = .ok (.istore_n 3, 1) := by decide +kernel
theorem d_Mod_ahead_60 : decode b_Mod_ahead 60 = .ok (.iinc 4 1, 3) := by decide +kernel
theorem d_Mod_ahead_63 : decode b_Mod_ahead 63 = .ok (.goto (-58), 3) := by decide +kernel
theorem d_Mod_ahead_66 : decode b_Mod_ahead 66 = .ok (.iload_n 3, 1) := by decide +kernel
theorem d_Mod_ahead_67 : decode b_Mod_ahead 67 = .ok (.ireturn, 1) := by decide +kernel
theorem d_Mod_run1_0 : decode b_Mod_run1 0 = .ok (.aload_n 0, 1) := by decide +kernel
theorem d_Mod_run1_1 : decode b_Mod_run1 1 = .ok (.getfield 34, 3) := by decide +kernel
theorem d_Mod_run1_4 : decode b_Mod_run1 4 = .ok (.iload_n 2, 1) := by decide +kernel
theorem d_Mod_run1_5 : decode b_Mod_run1 5 = .ok (.iconst 2, 1) := by decide +kernel
theorem d_Mod_run1_6 : decode b_Mod_run1 6 = .ok (.iastore, 1) := by decide +kernel
theorem d_Mod_run1_7 : decode b_Mod_run1 7 = .ok (.aload_n 0, 1) := by decide +kernel
theorem d_Mod_run1_8 : decode b_Mod_run1 8 = .ok (.getfield 31, 3) := by decide +kernel
theorem d_Mod_run1_11 : decode b_Mod_run1 11 = .ok (.iload_n 2, 1) := by decide +kernel
theorem d_Mod_run1_12 : decode b_Mod_run1 12 = .ok (.iload_n 1, 1) := by decide +kernel
theorem d_Mod_run1_13 : decode b_Mod_run1 13 = .ok (.iastore, 1) := by decide +kernel
theorem d_Mod_run1_14 : decode b_Mod_run1 14 = .ok (.return_, 1) := by decide +kernel
theorem d_Mod_longest_0 : decode b_Mod_longest 0 = .ok (.iconst 0, 1) := by decide +kernel
theorem d_Mod_longest_1 : decode b_Mod_longest 1 = .ok (.istore_n 1, 1) := by decide +kernel
theorem d_Mod_longest_2 : decode b_Mod_longest 2 = .ok (.iconst 1, 1) := by decide +kernel
theorem d_Mod_longest_3 : decode b_Mod_longest 3 = .ok (.istore_n 2, 1) := by decide +kernel
theorem d_Mod_longest_4 : decode b_Mod_longest 4 = .ok (.iload_n 2, 1) := by decide +kernel
theorem d_Mod_longest_5 : decode b_Mod_longest 5 = .ok (.iconst 4, 1) := by decide +kernel
theorem d_Mod_longest_6 : decode b_Mod_longest 6 = .ok (.if_icmp .ge 28, 3) := by decide +kernel
theorem d_Mod_longest_9 : decode b_Mod_longest 9 = .ok (.aload_n 0, 1) := by decide +kernel
theorem d_Mod_longest_10 : decode b_Mod_longest 10 = .ok (.iload_n 2, 1) := by decide +kernel
theorem d_Mod_longest_11 : decode b_Mod_longest 11 = .ok (.invokevirtual 132, 3) := by decide +kernel
theorem d_Mod_longest_14 : decode b_Mod_longest 14 = .ok (.aload_n 0, 1) := by decide +kernel
theorem d_Mod_longest_15 : decode b_Mod_longest 15 = .ok (.iload_n 1, 1) := by decide +kernel
theorem d_Mod_longest_16 : decode b_Mod_longest 16 = .ok (.invokevirtual 132, 3) := by decide +kernel
theorem d_Mod_longest_19 : decode b_Mod_longest 19 = .ok (.if_icmp .le 7, 3) := by decide +kernel
theorem d_Mod_longest_22 : decode b_Mod_longest 22 = .ok (.iload_n 2, 1) := by decide +kernel
theorem d_Mod_longest_23 : decode b_Mod_longest 23 = .ok (.goto 4, 3) := by decide +kernel
theorem d_Mod_longest_26 : decode b_Mod_longest 26 = .ok (.iload_n 1, 1) := by decide +kernel
theorem d_Mod_longest_27 : decode b_Mod_longest 27 = .ok (.istore_n 1, 1) := by decide +kernel
theorem d_Mod_longest_28 : decode b_Mod_longest 28 = .ok (.iinc 2 1, 3) := by decide +kernel
theorem d_Mod_longest_31 : decode b_Mod_longest 31 = .ok (.goto (-27), 3) := by decide +kernel
theorem d_Mod_longest_34 : decode b_Mod_longest 34 = .ok (.iload_n 1, 1) := by decide +kernel
theorem d_Mod_longest_35 : decode b_Mod_longest 35 = .ok (.ireturn, 1) := by decide +kernel
theorem d_Mod_run_0 : decode b_Mod_run 0 = .ok (.iload_n 2, 1) := by decide +kernel
theorem d_Mod_run_1 : decode b_Mod_run 1 = .ok (.iconst 1, 1) := by decide +kernel
theorem d_Mod_run_2 : decode b_Mod_run 2 = .ok (.if_icmp .lt 9, 3) := by decide +kernel
theorem d_Mod_run_5 : decode b_Mod_run 5 = .ok (.iload_n 2, 1) := by decide +kernel
theorem d_Mod_run_6 : decode b_Mod_run 6 = .ok (.bipush 16, 2) := by decide +kernel
theorem d_Mod_run_8 : decode b_Mod_run 8 = .ok (.if_icmp .le 5, 3) := by decide +kernel
theorem d_Mod_run_11 : decode b_Mod_run 11 = .ok (.iconst (-1), 1) := by decide +kernel
theorem d_Mod_run_12 : decode b_Mod_run 12 = .ok (.ireturn, 1) := by decide +kernel
theorem d_Mod_run_13 : decode b_Mod_run 13 = .ok (.iconst 0, 1) := by decide +kernel
theorem d_Mod_run_14 : decode b_Mod_run 14 = .ok (.istore_n 3, 1) := by decide +kernel
theorem d_Mod_run_15 : decode b_Mod_run 15 = .ok (.iconst 0, 1) := by decide +kernel
theorem d_Mod_run_16 : decode b_Mod_run 16 = .ok (.istore 4, 2) := by decide +kernel
theorem d_Mod_run_18 : decode b_Mod_run 18 = .ok (.iload 4, 2) := by decide +kernel
theorem d_Mod_run_20 : decode b_Mod_run 20 = .ok (.iload_n 2, 1) := by decide +kernel
theorem d_Mod_run_21 : decode b_Mod_run 21 = .ok (.if_icmp .ge 38, 3) := by decide +kernel
theorem d_Mod_run_24 : decode b_Mod_run 24 = .ok (.aload_n 0, 1) := by decide +kernel
theorem d_Mod_run_25 : decode b_Mod_run 25 = .ok (.iload_n 1, 1) := by decide +kernel
theorem d_Mod_run_26 : decode b_Mod_run 26 = .ok (.iconst 2, 1) := by decide +kernel
theorem d_Mod_run_27 : decode b_Mod_run 27 = .ok (.iload 4, 2) := by decide +kernel
theorem d_Mod_run_29 : decode b_Mod_run 29 = .ok (.imul, 1) := by decide +kernel
theorem d_Mod_run_30 : decode b_Mod_run 30 = .ok (.ishr, 1) := by decide +kernel
theorem d_Mod_run_31 : decode b_Mod_run 31 = .ok (.iconst 3, 1) := by decide +kernel
theorem d_Mod_run_32 : decode b_Mod_run 32 = .ok (.iand, 1) := by decide +kernel
theorem d_Mod_run_33 : decode b_Mod_run 33 = .ok (.invokevirtual 158, 3) := by decide +kernel
theorem d_Mod_run_36 : decode b_Mod_run 36 = .ok (.istore 5, 2) := by decide +kernel
theorem d_Mod_run_38 : decode b_Mod_run 38 = .ok (.iload_n 3, 1) := by decide +kernel
theorem d_Mod_run_39 : decode b_Mod_run 39 = .ok (.iload 5, 2) := by decide +kernel
theorem d_Mod_run_41 : decode b_Mod_run 41 = .ok (.bipush 16, 2) := by decide +kernel
theorem d_Mod_run_43 : decode b_Mod_run 43 = .ok (.if_icmp .lt 7, 3) := by decide +kernel
theorem d_Mod_run_46 : decode b_Mod_run 46 = .ok (.iconst 1, 1) := by decide +kernel
theorem d_Mod_run_47 : decode b_Mod_run 47 = .ok (.goto 4, 3) := by decide +kernel
theorem d_Mod_run_50 : decode b_Mod_run 50 = .ok (.iconst 0, 1) := by decide +kernel
theorem d_Mod_run_51 : decode b_Mod_run 51 = .ok (.iadd, 1) := by decide +kernel
theorem d_Mod_run_52 : decode b_Mod_run 52 = .ok (.istore_n 3, 1) := by decide +kernel
theorem d_Mod_run_53 : decode b_Mod_run 53 = .ok (.iinc 4 1, 3) := by decide +kernel
theorem d_Mod_run_56 : decode b_Mod_run 56 = .ok (.goto (-38), 3) := by decide +kernel
theorem d_Mod_run_59 : decode b_Mod_run 59 = .ok (.iload_n 3, 1) := by decide +kernel
theorem d_Mod_run_60 : decode b_Mod_run 60 = .ok (.ireturn, 1) := by decide +kernel
theorem d_Mod_result_0 : decode b_Mod_result 0 = .ok (.iload_n 1, 1) := by decide +kernel
theorem d_Mod_result_1 : decode b_Mod_result 1 = .ok (.ifCond .lt 25, 3) := by decide +kernel
theorem d_Mod_result_4 : decode b_Mod_result 4 = .ok (.iload_n 1, 1) := by decide +kernel
theorem d_Mod_result_5 : decode b_Mod_result 5 = .ok (.aload_n 0, 1) := by decide +kernel
theorem d_Mod_result_6 : decode b_Mod_result 6 = .ok (.getfield 106, 3) := by decide +kernel
theorem d_Mod_result_9 : decode b_Mod_result 9 = .ok (.if_icmp .ge 17, 3) := by decide +kernel
theorem d_Mod_result_12 : decode b_Mod_result 12 = .ok (.iload_n 2, 1) := by decide +kernel
theorem d_Mod_result_13 : decode b_Mod_result 13 = .ok (.ifCond .lt 13, 3) := by decide +kernel
theorem d_Mod_result_16 : decode b_Mod_result 16 = .ok (.iload_n 2, 1) := by decide +kernel
theorem d_Mod_result_17 : decode b_Mod_result 17 = .ok (.aload_n 0, 1) := by decide +kernel
theorem d_Mod_result_18 : decode b_Mod_result 18 = .ok (.getfield 13, 3) := by decide +kernel
theorem d_Mod_result_21 : decode b_Mod_result 21 = .ok (.iload_n 1, 1) := by decide +kernel
theorem d_Mod_result_22 : decode b_Mod_result 22 = .ok (.iaload, 1) := by decide +kernel
theorem d_Mod_result_23 : decode b_Mod_result 23 = .ok (.if_icmp .lt 7, 3) := by decide +kernel
theorem d_Mod_result_26 : decode b_Mod_result 26 = .ok (.iconst (-1), 1) := by decide +kernel
theorem d_Mod_result_27 : decode b_Mod_result 27 = .ok (.goto 14, 3) := by decide +kernel
theorem d_Mod_result_30 : decode b_Mod_result 30 = .ok (.aload_n 0, 1) := by decide +kernel
theorem d_Mod_result_31 : decode b_Mod_result 31 = .ok (.getfield 28, 3) := by decide +kernel
theorem d_Mod_result_34 : decode b_Mod_result 34 = .ok (.bipush 10, 2) := by decide +kernel
theorem d_Mod_result_36 : decode b_Mod_result 36 = .ok (.iload_n 1, 1) := by decide +kernel
theorem d_Mod_result_37 : decode b_Mod_result 37 = .ok (.imul, 1) := by decide +kernel
theorem d_Mod_result_38 : decode b_Mod_result 38 = .ok (.iload_n 2, 1) := by decide +kernel
theorem d_Mod_result_39 : decode b_Mod_result 39 = .ok (.iadd, 1) := by decide +kernel
theorem d_Mod_result_40 : decode b_Mod_result 40 = .ok (.iaload, 1) := by decide +kernel
theorem d_Mod_result_41 : decode b_Mod_result 41 = .ok (.ireturn, 1) := by decide +kernel
theorem d_Mod_current_0 : decode b_Mod_current 0 = .ok (.iload_n 1, 1) := by decide +kernel
theorem d_Mod_current_1 : decode b_Mod_current 1 = .ok (.invokestatic 102, 3) := by decide +kernel
theorem d_Mod_current_4 : decode b_Mod_current 4 = .ok (.ifCond .eq 7, 3) := by decide +kernel
theorem d_Mod_current_7 : decode b_Mod_current 7 = .ok (.iconst (-1), 1) := by decide +kernel
theorem d_Mod_current_8 : decode b_Mod_current 8 = .ok (.goto 8, 3) := by decide +kernel
theorem d_Mod_current_11 : decode b_Mod_current 11 = .ok (.aload_n 0, 1) := by decide +kernel
theorem d_Mod_current_12 : decode b_Mod_current 12 = .ok (.iload_n 1, 1) := by decide +kernel
theorem d_Mod_current_13 : decode b_Mod_current 13 = .ok (.invokevirtual 143, 3) := by decide +kernel
theorem d_Mod_current_16 : decode b_Mod_current 16 = .ok (.ireturn, 1) := by decide +kernel
theorem d_Mod_phase_0 : decode b_Mod_phase 0 = .ok (.aload_n 0, 1) := by decide +kernel
theorem d_Mod_phase_1 : decode b_Mod_phase 1 = .ok (.iload_n 1, 1) := by decide +kernel
theorem d_Mod_phase_2 : decode b_Mod_phase 2 = .ok (.invokevirtual 196, 3) := by decide +kernel
theorem d_Mod_phase_5 : decode b_Mod_phase 5 = .ok (.istore_n 2, 1) := by decide +kernel
theorem d_Mod_phase_6 : decode b_Mod_phase 6 = .ok (.iload_n 2, 1) := by decide +kernel
theorem d_Mod_phase_7 : decode b_Mod_phase 7 = .ok (.ifCond .ge 7, 3) := by decide +kernel
theorem d_Mod_phase_10 : decode b_Mod_phase 10 = .ok (.iconst (-1), 1) := by decide +kernel
theorem d_Mod_phase_11 : decode b_Mod_phase 11 = .ok (.goto 9, 3) := by decide +kernel
theorem d_Mod_phase_14 : decode b_Mod_phase 14 = .ok (.aload_n 0, 1) := by decide +kernel
theorem d_Mod_phase_15 : decode b_Mod_phase 15 = .ok (.getfield 40, 3) := by decide +kernel
theorem d_Mod_phase_18 : decode b_Mod_phase 18 = .ok (.iload_n 2, 1) := by decide +kernel
theorem d_Mod_phase_19 : decode b_Mod_phase 19 = .ok (.iaload, 1) := by decide +kernel
theorem d_Mod_phase_20 : decode b_Mod_phase 20 = .ok (.ireturn, 1) := by decide +kernel
theorem d_Mod_queued_0 : decode b_Mod_queued 0 = .ok (.iload_n 1, 1) := by decide +kernel
theorem d_Mod_queued_1 : decode b_Mod_queued 1 = .ok (.invokestatic 102, 3) := by decide +kernel
theorem d_Mod_queued_4 : decode b_Mod_queued 4 = .ok (.ifCond .ne 7, 3) := by decide +kernel
theorem d_Mod_queued_7 : decode b_Mod_queued 7 = .ok (.iload_n 2, 1) := by decide +kernel
theorem d_Mod_queued_8 : decode b_Mod_queued 8 = .ok (.ifCond .ge 7, 3) := by decide +kernel
theorem d_Mod_queued_11 : decode b_Mod_queued 11 = .ok (.iconst (-1), 1) := by decide +kernel
theorem d_Mod_queued_12 : decode b_Mod_queued 12 = .ok (.goto 9, 3) := by decide +kernel
theorem d_Mod_queued_15 : decode b_Mod_queued 15 = .ok (.aload_n 0, 1) := by decide +kernel
theorem d_Mod_queued_16 : decode b_Mod_queued 16 = .ok (.iload_n 1, 1) := by decide +kernel
theorem d_Mod_queued_17 : decode b_Mod_queued 17 = .ok (.iload_n 2, 1) := by decide +kernel
theorem d_Mod_queued_18 : decode b_Mod_queued 18 = .ok (.invokevirtual 149, 3) := by decide +kernel
theorem d_Mod_queued_21 : decode b_Mod_queued 21 = .ok (.ireturn, 1) := by decide +kernel
theorem d_Mod_mail_0 : decode b_Mod_mail 0 = .ok (.iload_n 1, 1) := by decide +kernel
theorem d_Mod_mail_1 : decode b_Mod_mail 1 = .ok (.invokestatic 102, 3) := by decide +kernel
theorem d_Mod_mail_4 : decode b_Mod_mail 4 = .ok (.ifCond .eq 7, 3) := by decide +kernel
theorem d_Mod_mail_7 : decode b_Mod_mail 7 = .ok (.iconst (-1), 1) := by decide +kernel
theorem d_Mod_mail_8 : decode b_Mod_mail 8 = .ok (.goto 17, 3) := by decide +kernel
theorem d_Mod_mail_11 : decode b_Mod_mail 11 = .ok (.aload_n 0, 1) := by decide +kernel
theorem d_Mod_mail_12 : decode b_Mod_mail 12 = .ok (.getfield 92, 3) := by decide +kernel
theorem d_Mod_mail_15 : decode b_Mod_mail 15 = .ok (.iload_n 1, 1) := by decide +kernel
theorem d_Mod_mail_16 : decode b_Mod_mail 16 = .ok (.baload, 1) := by decide +kernel
theorem d_Mod_mail_17 : decode b_Mod_mail 17 = .ok (.ifCond .eq 7, 3) := by decide +kernel
theorem d_Mod_mail_20 : decode b_Mod_mail 20 = .ok (.iconst 1, 1) := by decide +kernel
theorem d_Mod_mail_21 : decode b_Mod_mail 21 = .ok (.goto 4, 3) := by decide +kernel
theorem d_Mod_mail_24 : decode b_Mod_mail 24 = .ok (.iconst 0, 1) := by decide +kernel
theorem d_Mod_mail_25 : decode b_Mod_mail 25 = .ok (.ireturn, 1) := by decide +kernel
theorem d_Mod_table_0 : decode b_Mod_table 0 = .ok (.iload_n 1, 1) := by decide +kernel
theorem d_Mod_table_1 : decode b_Mod_table 1 = .ok (.invokestatic 117, 3) := by decide +kernel
theorem d_Mod_table_4 : decode b_Mod_table 4 = .ok (.ifCond .ne 12, 3) := by decide +kernel
theorem d_Mod_table_7 : decode b_Mod_table 7 = .ok (.aload_n 0, 1) := by decide +kernel
theorem d_Mod_table_8 : decode b_Mod_table 8 = .ok (.getfield 65, 3) := by decide +kernel
theorem d_Mod_table_11 : decode b_Mod_table 11 = .ok (.iload_n 1, 1) := by decide +kernel
theorem d_Mod_table_12 : decode b_Mod_table 12 = .ok (.iaload, 1) := by decide +kernel
theorem d_Mod_table_13 : decode b_Mod_table 13 = .ok (.ifCond .ge 5, 3) := by decide +kernel
theorem d_Mod_table_16 : decode b_Mod_table 16 = .ok (.iconst (-1), 1) := by decide +kernel
theorem d_Mod_table_17 : decode b_Mod_table 17 = .ok (.ireturn, 1) := by decide +kernel
theorem d_Mod_table_18 : decode b_Mod_table 18 = .ok (.iconst 2, 1) := by decide +kernel
theorem d_Mod_table_19 : decode b_Mod_table 19 = .ok (.aload_n 0, 1) := by decide +kernel
theorem d_Mod_table_20 : decode b_Mod_table 20 = .ok (.getfield 65, 3) := by decide +kernel
theorem d_Mod_table_23 : decode b_Mod_table 23 = .ok (.iload_n 1, 1) := by decide +kernel
theorem d_Mod_table_24 : decode b_Mod_table 24 = .ok (.iaload, 1) := by decide +kernel
theorem d_Mod_table_25 : decode b_Mod_table 25 = .ok (.imul, 1) := by decide +kernel
theorem d_Mod_table_26 : decode b_Mod_table 26 = .ok (.aload_n 0, 1) := by decide +kernel
theorem d_Mod_table_27 : decode b_Mod_table 27 = .ok (.getfield 68, 3) := by decide +kernel
theorem d_Mod_table_30 : decode b_Mod_table 30 = .ok (.iload_n 1, 1) := by decide +kernel
theorem d_Mod_table_31 : decode b_Mod_table 31 = .ok (.baload, 1) := by decide +kernel
theorem d_Mod_table_32 : decode b_Mod_table 32 = .ok (.ifCond .eq 7, 3) := by decide +kernel
theorem d_Mod_table_35 : decode b_Mod_table 35 = .ok (.iconst 1, 1) := by decide +kernel
theorem d_Mod_table_36 : decode b_Mod_table 36 = .ok (.goto 4, 3) := by decide +kernel
theorem d_Mod_table_39 : decode b_Mod_table 39 = .ok (.iconst 0, 1) := by decide +kernel
theorem d_Mod_table_40 : decode b_Mod_table 40 = .ok (.iadd, 1) := by decide +kernel
theorem d_Mod_table_41 : decode b_Mod_table 41 = .ok (.ireturn, 1) := by decide +kernel
theorem d_Mod_translation_0 : decode b_Mod_translation 0 = .ok (.iload_n 1, 1) := by decide +kernel
theorem d_Mod_translation_1 : decode b_Mod_translation 1 = .ok (.invokestatic 102, 3) := by decide +kernel
theorem d_Mod_translation_4 : decode b_Mod_translation 4 = .ok (.ifCond .ne 24, 3) := by decide +kernel
theorem d_Mod_translation_7 : decode b_Mod_translation 7 = .ok (.iload_n 2, 1) := by decide +kernel
theorem d_Mod_translation_8 : decode b_Mod_translation 8 = .ok (.invokestatic 117, 3) := by decide +kernel
theorem d_Mod_translation_11 : decode b_Mod_translation 11 = .ok (.ifCond .ne 17, 3) := by decide +kernel
theorem d_Mod_translation_14 : decode b_Mod_translation 14 = .ok (.aload_n 0, 1) := by decide +kernel
theorem d_Mod_translation_15 : decode b_Mod_translation 15 = .ok (.getfield 77, 3) := by decide +kernel
theorem d_Mod_translation_18 : decode b_Mod_translation 18 = .ok (.bipush 16, 2) := by decide +kernel
theorem d_Mod_translation_20 : decode b_Mod_translation 20 = .ok (.iload_n 1, 1) := by decide +kernel
theorem d_Mod_translation_21 : decode b_Mod_translation 21 = .ok (.imul, 1) := by decide +kernel
theorem d_Mod_translation_22 : decode b_Mod_translation 22 = .ok (.iload_n 2, 1) := by decide +kernel
theorem d_Mod_translation_23 : decode b_Mod_translation 23 = .ok (.iadd, 1) := by decide +kernel
theorem d_Mod_translation_24 : decode b_Mod_translation 24 = .ok (.iaload, 1) := by decide +kernel
theorem d_Mod_translation_25 : decode b_Mod_translation 25 = .ok (.ifCond .ne 5, 3) := by decide +kernel
theorem d_Mod_translation_28 : decode b_Mod_translation 28 = .ok (.iconst (-1), 1) := by decide +kernel
theorem d_Mod_translation_29 : decode b_Mod_translation 29 = .ok (.ireturn, 1) := by decide +kernel
theorem d_Mod_translation_30 : decode b_Mod_translation 30 = .ok (.bipush 16, 2) := by decide +kernel
theorem d_Mod_translation_32 : decode b_Mod_translation 32 = .ok (.iload_n 1, 1) := by decide +kernel
theorem d_Mod_translation_33 : decode b_Mod_translation 33 = .ok (.imul, 1) := by decide +kernel
theorem d_Mod_translation_34 : decode b_Mod_translation 34 = .ok (.iload_n 2, 1) := by decide +kernel
theorem d_Mod_translation_35 : decode b_Mod_translation 35 = .ok (.iadd, 1) := by decide +kernel
theorem d_Mod_translation_36 : decode b_Mod_translation 36 = .ok (.istore_n 3, 1) := by decide +kernel
theorem d_Mod_translation_37 : decode b_Mod_translation 37 = .ok (.iconst 2, 1) := by decide +kernel
theorem d_Mod_translation_38 : decode b_Mod_translation 38 = .ok (.aload_n 0, 1) := by decide +kernel
theorem d_Mod_translation_39 : decode b_Mod_translation 39 = .ok (.getfield 80, 3) := by decide +kernel
theorem d_Mod_translation_42 : decode b_Mod_translation 42 = .ok (.iload_n 3, 1) := by decide +kernel
theorem d_Mod_translation_43 : decode b_Mod_translation 43 = .ok (.iaload, 1) := by decide +kernel
theorem d_Mod_translation_44 : decode b_Mod_translation 44 = .ok (.imul, 1) := by decide +kernel
theorem d_Mod_translation_45 : decode b_Mod_translation 45 = .ok (.aload_n 0, 1) := by decide +kernel
theorem d_Mod_translation_46 : decode b_Mod_translation 46 = .ok (.getfield 83, 3) := by decide +kernel
theorem d_Mod_translation_49 : decode b_Mod_translation 49 = .ok (.iload_n 3, 1) := by decide +kernel
theorem d_Mod_translation_50 : decode b_Mod_translation 50 = .ok (.baload, 1) := by decide +kernel
theorem d_Mod_translation_51 : decode b_Mod_translation 51 = .ok (.ifCond .eq 7, 3) := by decide +kernel
theorem d_Mod_translation_54 : decode b_Mod_translation 54 = .ok (.iconst 1, 1) := by decide +kernel
theorem d_Mod_translation_55 : decode b_Mod_translation 55 = .ok (.goto 4, 3) := by decide +kernel
theorem d_Mod_translation_58 : decode b_Mod_translation 58 = .ok (.iconst 0, 1) := by decide +kernel
theorem d_Mod_translation_59 : decode b_Mod_translation 59 = .ok (.iadd, 1) := by decide +kernel
theorem d_Mod_translation_60 : decode b_Mod_translation 60 = .ok (.ireturn, 1) := by decide +kernel
theorem d_Mod_word_0 : decode b_Mod_word 0 = .ok (.iload_n 1, 1) := by decide +kernel
theorem d_Mod_word_1 : decode b_Mod_word 1 = .ok (.ifCond .lt 9, 3) := by decide +kernel
theorem d_Mod_word_4 : decode b_Mod_word 4 = .ok (.iload_n 1, 1) := by decide +kernel
theorem d_Mod_word_5 : decode b_Mod_word 5 = .ok (.bipush 9, 2) := by decide +kernel
theorem d_Mod_word_7 : decode b_Mod_word 7 = .ok (.if_icmp .le 7, 3) := by decide +kernel
theorem d_Mod_word_10 : decode b_Mod_word 10 = .ok (.iconst (-1), 1) := by decide +kernel
theorem d_Mod_word_11 : decode b_Mod_word 11 = .ok (.goto 9, 3) := by decide +kernel
theorem d_Mod_word_14 : decode b_Mod_word 14 = .ok (.aload_n 0, 1) := by decide +kernel
theorem d_Mod_word_15 : decode b_Mod_word 15 = .ok (.getfield 74, 3) := by decide +kernel
theorem d_Mod_word_18 : decode b_Mod_word 18 = .ok (.iload_n 1, 1) := by decide +kernel
theorem d_Mod_word_19 : decode b_Mod_word 19 = .ok (.iaload, 1) := by decide +kernel
theorem d_Mod_word_20 : decode b_Mod_word 20 = .ok (.ireturn, 1) := by decide +kernel
theorem d_Mod_spare_0 : decode b_Mod_spare 0 = .ok (.iload_n 1, 1) := by decide +kernel
theorem d_Mod_spare_1 : decode b_Mod_spare 1 = .ok (.ifCond .lt 8, 3) := by decide +kernel
theorem d_Mod_spare_4 : decode b_Mod_spare 4 = .ok (.iload_n 1, 1) := by decide +kernel
theorem d_Mod_spare_5 : decode b_Mod_spare 5 = .ok (.iconst 4, 1) := by decide +kernel
theorem d_Mod_spare_6 : decode b_Mod_spare 6 = .ok (.if_icmp .le 7, 3) := by decide +kernel
theorem d_Mod_spare_9 : decode b_Mod_spare 9 = .ok (.iconst (-1), 1) := by decide +kernel
theorem d_Mod_spare_10 : decode b_Mod_spare 10 = .ok (.goto 8, 3) := by decide +kernel
theorem d_Mod_spare_13 : decode b_Mod_spare 13 = .ok (.aload_n 0, 1) := by decide +kernel
theorem d_Mod_spare_14 : decode b_Mod_spare 14 = .ok (.iload_n 1, 1) := by decide +kernel
theorem d_Mod_spare_15 : decode b_Mod_spare 15 = .ok (.invokevirtual 186, 3) := by decide +kernel
theorem d_Mod_spare_18 : decode b_Mod_spare 18 = .ok (.ireturn, 1) := by decide +kernel
theorem d_Mod_tickets_0 : decode b_Mod_tickets 0 = .ok (.aload_n 0, 1) := by decide +kernel
theorem d_Mod_tickets_1 : decode b_Mod_tickets 1 = .ok (.getfield 177, 3) := by decide +kernel
theorem d_Mod_tickets_4 : decode b_Mod_tickets 4 = .ok (.aload_n 0, 1) := by decide +kernel
theorem d_Mod_tickets_5 : decode b_Mod_tickets 5 = .ok (.getfield 180, 3) := by decide +kernel
theorem d_Mod_tickets_8 : decode b_Mod_tickets 8 = .ok (.isub, 1) := by decide +kernel
theorem d_Mod_tickets_9 : decode b_Mod_tickets 9 = .ok (.ireturn, 1) := by decide +kernel
theorem d_Mod_steps_0 : decode b_Mod_steps 0 = .ok (.aload_n 0, 1) := by decide +kernel
theorem d_Mod_steps_1 : decode b_Mod_steps 1 = .ok (.getfield 136, 3) := by decide +kernel
theorem d_Mod_steps_4 : decode b_Mod_steps 4 = .ok (.ireturn, 1) := by decide +kernel
