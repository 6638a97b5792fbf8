theorem d_law_0 : decode b_law 0 = .ok (.new 7, 3) := by decide +kernel
theorem d_law_3 : decode b_law 3 = .ok (.dup, 1) := by decide +kernel
theorem d_law_4 : decode b_law 4 = .ok (.invokespecial 9, 3) := by decide +kernel
theorem d_law_7 : decode b_law 7 = .ok (.astore_n 1, 1) := by decide +kernel
theorem d_law_8 : decode b_law 8 = .ok (.new 10, 3) := by decide +kernel
theorem d_law_11 : decode b_law 11 = .ok (.dup, 1) := by decide +kernel
theorem d_law_12 : decode b_law 12 = .ok (.invokespecial 12, 3) := by decide +kernel
theorem d_law_15 : decode b_law 15 = .ok (.astore_n 2, 1) := by decide +kernel
theorem d_law_16 : decode b_law 16 = .ok (.iconst 0, 1) := by decide +kernel
theorem d_law_17 : decode b_law 17 = .ok (.istore_n 3, 1) := by decide +kernel
theorem d_law_18 : decode b_law 18 = .ok (.iload_n 3, 1) := by decide +kernel
theorem d_law_19 : decode b_law 19 = .ok (.aload_n 0, 1) := by decide +kernel
theorem d_law_20 : decode b_law 20 = .ok (.arraylength, 1) := by decide +kernel
theorem d_law_21 : decode b_law 21 = .ok (.iconst 5, 1) := by decide +kernel
theorem d_law_22 : decode b_law 22 = .ok (.isub, 1) := by decide +kernel
theorem d_law_23 : decode b_law 23 = .ok (.if_icmp .gt 717, 3) := by decide +kernel
theorem d_law_26 : decode b_law 26 = .ok (.aload_n 0, 1) := by decide +kernel
theorem d_law_27 : decode b_law 27 = .ok (.iload_n 3, 1) := by decide +kernel
theorem d_law_28 : decode b_law 28 = .ok (.iaload, 1) := by decide +kernel
theorem d_law_29 : decode b_law 29 = .ok (.bipush 31, 2) := by decide +kernel
theorem d_law_31 : decode b_law 31 = .ok (.iand, 1) := by decide +kernel
theorem d_law_32 : decode b_law 32 = .ok (.tableswitch 702 0 19 #[96, 119, 152, 195, 264, 307, 350, 383, 406, 439, 472, 495, 518, 551, 574, 597, 630, 653, 676, 689], 96) := by decide +kernel
theorem d_law_128 : decode b_law 128 = .ok (.aload_n 1, 1) := by decide +kernel
theorem d_law_129 : decode b_law 129 = .ok (.aload_n 0, 1) := by decide +kernel
theorem d_law_130 : decode b_law 130 = .ok (.iload_n 3, 1) := by decide +kernel
theorem d_law_131 : decode b_law 131 = .ok (.iconst 1, 1) := by decide +kernel
theorem d_law_132 : decode b_law 132 = .ok (.iadd, 1) := by decide +kernel
theorem d_law_133 : decode b_law 133 = .ok (.iaload, 1) := by decide +kernel
theorem d_law_134 : decode b_law 134 = .ok (.invokevirtual 13, 3) := by decide +kernel
theorem d_law_137 : decode b_law 137 = .ok (.aload_n 2, 1) := by decide +kernel
theorem d_law_138 : decode b_law 138 = .ok (.aload_n 0, 1) := by decide +kernel
theorem d_law_139 : decode b_law 139 = .ok (.iload_n 3, 1) := by decide +kernel
theorem d_law_140 : decode b_law 140 = .ok (.iconst 1, 1) := by decide +kernel
theorem d_law_141 : decode b_law 141 = .ok (.iadd, 1) := by decide +kernel
theorem d_law_142 : decode b_law 142 = .ok (.iaload, 1) := by decide +kernel
theorem d_law_143 : decode b_law 143 = .ok (.invokevirtual 17, 3) := by decide +kernel
theorem d_law_146 : decode b_law 146 = .ok (.if_icmp .eq 588, 3) := by decide +kernel
theorem d_law_149 : decode b_law 149 = .ok (.iconst 0, 1) := by decide +kernel
theorem d_law_150 : decode b_law 150 = .ok (.ireturn, 1) := by decide +kernel
theorem d_law_151 : decode b_law 151 = .ok (.aload_n 1, 1) := by decide +kernel
theorem d_law_152 : decode b_law 152 = .ok (.aload_n 0, 1) := by decide +kernel
theorem d_law_153 : decode b_law 153 = .ok (.iload_n 3, 1) := by decide +kernel
theorem d_law_154 : decode b_law 154 = .ok (.iconst 1, 1) := by decide +kernel
theorem d_law_155 : decode b_law 155 = .ok (.iadd, 1) := by decide +kernel
theorem d_law_156 : decode b_law 156 = .ok (.iaload, 1) := by decide +kernel
theorem d_law_157 : decode b_law 157 = .ok (.aload_n 0, 1) := by decide +kernel
theorem d_law_158 : decode b_law 158 = .ok (.iload_n 3, 1) := by decide +kernel
theorem d_law_159 : decode b_law 159 = .ok (.iconst 2, 1) := by decide +kernel
theorem d_law_160 : decode b_law 160 = .ok (.iadd, 1) := by decide +kernel
theorem d_law_161 : decode b_law 161 = .ok (.iaload, 1) := by decide +kernel
theorem d_law_162 : decode b_law 162 = .ok (.invokevirtual 18, 3) := by decide +kernel
theorem d_law_165 : decode b_law 165 = .ok (.aload_n 2, 1) := by decide +kernel
theorem d_law_166 : decode b_law 166 = .ok (.aload_n 0, 1) := by decide +kernel
theorem d_law_167 : decode b_law 167 = .ok (.iload_n 3, 1) := by decide +kernel
theorem d_law_168 : decode b_law 168 = .ok (.iconst 1, 1) := by decide +kernel
theorem d_law_169 : decode b_law 169 = .ok (.iadd, 1) := by decide +kernel
theorem d_law_170 : decode b_law 170 = .ok (.iaload, 1) := by decide +kernel
theorem d_law_171 : decode b_law 171 = .ok (.aload_n 0, 1) := by decide +kernel
theorem d_law_172 : decode b_law 172 = .ok (.iload_n 3, 1) := by decide +kernel
theorem d_law_173 : decode b_law 173 = .ok (.iconst 2, 1) := by decide +kernel
theorem d_law_174 : decode b_law 174 = .ok (.iadd, 1) := by decide +kernel
theorem d_law_175 : decode b_law 175 = .ok (.iaload, 1) := by decide +kernel
theorem d_law_176 : decode b_law 176 = .ok (.invokevirtual 22, 3) := by decide +kernel
theorem d_law_179 : decode b_law 179 = .ok (.if_icmp .eq 555, 3) := by decide +kernel
theorem d_law_182 : decode b_law 182 = .ok (.iconst 0, 1) := by decide +kernel
theorem d_law_183 : decode b_law 183 = .ok (.ireturn, 1) := by decide +kernel
theorem d_law_184 : decode b_law 184 = .ok (.aload_n 1, 1) := by decide +kernel
theorem d_law_185 : decode b_law 185 = .ok (.aload_n 0, 1) := by decide +kernel
theorem d_law_186 : decode b_law 186 = .ok (.iload_n 3, 1) := by decide +kernel
theorem d_law_187 : decode b_law 187 = .ok (.iconst 1, 1) := by decide +kernel
theorem d_law_188 : decode b_law 188 = .ok (.iadd, 1) := by decide +kernel
theorem d_law_189 : decode b_law 189 = .ok (.iaload, 1) := by decide +kernel
theorem d_law_190 : decode b_law 190 = .ok (.aload_n 0, 1) := by decide +kernel
theorem d_law_191 : decode b_law 191 = .ok (.iload_n 3, 1) := by decide +kernel
theorem d_law_192 : decode b_law 192 = .ok (.iconst 2, 1) := by decide +kernel
theorem d_law_193 : decode b_law 193 = .ok (.iadd, 1) := by decide +kernel
theorem d_law_194 : decode b_law 194 = .ok (.iaload, 1) := by decide +kernel
theorem d_law_195 : decode b_law 195 = .ok (.aload_n 0, 1) := by decide +kernel
theorem d_law_196 : decode b_law 196 = .ok (.iload_n 3, 1) := by decide +kernel
theorem d_law_197 : decode b_law 197 = .ok (.iconst 3, 1) := by decide +kernel
theorem d_law_198 : decode b_law 198 = .ok (.iadd, 1) := by decide +kernel
theorem d_law_199 : decode b_law 199 = .ok (.iaload, 1) := by decide +kernel
theorem d_law_200 : decode b_law 200 = .ok (.invokevirtual 23, 3) := by decide +kernel
theorem d_law_203 : decode b_law 203 = .ok (.aload_n 2, 1) := by decide +kernel
theorem d_law_204 : decode b_law 204 = .ok (.aload_n 0, 1) := by decide +kernel
theorem d_law_205 : decode b_law 205 = .ok (.iload_n 3, 1) := by decide +kernel
theorem d_law_206 : decode b_law 206 = .ok (.iconst 1, 1) := by decide +kernel
theorem d_law_207 : decode b_law 207 = .ok (.iadd, 1) := by decide +kernel
theorem d_law_208 : decode b_law 208 = .ok (.iaload, 1) := by decide +kernel
theorem d_law_209 : decode b_law 209 = .ok (.aload_n 0, 1) := by decide +kernel
theorem d_law_210 : decode b_law 210 = .ok (.iload_n 3, 1) := by decide +kernel
theorem d_law_211 : decode b_law 211 = .ok (.iconst 2, 1) := by decide +kernel
theorem d_law_212 : decode b_law 212 = .ok (.iadd, 1) := by decide +kernel
theorem d_law_213 : decode b_law 213 = .ok (.iaload, 1) := by decide +kernel
theorem d_law_214 : decode b_law 214 = .ok (.aload_n 0, 1) := by decide +kernel
theorem d_law_215 : decode b_law 215 = .ok (.iload_n 3, 1) := by decide +kernel
theorem d_law_216 : decode b_law 216 = .ok (.iconst 3, 1) := by decide +kernel
theorem d_law_217 : decode b_law 217 = .ok (.iadd, 1) := by decide +kernel
theorem d_law_218 : decode b_law 218 = .ok (.iaload, 1) := by decide +kernel
theorem d_law_219 : decode b_law 219 = .ok (.invokevirtual 27, 3) := by decide +kernel
theorem d_law_222 : decode b_law 222 = .ok (.if_icmp .eq 512, 3) := by decide +kernel
theorem d_law_225 : decode b_law 225 = .ok (.iconst 0, 1) := by decide +kernel
theorem d_law_226 : decode b_law 226 = .ok (.ireturn, 1) := by decide +kernel
theorem d_law_227 : decode b_law 227 = .ok (.aload_n 1, 1) := by decide +kernel
theorem d_law_228 : decode b_law 228 = .ok (.aload_n 0, 1) := by decide +kernel
theorem d_law_229 : decode b_law 229 = .ok (.iload_n 3, 1) := by decide +kernel
theorem d_law_230 : decode b_law 230 = .ok (.iconst 1, 1) := by decide +kernel
theorem d_law_231 : decode b_law 231 = .ok (.iadd, 1) := by decide +kernel
theorem d_law_232 : decode b_law 232 = .ok (.iaload, 1) := by decide +kernel
theorem d_law_233 : decode b_law 233 = .ok (.aload_n 0, 1) := by decide +kernel
theorem d_law_234 : decode b_law 234 = .ok (.iload_n 3, 1) := by decide +kernel
theorem d_law_235 : decode b_law 235 = .ok (.iconst 2, 1) := by decide +kernel
theorem d_law_236 : decode b_law 236 = .ok (.iadd, 1) := by decide +kernel
theorem d_law_237 : decode b_law 237 = .ok (.iaload, 1) := by decide +kernel
theorem d_law_238 : decode b_law 238 = .ok (.aload_n 0, 1) := by decide +kernel
theorem d_law_239 : decode b_law 239 = .ok (.iload_n 3, 1) := by decide +kernel
theorem d_law_240 : decode b_law 240 = .ok (.iconst 3, 1) := by decide +kernel
theorem d_law_241 : decode b_law 241 = .ok (.iadd, 1) := by decide +kernel
theorem d_law_242 : decode b_law 242 = .ok (.iaload, 1) := by decide +kernel
theorem d_law_243 : decode b_law 243 = .ok (.aload_n 0, 1) := by decide +kernel
theorem d_law_244 : decode b_law 244 = .ok (.iload_n 3, 1) := by decide +kernel
theorem d_law_245 : decode b_law 245 = .ok (.iconst 4, 1) := by decide +kernel
theorem d_law_246 : decode b_law 246 = .ok (.iadd, 1) := by decide +kernel
theorem d_law_247 : decode b_law 247 = .ok (.iaload, 1) := by decide +kernel
theorem d_law_248 : decode b_law 248 = .ok (.ifCond .eq 7, 3) := by decide +kernel
theorem d_law_251 : decode b_law 251 = .ok (.iconst 1, 1) := by decide +kernel
theorem d_law_252 : decode b_law 252 = .ok (.goto 4, 3) := by decide +kernel
theorem d_law_255 : decode b_law 255 = .ok (.iconst 0, 1) := by decide +kernel
theorem d_law_256 : decode b_law 256 = .ok (.invokevirtual 28, 3) := by decide +kernel
theorem d_law_259 : decode b_law 259 = .ok (.aload_n 2, 1) := by decide +kernel
theorem d_law_260 : decode b_law 260 = .ok (.aload_n 0, 1) := by decide +kernel
theorem d_law_261 : decode b_law 261 = .ok (.iload_n 3, 1) := by decide +kernel
theorem d_law_262 : decode b_law 262 = .ok (.iconst 1, 1) := by decide +kernel
theorem d_law_263 : decode b_law 263 = .ok (.iadd, 1) := by decide +kernel
theorem d_law_264 : decode b_law 264 = .ok (.iaload, 1) := by decide +kernel
theorem d_law_265 : decode b_law 265 = .ok (.aload_n 0, 1) := by decide +kernel
theorem d_law_266 : decode b_law 266 = .ok (.iload_n 3, 1) := by decide +kernel
theorem d_law_267 : decode b_law 267 = .ok (.iconst 2, 1) := by decide +kernel
theorem d_law_268 : decode b_law 268 = .ok (.iadd, 1) := by decide +kernel
theorem d_law_269 : decode b_law 269 = .ok (.iaload, 1) := by decide +kernel
theorem d_law_270 : decode b_law 270 = .ok (.aload_n 0, 1) := by decide +kernel
theorem d_law_271 : decode b_law 271 = .ok (.iload_n 3, 1) := by decide +kernel
theorem d_law_272 : decode b_law 272 = .ok (.iconst 3, 1) := by decide +kernel
theorem d_law_273 : decode b_law 273 = .ok (.iadd, 1) := by decide +kernel
theorem d_law_274 : decode b_law 274 = .ok (.iaload, 1) := by decide +kernel
theorem d_law_275 : decode b_law 275 = .ok (.aload_n 0, 1) := by decide +kernel
theorem d_law_276 : decode b_law 276 = .ok (.iload_n 3, 1) := by decide +kernel
theorem d_law_277 : decode b_law 277 = .ok (.iconst 4, 1) := by decide +kernel
theorem d_law_278 : decode b_law 278 = .ok (.iadd, 1) := by decide +kernel
theorem d_law_279 : decode b_law 279 = .ok (.iaload, 1) := by decide +kernel
theorem d_law_280 : decode b_law 280 = .ok (.ifCond .eq 7, 3) := by decide +kernel
theorem d_law_283 : decode b_law 283 = .ok (.iconst 1, 1) := by decide +kernel
theorem d_law_284 : decode b_law 284 = .ok (.goto 4, 3) := by decide +kernel
theorem d_law_287 : decode b_law 287 = .ok (.iconst 0, 1) := by decide +kernel
theorem d_law_288 : decode b_law 288 = .ok (.invokevirtual 32, 3) := by decide +kernel
theorem d_law_291 : decode b_law 291 = .ok (.if_icmp .eq 443, 3) := by decide +kernel
theorem d_law_294 : decode b_law 294 = .ok (.iconst 0, 1) := by decide +kernel
theorem d_law_295 : decode b_law 295 = .ok (.ireturn, 1) := by decide +kernel
theorem d_law_296 : decode b_law 296 = .ok (.aload_n 1, 1) := by decide +kernel
theorem d_law_297 : decode b_law 297 = .ok (.aload_n 0, 1) := by decide +kernel
theorem d_law_298 : decode b_law 298 = .ok (.iload_n 3, 1) := by decide +kernel
theorem d_law_299 : decode b_law 299 = .ok (.iconst 1, 1) := by decide +kernel
theorem d_law_300 : decode b_law 300 = .ok (.iadd, 1) := by decide +kernel
theorem d_law_301 : decode b_law 301 = .ok (.iaload, 1) := by decide +kernel
theorem d_law_302 : decode b_law 302 = .ok (.aload_n 0, 1) := by decide +kernel
theorem d_law_303 : decode b_law 303 = .ok (.iload_n 3, 1) := by decide +kernel
theorem d_law_304 : decode b_law 304 = .ok (.iconst 2, 1) := by decide +kernel
theorem d_law_305 : decode b_law 305 = .ok (.iadd, 1) := by decide +kernel
theorem d_law_306 : decode b_law 306 = .ok (.iaload, 1) := by decide +kernel
theorem d_law_307 : decode b_law 307 = .ok (.aload_n 0, 1) := by decide +kernel
theorem d_law_308 : decode b_law 308 = .ok (.iload_n 3, 1) := by decide +kernel
theorem d_law_309 : decode b_law 309 = .ok (.iconst 3, 1) := by decide +kernel
theorem d_law_310 : decode b_law 310 = .ok (.iadd, 1) := by decide +kernel
theorem d_law_311 : decode b_law 311 = .ok (.iaload, 1) := by decide +kernel
theorem d_law_312 : decode b_law 312 = .ok (.invokevirtual 33, 3) := by decide +kernel
theorem d_law_315 : decode b_law 315 = .ok (.aload_n 2, 1) := by decide +kernel
theorem d_law_316 : decode b_law 316 = .ok (.aload_n 0, 1) := by decide +kernel
theorem d_law_317 : decode b_law 317 = .ok (.iload_n 3, 1) := by decide +kernel
theorem d_law_318 : decode b_law 318 = .ok (.iconst 1, 1) := by decide +kernel
theorem d_law_319 : decode b_law 319 = .ok (.iadd, 1) := by decide +kernel
theorem d_law_320 : decode b_law 320 = .ok (.iaload, 1) := by decide +kernel
theorem d_law_321 : decode b_law 321 = .ok (.aload_n 0, 1) := by decide +kernel
theorem d_law_322 : decode b_law 322 = .ok (.iload_n 3, 1) := by decide +kernel
theorem d_law_323 : decode b_law 323 = .ok (.iconst 2, 1) := by decide +kernel
theorem d_law_324 : decode b_law 324 = .ok (.iadd, 1) := by decide +kernel
theorem d_law_325 : decode b_law 325 = .ok (.iaload, 1) := by decide +kernel
theorem d_law_326 : decode b_law 326 = .ok (.aload_n 0, 1) := by decide +kernel
theorem d_law_327 : decode b_law 327 = .ok (.iload_n 3, 1) := by decide +kernel
theorem d_law_328 : decode b_law 328 = .ok (.iconst 3, 1) := by decide +kernel
theorem d_law_329 : decode b_law 329 = .ok (.iadd, 1) := by decide +kernel
theorem d_law_330 : decode b_law 330 = .ok (.iaload, 1) := by decide +kernel
theorem d_law_331 : decode b_law 331 = .ok (.invokevirtual 36, 3) := by decide +kernel
theorem d_law_334 : decode b_law 334 = .ok (.if_icmp .eq 400, 3) := by decide +kernel
theorem d_law_337 : decode b_law 337 = .ok (.iconst 0, 1) := by decide +kernel
theorem d_law_338 : decode b_law 338 = .ok (.ireturn, 1) := by decide +kernel
theorem d_law_339 : decode b_law 339 = .ok (.aload_n 1, 1) := by decide +kernel
theorem d_law_340 : decode b_law 340 = .ok (.aload_n 0, 1) := by decide +kernel
theorem d_law_341 : decode b_law 341 = .ok (.iload_n 3, 1) := by decide +kernel
theorem d_law_342 : decode b_law 342 = .ok (.iconst 1, 1) := by decide +kernel
theorem d_law_343 : decode b_law 343 = .ok (.iadd, 1) := by decide +kernel
theorem d_law_344 : decode b_law 344 = .ok (.iaload, 1) := by decide +kernel
theorem d_law_345 : decode b_law 345 = .ok (.aload_n 0, 1) := by decide +kernel
theorem d_law_346 : decode b_law 346 = .ok (.iload_n 3, 1) := by decide +kernel
theorem d_law_347 : decode b_law 347 = .ok (.iconst 2, 1) := by decide +kernel
theorem d_law_348 : decode b_law 348 = .ok (.iadd, 1) := by decide +kernel
theorem d_law_349 : decode b_law 349 = .ok (.iaload, 1) := by decide +kernel
theorem d_law_350 : decode b_law 350 = .ok (.aload_n 0, 1) := by decide +kernel
theorem d_law_351 : decode b_law 351 = .ok (.iload_n 3, 1) := by decide +kernel
theorem d_law_352 : decode b_law 352 = .ok (.iconst 3, 1) := by decide +kernel
theorem d_law_353 : decode b_law 353 = .ok (.iadd, 1) := by decide +kernel
theorem d_law_354 : decode b_law 354 = .ok (.iaload, 1) := by decide +kernel
theorem d_law_355 : decode b_law 355 = .ok (.invokevirtual 37, 3) := by decide +kernel
theorem d_law_358 : decode b_law 358 = .ok (.aload_n 2, 1) := by decide +kernel
theorem d_law_359 : decode b_law 359 = .ok (.aload_n 0, 1) := by decide +kernel
theorem d_law_360 : decode b_law 360 = .ok (.iload_n 3, 1) := by decide +kernel
theorem d_law_361 : decode b_law 361 = .ok (.iconst 1, 1) := by decide +kernel
theorem d_law_362 : decode b_law 362 = .ok (.iadd, 1) := by decide +kernel
theorem d_law_363 : decode b_law 363 = .ok (.iaload, 1) := by decide +kernel
theorem d_law_364 : decode b_law 364 = .ok (.aload_n 0, 1) := by decide +kernel
theorem d_law_365 : decode b_law 365 = .ok (.iload_n 3, 1) := by decide +kernel
theorem d_law_366 : decode b_law 366 = .ok (.iconst 2, 1) := by decide +kernel
theorem d_law_367 : decode b_law 367 = .ok (.iadd, 1) := by decide +kernel
theorem d_law_368 : decode b_law 368 = .ok (.iaload, 1) := by decide +kernel
theorem d_law_369 : decode b_law 369 = .ok (.aload_n 0, 1) := by decide +kernel
theorem d_law_370 : decode b_law 370 = .ok (.iload_n 3, 1) := by decide +kernel
theorem d_law_371 : decode b_law 371 = .ok (.iconst 3, 1) := by decide +kernel
theorem d_law_372 : decode b_law 372 = .ok (.iadd, 1) := by decide +kernel
theorem d_law_373 : decode b_law 373 = .ok (.iaload, 1) := by decide +kernel
theorem d_law_374 : decode b_law 374 = .ok (.invokevirtual 40, 3) := by decide +kernel
theorem d_law_377 : decode b_law 377 = .ok (.if_icmp .eq 357, 3) := by decide +kernel
theorem d_law_380 : decode b_law 380 = .ok (.iconst 0, 1) := by decide +kernel
theorem d_law_381 : decode b_law 381 = .ok (.ireturn, 1) := by decide +kernel
theorem d_law_382 : decode b_law 382 = .ok (.aload_n 1, 1) := by decide +kernel
theorem d_law_383 : decode b_law 383 = .ok (.aload_n 0, 1) := by decide +kernel
theorem d_law_384 : decode b_law 384 = .ok (.iload_n 3, 1) := by decide +kernel
theorem d_law_385 : decode b_law 385 = .ok (.iconst 1, 1) := by decide +kernel
theorem d_law_386 : decode b_law 386 = .ok (.iadd, 1) := by decide +kernel
theorem d_law_387 : decode b_law 387 = .ok (.iaload, 1) := by decide +kernel
theorem d_law_388 : decode b_law 388 = .ok (.aload_n 0, 1) := by decide +kernel
theorem d_law_389 : decode b_law 389 = .ok (.iload_n 3, 1) := by decide +kernel
theorem d_law_390 : decode b_law 390 = .ok (.iconst 2, 1) := by decide +kernel
theorem d_law_391 : decode b_law 391 = .ok (.iadd, 1) := by decide +kernel
theorem d_law_392 : decode b_law 392 = .ok (.iaload, 1) := by decide +kernel
theorem d_law_393 : decode b_law 393 = .ok (.invokevirtual 41, 3) := by decide +kernel
theorem d_law_396 : decode b_law 396 = .ok (.aload_n 2, 1) := by decide +kernel
theorem d_law_397 : decode b_law 397 = .ok (.aload_n 0, 1) := by decide +kernel
theorem d_law_398 : decode b_law 398 = .ok (.iload_n 3, 1) := by decide +kernel
theorem d_law_399 : decode b_law 399 = .ok (.iconst 1, 1) := by decide +kernel
theorem d_law_400 : decode b_law 400 = .ok (.iadd, 1) := by decide +kernel
theorem d_law_401 : decode b_law 401 = .ok (.iaload, 1) := by decide +kernel
theorem d_law_402 : decode b_law 402 = .ok (.aload_n 0, 1) := by decide +kernel
theorem d_law_403 : decode b_law 403 = .ok (.iload_n 3, 1) := by decide +kernel
theorem d_law_404 : decode b_law 404 = .ok (.iconst 2, 1) := by decide +kernel
theorem d_law_405 : decode b_law 405 = .ok (.iadd, 1) := by decide +kernel
theorem d_law_406 : decode b_law 406 = .ok (.iaload, 1) := by decide +kernel
theorem d_law_407 : decode b_law 407 = .ok (.invokevirtual 44, 3) := by decide +kernel
theorem d_law_410 : decode b_law 410 = .ok (.if_icmp .eq 324, 3) := by decide +kernel
theorem d_law_413 : decode b_law 413 = .ok (.iconst 0, 1) := by decide +kernel
theorem d_law_414 : decode b_law 414 = .ok (.ireturn, 1) := by decide +kernel
theorem d_law_415 : decode b_law 415 = .ok (.aload_n 1, 1) := by decide +kernel
theorem d_law_416 : decode b_law 416 = .ok (.aload_n 0, 1) := by decide +kernel
theorem d_law_417 : decode b_law 417 = .ok (.iload_n 3, 1) := by decide +kernel
theorem d_law_418 : decode b_law 418 = .ok (.iconst 1, 1) := by decide +kernel
theorem d_law_419 : decode b_law 419 = .ok (.iadd, 1) := by decide +kernel
theorem d_law_420 : decode b_law 420 = .ok (.iaload, 1) := by decide +kernel
theorem d_law_421 : decode b_law 421 = .ok (.invokevirtual 45, 3) := by decide +kernel
theorem d_law_424 : decode b_law 424 = .ok (.aload_n 2, 1) := by decide +kernel
theorem d_law_425 : decode b_law 425 = .ok (.aload_n 0, 1) := by decide +kernel
theorem d_law_426 : decode b_law 426 = .ok (.iload_n 3, 1) := by decide +kernel
theorem d_law_427 : decode b_law 427 = .ok (.iconst 1, 1) := by decide +kernel
theorem d_law_428 : decode b_law 428 = .ok (.iadd, 1) := by decide +kernel
theorem d_law_429 : decode b_law 429 = .ok (.iaload, 1) := by decide +kernel
theorem d_law_430 : decode b_law 430 = .ok (.invokevirtual 48, 3) := by decide +kernel
theorem d_law_433 : decode b_law 433 = .ok (.if_icmp .eq 301, 3) := by decide +kernel
theorem d_law_436 : decode b_law 436 = .ok (.iconst 0, 1) := by decide +kernel
theorem d_law_437 : decode b_law 437 = .ok (.ireturn, 1) := by decide +kernel
theorem d_law_438 : decode b_law 438 = .ok (.aload_n 1, 1) := by decide +kernel
theorem d_law_439 : decode b_law 439 = .ok (.aload_n 0, 1) := by decide +kernel
theorem d_law_440 : decode b_law 440 = .ok (.iload_n 3, 1) := by decide +kernel
theorem d_law_441 : decode b_law 441 = .ok (.iconst 1, 1) := by decide +kernel
theorem d_law_442 : decode b_law 442 = .ok (.iadd, 1) := by decide +kernel
theorem d_law_443 : decode b_law 443 = .ok (.iaload, 1) := by decide +kernel
theorem d_law_444 : decode b_law 444 = .ok (.aload_n 0, 1) := by decide +kernel
theorem d_law_445 : decode b_law 445 = .ok (.iload_n 3, 1) := by decide +kernel
theorem d_law_446 : decode b_law 446 = .ok (.iconst 2, 1) := by decide +kernel
theorem d_law_447 : decode b_law 447 = .ok (.iadd, 1) := by decide +kernel
theorem d_law_448 : decode b_law 448 = .ok (.iaload, 1) := by decide +kernel
theorem d_law_449 : decode b_law 449 = .ok (.invokevirtual 49, 3) := by decide +kernel
theorem d_law_452 : decode b_law 452 = .ok (.aload_n 2, 1) := by decide +kernel
theorem d_law_453 : decode b_law 453 = .ok (.aload_n 0, 1) := by decide +kernel
theorem d_law_454 : decode b_law 454 = .ok (.iload_n 3, 1) := by decide +kernel
theorem d_law_455 : decode b_law 455 = .ok (.iconst 1, 1) := by decide +kernel
theorem d_law_456 : decode b_law 456 = .ok (.iadd, 1) := by decide +kernel
theorem d_law_457 : decode b_law 457 = .ok (.iaload, 1) := by decide +kernel
theorem d_law_458 : decode b_law 458 = .ok (.aload_n 0, 1) := by decide +kernel
theorem d_law_459 : decode b_law 459 = .ok (.iload_n 3, 1) := by decide +kernel
theorem d_law_460 : decode b_law 460 = .ok (.iconst 2, 1) := by decide +kernel
theorem d_law_461 : decode b_law 461 = .ok (.iadd, 1) := by decide +kernel
theorem d_law_462 : decode b_law 462 = .ok (.iaload, 1) := by decide +kernel
theorem d_law_463 : decode b_law 463 = .ok (.invokevirtual 52, 3) := by decide +kernel
theorem d_law_466 : decode b_law 466 = .ok (.if_icmp .eq 268, 3) := by decide +kernel
theorem d_law_469 : decode b_law 469 = .ok (.iconst 0, 1) := by decide +kernel
theorem d_law_470 : decode b_law 470 = .ok (.ireturn, 1) := by decide +kernel
theorem d_law_471 : decode b_law 471 = .ok (.aload_n 1, 1) := by decide +kernel
theorem d_law_472 : decode b_law 472 = .ok (.aload_n 0, 1) := by decide +kernel
theorem d_law_473 : decode b_law 473 = .ok (.iload_n 3, 1) := by decide +kernel
theorem d_law_474 : decode b_law 474 = .ok (.iconst 1, 1) := by decide +kernel
theorem d_law_475 : decode b_law 475 = .ok (.iadd, 1) := by decide +kernel
theorem d_law_476 : decode b_law 476 = .ok (.iaload, 1) := by decide +kernel
theorem d_law_477 : decode b_law 477 = .ok (.aload_n 0, 1) := by decide +kernel
theorem d_law_478 : decode b_law 478 = .ok (.iload_n 3, 1) := by decide +kernel
theorem d_law_479 : decode b_law 479 = .ok (.iconst 2, 1) := by decide +kernel
theorem d_law_480 : decode b_law 480 = .ok (.iadd, 1) := by decide +kernel
theorem d_law_481 : decode b_law 481 = .ok (.iaload, 1) := by decide +kernel
theorem d_law_482 : decode b_law 482 = .ok (.invokevirtual 53, 3) := by decide +kernel
theorem d_law_485 : decode b_law 485 = .ok (.aload_n 2, 1) := by decide +kernel
theorem d_law_486 : decode b_law 486 = .ok (.aload_n 0, 1) := by decide +kernel
theorem d_law_487 : decode b_law 487 = .ok (.iload_n 3, 1) := by decide +kernel
theorem d_law_488 : decode b_law 488 = .ok (.iconst 1, 1) := by decide +kernel
theorem d_law_489 : decode b_law 489 = .ok (.iadd, 1) := by decide +kernel
theorem d_law_490 : decode b_law 490 = .ok (.iaload, 1) := by decide +kernel
theorem d_law_491 : decode b_law 491 = .ok (.aload_n 0, 1) := by decide +kernel
theorem d_law_492 : decode b_law 492 = .ok (.iload_n 3, 1) := by decide +kernel
theorem d_law_493 : decode b_law 493 = .ok (.iconst 2, 1) := by decide +kernel
theorem d_law_494 : decode b_law 494 = .ok (.iadd, 1) := by decide +kernel
theorem d_law_495 : decode b_law 495 = .ok (.iaload, 1) := by decide +kernel
theorem d_law_496 : decode b_law 496 = .ok (.invokevirtual 56, 3) := by decide +kernel
theorem d_law_499 : decode b_law 499 = .ok (.if_icmp .eq 235, 3) := by decide +kernel
theorem d_law_502 : decode b_law 502 = .ok (.iconst 0, 1) := by decide +kernel
theorem d_law_503 : decode b_law 503 = .ok (.ireturn, 1) := by decide +kernel
theorem d_law_504 : decode b_law 504 = .ok (.aload_n 1, 1) := by decide +kernel
theorem d_law_505 : decode b_law 505 = .ok (.aload_n 0, 1) := by decide +kernel
theorem d_law_506 : decode b_law 506 = .ok (.iload_n 3, 1) := by decide +kernel
theorem d_law_507 : decode b_law 507 = .ok (.iconst 1, 1) := by decide +kernel
theorem d_law_508 : decode b_law 508 = .ok (.iadd, 1) := by decide +kernel
theorem d_law_509 : decode b_law 509 = .ok (.iaload, 1) := by decide +kernel
theorem d_law_510 : decode b_law 510 = .ok (.invokevirtual 57, 3) := by decide +kernel
theorem d_law_513 : decode b_law 513 = .ok (.aload_n 2, 1) := by decide +kernel
theorem d_law_514 : decode b_law 514 = .ok (.aload_n 0, 1) := by decide +kernel
theorem d_law_515 : decode b_law 515 = .ok (.iload_n 3, 1) := by decide +kernel
theorem d_law_516 : decode b_law 516 = .ok (.iconst 1, 1) := by decide +kernel
theorem d_law_517 : decode b_law 517 = .ok (.iadd, 1) := by decide +kernel
theorem d_law_518 : decode b_law 518 = .ok (.iaload, 1) := by decide +kernel
theorem d_law_519 : decode b_law 519 = .ok (.invokevirtual 60, 3) := by decide +kernel
theorem d_law_522 : decode b_law 522 = .ok (.if_icmp .eq 212, 3) := by decide +kernel
theorem d_law_525 : decode b_law 525 = .ok (.iconst 0, 1) := by decide +kernel
theorem d_law_526 : decode b_law 526 = .ok (.ireturn, 1) := by decide +kernel
theorem d_law_527 : decode b_law 527 = .ok (.aload_n 1, 1) := by decide +kernel
theorem d_law_528 : decode b_law 528 = .ok (.aload_n 0, 1) := by decide +kernel
theorem d_law_529 : decode b_law 529 = .ok (.iload_n 3, 1) := by decide +kernel
theorem d_law_530 : decode b_law 530 = .ok (.iconst 1, 1) := by decide +kernel
theorem d_law_531 : decode b_law 531 = .ok (.iadd, 1) := by decide +kernel
theorem d_law_532 : decode b_law 532 = .ok (.iaload, 1) := by decide +kernel
theorem d_law_533 : decode b_law 533 = .ok (.invokevirtual 61, 3) := by decide +kernel
theorem d_law_536 : decode b_law 536 = .ok (.aload_n 2, 1) := by decide +kernel
theorem d_law_537 : decode b_law 537 = .ok (.aload_n 0, 1) := by decide +kernel
theorem d_law_538 : decode b_law 538 = .ok (.iload_n 3, 1) := by decide +kernel
theorem d_law_539 : decode b_law 539 = .ok (.iconst 1, 1) := by decide +kernel
theorem d_law_540 : decode b_law 540 = .ok (.iadd, 1) := by decide +kernel
theorem d_law_541 : decode b_law 541 = .ok (.iaload, 1) := by decide +kernel
theorem d_law_542 : decode b_law 542 = .ok (.invokevirtual 64, 3) := by decide +kernel
theorem d_law_545 : decode b_law 545 = .ok (.if_icmp .eq 189, 3) := by decide +kernel
theorem d_law_548 : decode b_law 548 = .ok (.iconst 0, 1) := by decide +kernel
theorem d_law_549 : decode b_law 549 = .ok (.ireturn, 1) := by decide +kernel
theorem d_law_550 : decode b_law 550 = .ok (.aload_n 1, 1) := by decide +kernel
theorem d_law_551 : decode b_law 551 = .ok (.aload_n 0, 1) := by decide +kernel
theorem d_law_552 : decode b_law 552 = .ok (.iload_n 3, 1) := by decide +kernel
theorem d_law_553 : decode b_law 553 = .ok (.iconst 1, 1) := by decide +kernel
theorem d_law_554 : decode b_law 554 = .ok (.iadd, 1) := by decide +kernel
theorem d_law_555 : decode b_law 555 = .ok (.iaload, 1) := by decide +kernel
theorem d_law_556 : decode b_law 556 = .ok (.aload_n 0, 1) := by decide +kernel
theorem d_law_557 : decode b_law 557 = .ok (.iload_n 3, 1) := by decide +kernel
theorem d_law_558 : decode b_law 558 = .ok (.iconst 2, 1) := by decide +kernel
theorem d_law_559 : decode b_law 559 = .ok (.iadd, 1) := by decide +kernel
theorem d_law_560 : decode b_law 560 = .ok (.iaload, 1) := by decide +kernel
theorem d_law_561 : decode b_law 561 = .ok (.invokevirtual 65, 3) := by decide +kernel
theorem d_law_564 : decode b_law 564 = .ok (.aload_n 2, 1) := by decide +kernel
theorem d_law_565 : decode b_law 565 = .ok (.aload_n 0, 1) := by decide +kernel
theorem d_law_566 : decode b_law 566 = .ok (.iload_n 3, 1) := by decide +kernel
theorem d_law_567 : decode b_law 567 = .ok (.iconst 1, 1) := by decide +kernel
theorem d_law_568 : decode b_law 568 = .ok (.iadd, 1) := by decide +kernel
theorem d_law_569 : decode b_law 569 = .ok (.iaload, 1) := by decide +kernel
theorem d_law_570 : decode b_law 570 = .ok (.aload_n 0, 1) := by decide +kernel
theorem d_law_571 : decode b_law 571 = .ok (.iload_n 3, 1) := by decide +kernel
theorem d_law_572 : decode b_law 572 = .ok (.iconst 2, 1) := by decide +kernel
theorem d_law_573 : decode b_law 573 = .ok (.iadd, 1) := by decide +kernel
theorem d_law_574 : decode b_law 574 = .ok (.iaload, 1) := by decide +kernel
theorem d_law_575 : decode b_law 575 = .ok (.invokevirtual 68, 3) := by decide +kernel
theorem d_law_578 : decode b_law 578 = .ok (.if_icmp .eq 156, 3) := by decide +kernel
theorem d_law_581 : decode b_law 581 = .ok (.iconst 0, 1) := by decide +kernel
theorem d_law_582 : decode b_law 582 = .ok (.ireturn, 1) := by decide +kernel
theorem d_law_583 : decode b_law 583 = .ok (.aload_n 1, 1) := by decide +kernel
theorem d_law_584 : decode b_law 584 = .ok (.aload_n 0, 1) := by decide +kernel
theorem d_law_585 : decode b_law 585 = .ok (.iload_n 3, 1) := by decide +kernel
theorem d_law_586 : decode b_law 586 = .ok (.iconst 1, 1) := by decide +kernel
theorem d_law_587 : decode b_law 587 = .ok (.iadd, 1) := by decide +kernel
theorem d_law_588 : decode b_law 588 = .ok (.iaload, 1) := by decide +kernel
theorem d_law_589 : decode b_law 589 = .ok (.invokevirtual 69, 3) := by decide +kernel
theorem d_law_592 : decode b_law 592 = .ok (.aload_n 2, 1) := by decide +kernel
theorem d_law_593 : decode b_law 593 = .ok (.aload_n 0, 1) := by decide +kernel
theorem d_law_594 : decode b_law 594 = .ok (.iload_n 3, 1) := by decide +kernel
theorem d_law_595 : decode b_law 595 = .ok (.iconst 1, 1) := by decide +kernel
theorem d_law_596 : decode b_law 596 = .ok (.iadd, 1) := by decide +kernel
theorem d_law_597 : decode b_law 597 = .ok (.iaload, 1) := by decide +kernel
theorem d_law_598 : decode b_law 598 = .ok (.invokevirtual 72, 3) := by decide +kernel
theorem d_law_601 : decode b_law 601 = .ok (.if_icmp .eq 133, 3) := by decide +kernel
theorem d_law_604 : decode b_law 604 = .ok (.iconst 0, 1) := by decide +kernel
theorem d_law_605 : decode b_law 605 = .ok (.ireturn, 1) := by decide +kernel
theorem d_law_606 : decode b_law 606 = .ok (.aload_n 1, 1) := by decide +kernel
theorem d_law_607 : decode b_law 607 = .ok (.aload_n 0, 1) := by decide +kernel
theorem d_law_608 : decode b_law 608 = .ok (.iload_n 3, 1) := by decide +kernel
theorem d_law_609 : decode b_law 609 = .ok (.iconst 1, 1) := by decide +kernel
theorem d_law_610 : decode b_law 610 = .ok (.iadd, 1) := by decide +kernel
theorem d_law_611 : decode b_law 611 = .ok (.iaload, 1) := by decide +kernel
theorem d_law_612 : decode b_law 612 = .ok (.invokevirtual 73, 3) := by decide +kernel
theorem d_law_615 : decode b_law 615 = .ok (.aload_n 2, 1) := by decide +kernel
theorem d_law_616 : decode b_law 616 = .ok (.aload_n 0, 1) := by decide +kernel
theorem d_law_617 : decode b_law 617 = .ok (.iload_n 3, 1) := by decide +kernel
theorem d_law_618 : decode b_law 618 = .ok (.iconst 1, 1) := by decide +kernel
theorem d_law_619 : decode b_law 619 = .ok (.iadd, 1) := by decide +kernel
theorem d_law_620 : decode b_law 620 = .ok (.iaload, 1) := by decide +kernel
theorem d_law_621 : decode b_law 621 = .ok (.invokevirtual 76, 3) := by decide +kernel
theorem d_law_624 : decode b_law 624 = .ok (.if_icmp .eq 110, 3) := by decide +kernel
theorem d_law_627 : decode b_law 627 = .ok (.iconst 0, 1) := by decide +kernel
theorem d_law_628 : decode b_law 628 = .ok (.ireturn, 1) := by decide +kernel
theorem d_law_629 : decode b_law 629 = .ok (.aload_n 1, 1) := by decide +kernel
theorem d_law_630 : decode b_law 630 = .ok (.aload_n 0, 1) := by decide +kernel
theorem d_law_631 : decode b_law 631 = .ok (.iload_n 3, 1) := by decide +kernel
theorem d_law_632 : decode b_law 632 = .ok (.iconst 1, 1) := by decide +kernel
theorem d_law_633 : decode b_law 633 = .ok (.iadd, 1) := by decide +kernel
theorem d_law_634 : decode b_law 634 = .ok (.iaload, 1) := by decide +kernel
theorem d_law_635 : decode b_law 635 = .ok (.aload_n 0, 1) := by decide +kernel
theorem d_law_636 : decode b_law 636 = .ok (.iload_n 3, 1) := by decide +kernel
theorem d_law_637 : decode b_law 637 = .ok (.iconst 2, 1) := by decide +kernel
theorem d_law_638 : decode b_law 638 = .ok (.iadd, 1) := by decide +kernel
theorem d_law_639 : decode b_law 639 = .ok (.iaload, 1) := by decide +kernel
theorem d_law_640 : decode b_law 640 = .ok (.invokevirtual 77, 3) := by decide +kernel
theorem d_law_643 : decode b_law 643 = .ok (.aload_n 2, 1) := by decide +kernel
theorem d_law_644 : decode b_law 644 = .ok (.aload_n 0, 1) := by decide +kernel
theorem d_law_645 : decode b_law 645 = .ok (.iload_n 3, 1) := by decide +kernel
theorem d_law_646 : decode b_law 646 = .ok (.iconst 1, 1) := by decide +kernel
theorem d_law_647 : decode b_law 647 = .ok (.iadd, 1) := by decide +kernel
theorem d_law_648 : decode b_law 648 = .ok (.iaload, 1) := by decide +kernel
theorem d_law_649 : decode b_law 649 = .ok (.aload_n 0, 1) := by decide +kernel
theorem d_law_650 : decode b_law 650 = .ok (.iload_n 3, 1) := by decide +kernel
theorem d_law_651 : decode b_law 651 = .ok (.iconst 2, 1) := by decide +kernel
theorem d_law_652 : decode b_law 652 = .ok (.iadd, 1) := by decide +kernel
theorem d_law_653 : decode b_law 653 = .ok (.iaload, 1) := by decide +kernel
theorem d_law_654 : decode b_law 654 = .ok (.invokevirtual 80, 3) := by decide +kernel
theorem d_law_657 : decode b_law 657 = .ok (.if_icmp .eq 77, 3) := by decide +kernel
theorem d_law_660 : decode b_law 660 = .ok (.iconst 0, 1) := by decide +kernel
theorem d_law_661 : decode b_law 661 = .ok (.ireturn, 1) := by decide +kernel
theorem d_law_662 : decode b_law 662 = .ok (.aload_n 1, 1) := by decide +kernel
theorem d_law_663 : decode b_law 663 = .ok (.aload_n 0, 1) := by decide +kernel
theorem d_law_664 : decode b_law 664 = .ok (.iload_n 3, 1) := by decide +kernel
theorem d_law_665 : decode b_law 665 = .ok (.iconst 1, 1) := by decide +kernel
theorem d_law_666 : decode b_law 666 = .ok (.iadd, 1) := by decide +kernel
theorem d_law_667 : decode b_law 667 = .ok (.iaload, 1) := by decide +kernel
theorem d_law_668 : decode b_law 668 = .ok (.invokevirtual 81, 3) := by decide +kernel
theorem d_law_671 : decode b_law 671 = .ok (.aload_n 2, 1) := by decide +kernel
theorem d_law_672 : decode b_law 672 = .ok (.aload_n 0, 1) := by decide +kernel
theorem d_law_673 : decode b_law 673 = .ok (.iload_n 3, 1) := by decide +kernel
theorem d_law_674 : decode b_law 674 = .ok (.iconst 1, 1) := by decide +kernel
theorem d_law_675 : decode b_law 675 = .ok (.iadd, 1) := by decide +kernel
theorem d_law_676 : decode b_law 676 = .ok (.iaload, 1) := by decide +kernel
theorem d_law_677 : decode b_law 677 = .ok (.invokevirtual 84, 3) := by decide +kernel
theorem d_law_680 : decode b_law 680 = .ok (.if_icmp .eq 54, 3) := by decide +kernel
theorem d_law_683 : decode b_law 683 = .ok (.iconst 0, 1) := by decide +kernel
theorem d_law_684 : decode b_law 684 = .ok (.ireturn, 1) := by decide +kernel
theorem d_law_685 : decode b_law 685 = .ok (.aload_n 1, 1) := by decide +kernel
theorem d_law_686 : decode b_law 686 = .ok (.aload_n 0, 1) := by decide +kernel
theorem d_law_687 : decode b_law 687 = .ok (.iload_n 3, 1) := by decide +kernel
theorem d_law_688 : decode b_law 688 = .ok (.iconst 1, 1) := by decide +kernel
theorem d_law_689 : decode b_law 689 = .ok (.iadd, 1) := by decide +kernel
theorem d_law_690 : decode b_law 690 = .ok (.iaload, 1) := by decide +kernel
theorem d_law_691 : decode b_law 691 = .ok (.invokevirtual 85, 3) := by decide +kernel
theorem d_law_694 : decode b_law 694 = .ok (.aload_n 2, 1) := by decide +kernel
theorem d_law_695 : decode b_law 695 = .ok (.aload_n 0, 1) := by decide +kernel
theorem d_law_696 : decode b_law 696 = .ok (.iload_n 3, 1) := by decide +kernel
theorem d_law_697 : decode b_law 697 = .ok (.iconst 1, 1) := by decide +kernel
theorem d_law_698 : decode b_law 698 = .ok (.iadd, 1) := by decide +kernel
theorem d_law_699 : decode b_law 699 = .ok (.iaload, 1) := by decide +kernel
theorem d_law_700 : decode b_law 700 = .ok (.invokevirtual 88, 3) := by decide +kernel
theorem d_law_703 : decode b_law 703 = .ok (.if_icmp .eq 31, 3) := by decide +kernel
theorem d_law_706 : decode b_law 706 = .ok (.iconst 0, 1) := by decide +kernel
theorem d_law_707 : decode b_law 707 = .ok (.ireturn, 1) := by decide +kernel
theorem d_law_708 : decode b_law 708 = .ok (.aload_n 1, 1) := by decide +kernel
theorem d_law_709 : decode b_law 709 = .ok (.invokevirtual 89, 3) := by decide +kernel
theorem d_law_712 : decode b_law 712 = .ok (.aload_n 2, 1) := by decide +kernel
theorem d_law_713 : decode b_law 713 = .ok (.invokevirtual 93, 3) := by decide +kernel
theorem d_law_716 : decode b_law 716 = .ok (.if_icmp .eq 18, 3) := by decide +kernel
theorem d_law_719 : decode b_law 719 = .ok (.iconst 0, 1) := by decide +kernel
theorem d_law_720 : decode b_law 720 = .ok (.ireturn, 1) := by decide +kernel
theorem d_law_721 : decode b_law 721 = .ok (.aload_n 1, 1) := by decide +kernel
theorem d_law_722 : decode b_law 722 = .ok (.invokevirtual 94, 3) := by decide +kernel
theorem d_law_725 : decode b_law 725 = .ok (.aload_n 2, 1) := by decide +kernel
theorem d_law_726 : decode b_law 726 = .ok (.invokevirtual 97, 3) := by decide +kernel
theorem d_law_729 : decode b_law 729 = .ok (.if_icmp .eq 5, 3) := by decide +kernel
theorem d_law_732 : decode b_law 732 = .ok (.iconst 0, 1) := by decide +kernel
theorem d_law_733 : decode b_law 733 = .ok (.ireturn, 1) := by decide +kernel
theorem d_law_734 : decode b_law 734 = .ok (.iinc 3 5, 3) := by decide +kernel
theorem d_law_737 : decode b_law 737 = .ok (.goto (-719), 3) := by decide +kernel
theorem d_law_740 : decode b_law 740 = .ok (.iconst 1, 1) := by decide +kernel
theorem d_law_741 : decode b_law 741 = .ok (.ireturn, 1) := by decide +kernel
