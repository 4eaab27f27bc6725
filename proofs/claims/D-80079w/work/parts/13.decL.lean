theorem d_Law_law_0 : decode code 0 = .ok (.new 7, 3) := by decide +kernel
theorem d_Law_law_3 : decode code 3 = .ok (.dup, 1) := by decide +kernel
theorem d_Law_law_4 : decode code 4 = .ok (.invokespecial 9, 3) := by decide +kernel
theorem d_Law_law_7 : decode code 7 = .ok (.astore_n 1, 1) := by decide +kernel
theorem d_Law_law_8 : decode code 8 = .ok (.new 10, 3) := by decide +kernel
theorem d_Law_law_11 : decode code 11 = .ok (.dup, 1) := by decide +kernel
theorem d_Law_law_12 : decode code 12 = .ok (.invokespecial 12, 3) := by decide +kernel
theorem d_Law_law_15 : decode code 15 = .ok (.astore_n 2, 1) := by decide +kernel
theorem d_Law_law_16 : decode code 16 = .ok (.iconst 0, 1) := by decide +kernel
theorem d_Law_law_17 : decode code 17 = .ok (.istore_n 3, 1) := by decide +kernel
theorem d_Law_law_18 : decode code 18 = .ok (.iload_n 3, 1) := by decide +kernel
theorem d_Law_law_19 : decode code 19 = .ok (.aload_n 0, 1) := by decide +kernel
theorem d_Law_law_20 : decode code 20 = .ok (.arraylength, 1) := by decide +kernel
theorem d_Law_law_21 : decode code 21 = .ok (.bipush 8, 2) := by decide +kernel
theorem d_Law_law_23 : decode code 23 = .ok (.isub, 1) := by decide +kernel
theorem d_Law_law_24 : decode code 24 = .ok (.if_icmp .gt 670, 3) := by decide +kernel
theorem d_Law_law_27 : decode code 27 = .ok (.aload_n 0, 1) := by decide +kernel
theorem d_Law_law_28 : decode code 28 = .ok (.iload_n 3, 1) := by decide +kernel
theorem d_Law_law_29 : decode code 29 = .ok (.iaload, 1) := by decide +kernel
theorem d_Law_law_30 : decode code 30 = .ok (.bipush 31, 2) := by decide +kernel
theorem d_Law_law_32 : decode code 32 = .ok (.iand, 1) := by decide +kernel
theorem d_Law_law_33 : decode code 33 = .ok (.tableswitch 655 0 17 #[87, 110, 133, 166, 253, 276, 289, 332, 365, 388, 411, 434, 457, 510, 523, 566, 599, 632], 87) := by decide +kernel
theorem d_Law_law_120 : decode code 120 = .ok (.aload_n 1, 1) := by decide +kernel
theorem d_Law_law_121 : decode code 121 = .ok (.aload_n 0, 1) := by decide +kernel
theorem d_Law_law_122 : decode code 122 = .ok (.iload_n 3, 1) := by decide +kernel
theorem d_Law_law_123 : decode code 123 = .ok (.iconst 1, 1) := by decide +kernel
theorem d_Law_law_124 : decode code 124 = .ok (.iadd, 1) := by decide +kernel
theorem d_Law_law_125 : decode code 125 = .ok (.iaload, 1) := by decide +kernel
theorem d_Law_law_126 : decode code 126 = .ok (.invokevirtual 13, 3) := by decide +kernel
theorem d_Law_law_129 : decode code 129 = .ok (.aload_n 2, 1) := by decide +kernel
theorem d_Law_law_130 : decode code 130 = .ok (.aload_n 0, 1) := by decide +kernel
theorem d_Law_law_131 : decode code 131 = .ok (.iload_n 3, 1) := by decide +kernel
theorem d_Law_law_132 : decode code 132 = .ok (.iconst 1, 1) := by decide +kernel
theorem d_Law_law_133 : decode code 133 = .ok (.iadd, 1) := by decide +kernel
theorem d_Law_law_134 : decode code 134 = .ok (.iaload, 1) := by decide +kernel
theorem d_Law_law_135 : decode code 135 = .ok (.invokevirtual 17, 3) := by decide +kernel
theorem d_Law_law_138 : decode code 138 = .ok (.if_icmp .eq 550, 3) := by decide +kernel
theorem d_Law_law_141 : decode code 141 = .ok (.iconst 0, 1) := by decide +kernel
theorem d_Law_law_142 : decode code 142 = .ok (.ireturn, 1) := by decide +kernel
theorem d_Law_law_143 : decode code 143 = .ok (.aload_n 1, 1) := by decide +kernel
theorem d_Law_law_144 : decode code 144 = .ok (.aload_n 0, 1) := by decide +kernel
theorem d_Law_law_145 : decode code 145 = .ok (.iload_n 3, 1) := by decide +kernel
theorem d_Law_law_146 : decode code 146 = .ok (.iconst 1, 1) := by decide +kernel
theorem d_Law_law_147 : decode code 147 = .ok (.iadd, 1) := by decide +kernel
theorem d_Law_law_148 : decode code 148 = .ok (.iaload, 1) := by decide +kernel
theorem d_Law_law_149 : decode code 149 = .ok (.invokevirtual 18, 3) := by decide +kernel
theorem d_Law_law_152 : decode code 152 = .ok (.aload_n 2, 1) := by decide +kernel
theorem d_Law_law_153 : decode code 153 = .ok (.aload_n 0, 1) := by decide +kernel
theorem d_Law_law_154 : decode code 154 = .ok (.iload_n 3, 1) := by decide +kernel
theorem d_Law_law_155 : decode code 155 = .ok (.iconst 1, 1) := by decide +kernel
theorem d_Law_law_156 : decode code 156 = .ok (.iadd, 1) := by decide +kernel
theorem d_Law_law_157 : decode code 157 = .ok (.iaload, 1) := by decide +kernel
theorem d_Law_law_158 : decode code 158 = .ok (.invokevirtual 21, 3) := by decide +kernel
theorem d_Law_law_161 : decode code 161 = .ok (.if_icmp .eq 527, 3) := by decide +kernel
theorem d_Law_law_164 : decode code 164 = .ok (.iconst 0, 1) := by decide +kernel
theorem d_Law_law_165 : decode code 165 = .ok (.ireturn, 1) := by decide +kernel
theorem d_Law_law_166 : decode code 166 = .ok (.aload_n 1, 1) := by decide +kernel
theorem d_Law_law_167 : decode code 167 = .ok (.aload_n 0, 1) := by decide +kernel
theorem d_Law_law_168 : decode code 168 = .ok (.iload_n 3, 1) := by decide +kernel
theorem d_Law_law_169 : decode code 169 = .ok (.iconst 1, 1) := by decide +kernel
theorem d_Law_law_170 : decode code 170 = .ok (.iadd, 1) := by decide +kernel
theorem d_Law_law_171 : decode code 171 = .ok (.iaload, 1) := by decide +kernel
theorem d_Law_law_172 : decode code 172 = .ok (.aload_n 0, 1) := by decide +kernel
theorem d_Law_law_173 : decode code 173 = .ok (.iload_n 3, 1) := by decide +kernel
theorem d_Law_law_174 : decode code 174 = .ok (.iconst 2, 1) := by decide +kernel
theorem d_Law_law_175 : decode code 175 = .ok (.iadd, 1) := by decide +kernel
theorem d_Law_law_176 : decode code 176 = .ok (.iaload, 1) := by decide +kernel
theorem d_Law_law_177 : decode code 177 = .ok (.invokevirtual 22, 3) := by decide +kernel
theorem d_Law_law_180 : decode code 180 = .ok (.aload_n 2, 1) := by decide +kernel
theorem d_Law_law_181 : decode code 181 = .ok (.aload_n 0, 1) := by decide +kernel
theorem d_Law_law_182 : decode code 182 = .ok (.iload_n 3, 1) := by decide +kernel
theorem d_Law_law_183 : decode code 183 = .ok (.iconst 1, 1) := by decide +kernel
theorem d_Law_law_184 : decode code 184 = .ok (.iadd, 1) := by decide +kernel
theorem d_Law_law_185 : decode code 185 = .ok (.iaload, 1) := by decide +kernel
theorem d_Law_law_186 : decode code 186 = .ok (.aload_n 0, 1) := by decide +kernel
theorem d_Law_law_187 : decode code 187 = .ok (.iload_n 3, 1) := by decide +kernel
theorem d_Law_law_188 : decode code 188 = .ok (.iconst 2, 1) := by decide +kernel
theorem d_Law_law_189 : decode code 189 = .ok (.iadd, 1) := by decide +kernel
theorem d_Law_law_190 : decode code 190 = .ok (.iaload, 1) := by decide +kernel
theorem d_Law_law_191 : decode code 191 = .ok (.invokevirtual 26, 3) := by decide +kernel
theorem d_Law_law_194 : decode code 194 = .ok (.if_icmp .eq 494, 3) := by decide +kernel
theorem d_Law_law_197 : decode code 197 = .ok (.iconst 0, 1) := by decide +kernel
theorem d_Law_law_198 : decode code 198 = .ok (.ireturn, 1) := by decide +kernel
theorem d_Law_law_199 : decode code 199 = .ok (.aload_n 1, 1) := by decide +kernel
theorem d_Law_law_200 : decode code 200 = .ok (.aload_n 0, 1) := by decide +kernel
theorem d_Law_law_201 : decode code 201 = .ok (.iload_n 3, 1) := by decide +kernel
theorem d_Law_law_202 : decode code 202 = .ok (.iconst 1, 1) := by decide +kernel
theorem d_Law_law_203 : decode code 203 = .ok (.iadd, 1) := by decide +kernel
theorem d_Law_law_204 : decode code 204 = .ok (.iaload, 1) := by decide +kernel
theorem d_Law_law_205 : decode code 205 = .ok (.aload_n 0, 1) := by decide +kernel
theorem d_Law_law_206 : decode code 206 = .ok (.iload_n 3, 1) := by decide +kernel
theorem d_Law_law_207 : decode code 207 = .ok (.iconst 2, 1) := by decide +kernel
theorem d_Law_law_208 : decode code 208 = .ok (.iadd, 1) := by decide +kernel
theorem d_Law_law_209 : decode code 209 = .ok (.iaload, 1) := by decide +kernel
theorem d_Law_law_210 : decode code 210 = .ok (.aload_n 0, 1) := by decide +kernel
theorem d_Law_law_211 : decode code 211 = .ok (.iload_n 3, 1) := by decide +kernel
theorem d_Law_law_212 : decode code 212 = .ok (.iconst 3, 1) := by decide +kernel
theorem d_Law_law_213 : decode code 213 = .ok (.iadd, 1) := by decide +kernel
theorem d_Law_law_214 : decode code 214 = .ok (.iaload, 1) := by decide +kernel
theorem d_Law_law_215 : decode code 215 = .ok (.aload_n 0, 1) := by decide +kernel
theorem d_Law_law_216 : decode code 216 = .ok (.iload_n 3, 1) := by decide +kernel
theorem d_Law_law_217 : decode code 217 = .ok (.iconst 4, 1) := by decide +kernel
theorem d_Law_law_218 : decode code 218 = .ok (.iadd, 1) := by decide +kernel
theorem d_Law_law_219 : decode code 219 = .ok (.iaload, 1) := by decide +kernel
theorem d_Law_law_220 : decode code 220 = .ok (.aload_n 0, 1) := by decide +kernel
theorem d_Law_law_221 : decode code 221 = .ok (.iload_n 3, 1) := by decide +kernel
theorem d_Law_law_222 : decode code 222 = .ok (.iconst 5, 1) := by decide +kernel
theorem d_Law_law_223 : decode code 223 = .ok (.iadd, 1) := by decide +kernel
theorem d_Law_law_224 : decode code 224 = .ok (.iaload, 1) := by decide +kernel
theorem d_Law_law_225 : decode code 225 = .ok (.aload_n 0, 1) := by decide +kernel
theorem d_Law_law_226 : decode code 226 = .ok (.iload_n 3, 1) := by decide +kernel
theorem d_Law_law_227 : decode code 227 = .ok (.bipush 6, 2) := by decide +kernel
theorem d_Law_law_229 : decode code 229 = .ok (.iadd, 1) := by decide +kernel
theorem d_Law_law_230 : decode code 230 = .ok (.iaload, 1) := by decide +kernel
theorem d_Law_law_231 : decode code 231 = .ok (.aload_n 0, 1) := by decide +kernel
theorem d_Law_law_232 : decode code 232 = .ok (.iload_n 3, 1) := by decide +kernel
theorem d_Law_law_233 : decode code 233 = .ok (.bipush 7, 2) := by decide +kernel
theorem d_Law_law_235 : decode code 235 = .ok (.iadd, 1) := by decide +kernel
theorem d_Law_law_236 : decode code 236 = .ok (.iaload, 1) := by decide +kernel
theorem d_Law_law_237 : decode code 237 = .ok (.invokevirtual 27, 3) := by decide +kernel
theorem d_Law_law_240 : decode code 240 = .ok (.aload_n 2, 1) := by decide +kernel
theorem d_Law_law_241 : decode code 241 = .ok (.aload_n 0, 1) := by decide +kernel
theorem d_Law_law_242 : decode code 242 = .ok (.iload_n 3, 1) := by decide +kernel
theorem d_Law_law_243 : decode code 243 = .ok (.iconst 1, 1) := by decide +kernel
theorem d_Law_law_244 : decode code 244 = .ok (.iadd, 1) := by decide +kernel
theorem d_Law_law_245 : decode code 245 = .ok (.iaload, 1) := by decide +kernel
theorem d_Law_law_246 : decode code 246 = .ok (.aload_n 0, 1) := by decide +kernel
theorem d_Law_law_247 : decode code 247 = .ok (.iload_n 3, 1) := by decide +kernel
theorem d_Law_law_248 : decode code 248 = .ok (.iconst 2, 1) := by decide +kernel
theorem d_Law_law_249 : decode code 249 = .ok (.iadd, 1) := by decide +kernel
theorem d_Law_law_250 : decode code 250 = .ok (.iaload, 1) := by decide +kernel
theorem d_Law_law_251 : decode code 251 = .ok (.aload_n 0, 1) := by decide +kernel
theorem d_Law_law_252 : decode code 252 = .ok (.iload_n 3, 1) := by decide +kernel
theorem d_Law_law_253 : decode code 253 = .ok (.iconst 3, 1) := by decide +kernel
theorem d_Law_law_254 : decode code 254 = .ok (.iadd, 1) := by decide +kernel
theorem d_Law_law_255 : decode code 255 = .ok (.iaload, 1) := by decide +kernel
theorem d_Law_law_256 : decode code 256 = .ok (.aload_n 0, 1) := by decide +kernel
theorem d_Law_law_257 : decode code 257 = .ok (.iload_n 3, 1) := by decide +kernel
theorem d_Law_law_258 : decode code 258 = .ok (.iconst 4, 1) := by decide +kernel
theorem d_Law_law_259 : decode code 259 = .ok (.iadd, 1) := by decide +kernel
theorem d_Law_law_260 : decode code 260 = .ok (.iaload, 1) := by decide +kernel
theorem d_Law_law_261 : decode code 261 = .ok (.aload_n 0, 1) := by decide +kernel
theorem d_Law_law_262 : decode code 262 = .ok (.iload_n 3, 1) := by decide +kernel
theorem d_Law_law_263 : decode code 263 = .ok (.iconst 5, 1) := by decide +kernel
theorem d_Law_law_264 : decode code 264 = .ok (.iadd, 1) := by decide +kernel
theorem d_Law_law_265 : decode code 265 = .ok (.iaload, 1) := by decide +kernel
theorem d_Law_law_266 : decode code 266 = .ok (.aload_n 0, 1) := by decide +kernel
theorem d_Law_law_267 : decode code 267 = .ok (.iload_n 3, 1) := by decide +kernel
theorem d_Law_law_268 : decode code 268 = .ok (.bipush 6, 2) := by decide +kernel
theorem d_Law_law_270 : decode code 270 = .ok (.iadd, 1) := by decide +kernel
theorem d_Law_law_271 : decode code 271 = .ok (.iaload, 1) := by decide +kernel
theorem d_Law_law_272 : decode code 272 = .ok (.aload_n 0, 1) := by decide +kernel
theorem d_Law_law_273 : decode code 273 = .ok (.iload_n 3, 1) := by decide +kernel
theorem d_Law_law_274 : decode code 274 = .ok (.bipush 7, 2) := by decide +kernel
theorem d_Law_law_276 : decode code 276 = .ok (.iadd, 1) := by decide +kernel
theorem d_Law_law_277 : decode code 277 = .ok (.iaload, 1) := by decide +kernel
theorem d_Law_law_278 : decode code 278 = .ok (.invokevirtual 31, 3) := by decide +kernel
theorem d_Law_law_281 : decode code 281 = .ok (.if_icmp .eq 407, 3) := by decide +kernel
theorem d_Law_law_284 : decode code 284 = .ok (.iconst 0, 1) := by decide +kernel
theorem d_Law_law_285 : decode code 285 = .ok (.ireturn, 1) := by decide +kernel
theorem d_Law_law_286 : decode code 286 = .ok (.aload_n 1, 1) := by decide +kernel
theorem d_Law_law_287 : decode code 287 = .ok (.aload_n 0, 1) := by decide +kernel
theorem d_Law_law_288 : decode code 288 = .ok (.iload_n 3, 1) := by decide +kernel
theorem d_Law_law_289 : decode code 289 = .ok (.iconst 1, 1) := by decide +kernel
theorem d_Law_law_290 : decode code 290 = .ok (.iadd, 1) := by decide +kernel
theorem d_Law_law_291 : decode code 291 = .ok (.iaload, 1) := by decide +kernel
theorem d_Law_law_292 : decode code 292 = .ok (.invokevirtual 32, 3) := by decide +kernel
theorem d_Law_law_295 : decode code 295 = .ok (.aload_n 2, 1) := by decide +kernel
theorem d_Law_law_296 : decode code 296 = .ok (.aload_n 0, 1) := by decide +kernel
theorem d_Law_law_297 : decode code 297 = .ok (.iload_n 3, 1) := by decide +kernel
theorem d_Law_law_298 : decode code 298 = .ok (.iconst 1, 1) := by decide +kernel
theorem d_Law_law_299 : decode code 299 = .ok (.iadd, 1) := by decide +kernel
theorem d_Law_law_300 : decode code 300 = .ok (.iaload, 1) := by decide +kernel
theorem d_Law_law_301 : decode code 301 = .ok (.invokevirtual 35, 3) := by decide +kernel
theorem d_Law_law_304 : decode code 304 = .ok (.if_icmp .eq 384, 3) := by decide +kernel
theorem d_Law_law_307 : decode code 307 = .ok (.iconst 0, 1) := by decide +kernel
theorem d_Law_law_308 : decode code 308 = .ok (.ireturn, 1) := by decide +kernel
theorem d_Law_law_309 : decode code 309 = .ok (.aload_n 1, 1) := by decide +kernel
theorem d_Law_law_310 : decode code 310 = .ok (.invokevirtual 36, 3) := by decide +kernel
theorem d_Law_law_313 : decode code 313 = .ok (.aload_n 2, 1) := by decide +kernel
theorem d_Law_law_314 : decode code 314 = .ok (.invokevirtual 40, 3) := by decide +kernel
theorem d_Law_law_317 : decode code 317 = .ok (.if_icmp .eq 371, 3) := by decide +kernel
theorem d_Law_law_320 : decode code 320 = .ok (.iconst 0, 1) := by decide +kernel
theorem d_Law_law_321 : decode code 321 = .ok (.ireturn, 1) := by decide +kernel
theorem d_Law_law_322 : decode code 322 = .ok (.aload_n 1, 1) := by decide +kernel
theorem d_Law_law_323 : decode code 323 = .ok (.aload_n 0, 1) := by decide +kernel
theorem d_Law_law_324 : decode code 324 = .ok (.iload_n 3, 1) := by decide +kernel
theorem d_Law_law_325 : decode code 325 = .ok (.iconst 1, 1) := by decide +kernel
theorem d_Law_law_326 : decode code 326 = .ok (.iadd, 1) := by decide +kernel
theorem d_Law_law_327 : decode code 327 = .ok (.iaload, 1) := by decide +kernel
theorem d_Law_law_328 : decode code 328 = .ok (.aload_n 0, 1) := by decide +kernel
theorem d_Law_law_329 : decode code 329 = .ok (.iload_n 3, 1) := by decide +kernel
theorem d_Law_law_330 : decode code 330 = .ok (.iconst 2, 1) := by decide +kernel
theorem d_Law_law_331 : decode code 331 = .ok (.iadd, 1) := by decide +kernel
theorem d_Law_law_332 : decode code 332 = .ok (.iaload, 1) := by decide +kernel
theorem d_Law_law_333 : decode code 333 = .ok (.aload_n 0, 1) := by decide +kernel
theorem d_Law_law_334 : decode code 334 = .ok (.iload_n 3, 1) := by decide +kernel
theorem d_Law_law_335 : decode code 335 = .ok (.iconst 3, 1) := by decide +kernel
theorem d_Law_law_336 : decode code 336 = .ok (.iadd, 1) := by decide +kernel
theorem d_Law_law_337 : decode code 337 = .ok (.iaload, 1) := by decide +kernel
theorem d_Law_law_338 : decode code 338 = .ok (.invokevirtual 41, 3) := by decide +kernel
theorem d_Law_law_341 : decode code 341 = .ok (.aload_n 2, 1) := by decide +kernel
theorem d_Law_law_342 : decode code 342 = .ok (.aload_n 0, 1) := by decide +kernel
theorem d_Law_law_343 : decode code 343 = .ok (.iload_n 3, 1) := by decide +kernel
theorem d_Law_law_344 : decode code 344 = .ok (.iconst 1, 1) := by decide +kernel
theorem d_Law_law_345 : decode code 345 = .ok (.iadd, 1) := by decide +kernel
theorem d_Law_law_346 : decode code 346 = .ok (.iaload, 1) := by decide +kernel
theorem d_Law_law_347 : decode code 347 = .ok (.aload_n 0, 1) := by decide +kernel
theorem d_Law_law_348 : decode code 348 = .ok (.iload_n 3, 1) := by decide +kernel
theorem d_Law_law_349 : decode code 349 = .ok (.iconst 2, 1) := by decide +kernel
theorem d_Law_law_350 : decode code 350 = .ok (.iadd, 1) := by decide +kernel
theorem d_Law_law_351 : decode code 351 = .ok (.iaload, 1) := by decide +kernel
theorem d_Law_law_352 : decode code 352 = .ok (.aload_n 0, 1) := by decide +kernel
theorem d_Law_law_353 : decode code 353 = .ok (.iload_n 3, 1) := by decide +kernel
theorem d_Law_law_354 : decode code 354 = .ok (.iconst 3, 1) := by decide +kernel
theorem d_Law_law_355 : decode code 355 = .ok (.iadd, 1) := by decide +kernel
theorem d_Law_law_356 : decode code 356 = .ok (.iaload, 1) := by decide +kernel
theorem d_Law_law_357 : decode code 357 = .ok (.invokevirtual 45, 3) := by decide +kernel
theorem d_Law_law_360 : decode code 360 = .ok (.if_icmp .eq 328, 3) := by decide +kernel
theorem d_Law_law_363 : decode code 363 = .ok (.iconst 0, 1) := by decide +kernel
theorem d_Law_law_364 : decode code 364 = .ok (.ireturn, 1) := by decide +kernel
theorem d_Law_law_365 : decode code 365 = .ok (.aload_n 1, 1) := by decide +kernel
theorem d_Law_law_366 : decode code 366 = .ok (.aload_n 0, 1) := by decide +kernel
theorem d_Law_law_367 : decode code 367 = .ok (.iload_n 3, 1) := by decide +kernel
theorem d_Law_law_368 : decode code 368 = .ok (.iconst 1, 1) := by decide +kernel
theorem d_Law_law_369 : decode code 369 = .ok (.iadd, 1) := by decide +kernel
theorem d_Law_law_370 : decode code 370 = .ok (.iaload, 1) := by decide +kernel
theorem d_Law_law_371 : decode code 371 = .ok (.aload_n 0, 1) := by decide +kernel
theorem d_Law_law_372 : decode code 372 = .ok (.iload_n 3, 1) := by decide +kernel
theorem d_Law_law_373 : decode code 373 = .ok (.iconst 2, 1) := by decide +kernel
theorem d_Law_law_374 : decode code 374 = .ok (.iadd, 1) := by decide +kernel
theorem d_Law_law_375 : decode code 375 = .ok (.iaload, 1) := by decide +kernel
theorem d_Law_law_376 : decode code 376 = .ok (.invokevirtual 46, 3) := by decide +kernel
theorem d_Law_law_379 : decode code 379 = .ok (.aload_n 2, 1) := by decide +kernel
theorem d_Law_law_380 : decode code 380 = .ok (.aload_n 0, 1) := by decide +kernel
theorem d_Law_law_381 : decode code 381 = .ok (.iload_n 3, 1) := by decide +kernel
theorem d_Law_law_382 : decode code 382 = .ok (.iconst 1, 1) := by decide +kernel
theorem d_Law_law_383 : decode code 383 = .ok (.iadd, 1) := by decide +kernel
theorem d_Law_law_384 : decode code 384 = .ok (.iaload, 1) := by decide +kernel
theorem d_Law_law_385 : decode code 385 = .ok (.aload_n 0, 1) := by decide +kernel
theorem d_Law_law_386 : decode code 386 = .ok (.iload_n 3, 1) := by decide +kernel
theorem d_Law_law_387 : decode code 387 = .ok (.iconst 2, 1) := by decide +kernel
theorem d_Law_law_388 : decode code 388 = .ok (.iadd, 1) := by decide +kernel
theorem d_Law_law_389 : decode code 389 = .ok (.iaload, 1) := by decide +kernel
theorem d_Law_law_390 : decode code 390 = .ok (.invokevirtual 49, 3) := by decide +kernel
theorem d_Law_law_393 : decode code 393 = .ok (.if_icmp .eq 295, 3) := by decide +kernel
theorem d_Law_law_396 : decode code 396 = .ok (.iconst 0, 1) := by decide +kernel
theorem d_Law_law_397 : decode code 397 = .ok (.ireturn, 1) := by decide +kernel
theorem d_Law_law_398 : decode code 398 = .ok (.aload_n 1, 1) := by decide +kernel
theorem d_Law_law_399 : decode code 399 = .ok (.aload_n 0, 1) := by decide +kernel
theorem d_Law_law_400 : decode code 400 = .ok (.iload_n 3, 1) := by decide +kernel
theorem d_Law_law_401 : decode code 401 = .ok (.iconst 1, 1) := by decide +kernel
theorem d_Law_law_402 : decode code 402 = .ok (.iadd, 1) := by decide +kernel
theorem d_Law_law_403 : decode code 403 = .ok (.iaload, 1) := by decide +kernel
theorem d_Law_law_404 : decode code 404 = .ok (.invokevirtual 50, 3) := by decide +kernel
theorem d_Law_law_407 : decode code 407 = .ok (.aload_n 2, 1) := by decide +kernel
theorem d_Law_law_408 : decode code 408 = .ok (.aload_n 0, 1) := by decide +kernel
theorem d_Law_law_409 : decode code 409 = .ok (.iload_n 3, 1) := by decide +kernel
theorem d_Law_law_410 : decode code 410 = .ok (.iconst 1, 1) := by decide +kernel
theorem d_Law_law_411 : decode code 411 = .ok (.iadd, 1) := by decide +kernel
theorem d_Law_law_412 : decode code 412 = .ok (.iaload, 1) := by decide +kernel
theorem d_Law_law_413 : decode code 413 = .ok (.invokevirtual 53, 3) := by decide +kernel
theorem d_Law_law_416 : decode code 416 = .ok (.if_icmp .eq 272, 3) := by decide +kernel
theorem d_Law_law_419 : decode code 419 = .ok (.iconst 0, 1) := by decide +kernel
theorem d_Law_law_420 : decode code 420 = .ok (.ireturn, 1) := by decide +kernel
theorem d_Law_law_421 : decode code 421 = .ok (.aload_n 1, 1) := by decide +kernel
theorem d_Law_law_422 : decode code 422 = .ok (.aload_n 0, 1) := by decide +kernel
theorem d_Law_law_423 : decode code 423 = .ok (.iload_n 3, 1) := by decide +kernel
theorem d_Law_law_424 : decode code 424 = .ok (.iconst 1, 1) := by decide +kernel
theorem d_Law_law_425 : decode code 425 = .ok (.iadd, 1) := by decide +kernel
theorem d_Law_law_426 : decode code 426 = .ok (.iaload, 1) := by decide +kernel
theorem d_Law_law_427 : decode code 427 = .ok (.invokevirtual 54, 3) := by decide +kernel
theorem d_Law_law_430 : decode code 430 = .ok (.aload_n 2, 1) := by decide +kernel
theorem d_Law_law_431 : decode code 431 = .ok (.aload_n 0, 1) := by decide +kernel
theorem d_Law_law_432 : decode code 432 = .ok (.iload_n 3, 1) := by decide +kernel
theorem d_Law_law_433 : decode code 433 = .ok (.iconst 1, 1) := by decide +kernel
theorem d_Law_law_434 : decode code 434 = .ok (.iadd, 1) := by decide +kernel
theorem d_Law_law_435 : decode code 435 = .ok (.iaload, 1) := by decide +kernel
theorem d_Law_law_436 : decode code 436 = .ok (.invokevirtual 57, 3) := by decide +kernel
theorem d_Law_law_439 : decode code 439 = .ok (.if_icmp .eq 249, 3) := by decide +kernel
theorem d_Law_law_442 : decode code 442 = .ok (.iconst 0, 1) := by decide +kernel
theorem d_Law_law_443 : decode code 443 = .ok (.ireturn, 1) := by decide +kernel
theorem d_Law_law_444 : decode code 444 = .ok (.aload_n 1, 1) := by decide +kernel
theorem d_Law_law_445 : decode code 445 = .ok (.aload_n 0, 1) := by decide +kernel
theorem d_Law_law_446 : decode code 446 = .ok (.iload_n 3, 1) := by decide +kernel
theorem d_Law_law_447 : decode code 447 = .ok (.iconst 1, 1) := by decide +kernel
theorem d_Law_law_448 : decode code 448 = .ok (.iadd, 1) := by decide +kernel
theorem d_Law_law_449 : decode code 449 = .ok (.iaload, 1) := by decide +kernel
theorem d_Law_law_450 : decode code 450 = .ok (.invokevirtual 58, 3) := by decide +kernel
theorem d_Law_law_453 : decode code 453 = .ok (.aload_n 2, 1) := by decide +kernel
theorem d_Law_law_454 : decode code 454 = .ok (.aload_n 0, 1) := by decide +kernel
theorem d_Law_law_455 : decode code 455 = .ok (.iload_n 3, 1) := by decide +kernel
theorem d_Law_law_456 : decode code 456 = .ok (.iconst 1, 1) := by decide +kernel
theorem d_Law_law_457 : decode code 457 = .ok (.iadd, 1) := by decide +kernel
theorem d_Law_law_458 : decode code 458 = .ok (.iaload, 1) := by decide +kernel
theorem d_Law_law_459 : decode code 459 = .ok (.invokevirtual 61, 3) := by decide +kernel
theorem d_Law_law_462 : decode code 462 = .ok (.if_icmp .eq 226, 3) := by decide +kernel
theorem d_Law_law_465 : decode code 465 = .ok (.iconst 0, 1) := by decide +kernel
theorem d_Law_law_466 : decode code 466 = .ok (.ireturn, 1) := by decide +kernel
theorem d_Law_law_467 : decode code 467 = .ok (.aload_n 1, 1) := by decide +kernel
theorem d_Law_law_468 : decode code 468 = .ok (.aload_n 0, 1) := by decide +kernel
theorem d_Law_law_469 : decode code 469 = .ok (.iload_n 3, 1) := by decide +kernel
theorem d_Law_law_470 : decode code 470 = .ok (.iconst 1, 1) := by decide +kernel
theorem d_Law_law_471 : decode code 471 = .ok (.iadd, 1) := by decide +kernel
theorem d_Law_law_472 : decode code 472 = .ok (.iaload, 1) := by decide +kernel
theorem d_Law_law_473 : decode code 473 = .ok (.invokevirtual 62, 3) := by decide +kernel
theorem d_Law_law_476 : decode code 476 = .ok (.aload_n 2, 1) := by decide +kernel
theorem d_Law_law_477 : decode code 477 = .ok (.aload_n 0, 1) := by decide +kernel
theorem d_Law_law_478 : decode code 478 = .ok (.iload_n 3, 1) := by decide +kernel
theorem d_Law_law_479 : decode code 479 = .ok (.iconst 1, 1) := by decide +kernel
theorem d_Law_law_480 : decode code 480 = .ok (.iadd, 1) := by decide +kernel
theorem d_Law_law_481 : decode code 481 = .ok (.iaload, 1) := by decide +kernel
theorem d_Law_law_482 : decode code 482 = .ok (.invokevirtual 65, 3) := by decide +kernel
theorem d_Law_law_485 : decode code 485 = .ok (.if_icmp .eq 203, 3) := by decide +kernel
theorem d_Law_law_488 : decode code 488 = .ok (.iconst 0, 1) := by decide +kernel
theorem d_Law_law_489 : decode code 489 = .ok (.ireturn, 1) := by decide +kernel
theorem d_Law_law_490 : decode code 490 = .ok (.aload_n 1, 1) := by decide +kernel
theorem d_Law_law_491 : decode code 491 = .ok (.aload_n 0, 1) := by decide +kernel
theorem d_Law_law_492 : decode code 492 = .ok (.iload_n 3, 1) := by decide +kernel
theorem d_Law_law_493 : decode code 493 = .ok (.iconst 1, 1) := by decide +kernel
theorem d_Law_law_494 : decode code 494 = .ok (.iadd, 1) := by decide +kernel
theorem d_Law_law_495 : decode code 495 = .ok (.iaload, 1) := by decide +kernel
theorem d_Law_law_496 : decode code 496 = .ok (.aload_n 0, 1) := by decide +kernel
theorem d_Law_law_497 : decode code 497 = .ok (.iload_n 3, 1) := by decide +kernel
theorem d_Law_law_498 : decode code 498 = .ok (.iconst 2, 1) := by decide +kernel
theorem d_Law_law_499 : decode code 499 = .ok (.iadd, 1) := by decide +kernel
theorem d_Law_law_500 : decode code 500 = .ok (.iaload, 1) := by decide +kernel
theorem d_Law_law_501 : decode code 501 = .ok (.aload_n 0, 1) := by decide +kernel
theorem d_Law_law_502 : decode code 502 = .ok (.iload_n 3, 1) := by decide +kernel
theorem d_Law_law_503 : decode code 503 = .ok (.iconst 3, 1) := by decide +kernel
theorem d_Law_law_504 : decode code 504 = .ok (.iadd, 1) := by decide +kernel
theorem d_Law_law_505 : decode code 505 = .ok (.iaload, 1) := by decide +kernel
theorem d_Law_law_506 : decode code 506 = .ok (.aload_n 0, 1) := by decide +kernel
theorem d_Law_law_507 : decode code 507 = .ok (.iload_n 3, 1) := by decide +kernel
theorem d_Law_law_508 : decode code 508 = .ok (.iconst 4, 1) := by decide +kernel
theorem d_Law_law_509 : decode code 509 = .ok (.iadd, 1) := by decide +kernel
theorem d_Law_law_510 : decode code 510 = .ok (.iaload, 1) := by decide +kernel
theorem d_Law_law_511 : decode code 511 = .ok (.invokevirtual 66, 3) := by decide +kernel
theorem d_Law_law_514 : decode code 514 = .ok (.aload_n 2, 1) := by decide +kernel
theorem d_Law_law_515 : decode code 515 = .ok (.aload_n 0, 1) := by decide +kernel
theorem d_Law_law_516 : decode code 516 = .ok (.iload_n 3, 1) := by decide +kernel
theorem d_Law_law_517 : decode code 517 = .ok (.iconst 1, 1) := by decide +kernel
theorem d_Law_law_518 : decode code 518 = .ok (.iadd, 1) := by decide +kernel
theorem d_Law_law_519 : decode code 519 = .ok (.iaload, 1) := by decide +kernel
theorem d_Law_law_520 : decode code 520 = .ok (.aload_n 0, 1) := by decide +kernel
theorem d_Law_law_521 : decode code 521 = .ok (.iload_n 3, 1) := by decide +kernel
theorem d_Law_law_522 : decode code 522 = .ok (.iconst 2, 1) := by decide +kernel
theorem d_Law_law_523 : decode code 523 = .ok (.iadd, 1) := by decide +kernel
theorem d_Law_law_524 : decode code 524 = .ok (.iaload, 1) := by decide +kernel
theorem d_Law_law_525 : decode code 525 = .ok (.aload_n 0, 1) := by decide +kernel
theorem d_Law_law_526 : decode code 526 = .ok (.iload_n 3, 1) := by decide +kernel
theorem d_Law_law_527 : decode code 527 = .ok (.iconst 3, 1) := by decide +kernel
theorem d_Law_law_528 : decode code 528 = .ok (.iadd, 1) := by decide +kernel
theorem d_Law_law_529 : decode code 529 = .ok (.iaload, 1) := by decide +kernel
theorem d_Law_law_530 : decode code 530 = .ok (.aload_n 0, 1) := by decide +kernel
theorem d_Law_law_531 : decode code 531 = .ok (.iload_n 3, 1) := by decide +kernel
theorem d_Law_law_532 : decode code 532 = .ok (.iconst 4, 1) := by decide +kernel
theorem d_Law_law_533 : decode code 533 = .ok (.iadd, 1) := by decide +kernel
theorem d_Law_law_534 : decode code 534 = .ok (.iaload, 1) := by decide +kernel
theorem d_Law_law_535 : decode code 535 = .ok (.invokevirtual 70, 3) := by decide +kernel
theorem d_Law_law_538 : decode code 538 = .ok (.if_icmp .eq 150, 3) := by decide +kernel
theorem d_Law_law_541 : decode code 541 = .ok (.iconst 0, 1) := by decide +kernel
theorem d_Law_law_542 : decode code 542 = .ok (.ireturn, 1) := by decide +kernel
theorem d_Law_law_543 : decode code 543 = .ok (.aload_n 1, 1) := by decide +kernel
theorem d_Law_law_544 : decode code 544 = .ok (.invokevirtual 71, 3) := by decide +kernel
theorem d_Law_law_547 : decode code 547 = .ok (.aload_n 2, 1) := by decide +kernel
theorem d_Law_law_548 : decode code 548 = .ok (.invokevirtual 74, 3) := by decide +kernel
theorem d_Law_law_551 : decode code 551 = .ok (.if_icmp .eq 137, 3) := by decide +kernel
theorem d_Law_law_554 : decode code 554 = .ok (.iconst 0, 1) := by decide +kernel
theorem d_Law_law_555 : decode code 555 = .ok (.ireturn, 1) := by decide +kernel
theorem d_Law_law_556 : decode code 556 = .ok (.aload_n 1, 1) := by decide +kernel
theorem d_Law_law_557 : decode code 557 = .ok (.aload_n 0, 1) := by decide +kernel
theorem d_Law_law_558 : decode code 558 = .ok (.iload_n 3, 1) := by decide +kernel
theorem d_Law_law_559 : decode code 559 = .ok (.iconst 1, 1) := by decide +kernel
theorem d_Law_law_560 : decode code 560 = .ok (.iadd, 1) := by decide +kernel
theorem d_Law_law_561 : decode code 561 = .ok (.iaload, 1) := by decide +kernel
theorem d_Law_law_562 : decode code 562 = .ok (.aload_n 0, 1) := by decide +kernel
theorem d_Law_law_563 : decode code 563 = .ok (.iload_n 3, 1) := by decide +kernel
theorem d_Law_law_564 : decode code 564 = .ok (.iconst 2, 1) := by decide +kernel
theorem d_Law_law_565 : decode code 565 = .ok (.iadd, 1) := by decide +kernel
theorem d_Law_law_566 : decode code 566 = .ok (.iaload, 1) := by decide +kernel
theorem d_Law_law_567 : decode code 567 = .ok (.aload_n 0, 1) := by decide +kernel
theorem d_Law_law_568 : decode code 568 = .ok (.iload_n 3, 1) := by decide +kernel
theorem d_Law_law_569 : decode code 569 = .ok (.iconst 3, 1) := by decide +kernel
theorem d_Law_law_570 : decode code 570 = .ok (.iadd, 1) := by decide +kernel
theorem d_Law_law_571 : decode code 571 = .ok (.iaload, 1) := by decide +kernel
theorem d_Law_law_572 : decode code 572 = .ok (.invokevirtual 75, 3) := by decide +kernel
theorem d_Law_law_575 : decode code 575 = .ok (.aload_n 2, 1) := by decide +kernel
theorem d_Law_law_576 : decode code 576 = .ok (.aload_n 0, 1) := by decide +kernel
theorem d_Law_law_577 : decode code 577 = .ok (.iload_n 3, 1) := by decide +kernel
theorem d_Law_law_578 : decode code 578 = .ok (.iconst 1, 1) := by decide +kernel
theorem d_Law_law_579 : decode code 579 = .ok (.iadd, 1) := by decide +kernel
theorem d_Law_law_580 : decode code 580 = .ok (.iaload, 1) := by decide +kernel
theorem d_Law_law_581 : decode code 581 = .ok (.aload_n 0, 1) := by decide +kernel
theorem d_Law_law_582 : decode code 582 = .ok (.iload_n 3, 1) := by decide +kernel
theorem d_Law_law_583 : decode code 583 = .ok (.iconst 2, 1) := by decide +kernel
theorem d_Law_law_584 : decode code 584 = .ok (.iadd, 1) := by decide +kernel
theorem d_Law_law_585 : decode code 585 = .ok (.iaload, 1) := by decide +kernel
theorem d_Law_law_586 : decode code 586 = .ok (.aload_n 0, 1) := by decide +kernel
theorem d_Law_law_587 : decode code 587 = .ok (.iload_n 3, 1) := by decide +kernel
theorem d_Law_law_588 : decode code 588 = .ok (.iconst 3, 1) := by decide +kernel
theorem d_Law_law_589 : decode code 589 = .ok (.iadd, 1) := by decide +kernel
theorem d_Law_law_590 : decode code 590 = .ok (.iaload, 1) := by decide +kernel
theorem d_Law_law_591 : decode code 591 = .ok (.invokevirtual 78, 3) := by decide +kernel
theorem d_Law_law_594 : decode code 594 = .ok (.if_icmp .eq 94, 3) := by decide +kernel
theorem d_Law_law_597 : decode code 597 = .ok (.iconst 0, 1) := by decide +kernel
theorem d_Law_law_598 : decode code 598 = .ok (.ireturn, 1) := by decide +kernel
theorem d_Law_law_599 : decode code 599 = .ok (.aload_n 1, 1) := by decide +kernel
theorem d_Law_law_600 : decode code 600 = .ok (.aload_n 0, 1) := by decide +kernel
theorem d_Law_law_601 : decode code 601 = .ok (.iload_n 3, 1) := by decide +kernel
theorem d_Law_law_602 : decode code 602 = .ok (.iconst 1, 1) := by decide +kernel
theorem d_Law_law_603 : decode code 603 = .ok (.iadd, 1) := by decide +kernel
theorem d_Law_law_604 : decode code 604 = .ok (.iaload, 1) := by decide +kernel
theorem d_Law_law_605 : decode code 605 = .ok (.aload_n 0, 1) := by decide +kernel
theorem d_Law_law_606 : decode code 606 = .ok (.iload_n 3, 1) := by decide +kernel
theorem d_Law_law_607 : decode code 607 = .ok (.iconst 2, 1) := by decide +kernel
theorem d_Law_law_608 : decode code 608 = .ok (.iadd, 1) := by decide +kernel
theorem d_Law_law_609 : decode code 609 = .ok (.iaload, 1) := by decide +kernel
theorem d_Law_law_610 : decode code 610 = .ok (.invokevirtual 79, 3) := by decide +kernel
theorem d_Law_law_613 : decode code 613 = .ok (.aload_n 2, 1) := by decide +kernel
theorem d_Law_law_614 : decode code 614 = .ok (.aload_n 0, 1) := by decide +kernel
theorem d_Law_law_615 : decode code 615 = .ok (.iload_n 3, 1) := by decide +kernel
theorem d_Law_law_616 : decode code 616 = .ok (.iconst 1, 1) := by decide +kernel
theorem d_Law_law_617 : decode code 617 = .ok (.iadd, 1) := by decide +kernel
theorem d_Law_law_618 : decode code 618 = .ok (.iaload, 1) := by decide +kernel
theorem d_Law_law_619 : decode code 619 = .ok (.aload_n 0, 1) := by decide +kernel
theorem d_Law_law_620 : decode code 620 = .ok (.iload_n 3, 1) := by decide +kernel
theorem d_Law_law_621 : decode code 621 = .ok (.iconst 2, 1) := by decide +kernel
theorem d_Law_law_622 : decode code 622 = .ok (.iadd, 1) := by decide +kernel
theorem d_Law_law_623 : decode code 623 = .ok (.iaload, 1) := by decide +kernel
theorem d_Law_law_624 : decode code 624 = .ok (.invokevirtual 82, 3) := by decide +kernel
theorem d_Law_law_627 : decode code 627 = .ok (.if_icmp .eq 61, 3) := by decide +kernel
theorem d_Law_law_630 : decode code 630 = .ok (.iconst 0, 1) := by decide +kernel
theorem d_Law_law_631 : decode code 631 = .ok (.ireturn, 1) := by decide +kernel
theorem d_Law_law_632 : decode code 632 = .ok (.aload_n 1, 1) := by decide +kernel
theorem d_Law_law_633 : decode code 633 = .ok (.aload_n 0, 1) := by decide +kernel
theorem d_Law_law_634 : decode code 634 = .ok (.iload_n 3, 1) := by decide +kernel
theorem d_Law_law_635 : decode code 635 = .ok (.iconst 1, 1) := by decide +kernel
theorem d_Law_law_636 : decode code 636 = .ok (.iadd, 1) := by decide +kernel
theorem d_Law_law_637 : decode code 637 = .ok (.iaload, 1) := by decide +kernel
theorem d_Law_law_638 : decode code 638 = .ok (.aload_n 0, 1) := by decide +kernel
theorem d_Law_law_639 : decode code 639 = .ok (.iload_n 3, 1) := by decide +kernel
theorem d_Law_law_640 : decode code 640 = .ok (.iconst 2, 1) := by decide +kernel
theorem d_Law_law_641 : decode code 641 = .ok (.iadd, 1) := by decide +kernel
theorem d_Law_law_642 : decode code 642 = .ok (.iaload, 1) := by decide +kernel
theorem d_Law_law_643 : decode code 643 = .ok (.invokevirtual 83, 3) := by decide +kernel
theorem d_Law_law_646 : decode code 646 = .ok (.aload_n 2, 1) := by decide +kernel
theorem d_Law_law_647 : decode code 647 = .ok (.aload_n 0, 1) := by decide +kernel
theorem d_Law_law_648 : decode code 648 = .ok (.iload_n 3, 1) := by decide +kernel
theorem d_Law_law_649 : decode code 649 = .ok (.iconst 1, 1) := by decide +kernel
theorem d_Law_law_650 : decode code 650 = .ok (.iadd, 1) := by decide +kernel
theorem d_Law_law_651 : decode code 651 = .ok (.iaload, 1) := by decide +kernel
theorem d_Law_law_652 : decode code 652 = .ok (.aload_n 0, 1) := by decide +kernel
theorem d_Law_law_653 : decode code 653 = .ok (.iload_n 3, 1) := by decide +kernel
theorem d_Law_law_654 : decode code 654 = .ok (.iconst 2, 1) := by decide +kernel
theorem d_Law_law_655 : decode code 655 = .ok (.iadd, 1) := by decide +kernel
theorem d_Law_law_656 : decode code 656 = .ok (.iaload, 1) := by decide +kernel
theorem d_Law_law_657 : decode code 657 = .ok (.invokevirtual 86, 3) := by decide +kernel
theorem d_Law_law_660 : decode code 660 = .ok (.if_icmp .eq 28, 3) := by decide +kernel
theorem d_Law_law_663 : decode code 663 = .ok (.iconst 0, 1) := by decide +kernel
theorem d_Law_law_664 : decode code 664 = .ok (.ireturn, 1) := by decide +kernel
theorem d_Law_law_665 : decode code 665 = .ok (.aload_n 1, 1) := by decide +kernel
theorem d_Law_law_666 : decode code 666 = .ok (.aload_n 0, 1) := by decide +kernel
theorem d_Law_law_667 : decode code 667 = .ok (.iload_n 3, 1) := by decide +kernel
theorem d_Law_law_668 : decode code 668 = .ok (.iconst 1, 1) := by decide +kernel
theorem d_Law_law_669 : decode code 669 = .ok (.iadd, 1) := by decide +kernel
theorem d_Law_law_670 : decode code 670 = .ok (.iaload, 1) := by decide +kernel
theorem d_Law_law_671 : decode code 671 = .ok (.invokevirtual 87, 3) := by decide +kernel
theorem d_Law_law_674 : decode code 674 = .ok (.aload_n 2, 1) := by decide +kernel
theorem d_Law_law_675 : decode code 675 = .ok (.aload_n 0, 1) := by decide +kernel
theorem d_Law_law_676 : decode code 676 = .ok (.iload_n 3, 1) := by decide +kernel
theorem d_Law_law_677 : decode code 677 = .ok (.iconst 1, 1) := by decide +kernel
theorem d_Law_law_678 : decode code 678 = .ok (.iadd, 1) := by decide +kernel
theorem d_Law_law_679 : decode code 679 = .ok (.iaload, 1) := by decide +kernel
theorem d_Law_law_680 : decode code 680 = .ok (.invokevirtual 90, 3) := by decide +kernel
theorem d_Law_law_683 : decode code 683 = .ok (.if_icmp .eq 5, 3) := by decide +kernel
theorem d_Law_law_686 : decode code 686 = .ok (.iconst 0, 1) := by decide +kernel
theorem d_Law_law_687 : decode code 687 = .ok (.ireturn, 1) := by decide +kernel
theorem d_Law_law_688 : decode code 688 = .ok (.iinc 3 8, 3) := by decide +kernel
theorem d_Law_law_691 : decode code 691 = .ok (.goto (-673), 3) := by decide +kernel
theorem d_Law_law_694 : decode code 694 = .ok (.iconst 1, 1) := by decide +kernel
theorem d_Law_law_695 : decode code 695 = .ok (.ireturn, 1) := by decide +kernel
