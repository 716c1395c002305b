/-! the component and its program -/
set_option maxRecDepth 100000
set_option maxHeartbeats 4000000 in
set_option maxRecDepth 100000 in
theorem cm_ruact (dd : ClassId × ClassId × ClassId) (h : Nat → Nat) (ex : va_W) (S : XS)  {P : PA} {cd sz : Nat → Int32} {ex0 : va_W} (hex : ex = pW dd.2.2 h P cd sz ++ ex0) (hp : pOK P sz) (ht : vp_in (S.2 0 0) 16) (hi : vp_in (S.1 9) (ix (sz (ix (S.2 0 0))))) (hcd : S.2 12 = cd) (hr : runOk S) : Cx dd yX10_act cX10_act 3 none 5 cG [.ref (h 8)] h ex S none (g_run S) := by
  refine Cx.introE (by decide) (by simp [Value.category]) (Nat.le_of_ble_eq_true rfl) (fun K e o r hk => ?_)
  subst e
  have o : Y K cX10_act RX10 3 5 := o
  have hI := p_hI hex hp ht hi hcd
  have hw := hr.2.2.1
  have hpo : pOk 38 (xs S 9 (S.1 9 + 1)) := hr.2.1
  have hq : ∀ b, vp_in b 2 → vp_in (f_see (xs S 9 (S.1 9 + 1)) (56 + 6 * b)) 4 := hr.2.2.2
  refine y_aload o dX10_act_0 rfl ?_
  refine y_callVr o kX10_44 tr_X10 hk (cm_instr _ h ex _ (hex) (hp) (ht) (hi)) (by decide) rfl rfl (Nat.le_of_ble_eq_true rfl) dX10_act_1 ?_
  refine y_astore o dX10_act_4 (by decide) (Nat.le_of_ble_eq_true rfl) ?_
  refine y_aload o dX10_act_5 rfl ?_
  refine y_getr o tgX10_18 dX10_act_6 ?_
  refine y_getr o tgX10_54 dX10_act_9 ?_
  refine y_astore o dX10_act_12 (by decide) (Nat.le_of_ble_eq_true rfl) ?_
  refine y_aload o dX10_act_13 rfl ?_
  refine y_dup o dX10_act_14 rfl ?_
  refine y_get o tgX10_9 dX10_act_15 ?_
  refine y_const o dX10_act_18 ?_
  refine y_iadd o dX10_act_19 ?_
  refine y_put o tpX10_9 dX10_act_20 ?_
  refine y_aload o dX10_act_23 rfl ?_
  refine y_getM o iFX10_57 (List.mem_append_right _ hI) rfl dX10_act_24 ?_
  refine y_top o (fun x27 ex27 => ?_)
  rcases (show x27.toInt < 0 ∨ x27.toInt = 0 ∨ x27.toInt = 1 ∨ x27.toInt = 2 ∨ x27.toInt = 3 ∨ x27.toInt = 4 ∨ x27.toInt = 5 ∨ x27.toInt = 6 ∨ x27.toInt = 7 ∨ x27.toInt = 8 ∨ x27.toInt = 9 ∨ x27.toInt = 10 ∨ x27.toInt = 11 ∨ x27.toInt = 12 ∨ x27.toInt = 13 ∨ x27.toInt = 14 ∨ x27.toInt = 15 ∨ x27.toInt = 16 ∨ 16 < x27.toInt by omega) with c27 | c27 | c27 | c27 | c27 | c27 | c27 | c27 | c27 | c27 | c27 | c27 | c27 | c27 | c27 | c27 | c27 | c27 | c27
  · skip
    refine y_swd o dX10_act_27_d (Or.inl c27) ?_
    rw [ex27] at c27
    refine y_aload o dX10_act_483 rfl ?_
    refine y_get o tgX10_15 dX10_act_484 ?_
    refine y_const o dX10_act_487 ?_
    refine y_icmp_eq o dX10_act_488 (fun c488 => ?_) (fun c488 => ?_)
    · skip
      exact x_vret o r dX10_act_514 (by unfold g_run; rw [g_act_out (by omega)]; simp only [if_true, if_false, ix, g_bound, eq_true c488] <;> rfl)
    · skip
      refine y_aload o dX10_act_491 rfl ?_
      refine y_getr o tgX10_18 dX10_act_492 ?_
      refine y_get o tgX10_105 dX10_act_495 ?_
      refine y_aload o dX10_act_498 rfl ?_
      refine y_get o tgX10_15 dX10_act_499 ?_
      refine y_isub o dX10_act_502 ?_
      refine y_aload o dX10_act_503 rfl ?_
      refine y_getM o iFX10_64 (List.mem_append_right _ hI) rfl dX10_act_504 ?_
      refine y_icmp_le o dX10_act_507 (fun c507 => ?_) (fun c507 => ?_)
      · skip
        exact x_vret o r dX10_act_514 (by unfold g_run; rw [g_act_out (by omega)]; simp only [if_true, if_false, ix, g_bound, eq_false c488, eq_true c507] <;> rfl)
      · skip
        refine y_aload o dX10_act_510 rfl ?_
        refine y_callVv o kX10_108 tr_X10 hk (cm_aband _ h ex _ ) (by decide) rfl rfl (Nat.le_of_ble_eq_true rfl) dX10_act_511 ?_
        exact x_vret o r dX10_act_514 (by unfold g_run; rw [g_act_out (by omega)]; simp only [if_true, if_false, ix, g_bound, eq_false c488, eq_false c507] <;> rfl)
  · skip
    refine y_sw o dX10_act_27_c0 c27 ?_
    have c27 : x27 = 0 := Int32.toInt_inj.mp c27
    rw [ex27] at c27
    refine y_aload o dX10_act_108 rfl ?_
    refine y_getr o tgX10_18 dX10_act_109 ?_
    refine y_getr o tgX10_60 dX10_act_112 ?_
    refine y_aload o dX10_act_115 rfl ?_
    refine y_getM o iFX10_64 (List.mem_append_right _ hI) rfl dX10_act_116 ?_
    refine y_callVv o kX10_67 tr_X11 hk (cm_cbegin _ h ex _ _ (hpo)) (by decide) rfl rfl (Nat.le_of_ble_eq_true rfl) dX10_act_119 ?_
    refine y_goto o dX10_act_122 ?_
    exact x_vret o r dX10_act_514 (by simp (decide := true) only [if_true, if_false, ix, g_run, g_act, c27, f_rw] <;> rfl)
  · skip
    refine y_sw o dX10_act_27_c1 c27 ?_
    have c27 : x27 = 1 := Int32.toInt_inj.mp c27
    rw [ex27] at c27
    refine y_aload o dX10_act_125 rfl ?_
    refine y_aload o dX10_act_126 rfl ?_
    refine y_getM o iFX10_64 (List.mem_append_right _ hI) rfl dX10_act_127 ?_
    refine y_aload o dX10_act_130 rfl ?_
    refine y_getM o iFX10_73 (List.mem_append_right _ hI) rfl dX10_act_131 ?_
    refine y_const o dX10_act_134 ?_
    refine y_ishl o dX10_act_136 ?_
    refine y_aload o dX10_act_137 rfl ?_
    refine y_getM o iFX10_76 (List.mem_append_right _ hI) rfl dX10_act_138 ?_
    refine y_ior o dX10_act_141 ?_
    refine y_i2s o dX10_act_142 ?_
    refine y_iast o ta_registers dX10_act_143 (w_a hw (by rw [c27]; decide)) ?_
    refine y_goto o dX10_act_144 ?_
    exact x_vret o r dX10_act_514 (by simp (decide := true) only [if_true, if_false, ix, g_run, g_act, c27, f_rw] <;> rfl)
  · skip
    refine y_sw o dX10_act_27_c2 c27 ?_
    have c27 : x27 = 2 := Int32.toInt_inj.mp c27
    rw [ex27] at c27
    refine y_aload o dX10_act_147 rfl ?_
    refine y_aload o dX10_act_148 rfl ?_
    refine y_getM o iFX10_64 (List.mem_append_right _ hI) rfl dX10_act_149 ?_
    refine y_aload o dX10_act_152 rfl ?_
    refine y_aload o dX10_act_153 rfl ?_
    refine y_getM o iFX10_73 (List.mem_append_right _ hI) rfl dX10_act_154 ?_
    refine y_iald o ta_registers dX10_act_157 (w_b8 hw (by rw [c27]; decide)) ?_
    refine y_aload o dX10_act_158 rfl ?_
    refine y_aload o dX10_act_159 rfl ?_
    refine y_getM o iFX10_76 (List.mem_append_right _ hI) rfl dX10_act_160 ?_
    refine y_iald o ta_registers dX10_act_163 (w_c hw (by rw [c27]; decide)) ?_
    refine y_iadd o dX10_act_164 ?_
    refine y_iast o ta_registers dX10_act_165 (w_a hw (by rw [c27]; decide)) ?_
    refine y_goto o dX10_act_166 ?_
    exact x_vret o r dX10_act_514 (by simp (decide := true) only [if_true, if_false, ix, g_run, g_act, c27, f_rw] <;> rfl)
  · skip
    refine y_sw o dX10_act_27_c3 c27 ?_
    have c27 : x27 = 3 := Int32.toInt_inj.mp c27
    rw [ex27] at c27
    refine y_aload o dX10_act_169 rfl ?_
    refine y_aload o dX10_act_170 rfl ?_
    refine y_getM o iFX10_64 (List.mem_append_right _ hI) rfl dX10_act_171 ?_
    refine y_aload o dX10_act_174 rfl ?_
    refine y_aload o dX10_act_175 rfl ?_
    refine y_getM o iFX10_73 (List.mem_append_right _ hI) rfl dX10_act_176 ?_
    refine y_iald o ta_registers dX10_act_179 (w_b8 hw (by rw [c27]; decide)) ?_
    refine y_aload o dX10_act_180 rfl ?_
    refine y_aload o dX10_act_181 rfl ?_
    refine y_getM o iFX10_76 (List.mem_append_right _ hI) rfl dX10_act_182 ?_
    refine y_iald o ta_registers dX10_act_185 (w_c hw (by rw [c27]; decide)) ?_
    refine y_isub o dX10_act_186 ?_
    refine y_iast o ta_registers dX10_act_187 (w_a hw (by rw [c27]; decide)) ?_
    refine y_goto o dX10_act_188 ?_
    exact x_vret o r dX10_act_514 (by simp (decide := true) only [if_true, if_false, ix, g_run, g_act, c27, f_rw] <;> rfl)
  · skip
    refine y_sw o dX10_act_27_c4 c27 ?_
    have c27 : x27 = 4 := Int32.toInt_inj.mp c27
    rw [ex27] at c27
    refine y_aload o dX10_act_191 rfl ?_
    refine y_aload o dX10_act_192 rfl ?_
    refine y_getM o iFX10_64 (List.mem_append_right _ hI) rfl dX10_act_193 ?_
    refine y_aload o dX10_act_196 rfl ?_
    refine y_aload o dX10_act_197 rfl ?_
    refine y_getM o iFX10_73 (List.mem_append_right _ hI) rfl dX10_act_198 ?_
    refine y_iald o ta_registers dX10_act_201 (w_b8 hw (by rw [c27]; decide)) ?_
    refine y_aload o dX10_act_202 rfl ?_
    refine y_aload o dX10_act_203 rfl ?_
    refine y_getM o iFX10_76 (List.mem_append_right _ hI) rfl dX10_act_204 ?_
    refine y_iald o ta_registers dX10_act_207 (w_c hw (by rw [c27]; decide)) ?_
    refine y_imul o dX10_act_208 ?_
    refine y_iast o ta_registers dX10_act_209 (w_a hw (by rw [c27]; decide)) ?_
    refine y_goto o dX10_act_210 ?_
    exact x_vret o r dX10_act_514 (by simp (decide := true) only [if_true, if_false, ix, g_run, g_act, c27, f_rw] <;> rfl)
  · skip
    refine y_sw o dX10_act_27_c5 c27 ?_
    have c27 : x27 = 5 := Int32.toInt_inj.mp c27
    rw [ex27] at c27
    refine y_aload o dX10_act_213 rfl ?_
    refine y_aload o dX10_act_214 rfl ?_
    refine y_getM o iFX10_64 (List.mem_append_right _ hI) rfl dX10_act_215 ?_
    refine y_aload o dX10_act_218 rfl ?_
    refine y_aload o dX10_act_219 rfl ?_
    refine y_getM o iFX10_73 (List.mem_append_right _ hI) rfl dX10_act_220 ?_
    refine y_iald o ta_registers dX10_act_223 (w_b8 hw (by rw [c27]; decide)) ?_
    refine y_aload o dX10_act_224 rfl ?_
    refine y_aload o dX10_act_225 rfl ?_
    refine y_getM o iFX10_76 (List.mem_append_right _ hI) rfl dX10_act_226 ?_
    refine y_iald o ta_registers dX10_act_229 (w_c hw (by rw [c27]; decide)) ?_
    refine y_ixor o dX10_act_230 ?_
    refine y_iast o ta_registers dX10_act_231 (w_a hw (by rw [c27]; decide)) ?_
    refine y_goto o dX10_act_232 ?_
    exact x_vret o r dX10_act_514 (by simp (decide := true) only [if_true, if_false, ix, g_run, g_act, c27, f_rw] <;> rfl)
  · skip
    refine y_sw o dX10_act_27_c6 c27 ?_
    have c27 : x27 = 6 := Int32.toInt_inj.mp c27
    rw [ex27] at c27
    refine y_aload o dX10_act_235 rfl ?_
    refine y_aload o dX10_act_236 rfl ?_
    refine y_aload o dX10_act_237 rfl ?_
    refine y_getM o iFX10_64 (List.mem_append_right _ hI) rfl dX10_act_238 ?_
    refine y_iald o ta_registers dX10_act_241 (w_a hw (by rw [c27]; decide)) ?_
    refine y_if_ne o dX10_act_242 (fun c242 => ?_) (fun c242 => ?_)
    · skip
      refine y_aload o dX10_act_252 rfl ?_
      refine y_get o tgX10_9 dX10_act_253 ?_
      refine y_put o tpX10_9 dX10_act_256 ?_
      refine y_goto o dX10_act_259 ?_
      exact x_vret o r dX10_act_514 (by simp (decide := true) only [if_true, if_false, ix, g_run, g_act, c27, f_rw, eq_false c242] <;> rfl)
    · skip
      refine y_aload o dX10_act_245 rfl ?_
      refine y_getM o iFX10_73 (List.mem_append_right _ hI) rfl dX10_act_246 ?_
      refine y_goto o dX10_act_249 ?_
      refine y_put o tpX10_9 dX10_act_256 ?_
      refine y_goto o dX10_act_259 ?_
      exact x_vret o r dX10_act_514 (by simp (decide := true) only [if_true, if_false, ix, g_run, g_act, c27, f_rw, eq_true c242] <;> rfl)
  · skip
    refine y_sw o dX10_act_27_c7 c27 ?_
    have c27 : x27 = 7 := Int32.toInt_inj.mp c27
    rw [ex27] at c27
    refine y_aload o dX10_act_262 rfl ?_
    refine y_aload o dX10_act_263 rfl ?_
    refine y_getM o iFX10_73 (List.mem_append_right _ hI) rfl dX10_act_264 ?_
    refine y_put o tpX10_9 dX10_act_267 ?_
    refine y_goto o dX10_act_270 ?_
    exact x_vret o r dX10_act_514 (by simp (decide := true) only [if_true, if_false, ix, g_run, g_act, c27, f_rw] <;> rfl)
  · skip
    refine y_sw o dX10_act_27_c8 c27 ?_
    have c27 : x27 = 8 := Int32.toInt_inj.mp c27
    rw [ex27] at c27
    refine y_aload o dX10_act_273 rfl ?_
    refine y_aload o dX10_act_274 rfl ?_
    refine y_getM o iFX10_64 (List.mem_append_right _ hI) rfl dX10_act_275 ?_
    refine y_aload o dX10_act_278 rfl ?_
    refine y_getr o tgX10_18 dX10_act_279 ?_
    refine y_getr o tgX10_79 dX10_act_282 ?_
    refine y_const o dX10_act_285 ?_
    refine y_aload o dX10_act_287 rfl ?_
    refine y_getM o iFX10_73 (List.mem_append_right _ hI) rfl dX10_act_288 ?_
    refine y_iadd o dX10_act_291 ?_
    refine y_callVi o kX10_83 tr_X4 hk (cm_read _ h ex _ _ (c_in (w_b16 hw (by rw [c27]; decide))) (pOk.mono hpo (by decide))) (by decide) rfl rfl (Nat.le_of_ble_eq_true rfl) dX10_act_292 ?_
    refine y_iast o ta_registers dX10_act_295 (w_a hw (by rw [c27]; decide)) ?_
    refine y_goto o dX10_act_296 ?_
    exact x_vret o r dX10_act_514 (by simp (decide := true) only [if_true, if_false, ix, g_run, g_act, c27, f_rw] <;> rfl)
  · skip
    refine y_sw o dX10_act_27_c9 c27 ?_
    have c27 : x27 = 9 := Int32.toInt_inj.mp c27
    rw [ex27] at c27
    refine y_aload o dX10_act_299 rfl ?_
    refine y_const o dX10_act_300 ?_
    refine y_aload o dX10_act_302 rfl ?_
    refine y_getM o iFX10_73 (List.mem_append_right _ hI) rfl dX10_act_303 ?_
    refine y_iadd o dX10_act_306 ?_
    refine y_aload o dX10_act_307 rfl ?_
    refine y_aload o dX10_act_308 rfl ?_
    refine y_getM o iFX10_64 (List.mem_append_right _ hI) rfl dX10_act_309 ?_
    refine y_iald o ta_registers dX10_act_312 (w_a hw (by rw [c27]; decide)) ?_
    refine y_callVv o kX10_89 tr_X10 hk (cm_rput _ h ex _ _ _ (hpo)) (by decide) rfl rfl (Nat.le_of_ble_eq_true rfl) dX10_act_313 ?_
    refine y_goto o dX10_act_316 ?_
    exact x_vret o r dX10_act_514 (by simp (decide := true) only [if_true, if_false, ix, g_run, g_act, c27, f_rw] <;> rfl)
  · skip
    refine y_sw o dX10_act_27_c10 c27 ?_
    have c27 : x27 = 10 := Int32.toInt_inj.mp c27
    rw [ex27] at c27
    refine y_aload o dX10_act_319 rfl ?_
    refine y_aload o dX10_act_320 rfl ?_
    refine y_getM o iFX10_64 (List.mem_append_right _ hI) rfl dX10_act_321 ?_
    refine y_aload o dX10_act_324 rfl ?_
    refine y_getr o tgX10_18 dX10_act_325 ?_
    refine y_getr o tgX10_79 dX10_act_328 ?_
    refine y_const o dX10_act_331 ?_
    refine y_const o dX10_act_333 ?_
    refine y_aload o dX10_act_335 rfl ?_
    refine y_getM o iFX10_73 (List.mem_append_right _ hI) rfl dX10_act_336 ?_
    refine y_imul o dX10_act_339 ?_
    refine y_iadd o dX10_act_340 ?_
    refine y_aload o dX10_act_341 rfl ?_
    refine y_aload o dX10_act_342 rfl ?_
    refine y_getM o iFX10_76 (List.mem_append_right _ hI) rfl dX10_act_343 ?_
    refine y_iald o ta_registers dX10_act_346 (w_c hw (by rw [c27]; decide)) ?_
    refine y_const o dX10_act_347 ?_
    refine y_iand o dX10_act_349 ?_
    refine y_iadd o dX10_act_350 ?_
    refine y_callVi o kX10_83 tr_X4 hk (cm_read _ h ex _ _ (rw_in (w_b4 hw (by rw [c27]; decide)) _) (pOk.mono hpo (by decide))) (by decide) rfl rfl (Nat.le_of_ble_eq_true rfl) dX10_act_351 ?_
    refine y_iast o ta_registers dX10_act_354 (w_a hw (by rw [c27]; decide)) ?_
    refine y_goto o dX10_act_355 ?_
    exact x_vret o r dX10_act_514 (by simp (decide := true) only [if_true, if_false, ix, g_run, g_act, c27, f_rw] <;> rfl)
  · skip
    refine y_sw o dX10_act_27_c11 c27 ?_
    have c27 : x27 = 11 := Int32.toInt_inj.mp c27
    rw [ex27] at c27
    refine y_aload o dX10_act_358 rfl ?_
    refine y_const o dX10_act_359 ?_
    refine y_const o dX10_act_361 ?_
    refine y_aload o dX10_act_363 rfl ?_
    refine y_getM o iFX10_73 (List.mem_append_right _ hI) rfl dX10_act_364 ?_
    refine y_imul o dX10_act_367 ?_
    refine y_iadd o dX10_act_368 ?_
    refine y_aload o dX10_act_369 rfl ?_
    refine y_aload o dX10_act_370 rfl ?_
    refine y_getM o iFX10_76 (List.mem_append_right _ hI) rfl dX10_act_371 ?_
    refine y_iald o ta_registers dX10_act_374 (w_c hw (by rw [c27]; decide)) ?_
    refine y_const o dX10_act_375 ?_
    refine y_iand o dX10_act_377 ?_
    refine y_iadd o dX10_act_378 ?_
    refine y_aload o dX10_act_379 rfl ?_
    refine y_aload o dX10_act_380 rfl ?_
    refine y_getM o iFX10_64 (List.mem_append_right _ hI) rfl dX10_act_381 ?_
    refine y_iald o ta_registers dX10_act_384 (w_a hw (by rw [c27]; decide)) ?_
    refine y_callVv o kX10_89 tr_X10 hk (cm_rput _ h ex _ _ _ (hpo)) (by decide) rfl rfl (Nat.le_of_ble_eq_true rfl) dX10_act_385 ?_
    refine y_goto o dX10_act_388 ?_
    exact x_vret o r dX10_act_514 (by simp (decide := true) only [if_true, if_false, ix, g_run, g_act, c27, f_rw] <;> rfl)
  · skip
    refine y_sw o dX10_act_27_c12 c27 ?_
    have c27 : x27 = 12 := Int32.toInt_inj.mp c27
    rw [ex27] at c27
    refine y_aload o dX10_act_391 rfl ?_
    refine y_const o dX10_act_392 ?_
    refine y_const o dX10_act_394 ?_
    refine y_aload o dX10_act_396 rfl ?_
    refine y_getM o iFX10_73 (List.mem_append_right _ hI) rfl dX10_act_397 ?_
    refine y_imul o dX10_act_400 ?_
    refine y_iadd o dX10_act_401 ?_
    refine y_aload o dX10_act_402 rfl ?_
    refine y_aload o dX10_act_403 rfl ?_
    refine y_getM o iFX10_64 (List.mem_append_right _ hI) rfl dX10_act_404 ?_
    refine y_iald o ta_registers dX10_act_407 (w_a hw (by rw [c27]; decide)) ?_
    refine y_callVv o kX10_93 tr_X10 hk (cm_push _ h ex _ _ _ (q_in0 (w_b2 hw (by rw [c27]; decide))) (q_in1 (w_b2 hw (by rw [c27]; decide))) (hpo)) (by decide) rfl rfl (Nat.le_of_ble_eq_true rfl) dX10_act_408 ?_
    refine y_goto o dX10_act_411 ?_
    exact x_vret o r dX10_act_514 (by simp (decide := true) only [if_true, if_false, ix, g_run, g_act, c27, f_rw] <;> rfl)
  · skip
    refine y_sw o dX10_act_27_c13 c27 ?_
    have c27 : x27 = 13 := Int32.toInt_inj.mp c27
    rw [ex27] at c27
    refine y_aload o dX10_act_414 rfl ?_
    refine y_const o dX10_act_415 ?_
    refine y_const o dX10_act_417 ?_
    refine y_aload o dX10_act_419 rfl ?_
    refine y_getM o iFX10_73 (List.mem_append_right _ hI) rfl dX10_act_420 ?_
    refine y_imul o dX10_act_423 ?_
    refine y_iadd o dX10_act_424 ?_
    refine y_aload o dX10_act_425 rfl ?_
    refine y_getM o iFX10_64 (List.mem_append_right _ hI) rfl dX10_act_426 ?_
    refine y_callVv o kX10_96 tr_X10 hk (cm_pop _ h ex _ _ _ (q_in0 (w_b2 hw (by rw [c27]; decide))) (q_in1 (w_b2 hw (by rw [c27]; decide))) (w_a hw (by rw [c27]; decide)) (q_inf (w_b2 hw (by rw [c27]; decide)) (hq _ (w_b2 hw (by rw [c27]; decide)))) (hpo)) (by decide) rfl rfl (Nat.le_of_ble_eq_true rfl) dX10_act_429 ?_
    refine y_goto o dX10_act_432 ?_
    exact x_vret o r dX10_act_514 (by simp (decide := true) only [if_true, if_false, ix, g_run, g_act, c27, f_rw] <;> rfl)
  · skip
    refine y_sw o dX10_act_27_c14 c27 ?_
    have c27 : x27 = 14 := Int32.toInt_inj.mp c27
    rw [ex27] at c27
    refine y_aload o dX10_act_435 rfl ?_
    refine y_aload o dX10_act_436 rfl ?_
    refine y_getM o iFX10_64 (List.mem_append_right _ hI) rfl dX10_act_437 ?_
    refine y_aload o dX10_act_440 rfl ?_
    refine y_getr o tgX10_18 dX10_act_441 ?_
    refine y_getr o tgX10_99 dX10_act_444 ?_
    refine y_aload o dX10_act_447 rfl ?_
    refine y_getM o iFX10_73 (List.mem_append_right _ hI) rfl dX10_act_448 ?_
    refine y_iald o ta_sensors dX10_act_451 (w_b4 hw (by rw [c27]; decide)) ?_
    refine y_iast o ta_registers dX10_act_452 (w_a hw (by rw [c27]; decide)) ?_
    refine y_goto o dX10_act_453 ?_
    exact x_vret o r dX10_act_514 (by simp (decide := true) only [if_true, if_false, ix, g_run, g_act, c27, f_rw] <;> rfl)
  · skip
    refine y_sw o dX10_act_27_c15 c27 ?_
    have c27 : x27 = 15 := Int32.toInt_inj.mp c27
    rw [ex27] at c27
    refine y_aload o dX10_act_456 rfl ?_
    refine y_aload o dX10_act_457 rfl ?_
    refine y_aload o dX10_act_458 rfl ?_
    refine y_getM o iFX10_64 (List.mem_append_right _ hI) rfl dX10_act_459 ?_
    refine y_iald o ta_registers dX10_act_462 (w_a hw (by rw [c27]; decide)) ?_
    refine y_callVv o kX10_102 tr_X10 hk (cm_send _ h ex _ _ (hpo)) (by decide) rfl rfl (Nat.le_of_ble_eq_true rfl) dX10_act_463 ?_
    refine y_goto o dX10_act_466 ?_
    exact x_vret o r dX10_act_514 (by simp (decide := true) only [if_true, if_false, ix, g_run, g_act, c27, f_rw] <;> rfl)
  · skip
    refine y_sw o dX10_act_27_c16 c27 ?_
    have c27 : x27 = 16 := Int32.toInt_inj.mp c27
    rw [ex27] at c27
    refine y_aload o dX10_act_469 rfl ?_
    refine y_aload o dX10_act_470 rfl ?_
    refine y_getr o tgX10_18 dX10_act_471 ?_
    refine y_get o tgX10_105 dX10_act_474 ?_
    refine y_put o tpX10_15 dX10_act_477 ?_
    refine y_goto o dX10_act_480 ?_
    exact x_vret o r dX10_act_514 (by simp (decide := true) only [if_true, if_false, ix, g_run, g_act, c27, f_rw] <;> rfl)
  · skip
    refine y_swd o dX10_act_27_d (Or.inr c27) ?_
    rw [ex27] at c27
    refine y_aload o dX10_act_483 rfl ?_
    refine y_get o tgX10_15 dX10_act_484 ?_
    refine y_const o dX10_act_487 ?_
    refine y_icmp_eq o dX10_act_488 (fun c488 => ?_) (fun c488 => ?_)
    · skip
      exact x_vret o r dX10_act_514 (by unfold g_run; rw [g_act_out (by omega)]; simp only [if_true, if_false, ix, g_bound, eq_true c488] <;> rfl)
    · skip
      refine y_aload o dX10_act_491 rfl ?_
      refine y_getr o tgX10_18 dX10_act_492 ?_
      refine y_get o tgX10_105 dX10_act_495 ?_
      refine y_aload o dX10_act_498 rfl ?_
      refine y_get o tgX10_15 dX10_act_499 ?_
      refine y_isub o dX10_act_502 ?_
      refine y_aload o dX10_act_503 rfl ?_
      refine y_getM o iFX10_64 (List.mem_append_right _ hI) rfl dX10_act_504 ?_
      refine y_icmp_le o dX10_act_507 (fun c507 => ?_) (fun c507 => ?_)
      · skip
        exact x_vret o r dX10_act_514 (by unfold g_run; rw [g_act_out (by omega)]; simp only [if_true, if_false, ix, g_bound, eq_false c488, eq_true c507] <;> rfl)
      · skip
        refine y_aload o dX10_act_510 rfl ?_
        refine y_callVv o kX10_108 tr_X10 hk (cm_aband _ h ex _ ) (by decide) rfl rfl (Nat.le_of_ble_eq_true rfl) dX10_act_511 ?_
        exact x_vret o r dX10_act_514 (by unfold g_run; rw [g_act_out (by omega)]; simp only [if_true, if_false, ix, g_bound, eq_false c488, eq_false c507] <;> rfl)
