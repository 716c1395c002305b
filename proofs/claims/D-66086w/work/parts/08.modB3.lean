/-! the model: its steps and its face -/
set_option maxRecDepth 100000
set_option maxHeartbeats 4000000 in
set_option maxRecDepth 100000 in
theorem mm_run (dd : ClassId × ClassId × ClassId) (h : Nat → Nat) (ex : va_W) (S : XS)  (ht : vp_in (S.2 0 0) 16) (hr : runOk S) : Cx dd yX12_runStep cX12_runStep 7 none 3 mG [.ref (h 0)] h ex S none (f_run S) := by
  refine Cx.intro (by decide) (by simp [Value.category]) (Nat.le_of_ble_eq_true rfl) (fun K o r hk => ?_)
  have o : Y K cX12_runStep RX12 7 3 := o
  have j37 : ∀ (T : XS) (w : Int32), pOk 38 T → wOk w → (∀ b, vp_in b 2 → vp_in (f_see T (56 + 6 * b)) 4) → f_runP T w = f_run S → Vw K 7 (g_W (kd K).1 mG h T ++ ex) 0 0 [.ref (h 0), .int (S.2 0 0), .int w] 37 [] := by
    intro T w hp hw hq hT
    refine y_iload o dX12_runStep_37 rfl ?_
    refine y_callSi o kX12_71 hk (mm_a _ h ex _ _ ) (by decide) rfl rfl (Nat.le_of_ble_eq_true rfl) dX12_runStep_38 ?_
    refine y_istore o dX12_runStep_41 (by decide) (Nat.le_of_ble_eq_true rfl) ?_
    refine y_iload o dX12_runStep_42 rfl ?_
    refine y_callSi o kX12_74 hk (mm_b _ h ex _ _ ) (by decide) rfl rfl (Nat.le_of_ble_eq_true rfl) dX12_runStep_43 ?_
    refine y_istore o dX12_runStep_46 (by decide) (Nat.le_of_ble_eq_true rfl) ?_
    refine y_iload o dX12_runStep_48 rfl ?_
    refine y_callSi o kX12_77 hk (mm_c _ h ex _ _ ) (by decide) rfl rfl (Nat.le_of_ble_eq_true rfl) dX12_runStep_49 ?_
    refine y_istore o dX12_runStep_52 (by decide) (Nat.le_of_ble_eq_true rfl) ?_
    refine y_aload o dX12_runStep_54 rfl ?_
    refine y_dup o dX12_runStep_55 rfl ?_
    refine y_get o mgX12_102 dX12_runStep_56 ?_
    refine y_const o dX12_runStep_59 ?_
    refine y_iadd o dX12_runStep_60 ?_
    refine y_put o mpX12_102 dX12_runStep_61 ?_
    refine y_iload o dX12_runStep_64 rfl ?_
    refine y_callSi o kX12_67 hk (mm_op _ h ex _ _ ) (by decide) rfl rfl (Nat.le_of_ble_eq_true rfl) dX12_runStep_65 ?_
    refine y_top o (fun x68 ex68 => ?_)
    rcases (show x68.toInt < 0 ∨ x68.toInt = 0 ∨ x68.toInt = 1 ∨ x68.toInt = 2 ∨ x68.toInt = 3 ∨ x68.toInt = 4 ∨ x68.toInt = 5 ∨ x68.toInt = 6 ∨ x68.toInt = 7 ∨ x68.toInt = 8 ∨ x68.toInt = 9 ∨ x68.toInt = 10 ∨ x68.toInt = 11 ∨ x68.toInt = 12 ∨ x68.toInt = 13 ∨ x68.toInt = 14 ∨ x68.toInt = 15 ∨ x68.toInt = 16 ∨ 16 < x68.toInt by omega) with c68 | c68 | c68 | c68 | c68 | c68 | c68 | c68 | c68 | c68 | c68 | c68 | c68 | c68 | c68 | c68 | c68 | c68 | c68
    · skip
      refine y_swd o dX12_runStep_68_d (Or.inl c68) ?_
      rw [ex68] at c68
      refine y_aload o dX12_runStep_555 rfl ?_
      refine y_get o mgX12_105 dX12_runStep_556 ?_
      refine y_const o dX12_runStep_559 ?_
      refine y_icmp_eq o dX12_runStep_560 (fun c560 => ?_) (fun c560 => ?_)
      · skip
        exact x_vret o r dX12_runStep_600 (by rw [← hT]; simp only [f_runP]; rw [f_act_out (by omega)]; simp only [if_true, if_false, ix, f_bound, f_leave, eq_true c560])
      · skip
        refine y_aload o dX12_runStep_563 rfl ?_
        refine y_get o mgX12_155 dX12_runStep_564 ?_
        refine y_aload o dX12_runStep_567 rfl ?_
        refine y_get o mgX12_105 dX12_runStep_568 ?_
        refine y_isub o dX12_runStep_571 ?_
        refine y_iload o dX12_runStep_572 rfl ?_
        refine y_icmp_le o dX12_runStep_573 (fun c573 => ?_) (fun c573 => ?_)
        · skip
          exact x_vret o r dX12_runStep_600 (by rw [← hT]; simp only [f_runP]; rw [f_act_out (by omega)]; simp only [if_true, if_false, ix, f_bound, f_leave, eq_false c560, eq_true c573])
        · skip
          refine y_aload o dX12_runStep_576 rfl ?_
          refine y_dup o dX12_runStep_577 rfl ?_
          refine y_get o mgX12_158 dX12_runStep_578 ?_
          refine y_const o dX12_runStep_581 ?_
          refine y_iadd o dX12_runStep_582 ?_
          refine y_put o mpX12_158 dX12_runStep_583 ?_
          refine y_aload o dX12_runStep_586 rfl ?_
          refine y_const o dX12_runStep_587 ?_
          refine y_put o mpX12_93 dX12_runStep_588 ?_
          refine y_aload o dX12_runStep_591 rfl ?_
          refine y_const o dX12_runStep_592 ?_
          refine y_putz o mpX12_127 (by first | exact Or.inl rfl | exact Or.inr rfl) dX12_runStep_593 ?_
          refine y_aload o dX12_runStep_596 rfl ?_
          refine y_callVv o kX12_99 mr_X12 hk (mm_end _ h ex _ ) (by decide) rfl rfl (Nat.le_of_ble_eq_true rfl) dX12_runStep_597 ?_
          exact x_vret o r dX12_runStep_600 (by rw [← hT]; simp only [f_runP]; rw [f_act_out (by omega)]; simp only [if_true, if_false, ix, f_bound, f_leave, eq_false c560, eq_false c573])
    · skip
      refine y_sw o dX12_runStep_68_c0 c68 ?_
      have c68 : x68 = 0 := Int32.toInt_inj.mp c68
      rw [ex68] at c68
      refine y_aload o dX12_runStep_152 rfl ?_
      refine y_const o dX12_runStep_153 ?_
      refine y_put o mpX12_93 dX12_runStep_154 ?_
      refine y_aload o dX12_runStep_157 rfl ?_
      refine y_getr o mgX12_38 dX12_runStep_158 ?_
      refine y_aload o dX12_runStep_161 rfl ?_
      refine y_get o mgX12_84 dX12_runStep_162 ?_
      refine y_const o dX12_runStep_165 ?_
      refine y_iast o ma_where dX12_runStep_166 (pOk_in hp (by decide) (by decide)) ?_
      refine y_aload o dX12_runStep_167 rfl ?_
      refine y_getr o mgX12_41 dX12_runStep_168 ?_
      refine y_aload o dX12_runStep_171 rfl ?_
      refine y_get o mgX12_84 dX12_runStep_172 ?_
      refine y_iload o dX12_runStep_175 rfl ?_
      refine y_iast o ma_what dX12_runStep_176 (pOk_in hp (by decide) (by decide)) ?_
      refine y_aload o dX12_runStep_177 rfl ?_
      refine y_getr o mgX12_38 dX12_runStep_178 ?_
      refine y_aload o dX12_runStep_181 rfl ?_
      refine y_get o mgX12_84 dX12_runStep_182 ?_
      refine y_const o dX12_runStep_185 ?_
      refine y_iadd o dX12_runStep_186 ?_
      refine y_const o dX12_runStep_187 ?_
      refine y_iast o ma_where dX12_runStep_188 (pOk_in1 hp) ?_
      refine y_aload o dX12_runStep_189 rfl ?_
      refine y_getr o mgX12_41 dX12_runStep_190 ?_
      refine y_aload o dX12_runStep_193 rfl ?_
      refine y_get o mgX12_84 dX12_runStep_194 ?_
      refine y_const o dX12_runStep_197 ?_
      refine y_iadd o dX12_runStep_198 ?_
      refine y_aload o dX12_runStep_199 rfl ?_
      refine y_getr o mgX12_16 dX12_runStep_200 ?_
      refine y_const o dX12_runStep_203 ?_
      refine y_ialdc (j0 := 1) o ma_kept dX12_runStep_204 (by unfold vp_in; decide) (by decide) ?_
      refine y_const o dX12_runStep_205 ?_
      refine y_iadd o dX12_runStep_206 ?_
      refine y_iast o ma_what dX12_runStep_207 (pOk_in1 hp) ?_
      refine y_aload o dX12_runStep_208 rfl ?_
      refine y_const o dX12_runStep_209 ?_
      refine y_put o mpX12_108 dX12_runStep_210 ?_
      refine y_goto o dX12_runStep_213 ?_
      exact x_vret o r dX12_runStep_600 (by rw [← hT]; simp (decide := true) only [if_true, if_false, ix, f_runP, f_act, c68, f_com, f_store, f_rw] <;> rfl)
    · skip
      refine y_sw o dX12_runStep_68_c1 c68 ?_
      have c68 : x68 = 1 := Int32.toInt_inj.mp c68
      rw [ex68] at c68
      refine y_aload o dX12_runStep_216 rfl ?_
      refine y_getr o mgX12_35 dX12_runStep_217 ?_
      refine y_iload o dX12_runStep_220 rfl ?_
      refine y_const o dX12_runStep_221 ?_
      refine y_iload o dX12_runStep_224 rfl ?_
      refine y_imul o dX12_runStep_226 ?_
      refine y_iload o dX12_runStep_227 rfl ?_
      refine y_iadd o dX12_runStep_229 ?_
      refine y_i2s o dX12_runStep_230 ?_
      refine y_iast o ma_register dX12_runStep_231 (w_a hw (by rw [c68]; decide)) ?_
      refine y_goto o dX12_runStep_232 ?_
      exact x_vret o r dX12_runStep_600 (by rw [← hT]; simp (decide := true) only [if_true, if_false, ix, f_runP, f_act, c68, f_com, f_store, f_rw] <;> rfl)
    · skip
      refine y_sw o dX12_runStep_68_c2 c68 ?_
      have c68 : x68 = 2 := Int32.toInt_inj.mp c68
      rw [ex68] at c68
      refine y_aload o dX12_runStep_235 rfl ?_
      refine y_getr o mgX12_35 dX12_runStep_236 ?_
      refine y_iload o dX12_runStep_239 rfl ?_
      refine y_aload o dX12_runStep_240 rfl ?_
      refine y_getr o mgX12_35 dX12_runStep_241 ?_
      refine y_iload o dX12_runStep_244 rfl ?_
      refine y_iald o ma_register dX12_runStep_246 (w_b8 hw (by rw [c68]; decide)) ?_
      refine y_aload o dX12_runStep_247 rfl ?_
      refine y_getr o mgX12_35 dX12_runStep_248 ?_
      refine y_iload o dX12_runStep_251 rfl ?_
      refine y_iald o ma_register dX12_runStep_253 (w_c hw (by rw [c68]; decide)) ?_
      refine y_iadd o dX12_runStep_254 ?_
      refine y_iast o ma_register dX12_runStep_255 (w_a hw (by rw [c68]; decide)) ?_
      refine y_goto o dX12_runStep_256 ?_
      exact x_vret o r dX12_runStep_600 (by rw [← hT]; simp (decide := true) only [if_true, if_false, ix, f_runP, f_act, c68, f_com, f_store, f_rw] <;> rfl)
    · skip
      refine y_sw o dX12_runStep_68_c3 c68 ?_
      have c68 : x68 = 3 := Int32.toInt_inj.mp c68
      rw [ex68] at c68
      refine y_aload o dX12_runStep_259 rfl ?_
      refine y_getr o mgX12_35 dX12_runStep_260 ?_
      refine y_iload o dX12_runStep_263 rfl ?_
      refine y_aload o dX12_runStep_264 rfl ?_
      refine y_getr o mgX12_35 dX12_runStep_265 ?_
      refine y_iload o dX12_runStep_268 rfl ?_
      refine y_iald o ma_register dX12_runStep_270 (w_b8 hw (by rw [c68]; decide)) ?_
      refine y_aload o dX12_runStep_271 rfl ?_
      refine y_getr o mgX12_35 dX12_runStep_272 ?_
      refine y_iload o dX12_runStep_275 rfl ?_
      refine y_iald o ma_register dX12_runStep_277 (w_c hw (by rw [c68]; decide)) ?_
      refine y_isub o dX12_runStep_278 ?_
      refine y_iast o ma_register dX12_runStep_279 (w_a hw (by rw [c68]; decide)) ?_
      refine y_goto o dX12_runStep_280 ?_
      exact x_vret o r dX12_runStep_600 (by rw [← hT]; simp (decide := true) only [if_true, if_false, ix, f_runP, f_act, c68, f_com, f_store, f_rw] <;> rfl)
    · skip
      refine y_sw o dX12_runStep_68_c4 c68 ?_
      have c68 : x68 = 4 := Int32.toInt_inj.mp c68
      rw [ex68] at c68
      refine y_aload o dX12_runStep_283 rfl ?_
      refine y_getr o mgX12_35 dX12_runStep_284 ?_
      refine y_iload o dX12_runStep_287 rfl ?_
      refine y_aload o dX12_runStep_288 rfl ?_
      refine y_getr o mgX12_35 dX12_runStep_289 ?_
      refine y_iload o dX12_runStep_292 rfl ?_
      refine y_iald o ma_register dX12_runStep_294 (w_b8 hw (by rw [c68]; decide)) ?_
      refine y_aload o dX12_runStep_295 rfl ?_
      refine y_getr o mgX12_35 dX12_runStep_296 ?_
      refine y_iload o dX12_runStep_299 rfl ?_
      refine y_iald o ma_register dX12_runStep_301 (w_c hw (by rw [c68]; decide)) ?_
      refine y_imul o dX12_runStep_302 ?_
      refine y_iast o ma_register dX12_runStep_303 (w_a hw (by rw [c68]; decide)) ?_
      refine y_goto o dX12_runStep_304 ?_
      exact x_vret o r dX12_runStep_600 (by rw [← hT]; simp (decide := true) only [if_true, if_false, ix, f_runP, f_act, c68, f_com, f_store, f_rw] <;> rfl)
    · skip
      refine y_sw o dX12_runStep_68_c5 c68 ?_
      have c68 : x68 = 5 := Int32.toInt_inj.mp c68
      rw [ex68] at c68
      refine y_aload o dX12_runStep_307 rfl ?_
      refine y_getr o mgX12_35 dX12_runStep_308 ?_
      refine y_iload o dX12_runStep_311 rfl ?_
      refine y_aload o dX12_runStep_312 rfl ?_
      refine y_getr o mgX12_35 dX12_runStep_313 ?_
      refine y_iload o dX12_runStep_316 rfl ?_
      refine y_iald o ma_register dX12_runStep_318 (w_b8 hw (by rw [c68]; decide)) ?_
      refine y_aload o dX12_runStep_319 rfl ?_
      refine y_getr o mgX12_35 dX12_runStep_320 ?_
      refine y_iload o dX12_runStep_323 rfl ?_
      refine y_iald o ma_register dX12_runStep_325 (w_c hw (by rw [c68]; decide)) ?_
      refine y_ixor o dX12_runStep_326 ?_
      refine y_iast o ma_register dX12_runStep_327 (w_a hw (by rw [c68]; decide)) ?_
      refine y_goto o dX12_runStep_328 ?_
      exact x_vret o r dX12_runStep_600 (by rw [← hT]; simp (decide := true) only [if_true, if_false, ix, f_runP, f_act, c68, f_com, f_store, f_rw] <;> rfl)
    · skip
      refine y_sw o dX12_runStep_68_c6 c68 ?_
      have c68 : x68 = 6 := Int32.toInt_inj.mp c68
      rw [ex68] at c68
      refine y_aload o dX12_runStep_331 rfl ?_
      refine y_getr o mgX12_35 dX12_runStep_332 ?_
      refine y_iload o dX12_runStep_335 rfl ?_
      refine y_iald o ma_register dX12_runStep_336 (w_a hw (by rw [c68]; decide)) ?_
      refine y_if_ne o dX12_runStep_337 (fun c337 => ?_) (fun c337 => ?_)
      · skip
        exact x_vret o r dX12_runStep_600 (by rw [← hT]; simp (decide := true) only [if_true, if_false, ix, f_runP, f_act, c68, f_com, f_store, f_rw, eq_false c337] <;> rfl)
      · skip
        refine y_aload o dX12_runStep_340 rfl ?_
        refine y_iload o dX12_runStep_341 rfl ?_
        refine y_put o mpX12_102 dX12_runStep_343 ?_
        refine y_goto o dX12_runStep_346 ?_
        exact x_vret o r dX12_runStep_600 (by rw [← hT]; simp (decide := true) only [if_true, if_false, ix, f_runP, f_act, c68, f_com, f_store, f_rw, eq_true c337] <;> rfl)
    · skip
      refine y_sw o dX12_runStep_68_c7 c68 ?_
      have c68 : x68 = 7 := Int32.toInt_inj.mp c68
      rw [ex68] at c68
      refine y_aload o dX12_runStep_349 rfl ?_
      refine y_iload o dX12_runStep_350 rfl ?_
      refine y_put o mpX12_102 dX12_runStep_352 ?_
      refine y_goto o dX12_runStep_355 ?_
      exact x_vret o r dX12_runStep_600 (by rw [← hT]; simp (decide := true) only [if_true, if_false, ix, f_runP, f_act, c68, f_com, f_store, f_rw] <;> rfl)
    · skip
      refine y_sw o dX12_runStep_68_c8 c68 ?_
      have c68 : x68 = 8 := Int32.toInt_inj.mp c68
      rw [ex68] at c68
      refine y_aload o dX12_runStep_358 rfl ?_
      refine y_getr o mgX12_35 dX12_runStep_359 ?_
      refine y_iload o dX12_runStep_362 rfl ?_
      refine y_aload o dX12_runStep_363 rfl ?_
      refine y_const o dX12_runStep_364 ?_
      refine y_iload o dX12_runStep_366 rfl ?_
      refine y_iadd o dX12_runStep_368 ?_
      refine y_callVi o kX12_133 mr_X12 hk (mm_see _ h ex _ _ (c_in (w_b16 hw (by rw [c68]; decide))) (pOk.mono hp (by decide))) (by decide) rfl rfl (Nat.le_of_ble_eq_true rfl) dX12_runStep_369 ?_
      refine y_iast o ma_register dX12_runStep_372 (w_a hw (by rw [c68]; decide)) ?_
      refine y_goto o dX12_runStep_373 ?_
      exact x_vret o r dX12_runStep_600 (by rw [← hT]; simp (decide := true) only [if_true, if_false, ix, f_runP, f_act, c68, f_com, f_store, f_rw] <;> rfl)
    · skip
      refine y_sw o dX12_runStep_68_c9 c68 ?_
      have c68 : x68 = 9 := Int32.toInt_inj.mp c68
      rw [ex68] at c68
      refine y_aload o dX12_runStep_376 rfl ?_
      refine y_const o dX12_runStep_377 ?_
      refine y_iload o dX12_runStep_379 rfl ?_
      refine y_iadd o dX12_runStep_381 ?_
      refine y_const o dX12_runStep_382 ?_
      refine y_iload o dX12_runStep_384 rfl ?_
      refine y_iadd o dX12_runStep_386 ?_
      refine y_callVi o kX12_136 mr_X12 hk (mm_hasRoom _ h ex _ _ _ (pOk.mono hp (by decide))) (by decide) rfl rfl (Nat.le_of_ble_eq_true rfl) dX12_runStep_387 ?_
      refine y_if_eq o dX12_runStep_390 (fun c390 => ?_) (fun c390 => ?_)
      · skip
        exact x_vret o r dX12_runStep_600 (by rw [← hT]; simp (decide := true) only [if_true, if_false, ix, f_runP, f_act, c68, f_com, f_store, f_rw, eq_true c390] <;> rfl)
      · skip
        refine y_aload o dX12_runStep_393 rfl ?_
        refine y_const o dX12_runStep_394 ?_
        refine y_iload o dX12_runStep_396 rfl ?_
        refine y_iadd o dX12_runStep_398 ?_
        refine y_aload o dX12_runStep_399 rfl ?_
        refine y_getr o mgX12_35 dX12_runStep_400 ?_
        refine y_iload o dX12_runStep_403 rfl ?_
        refine y_iald o ma_register dX12_runStep_404 (w_a hw (by rw [c68]; decide)) ?_
        refine y_callVv o kX12_139 mr_X12 hk (mm_put _ h ex _ _ _ (pOk.mono hp (by decide))) (by decide) rfl rfl (Nat.le_of_ble_eq_true rfl) dX12_runStep_405 ?_
        refine y_goto o dX12_runStep_408 ?_
        exact x_vret o r dX12_runStep_600 (by rw [← hT]; simp (decide := true) only [if_true, if_false, ix, f_runP, f_act, c68, f_com, f_store, f_rw, eq_false c390] <;> rfl)
    · skip
      refine y_sw o dX12_runStep_68_c10 c68 ?_
      have c68 : x68 = 10 := Int32.toInt_inj.mp c68
      rw [ex68] at c68
      refine y_aload o dX12_runStep_411 rfl ?_
      refine y_getr o mgX12_35 dX12_runStep_412 ?_
      refine y_iload o dX12_runStep_415 rfl ?_
      refine y_aload o dX12_runStep_416 rfl ?_
      refine y_const o dX12_runStep_417 ?_
      refine y_const o dX12_runStep_419 ?_
      refine y_iload o dX12_runStep_421 rfl ?_
      refine y_imul o dX12_runStep_423 ?_
      refine y_iadd o dX12_runStep_424 ?_
      refine y_aload o dX12_runStep_425 rfl ?_
      refine y_getr o mgX12_35 dX12_runStep_426 ?_
      refine y_iload o dX12_runStep_429 rfl ?_
      refine y_iald o ma_register dX12_runStep_431 (w_c hw (by rw [c68]; decide)) ?_
      refine y_const o dX12_runStep_432 ?_
      refine y_iand o dX12_runStep_434 ?_
      refine y_iadd o dX12_runStep_435 ?_
      refine y_callVi o kX12_133 mr_X12 hk (mm_see _ h ex _ _ (rw_in (w_b4 hw (by rw [c68]; decide)) _) (pOk.mono hp (by decide))) (by decide) rfl rfl (Nat.le_of_ble_eq_true rfl) dX12_runStep_436 ?_
      refine y_iast o ma_register dX12_runStep_439 (w_a hw (by rw [c68]; decide)) ?_
      refine y_goto o dX12_runStep_440 ?_
      exact x_vret o r dX12_runStep_600 (by rw [← hT]; simp (decide := true) only [if_true, if_false, ix, f_runP, f_act, c68, f_com, f_store, f_rw] <;> rfl)
    · skip
      refine y_sw o dX12_runStep_68_c11 c68 ?_
      have c68 : x68 = 11 := Int32.toInt_inj.mp c68
      rw [ex68] at c68
      refine y_const o dX12_runStep_443 ?_
      refine y_const o dX12_runStep_445 ?_
      refine y_iload o dX12_runStep_447 rfl ?_
      refine y_imul o dX12_runStep_449 ?_
      refine y_iadd o dX12_runStep_450 ?_
      refine y_aload o dX12_runStep_451 rfl ?_
      refine y_getr o mgX12_35 dX12_runStep_452 ?_
      refine y_iload o dX12_runStep_455 rfl ?_
      refine y_iald o ma_register dX12_runStep_457 (w_c hw (by rw [c68]; decide)) ?_
      refine y_const o dX12_runStep_458 ?_
      refine y_iand o dX12_runStep_460 ?_
      refine y_iadd o dX12_runStep_461 ?_
      refine y_istore o dX12_runStep_462 (by decide) (Nat.le_of_ble_eq_true rfl) ?_
      refine y_aload o dX12_runStep_464 rfl ?_
      refine y_iload o dX12_runStep_465 rfl ?_
      refine y_iload o dX12_runStep_467 rfl ?_
      refine y_callVi o kX12_136 mr_X12 hk (mm_hasRoom _ h ex _ _ _ (pOk.mono hp (by decide))) (by decide) rfl rfl (Nat.le_of_ble_eq_true rfl) dX12_runStep_469 ?_
      refine y_if_eq o dX12_runStep_472 (fun c472 => ?_) (fun c472 => ?_)
      · skip
        exact x_vret o r dX12_runStep_600 (by rw [← hT]; simp (decide := true) only [if_true, if_false, ix, f_runP, f_act, c68, f_com, f_store, f_rw, eq_true c472] <;> rfl)
      · skip
        refine y_aload o dX12_runStep_475 rfl ?_
        refine y_iload o dX12_runStep_476 rfl ?_
        refine y_aload o dX12_runStep_478 rfl ?_
        refine y_getr o mgX12_35 dX12_runStep_479 ?_
        refine y_iload o dX12_runStep_482 rfl ?_
        refine y_iald o ma_register dX12_runStep_483 (w_a hw (by rw [c68]; decide)) ?_
        refine y_callVv o kX12_139 mr_X12 hk (mm_put _ h ex _ _ _ (pOk.mono hp (by decide))) (by decide) rfl rfl (Nat.le_of_ble_eq_true rfl) dX12_runStep_484 ?_
        refine y_goto o dX12_runStep_487 ?_
        exact x_vret o r dX12_runStep_600 (by rw [← hT]; simp (decide := true) only [if_true, if_false, ix, f_runP, f_act, c68, f_com, f_store, f_rw, eq_false c472] <;> rfl)
    · skip
      refine y_sw o dX12_runStep_68_c12 c68 ?_
      have c68 : x68 = 12 := Int32.toInt_inj.mp c68
      rw [ex68] at c68
      refine y_aload o dX12_runStep_490 rfl ?_
      refine y_iload o dX12_runStep_491 rfl ?_
      refine y_aload o dX12_runStep_493 rfl ?_
      refine y_getr o mgX12_35 dX12_runStep_494 ?_
      refine y_iload o dX12_runStep_497 rfl ?_
      refine y_iald o ma_register dX12_runStep_498 (w_a hw (by rw [c68]; decide)) ?_
      refine y_callVv o kX12_145 mr_X12 hk (mm_push _ h ex _ _ _ (w_b2 hw (by rw [c68]; decide)) (hp)) (by decide) rfl rfl (Nat.le_of_ble_eq_true rfl) dX12_runStep_499 ?_
      refine y_goto o dX12_runStep_502 ?_
      exact x_vret o r dX12_runStep_600 (by rw [← hT]; simp (decide := true) only [if_true, if_false, ix, f_runP, f_act, c68, f_com, f_store, f_rw] <;> rfl)
    · skip
      refine y_sw o dX12_runStep_68_c13 c68 ?_
      have c68 : x68 = 13 := Int32.toInt_inj.mp c68
      rw [ex68] at c68
      refine y_aload o dX12_runStep_505 rfl ?_
      refine y_iload o dX12_runStep_506 rfl ?_
      refine y_iload o dX12_runStep_508 rfl ?_
      refine y_callVv o kX12_148 mr_X12 hk (mm_pop _ h ex _ _ _ (w_b2 hw (by rw [c68]; decide)) (w_a hw (by rw [c68]; decide)) (hq _ (w_b2 hw (by rw [c68]; decide))) (hp)) (by decide) rfl rfl (Nat.le_of_ble_eq_true rfl) dX12_runStep_509 ?_
      refine y_goto o dX12_runStep_512 ?_
      exact x_vret o r dX12_runStep_600 (by rw [← hT]; simp (decide := true) only [if_true, if_false, ix, f_runP, f_act, c68, f_com, f_store, f_rw] <;> rfl)
    · skip
      refine y_sw o dX12_runStep_68_c14 c68 ?_
      have c68 : x68 = 14 := Int32.toInt_inj.mp c68
      rw [ex68] at c68
      refine y_aload o dX12_runStep_515 rfl ?_
      refine y_getr o mgX12_35 dX12_runStep_516 ?_
      refine y_iload o dX12_runStep_519 rfl ?_
      refine y_aload o dX12_runStep_520 rfl ?_
      refine y_getr o mgX12_22 dX12_runStep_521 ?_
      refine y_iload o dX12_runStep_524 rfl ?_
      refine y_iald o ma_sensor dX12_runStep_526 (w_b4 hw (by rw [c68]; decide)) ?_
      refine y_iast o ma_register dX12_runStep_527 (w_a hw (by rw [c68]; decide)) ?_
      refine y_goto o dX12_runStep_528 ?_
      exact x_vret o r dX12_runStep_600 (by rw [← hT]; simp (decide := true) only [if_true, if_false, ix, f_runP, f_act, c68, f_com, f_store, f_rw] <;> rfl)
    · skip
      refine y_sw o dX12_runStep_68_c15 c68 ?_
      have c68 : x68 = 15 := Int32.toInt_inj.mp c68
      rw [ex68] at c68
      refine y_aload o dX12_runStep_531 rfl ?_
      refine y_aload o dX12_runStep_532 rfl ?_
      refine y_getr o mgX12_35 dX12_runStep_533 ?_
      refine y_iload o dX12_runStep_536 rfl ?_
      refine y_iald o ma_register dX12_runStep_537 (w_a hw (by rw [c68]; decide)) ?_
      refine y_callVv o kX12_151 mr_X12 hk (mm_send _ h ex _ _ (hp)) (by decide) rfl rfl (Nat.le_of_ble_eq_true rfl) dX12_runStep_538 ?_
      refine y_goto o dX12_runStep_541 ?_
      exact x_vret o r dX12_runStep_600 (by rw [← hT]; simp (decide := true) only [if_true, if_false, ix, f_runP, f_act, c68, f_com, f_store, f_rw] <;> rfl)
    · skip
      refine y_sw o dX12_runStep_68_c16 c68 ?_
      have c68 : x68 = 16 := Int32.toInt_inj.mp c68
      rw [ex68] at c68
      refine y_aload o dX12_runStep_544 rfl ?_
      refine y_aload o dX12_runStep_545 rfl ?_
      refine y_get o mgX12_155 dX12_runStep_546 ?_
      refine y_put o mpX12_105 dX12_runStep_549 ?_
      refine y_goto o dX12_runStep_552 ?_
      exact x_vret o r dX12_runStep_600 (by rw [← hT]; simp (decide := true) only [if_true, if_false, ix, f_runP, f_act, c68, f_com, f_store, f_rw] <;> rfl)
    · skip
      refine y_swd o dX12_runStep_68_d (Or.inr c68) ?_
      rw [ex68] at c68
      refine y_aload o dX12_runStep_555 rfl ?_
      refine y_get o mgX12_105 dX12_runStep_556 ?_
      refine y_const o dX12_runStep_559 ?_
      refine y_icmp_eq o dX12_runStep_560 (fun c560 => ?_) (fun c560 => ?_)
      · skip
        exact x_vret o r dX12_runStep_600 (by rw [← hT]; simp only [f_runP]; rw [f_act_out (by omega)]; simp only [if_true, if_false, ix, f_bound, f_leave, eq_true c560])
      · skip
        refine y_aload o dX12_runStep_563 rfl ?_
        refine y_get o mgX12_155 dX12_runStep_564 ?_
        refine y_aload o dX12_runStep_567 rfl ?_
        refine y_get o mgX12_105 dX12_runStep_568 ?_
        refine y_isub o dX12_runStep_571 ?_
        refine y_iload o dX12_runStep_572 rfl ?_
        refine y_icmp_le o dX12_runStep_573 (fun c573 => ?_) (fun c573 => ?_)
        · skip
          exact x_vret o r dX12_runStep_600 (by rw [← hT]; simp only [f_runP]; rw [f_act_out (by omega)]; simp only [if_true, if_false, ix, f_bound, f_leave, eq_false c560, eq_true c573])
        · skip
          refine y_aload o dX12_runStep_576 rfl ?_
          refine y_dup o dX12_runStep_577 rfl ?_
          refine y_get o mgX12_158 dX12_runStep_578 ?_
          refine y_const o dX12_runStep_581 ?_
          refine y_iadd o dX12_runStep_582 ?_
          refine y_put o mpX12_158 dX12_runStep_583 ?_
          refine y_aload o dX12_runStep_586 rfl ?_
          refine y_const o dX12_runStep_587 ?_
          refine y_put o mpX12_93 dX12_runStep_588 ?_
          refine y_aload o dX12_runStep_591 rfl ?_
          refine y_const o dX12_runStep_592 ?_
          refine y_putz o mpX12_127 (by first | exact Or.inl rfl | exact Or.inr rfl) dX12_runStep_593 ?_
          refine y_aload o dX12_runStep_596 rfl ?_
          refine y_callVv o kX12_99 mr_X12 hk (mm_end _ h ex _ ) (by decide) rfl rfl (Nat.le_of_ble_eq_true rfl) dX12_runStep_597 ?_
          exact x_vret o r dX12_runStep_600 (by rw [← hT]; simp only [f_runP]; rw [f_act_out (by omega)]; simp only [if_true, if_false, ix, f_bound, f_leave, eq_false c560, eq_false c573])
  refine y_aload o dX12_runStep_0 rfl ?_
  refine y_getr o mgX12_16 dX12_runStep_1 ?_
  refine y_const o dX12_runStep_4 ?_
  refine y_ialdc (j0 := 0) o ma_kept dX12_runStep_5 (by unfold vp_in; decide) (by decide) ?_
  refine y_istore o dX12_runStep_6 (by decide) (Nat.le_of_ble_eq_true rfl) ?_
  refine y_aload o dX12_runStep_7 rfl ?_
  refine y_getr o mgX12_7 dX12_runStep_8 ?_
  refine y_const o dX12_runStep_11 ?_
  refine y_iload o dX12_runStep_13 rfl ?_
  refine y_imul o dX12_runStep_14 ?_
  refine y_aload o dX12_runStep_15 rfl ?_
  refine y_get o mgX12_102 dX12_runStep_16 ?_
  refine y_iadd o dX12_runStep_19 ?_
  refine y_iald o ma_code dX12_runStep_20 (hr.1) ?_
  refine y_istore o dX12_runStep_21 (by decide) (Nat.le_of_ble_eq_true rfl) ?_
  refine y_aload o dX12_runStep_22 rfl ?_
  refine y_iload o dX12_runStep_23 rfl ?_
  refine y_callSi o kX12_67 hk (mm_op _ h ex _ _ ) (by decide) rfl rfl (Nat.le_of_ble_eq_true rfl) dX12_runStep_24 ?_
  refine y_callSi o kX12_142 hk (mm_cost _ h ex _ _ ) (by decide) rfl rfl (Nat.le_of_ble_eq_true rfl) dX12_runStep_27 ?_
  refine y_callVi o kX12_117 mr_X12 hk (mm_pays _ h ex _ _ (ht)) (by decide) rfl rfl (Nat.le_of_ble_eq_true rfl) dX12_runStep_30 ?_
  refine y_if_ne o dX12_runStep_33 (fun c33 => ?_) (fun c33 => ?_)
  · skip
    refine y_take 3 rfl ?_
    exact j37 _ _ (by unfold pOk; rw [f_pays_1 c33 12 (by decide) (by decide)]; exact hr.2.1) hr.2.2.1 (fun b hb => by rw [f_see_pays c33]; exact hr.2.2.2 b hb) (by simp only [f_run, f_word, if_true, if_false, eq_false c33])
  · skip
    exact x_vret o r dX12_runStep_36 (by simp only [if_true, if_false, ix, f_run, f_word, eq_true c33] <;> rfl)
