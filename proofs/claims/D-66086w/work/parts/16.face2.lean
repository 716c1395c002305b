/-! the component and its program -/
set_option maxRecDepth 100000
theorem cm_isReg2 (dd : ClassId × ClassId × ClassId) (h : Nat → Nat) (ex : va_W) (S : XS) (x : Int32) : Cx dd yX5_isRegister cX5_isRegister 1 (some .boolean) 0 cG [.int x] h ex S (some (.int (g_reg x))) S := cm_isReg dd h ex S x
set_option maxHeartbeats 4000000 in
set_option maxRecDepth 100000 in
theorem cm_isGood (dd : ClassId × ClassId × ClassId) (h : Nat → Nat) (ex : va_W) (S : XS) (t : Int32) (i : Int32) {P : PA} {cd sz : Nat → Int32} {ex0 : va_W} (hex : ex = pW dd.2.2 h P cd sz ++ ex0) (hp : pOK P sz) (ht : vp_in t 16) (hi : vp_in i (ix (sz (ix t)))) : Cx dd yX5_isGood cX5_isGood 5 (some .boolean) 4 cG [.ref (h 4), .int t, .int i] h ex S (some (.int (h_good cd sz t i))) S := by
  refine Cx.introE (by decide) (by simp [Value.category]) (Nat.le_of_ble_eq_true rfl) (fun K e o r hk => ?_)
  subst e
  have o : Y K cX5_isGood RX5 5 4 := o
  have hI := p_hJ hex hp ht hi
  obtain ⟨ww, eww⟩ : ∃ ww, ww = cd (ix (32 * t + i)) := ⟨_, rfl⟩
  have hg : h_good cd sz t i = h_goodW sz (sz (ix t)) ww (if i = sz (ix t) - 1 then 1 else 0) := by rw [eww]; rfl
  rw [← eww] at hI
  refine y_aload o dX5_isGood_0 rfl ?_
  refine y_iload o dX5_isGood_1 rfl ?_
  refine y_iload o dX5_isGood_2 rfl ?_
  refine y_callVr o kX5_34 tr_X5 hk (cm_at _ h ex _ _ _ (hex) (hp) (ht) (hi)) (by decide) rfl rfl (Nat.le_of_ble_eq_true rfl) dX5_isGood_3 ?_
  refine y_astore o dX5_isGood_6 (by decide) (Nat.le_of_ble_eq_true rfl) ?_
  refine y_iload o dX5_isGood_7 rfl ?_
  refine y_aload o dX5_isGood_8 rfl ?_
  refine y_iload o dX5_isGood_9 rfl ?_
  refine y_callVi o kX5_38 tr_X5 hk (cm_size _ h ex _ _ (hex) (hp) (ht)) (by decide) rfl rfl (Nat.le_of_ble_eq_true rfl) dX5_isGood_10 ?_
  refine y_const o dX5_isGood_13 ?_
  refine y_isub o dX5_isGood_14 ?_
  refine y_icmp_ne o dX5_isGood_15 (fun c15 => ?_) (fun c15 => ?_)
  · skip
    refine y_const o dX5_isGood_22 ?_
    refine y_istore o dX5_isGood_23 (by decide) (Nat.le_of_ble_eq_true rfl) ?_
    refine y_aload o dX5_isGood_25 rfl ?_
    refine y_getM o iFX5_41 (List.mem_append_right _ hI) rfl dX5_isGood_26 ?_
    refine y_top o (fun x29 ex29 => ?_)
    rcases (show x29.toInt < 0 ∨ x29.toInt = 0 ∨ x29.toInt = 1 ∨ x29.toInt = 2 ∨ x29.toInt = 3 ∨ x29.toInt = 4 ∨ x29.toInt = 5 ∨ x29.toInt = 6 ∨ x29.toInt = 7 ∨ x29.toInt = 8 ∨ x29.toInt = 9 ∨ x29.toInt = 10 ∨ x29.toInt = 11 ∨ x29.toInt = 12 ∨ x29.toInt = 13 ∨ x29.toInt = 14 ∨ x29.toInt = 15 ∨ x29.toInt = 16 ∨ x29.toInt = 17 ∨ 17 < x29.toInt by omega) with c29 | c29 | c29 | c29 | c29 | c29 | c29 | c29 | c29 | c29 | c29 | c29 | c29 | c29 | c29 | c29 | c29 | c29 | c29 | c29
    · skip
      refine y_swd o dX5_isGood_29_d (Or.inl c29) ?_
      rw [ex29] at c29
      refine y_const o dX5_isGood_393 ?_
      exact x_zret o r dX5_isGood_394 (by first | exact Or.inl rfl | exact Or.inr rfl) (by rw [hg]; exact (h_good_out (by omega)).symm) (by rfl)
    · skip
      refine y_sw o dX5_isGood_29_c0 c29 ?_
      have c29 : x29 = 0 := Int32.toInt_inj.mp c29
      rw [ex29] at c29
      refine y_aload o dX5_isGood_116 rfl ?_
      refine y_getM o iFX5_45 (List.mem_append_right _ hI) rfl dX5_isGood_117 ?_
      refine y_const o dX5_isGood_120 ?_
      refine y_icmp_ge o dX5_isGood_122 (fun c122 => ?_) (fun c122 => ?_)
      · skip
        refine y_const o dX5_isGood_140 ?_
        exact x_zret o r dX5_isGood_141 (by first | exact Or.inl rfl | exact Or.inr rfl) (by rw [hg]; simp (decide := true) only [if_true, if_false, ix, h_goodW, c29, eq_false c15, eq_true c122]) (by rfl)
      · skip
        refine y_aload o dX5_isGood_125 rfl ?_
        refine y_aload o dX5_isGood_126 rfl ?_
        refine y_getM o iFX5_45 (List.mem_append_right _ hI) rfl dX5_isGood_127 ?_
        refine y_callVi o kX5_38 tr_X5 hk (cm_size _ h ex _ _ (hex) (hp) (vi_lt (N := 16) (n := 16) (f_a_nn ww) c122 rfl (by decide))) (by decide) rfl rfl (Nat.le_of_ble_eq_true rfl) dX5_isGood_130 ?_
        refine y_if_le o dX5_isGood_133 (fun c133 => ?_) (fun c133 => ?_)
        · skip
          refine y_const o dX5_isGood_140 ?_
          exact x_zret o r dX5_isGood_141 (by first | exact Or.inl rfl | exact Or.inr rfl) (by rw [hg]; simp (decide := true) only [if_true, if_false, ix, h_goodW, c29, eq_false c15, eq_false c122, eq_true c133]) (by rfl)
        · skip
          refine y_const o dX5_isGood_136 ?_
          refine y_goto o dX5_isGood_137 ?_
          exact x_zret o r dX5_isGood_141 (by first | exact Or.inl rfl | exact Or.inr rfl) (by rw [hg]; simp (decide := true) only [if_true, if_false, ix, h_goodW, c29, eq_false c15, eq_false c122, eq_false c133]) (by rfl)
    · skip
      refine y_sw o dX5_isGood_29_c1 c29 ?_
      have c29 : x29 = 1 := Int32.toInt_inj.mp c29
      rw [ex29] at c29
      refine y_iload o dX5_isGood_160 rfl ?_
      refine y_if_ne o dX5_isGood_162 (fun cc => absurd cc (by decide)) (fun cc => ?_)
      refine y_aload o dX5_isGood_165 rfl ?_
      refine y_getM o iFX5_45 (List.mem_append_right _ hI) rfl dX5_isGood_166 ?_
      refine y_callSi o kX5_51 hk (cm_isReg2 _ h ex _ _ ) (by decide) rfl rfl (Nat.le_of_ble_eq_true rfl) dX5_isGood_169 ?_
      refine y_if_eq o dX5_isGood_172 (fun c172 => ?_) (fun c172 => ?_)
      · skip
        refine y_const o dX5_isGood_179 ?_
        exact x_zret o r dX5_isGood_180 (by first | exact Or.inl rfl | exact Or.inr rfl) (by rw [hg]; simp (decide := true) only [if_true, if_false, ix, h_goodW, c29, eq_false c15, eq_true c172]) (by rfl)
      · skip
        refine y_const o dX5_isGood_175 ?_
        refine y_goto o dX5_isGood_176 ?_
        exact x_zret o r dX5_isGood_180 (by first | exact Or.inl rfl | exact Or.inr rfl) (by rw [hg]; simp (decide := true) only [if_true, if_false, ix, h_goodW, c29, eq_false c15, eq_false c172]) (by rfl)
    · skip
      refine y_sw o dX5_isGood_29_c2 c29 ?_
      have c29 : x29 = 2 := Int32.toInt_inj.mp c29
      rw [ex29] at c29
      refine y_iload o dX5_isGood_181 rfl ?_
      refine y_if_ne o dX5_isGood_183 (fun cc => absurd cc (by decide)) (fun cc => ?_)
      refine y_aload o dX5_isGood_186 rfl ?_
      refine y_getM o iFX5_45 (List.mem_append_right _ hI) rfl dX5_isGood_187 ?_
      refine y_callSi o kX5_51 hk (cm_isReg2 _ h ex _ _ ) (by decide) rfl rfl (Nat.le_of_ble_eq_true rfl) dX5_isGood_190 ?_
      refine y_if_eq o dX5_isGood_193 (fun c193 => ?_) (fun c193 => ?_)
      · skip
        refine y_const o dX5_isGood_220 ?_
        exact x_zret o r dX5_isGood_221 (by first | exact Or.inl rfl | exact Or.inr rfl) (by rw [hg]; simp (decide := true) only [if_true, if_false, ix, h_goodW, c29, eq_false c15, eq_true c193]) (by rfl)
      · skip
        refine y_aload o dX5_isGood_196 rfl ?_
        refine y_getM o iFX5_48 (List.mem_append_right _ hI) rfl dX5_isGood_197 ?_
        refine y_callSi o kX5_51 hk (cm_isReg2 _ h ex _ _ ) (by decide) rfl rfl (Nat.le_of_ble_eq_true rfl) dX5_isGood_200 ?_
        refine y_if_eq o dX5_isGood_203 (fun c203 => ?_) (fun c203 => ?_)
        · skip
          refine y_const o dX5_isGood_220 ?_
          exact x_zret o r dX5_isGood_221 (by first | exact Or.inl rfl | exact Or.inr rfl) (by rw [hg]; simp (decide := true) only [if_true, if_false, ix, h_goodW, c29, eq_false c15, eq_false c193, eq_true c203]) (by rfl)
        · skip
          refine y_aload o dX5_isGood_206 rfl ?_
          refine y_getM o iFX5_55 (List.mem_append_right _ hI) rfl dX5_isGood_207 ?_
          refine y_callSi o kX5_51 hk (cm_isReg2 _ h ex _ _ ) (by decide) rfl rfl (Nat.le_of_ble_eq_true rfl) dX5_isGood_210 ?_
          refine y_if_eq o dX5_isGood_213 (fun c213 => ?_) (fun c213 => ?_)
          · skip
            refine y_const o dX5_isGood_220 ?_
            exact x_zret o r dX5_isGood_221 (by first | exact Or.inl rfl | exact Or.inr rfl) (by rw [hg]; simp (decide := true) only [if_true, if_false, ix, h_goodW, c29, eq_false c15, eq_false c193, eq_false c203, eq_true c213]) (by rfl)
          · skip
            refine y_const o dX5_isGood_216 ?_
            refine y_goto o dX5_isGood_217 ?_
            exact x_zret o r dX5_isGood_221 (by first | exact Or.inl rfl | exact Or.inr rfl) (by rw [hg]; simp (decide := true) only [if_true, if_false, ix, h_goodW, c29, eq_false c15, eq_false c193, eq_false c203, eq_false c213]) (by rfl)
    · skip
      refine y_sw o dX5_isGood_29_c3 c29 ?_
      have c29 : x29 = 3 := Int32.toInt_inj.mp c29
      rw [ex29] at c29
      refine y_iload o dX5_isGood_181 rfl ?_
      refine y_if_ne o dX5_isGood_183 (fun cc => absurd cc (by decide)) (fun cc => ?_)
      refine y_aload o dX5_isGood_186 rfl ?_
      refine y_getM o iFX5_45 (List.mem_append_right _ hI) rfl dX5_isGood_187 ?_
      refine y_callSi o kX5_51 hk (cm_isReg2 _ h ex _ _ ) (by decide) rfl rfl (Nat.le_of_ble_eq_true rfl) dX5_isGood_190 ?_
      refine y_if_eq o dX5_isGood_193 (fun c193 => ?_) (fun c193 => ?_)
      · skip
        refine y_const o dX5_isGood_220 ?_
        exact x_zret o r dX5_isGood_221 (by first | exact Or.inl rfl | exact Or.inr rfl) (by rw [hg]; simp (decide := true) only [if_true, if_false, ix, h_goodW, c29, eq_false c15, eq_true c193]) (by rfl)
      · skip
        refine y_aload o dX5_isGood_196 rfl ?_
        refine y_getM o iFX5_48 (List.mem_append_right _ hI) rfl dX5_isGood_197 ?_
        refine y_callSi o kX5_51 hk (cm_isReg2 _ h ex _ _ ) (by decide) rfl rfl (Nat.le_of_ble_eq_true rfl) dX5_isGood_200 ?_
        refine y_if_eq o dX5_isGood_203 (fun c203 => ?_) (fun c203 => ?_)
        · skip
          refine y_const o dX5_isGood_220 ?_
          exact x_zret o r dX5_isGood_221 (by first | exact Or.inl rfl | exact Or.inr rfl) (by rw [hg]; simp (decide := true) only [if_true, if_false, ix, h_goodW, c29, eq_false c15, eq_false c193, eq_true c203]) (by rfl)
        · skip
          refine y_aload o dX5_isGood_206 rfl ?_
          refine y_getM o iFX5_55 (List.mem_append_right _ hI) rfl dX5_isGood_207 ?_
          refine y_callSi o kX5_51 hk (cm_isReg2 _ h ex _ _ ) (by decide) rfl rfl (Nat.le_of_ble_eq_true rfl) dX5_isGood_210 ?_
          refine y_if_eq o dX5_isGood_213 (fun c213 => ?_) (fun c213 => ?_)
          · skip
            refine y_const o dX5_isGood_220 ?_
            exact x_zret o r dX5_isGood_221 (by first | exact Or.inl rfl | exact Or.inr rfl) (by rw [hg]; simp (decide := true) only [if_true, if_false, ix, h_goodW, c29, eq_false c15, eq_false c193, eq_false c203, eq_true c213]) (by rfl)
          · skip
            refine y_const o dX5_isGood_216 ?_
            refine y_goto o dX5_isGood_217 ?_
            exact x_zret o r dX5_isGood_221 (by first | exact Or.inl rfl | exact Or.inr rfl) (by rw [hg]; simp (decide := true) only [if_true, if_false, ix, h_goodW, c29, eq_false c15, eq_false c193, eq_false c203, eq_false c213]) (by rfl)
    · skip
      refine y_sw o dX5_isGood_29_c4 c29 ?_
      have c29 : x29 = 4 := Int32.toInt_inj.mp c29
      rw [ex29] at c29
      refine y_iload o dX5_isGood_181 rfl ?_
      refine y_if_ne o dX5_isGood_183 (fun cc => absurd cc (by decide)) (fun cc => ?_)
      refine y_aload o dX5_isGood_186 rfl ?_
      refine y_getM o iFX5_45 (List.mem_append_right _ hI) rfl dX5_isGood_187 ?_
      refine y_callSi o kX5_51 hk (cm_isReg2 _ h ex _ _ ) (by decide) rfl rfl (Nat.le_of_ble_eq_true rfl) dX5_isGood_190 ?_
      refine y_if_eq o dX5_isGood_193 (fun c193 => ?_) (fun c193 => ?_)
      · skip
        refine y_const o dX5_isGood_220 ?_
        exact x_zret o r dX5_isGood_221 (by first | exact Or.inl rfl | exact Or.inr rfl) (by rw [hg]; simp (decide := true) only [if_true, if_false, ix, h_goodW, c29, eq_false c15, eq_true c193]) (by rfl)
      · skip
        refine y_aload o dX5_isGood_196 rfl ?_
        refine y_getM o iFX5_48 (List.mem_append_right _ hI) rfl dX5_isGood_197 ?_
        refine y_callSi o kX5_51 hk (cm_isReg2 _ h ex _ _ ) (by decide) rfl rfl (Nat.le_of_ble_eq_true rfl) dX5_isGood_200 ?_
        refine y_if_eq o dX5_isGood_203 (fun c203 => ?_) (fun c203 => ?_)
        · skip
          refine y_const o dX5_isGood_220 ?_
          exact x_zret o r dX5_isGood_221 (by first | exact Or.inl rfl | exact Or.inr rfl) (by rw [hg]; simp (decide := true) only [if_true, if_false, ix, h_goodW, c29, eq_false c15, eq_false c193, eq_true c203]) (by rfl)
        · skip
          refine y_aload o dX5_isGood_206 rfl ?_
          refine y_getM o iFX5_55 (List.mem_append_right _ hI) rfl dX5_isGood_207 ?_
          refine y_callSi o kX5_51 hk (cm_isReg2 _ h ex _ _ ) (by decide) rfl rfl (Nat.le_of_ble_eq_true rfl) dX5_isGood_210 ?_
          refine y_if_eq o dX5_isGood_213 (fun c213 => ?_) (fun c213 => ?_)
          · skip
            refine y_const o dX5_isGood_220 ?_
            exact x_zret o r dX5_isGood_221 (by first | exact Or.inl rfl | exact Or.inr rfl) (by rw [hg]; simp (decide := true) only [if_true, if_false, ix, h_goodW, c29, eq_false c15, eq_false c193, eq_false c203, eq_true c213]) (by rfl)
          · skip
            refine y_const o dX5_isGood_216 ?_
            refine y_goto o dX5_isGood_217 ?_
            exact x_zret o r dX5_isGood_221 (by first | exact Or.inl rfl | exact Or.inr rfl) (by rw [hg]; simp (decide := true) only [if_true, if_false, ix, h_goodW, c29, eq_false c15, eq_false c193, eq_false c203, eq_false c213]) (by rfl)
    · skip
      refine y_sw o dX5_isGood_29_c5 c29 ?_
      have c29 : x29 = 5 := Int32.toInt_inj.mp c29
      rw [ex29] at c29
      refine y_iload o dX5_isGood_181 rfl ?_
      refine y_if_ne o dX5_isGood_183 (fun cc => absurd cc (by decide)) (fun cc => ?_)
      refine y_aload o dX5_isGood_186 rfl ?_
      refine y_getM o iFX5_45 (List.mem_append_right _ hI) rfl dX5_isGood_187 ?_
      refine y_callSi o kX5_51 hk (cm_isReg2 _ h ex _ _ ) (by decide) rfl rfl (Nat.le_of_ble_eq_true rfl) dX5_isGood_190 ?_
      refine y_if_eq o dX5_isGood_193 (fun c193 => ?_) (fun c193 => ?_)
      · skip
        refine y_const o dX5_isGood_220 ?_
        exact x_zret o r dX5_isGood_221 (by first | exact Or.inl rfl | exact Or.inr rfl) (by rw [hg]; simp (decide := true) only [if_true, if_false, ix, h_goodW, c29, eq_false c15, eq_true c193]) (by rfl)
      · skip
        refine y_aload o dX5_isGood_196 rfl ?_
        refine y_getM o iFX5_48 (List.mem_append_right _ hI) rfl dX5_isGood_197 ?_
        refine y_callSi o kX5_51 hk (cm_isReg2 _ h ex _ _ ) (by decide) rfl rfl (Nat.le_of_ble_eq_true rfl) dX5_isGood_200 ?_
        refine y_if_eq o dX5_isGood_203 (fun c203 => ?_) (fun c203 => ?_)
        · skip
          refine y_const o dX5_isGood_220 ?_
          exact x_zret o r dX5_isGood_221 (by first | exact Or.inl rfl | exact Or.inr rfl) (by rw [hg]; simp (decide := true) only [if_true, if_false, ix, h_goodW, c29, eq_false c15, eq_false c193, eq_true c203]) (by rfl)
        · skip
          refine y_aload o dX5_isGood_206 rfl ?_
          refine y_getM o iFX5_55 (List.mem_append_right _ hI) rfl dX5_isGood_207 ?_
          refine y_callSi o kX5_51 hk (cm_isReg2 _ h ex _ _ ) (by decide) rfl rfl (Nat.le_of_ble_eq_true rfl) dX5_isGood_210 ?_
          refine y_if_eq o dX5_isGood_213 (fun c213 => ?_) (fun c213 => ?_)
          · skip
            refine y_const o dX5_isGood_220 ?_
            exact x_zret o r dX5_isGood_221 (by first | exact Or.inl rfl | exact Or.inr rfl) (by rw [hg]; simp (decide := true) only [if_true, if_false, ix, h_goodW, c29, eq_false c15, eq_false c193, eq_false c203, eq_true c213]) (by rfl)
          · skip
            refine y_const o dX5_isGood_216 ?_
            refine y_goto o dX5_isGood_217 ?_
            exact x_zret o r dX5_isGood_221 (by first | exact Or.inl rfl | exact Or.inr rfl) (by rw [hg]; simp (decide := true) only [if_true, if_false, ix, h_goodW, c29, eq_false c15, eq_false c193, eq_false c203, eq_false c213]) (by rfl)
    · skip
      refine y_sw o dX5_isGood_29_c6 c29 ?_
      have c29 : x29 = 6 := Int32.toInt_inj.mp c29
      rw [ex29] at c29
      refine y_iload o dX5_isGood_222 rfl ?_
      refine y_if_ne o dX5_isGood_224 (fun cc => absurd cc (by decide)) (fun cc => ?_)
      refine y_aload o dX5_isGood_227 rfl ?_
      refine y_getM o iFX5_45 (List.mem_append_right _ hI) rfl dX5_isGood_228 ?_
      refine y_callSi o kX5_51 hk (cm_isReg2 _ h ex _ _ ) (by decide) rfl rfl (Nat.le_of_ble_eq_true rfl) dX5_isGood_231 ?_
      refine y_if_eq o dX5_isGood_234 (fun c234 => ?_) (fun c234 => ?_)
      · skip
        refine y_const o dX5_isGood_253 ?_
        exact x_zret o r dX5_isGood_254 (by first | exact Or.inl rfl | exact Or.inr rfl) (by rw [hg]; simp (decide := true) only [if_true, if_false, ix, h_goodW, c29, eq_false c15, eq_true c234]) (by rfl)
      · skip
        refine y_aload o dX5_isGood_237 rfl ?_
        refine y_getM o iFX5_48 (List.mem_append_right _ hI) rfl dX5_isGood_238 ?_
        refine y_aload o dX5_isGood_241 rfl ?_
        refine y_iload o dX5_isGood_242 rfl ?_
        refine y_callVi o kX5_38 tr_X5 hk (cm_size _ h ex _ _ (hex) (hp) (ht)) (by decide) rfl rfl (Nat.le_of_ble_eq_true rfl) dX5_isGood_243 ?_
        refine y_icmp_ge o dX5_isGood_246 (fun c246 => ?_) (fun c246 => ?_)
        · skip
          refine y_const o dX5_isGood_253 ?_
          exact x_zret o r dX5_isGood_254 (by first | exact Or.inl rfl | exact Or.inr rfl) (by rw [hg]; simp (decide := true) only [if_true, if_false, ix, h_goodW, c29, eq_false c15, eq_false c234, eq_true c246]) (by rfl)
        · skip
          refine y_const o dX5_isGood_249 ?_
          refine y_goto o dX5_isGood_250 ?_
          exact x_zret o r dX5_isGood_254 (by first | exact Or.inl rfl | exact Or.inr rfl) (by rw [hg]; simp (decide := true) only [if_true, if_false, ix, h_goodW, c29, eq_false c15, eq_false c234, eq_false c246]) (by rfl)
    · skip
      refine y_sw o dX5_isGood_29_c7 c29 ?_
      have c29 : x29 = 7 := Int32.toInt_inj.mp c29
      rw [ex29] at c29
      refine y_aload o dX5_isGood_142 rfl ?_
      refine y_getM o iFX5_48 (List.mem_append_right _ hI) rfl dX5_isGood_143 ?_
      refine y_aload o dX5_isGood_146 rfl ?_
      refine y_iload o dX5_isGood_147 rfl ?_
      refine y_callVi o kX5_38 tr_X5 hk (cm_size _ h ex _ _ (hex) (hp) (ht)) (by decide) rfl rfl (Nat.le_of_ble_eq_true rfl) dX5_isGood_148 ?_
      refine y_icmp_ge o dX5_isGood_151 (fun c151 => ?_) (fun c151 => ?_)
      · skip
        refine y_const o dX5_isGood_158 ?_
        exact x_zret o r dX5_isGood_159 (by first | exact Or.inl rfl | exact Or.inr rfl) (by rw [hg]; simp (decide := true) only [if_true, if_false, ix, h_goodW, c29, eq_false c15, eq_true c151]) (by rfl)
      · skip
        refine y_const o dX5_isGood_154 ?_
        refine y_goto o dX5_isGood_155 ?_
        exact x_zret o r dX5_isGood_159 (by first | exact Or.inl rfl | exact Or.inr rfl) (by rw [hg]; simp (decide := true) only [if_true, if_false, ix, h_goodW, c29, eq_false c15, eq_false c151]) (by rfl)
    · skip
      refine y_sw o dX5_isGood_29_c8 c29 ?_
      have c29 : x29 = 8 := Int32.toInt_inj.mp c29
      rw [ex29] at c29
      refine y_iload o dX5_isGood_255 rfl ?_
      refine y_if_ne o dX5_isGood_257 (fun cc => absurd cc (by decide)) (fun cc => ?_)
      refine y_aload o dX5_isGood_260 rfl ?_
      refine y_getM o iFX5_45 (List.mem_append_right _ hI) rfl dX5_isGood_261 ?_
      refine y_callSi o kX5_51 hk (cm_isReg2 _ h ex _ _ ) (by decide) rfl rfl (Nat.le_of_ble_eq_true rfl) dX5_isGood_264 ?_
      refine y_if_eq o dX5_isGood_267 (fun c267 => ?_) (fun c267 => ?_)
      · skip
        refine y_const o dX5_isGood_283 ?_
        exact x_zret o r dX5_isGood_284 (by first | exact Or.inl rfl | exact Or.inr rfl) (by rw [hg]; simp (decide := true) only [if_true, if_false, ix, h_goodW, c29, eq_false c15, eq_true c267]) (by rfl)
      · skip
        refine y_aload o dX5_isGood_270 rfl ?_
        refine y_getM o iFX5_48 (List.mem_append_right _ hI) rfl dX5_isGood_271 ?_
        refine y_const o dX5_isGood_274 ?_
        refine y_icmp_ge o dX5_isGood_276 (fun c276 => ?_) (fun c276 => ?_)
        · skip
          refine y_const o dX5_isGood_283 ?_
          exact x_zret o r dX5_isGood_284 (by first | exact Or.inl rfl | exact Or.inr rfl) (by rw [hg]; simp (decide := true) only [if_true, if_false, ix, h_goodW, c29, eq_false c15, eq_false c267, eq_true c276]) (by rfl)
        · skip
          refine y_const o dX5_isGood_279 ?_
          refine y_goto o dX5_isGood_280 ?_
          exact x_zret o r dX5_isGood_284 (by first | exact Or.inl rfl | exact Or.inr rfl) (by rw [hg]; simp (decide := true) only [if_true, if_false, ix, h_goodW, c29, eq_false c15, eq_false c267, eq_false c276]) (by rfl)
    · skip
      refine y_sw o dX5_isGood_29_c9 c29 ?_
      have c29 : x29 = 9 := Int32.toInt_inj.mp c29
      rw [ex29] at c29
      refine y_iload o dX5_isGood_255 rfl ?_
      refine y_if_ne o dX5_isGood_257 (fun cc => absurd cc (by decide)) (fun cc => ?_)
      refine y_aload o dX5_isGood_260 rfl ?_
      refine y_getM o iFX5_45 (List.mem_append_right _ hI) rfl dX5_isGood_261 ?_
      refine y_callSi o kX5_51 hk (cm_isReg2 _ h ex _ _ ) (by decide) rfl rfl (Nat.le_of_ble_eq_true rfl) dX5_isGood_264 ?_
      refine y_if_eq o dX5_isGood_267 (fun c267 => ?_) (fun c267 => ?_)
      · skip
        refine y_const o dX5_isGood_283 ?_
        exact x_zret o r dX5_isGood_284 (by first | exact Or.inl rfl | exact Or.inr rfl) (by rw [hg]; simp (decide := true) only [if_true, if_false, ix, h_goodW, c29, eq_false c15, eq_true c267]) (by rfl)
      · skip
        refine y_aload o dX5_isGood_270 rfl ?_
        refine y_getM o iFX5_48 (List.mem_append_right _ hI) rfl dX5_isGood_271 ?_
        refine y_const o dX5_isGood_274 ?_
        refine y_icmp_ge o dX5_isGood_276 (fun c276 => ?_) (fun c276 => ?_)
        · skip
          refine y_const o dX5_isGood_283 ?_
          exact x_zret o r dX5_isGood_284 (by first | exact Or.inl rfl | exact Or.inr rfl) (by rw [hg]; simp (decide := true) only [if_true, if_false, ix, h_goodW, c29, eq_false c15, eq_false c267, eq_true c276]) (by rfl)
        · skip
          refine y_const o dX5_isGood_279 ?_
          refine y_goto o dX5_isGood_280 ?_
          exact x_zret o r dX5_isGood_284 (by first | exact Or.inl rfl | exact Or.inr rfl) (by rw [hg]; simp (decide := true) only [if_true, if_false, ix, h_goodW, c29, eq_false c15, eq_false c267, eq_false c276]) (by rfl)
    · skip
      refine y_sw o dX5_isGood_29_c10 c29 ?_
      have c29 : x29 = 10 := Int32.toInt_inj.mp c29
      rw [ex29] at c29
      refine y_iload o dX5_isGood_285 rfl ?_
      refine y_if_ne o dX5_isGood_287 (fun cc => absurd cc (by decide)) (fun cc => ?_)
      refine y_aload o dX5_isGood_290 rfl ?_
      refine y_getM o iFX5_45 (List.mem_append_right _ hI) rfl dX5_isGood_291 ?_
      refine y_callSi o kX5_51 hk (cm_isReg2 _ h ex _ _ ) (by decide) rfl rfl (Nat.le_of_ble_eq_true rfl) dX5_isGood_294 ?_
      refine y_if_eq o dX5_isGood_297 (fun c297 => ?_) (fun c297 => ?_)
      · skip
        refine y_const o dX5_isGood_322 ?_
        exact x_zret o r dX5_isGood_323 (by first | exact Or.inl rfl | exact Or.inr rfl) (by rw [hg]; simp (decide := true) only [if_true, if_false, ix, h_goodW, c29, eq_false c15, eq_true c297]) (by rfl)
      · skip
        refine y_aload o dX5_isGood_300 rfl ?_
        refine y_getM o iFX5_55 (List.mem_append_right _ hI) rfl dX5_isGood_301 ?_
        refine y_callSi o kX5_51 hk (cm_isReg2 _ h ex _ _ ) (by decide) rfl rfl (Nat.le_of_ble_eq_true rfl) dX5_isGood_304 ?_
        refine y_if_eq o dX5_isGood_307 (fun c307 => ?_) (fun c307 => ?_)
        · skip
          refine y_const o dX5_isGood_322 ?_
          exact x_zret o r dX5_isGood_323 (by first | exact Or.inl rfl | exact Or.inr rfl) (by rw [hg]; simp (decide := true) only [if_true, if_false, ix, h_goodW, c29, eq_false c15, eq_false c297, eq_true c307]) (by rfl)
        · skip
          refine y_aload o dX5_isGood_310 rfl ?_
          refine y_getM o iFX5_48 (List.mem_append_right _ hI) rfl dX5_isGood_311 ?_
          refine y_const o dX5_isGood_314 ?_
          refine y_icmp_ge o dX5_isGood_315 (fun c315 => ?_) (fun c315 => ?_)
          · skip
            refine y_const o dX5_isGood_322 ?_
            exact x_zret o r dX5_isGood_323 (by first | exact Or.inl rfl | exact Or.inr rfl) (by rw [hg]; simp (decide := true) only [if_true, if_false, ix, h_goodW, c29, eq_false c15, eq_false c297, eq_false c307, eq_true c315]) (by rfl)
          · skip
            refine y_const o dX5_isGood_318 ?_
            refine y_goto o dX5_isGood_319 ?_
            exact x_zret o r dX5_isGood_323 (by first | exact Or.inl rfl | exact Or.inr rfl) (by rw [hg]; simp (decide := true) only [if_true, if_false, ix, h_goodW, c29, eq_false c15, eq_false c297, eq_false c307, eq_false c315]) (by rfl)
    · skip
      refine y_sw o dX5_isGood_29_c11 c29 ?_
      have c29 : x29 = 11 := Int32.toInt_inj.mp c29
      rw [ex29] at c29
      refine y_iload o dX5_isGood_285 rfl ?_
      refine y_if_ne o dX5_isGood_287 (fun cc => absurd cc (by decide)) (fun cc => ?_)
      refine y_aload o dX5_isGood_290 rfl ?_
      refine y_getM o iFX5_45 (List.mem_append_right _ hI) rfl dX5_isGood_291 ?_
      refine y_callSi o kX5_51 hk (cm_isReg2 _ h ex _ _ ) (by decide) rfl rfl (Nat.le_of_ble_eq_true rfl) dX5_isGood_294 ?_
      refine y_if_eq o dX5_isGood_297 (fun c297 => ?_) (fun c297 => ?_)
      · skip
        refine y_const o dX5_isGood_322 ?_
        exact x_zret o r dX5_isGood_323 (by first | exact Or.inl rfl | exact Or.inr rfl) (by rw [hg]; simp (decide := true) only [if_true, if_false, ix, h_goodW, c29, eq_false c15, eq_true c297]) (by rfl)
      · skip
        refine y_aload o dX5_isGood_300 rfl ?_
        refine y_getM o iFX5_55 (List.mem_append_right _ hI) rfl dX5_isGood_301 ?_
        refine y_callSi o kX5_51 hk (cm_isReg2 _ h ex _ _ ) (by decide) rfl rfl (Nat.le_of_ble_eq_true rfl) dX5_isGood_304 ?_
        refine y_if_eq o dX5_isGood_307 (fun c307 => ?_) (fun c307 => ?_)
        · skip
          refine y_const o dX5_isGood_322 ?_
          exact x_zret o r dX5_isGood_323 (by first | exact Or.inl rfl | exact Or.inr rfl) (by rw [hg]; simp (decide := true) only [if_true, if_false, ix, h_goodW, c29, eq_false c15, eq_false c297, eq_true c307]) (by rfl)
        · skip
          refine y_aload o dX5_isGood_310 rfl ?_
          refine y_getM o iFX5_48 (List.mem_append_right _ hI) rfl dX5_isGood_311 ?_
          refine y_const o dX5_isGood_314 ?_
          refine y_icmp_ge o dX5_isGood_315 (fun c315 => ?_) (fun c315 => ?_)
          · skip
            refine y_const o dX5_isGood_322 ?_
            exact x_zret o r dX5_isGood_323 (by first | exact Or.inl rfl | exact Or.inr rfl) (by rw [hg]; simp (decide := true) only [if_true, if_false, ix, h_goodW, c29, eq_false c15, eq_false c297, eq_false c307, eq_true c315]) (by rfl)
          · skip
            refine y_const o dX5_isGood_318 ?_
            refine y_goto o dX5_isGood_319 ?_
            exact x_zret o r dX5_isGood_323 (by first | exact Or.inl rfl | exact Or.inr rfl) (by rw [hg]; simp (decide := true) only [if_true, if_false, ix, h_goodW, c29, eq_false c15, eq_false c297, eq_false c307, eq_false c315]) (by rfl)
    · skip
      refine y_sw o dX5_isGood_29_c12 c29 ?_
      have c29 : x29 = 12 := Int32.toInt_inj.mp c29
      rw [ex29] at c29
      refine y_iload o dX5_isGood_324 rfl ?_
      refine y_if_ne o dX5_isGood_326 (fun cc => absurd cc (by decide)) (fun cc => ?_)
      refine y_aload o dX5_isGood_329 rfl ?_
      refine y_getM o iFX5_45 (List.mem_append_right _ hI) rfl dX5_isGood_330 ?_
      refine y_callSi o kX5_51 hk (cm_isReg2 _ h ex _ _ ) (by decide) rfl rfl (Nat.le_of_ble_eq_true rfl) dX5_isGood_333 ?_
      refine y_if_eq o dX5_isGood_336 (fun c336 => ?_) (fun c336 => ?_)
      · skip
        refine y_const o dX5_isGood_351 ?_
        exact x_zret o r dX5_isGood_352 (by first | exact Or.inl rfl | exact Or.inr rfl) (by rw [hg]; simp (decide := true) only [if_true, if_false, ix, h_goodW, c29, eq_false c15, eq_true c336]) (by rfl)
      · skip
        refine y_aload o dX5_isGood_339 rfl ?_
        refine y_getM o iFX5_48 (List.mem_append_right _ hI) rfl dX5_isGood_340 ?_
        refine y_const o dX5_isGood_343 ?_
        refine y_icmp_ge o dX5_isGood_344 (fun c344 => ?_) (fun c344 => ?_)
        · skip
          refine y_const o dX5_isGood_351 ?_
          exact x_zret o r dX5_isGood_352 (by first | exact Or.inl rfl | exact Or.inr rfl) (by rw [hg]; simp (decide := true) only [if_true, if_false, ix, h_goodW, c29, eq_false c15, eq_false c336, eq_true c344]) (by rfl)
        · skip
          refine y_const o dX5_isGood_347 ?_
          refine y_goto o dX5_isGood_348 ?_
          exact x_zret o r dX5_isGood_352 (by first | exact Or.inl rfl | exact Or.inr rfl) (by rw [hg]; simp (decide := true) only [if_true, if_false, ix, h_goodW, c29, eq_false c15, eq_false c336, eq_false c344]) (by rfl)
    · skip
      refine y_sw o dX5_isGood_29_c13 c29 ?_
      have c29 : x29 = 13 := Int32.toInt_inj.mp c29
      rw [ex29] at c29
      refine y_iload o dX5_isGood_324 rfl ?_
      refine y_if_ne o dX5_isGood_326 (fun cc => absurd cc (by decide)) (fun cc => ?_)
      refine y_aload o dX5_isGood_329 rfl ?_
      refine y_getM o iFX5_45 (List.mem_append_right _ hI) rfl dX5_isGood_330 ?_
      refine y_callSi o kX5_51 hk (cm_isReg2 _ h ex _ _ ) (by decide) rfl rfl (Nat.le_of_ble_eq_true rfl) dX5_isGood_333 ?_
      refine y_if_eq o dX5_isGood_336 (fun c336 => ?_) (fun c336 => ?_)
      · skip
        refine y_const o dX5_isGood_351 ?_
        exact x_zret o r dX5_isGood_352 (by first | exact Or.inl rfl | exact Or.inr rfl) (by rw [hg]; simp (decide := true) only [if_true, if_false, ix, h_goodW, c29, eq_false c15, eq_true c336]) (by rfl)
      · skip
        refine y_aload o dX5_isGood_339 rfl ?_
        refine y_getM o iFX5_48 (List.mem_append_right _ hI) rfl dX5_isGood_340 ?_
        refine y_const o dX5_isGood_343 ?_
        refine y_icmp_ge o dX5_isGood_344 (fun c344 => ?_) (fun c344 => ?_)
        · skip
          refine y_const o dX5_isGood_351 ?_
          exact x_zret o r dX5_isGood_352 (by first | exact Or.inl rfl | exact Or.inr rfl) (by rw [hg]; simp (decide := true) only [if_true, if_false, ix, h_goodW, c29, eq_false c15, eq_false c336, eq_true c344]) (by rfl)
        · skip
          refine y_const o dX5_isGood_347 ?_
          refine y_goto o dX5_isGood_348 ?_
          exact x_zret o r dX5_isGood_352 (by first | exact Or.inl rfl | exact Or.inr rfl) (by rw [hg]; simp (decide := true) only [if_true, if_false, ix, h_goodW, c29, eq_false c15, eq_false c336, eq_false c344]) (by rfl)
    · skip
      refine y_sw o dX5_isGood_29_c14 c29 ?_
      have c29 : x29 = 14 := Int32.toInt_inj.mp c29
      rw [ex29] at c29
      refine y_iload o dX5_isGood_353 rfl ?_
      refine y_if_ne o dX5_isGood_355 (fun cc => absurd cc (by decide)) (fun cc => ?_)
      refine y_aload o dX5_isGood_358 rfl ?_
      refine y_getM o iFX5_45 (List.mem_append_right _ hI) rfl dX5_isGood_359 ?_
      refine y_callSi o kX5_51 hk (cm_isReg2 _ h ex _ _ ) (by decide) rfl rfl (Nat.le_of_ble_eq_true rfl) dX5_isGood_362 ?_
      refine y_if_eq o dX5_isGood_365 (fun c365 => ?_) (fun c365 => ?_)
      · skip
        refine y_const o dX5_isGood_380 ?_
        exact x_zret o r dX5_isGood_381 (by first | exact Or.inl rfl | exact Or.inr rfl) (by rw [hg]; simp (decide := true) only [if_true, if_false, ix, h_goodW, c29, eq_false c15, eq_true c365]) (by rfl)
      · skip
        refine y_aload o dX5_isGood_368 rfl ?_
        refine y_getM o iFX5_48 (List.mem_append_right _ hI) rfl dX5_isGood_369 ?_
        refine y_const o dX5_isGood_372 ?_
        refine y_icmp_ge o dX5_isGood_373 (fun c373 => ?_) (fun c373 => ?_)
        · skip
          refine y_const o dX5_isGood_380 ?_
          exact x_zret o r dX5_isGood_381 (by first | exact Or.inl rfl | exact Or.inr rfl) (by rw [hg]; simp (decide := true) only [if_true, if_false, ix, h_goodW, c29, eq_false c15, eq_false c365, eq_true c373]) (by rfl)
        · skip
          refine y_const o dX5_isGood_376 ?_
          refine y_goto o dX5_isGood_377 ?_
          exact x_zret o r dX5_isGood_381 (by first | exact Or.inl rfl | exact Or.inr rfl) (by rw [hg]; simp (decide := true) only [if_true, if_false, ix, h_goodW, c29, eq_false c15, eq_false c365, eq_false c373]) (by rfl)
    · skip
      refine y_sw o dX5_isGood_29_c15 c29 ?_
      have c29 : x29 = 15 := Int32.toInt_inj.mp c29
      rw [ex29] at c29
      refine y_iload o dX5_isGood_160 rfl ?_
      refine y_if_ne o dX5_isGood_162 (fun cc => absurd cc (by decide)) (fun cc => ?_)
      refine y_aload o dX5_isGood_165 rfl ?_
      refine y_getM o iFX5_45 (List.mem_append_right _ hI) rfl dX5_isGood_166 ?_
      refine y_callSi o kX5_51 hk (cm_isReg2 _ h ex _ _ ) (by decide) rfl rfl (Nat.le_of_ble_eq_true rfl) dX5_isGood_169 ?_
      refine y_if_eq o dX5_isGood_172 (fun c172 => ?_) (fun c172 => ?_)
      · skip
        refine y_const o dX5_isGood_179 ?_
        exact x_zret o r dX5_isGood_180 (by first | exact Or.inl rfl | exact Or.inr rfl) (by rw [hg]; simp (decide := true) only [if_true, if_false, ix, h_goodW, c29, eq_false c15, eq_true c172]) (by rfl)
      · skip
        refine y_const o dX5_isGood_175 ?_
        refine y_goto o dX5_isGood_176 ?_
        exact x_zret o r dX5_isGood_180 (by first | exact Or.inl rfl | exact Or.inr rfl) (by rw [hg]; simp (decide := true) only [if_true, if_false, ix, h_goodW, c29, eq_false c15, eq_false c172]) (by rfl)
    · skip
      refine y_sw o dX5_isGood_29_c16 c29 ?_
      have c29 : x29 = 16 := Int32.toInt_inj.mp c29
      rw [ex29] at c29
      refine y_iload o dX5_isGood_382 rfl ?_
      refine y_if_ne o dX5_isGood_384 (fun cc => absurd cc (by decide)) (fun cc => ?_)
      refine y_const o dX5_isGood_387 ?_
      refine y_goto o dX5_isGood_388 ?_
      exact x_zret o r dX5_isGood_392 (by first | exact Or.inl rfl | exact Or.inr rfl) (by rw [hg]; simp (decide := true) only [if_true, if_false, ix, h_goodW, c29, eq_false c15]) (by rfl)
    · skip
      refine y_sw o dX5_isGood_29_c17 c29 ?_
      have c29 : x29 = 17 := Int32.toInt_inj.mp c29
      rw [ex29] at c29
      refine y_iload o dX5_isGood_382 rfl ?_
      refine y_if_ne o dX5_isGood_384 (fun cc => absurd cc (by decide)) (fun cc => ?_)
      refine y_const o dX5_isGood_387 ?_
      refine y_goto o dX5_isGood_388 ?_
      exact x_zret o r dX5_isGood_392 (by first | exact Or.inl rfl | exact Or.inr rfl) (by rw [hg]; simp (decide := true) only [if_true, if_false, ix, h_goodW, c29, eq_false c15]) (by rfl)
    · skip
      refine y_swd o dX5_isGood_29_d (Or.inr c29) ?_
      rw [ex29] at c29
      refine y_const o dX5_isGood_393 ?_
      exact x_zret o r dX5_isGood_394 (by first | exact Or.inl rfl | exact Or.inr rfl) (by rw [hg]; exact (h_good_out (by omega)).symm) (by rfl)
  · skip
    refine y_const o dX5_isGood_18 ?_
    refine y_goto o dX5_isGood_19 ?_
    refine y_istore o dX5_isGood_23 (by decide) (Nat.le_of_ble_eq_true rfl) ?_
    refine y_aload o dX5_isGood_25 rfl ?_
    refine y_getM o iFX5_41 (List.mem_append_right _ hI) rfl dX5_isGood_26 ?_
    refine y_top o (fun x29 ex29 => ?_)
    rcases (show x29.toInt < 0 ∨ x29.toInt = 0 ∨ x29.toInt = 1 ∨ x29.toInt = 2 ∨ x29.toInt = 3 ∨ x29.toInt = 4 ∨ x29.toInt = 5 ∨ x29.toInt = 6 ∨ x29.toInt = 7 ∨ x29.toInt = 8 ∨ x29.toInt = 9 ∨ x29.toInt = 10 ∨ x29.toInt = 11 ∨ x29.toInt = 12 ∨ x29.toInt = 13 ∨ x29.toInt = 14 ∨ x29.toInt = 15 ∨ x29.toInt = 16 ∨ x29.toInt = 17 ∨ 17 < x29.toInt by omega) with c29 | c29 | c29 | c29 | c29 | c29 | c29 | c29 | c29 | c29 | c29 | c29 | c29 | c29 | c29 | c29 | c29 | c29 | c29 | c29
    · skip
      refine y_swd o dX5_isGood_29_d (Or.inl c29) ?_
      rw [ex29] at c29
      refine y_const o dX5_isGood_393 ?_
      exact x_zret o r dX5_isGood_394 (by first | exact Or.inl rfl | exact Or.inr rfl) (by rw [hg]; exact (h_good_out (by omega)).symm) (by rfl)
    · skip
      refine y_sw o dX5_isGood_29_c0 c29 ?_
      have c29 : x29 = 0 := Int32.toInt_inj.mp c29
      rw [ex29] at c29
      refine y_aload o dX5_isGood_116 rfl ?_
      refine y_getM o iFX5_45 (List.mem_append_right _ hI) rfl dX5_isGood_117 ?_
      refine y_const o dX5_isGood_120 ?_
      refine y_icmp_ge o dX5_isGood_122 (fun c122 => ?_) (fun c122 => ?_)
      · skip
        refine y_const o dX5_isGood_140 ?_
        exact x_zret o r dX5_isGood_141 (by first | exact Or.inl rfl | exact Or.inr rfl) (by rw [hg]; simp (decide := true) only [if_true, if_false, ix, h_goodW, c29, eq_true c15, eq_true c122]) (by rfl)
      · skip
        refine y_aload o dX5_isGood_125 rfl ?_
        refine y_aload o dX5_isGood_126 rfl ?_
        refine y_getM o iFX5_45 (List.mem_append_right _ hI) rfl dX5_isGood_127 ?_
        refine y_callVi o kX5_38 tr_X5 hk (cm_size _ h ex _ _ (hex) (hp) (vi_lt (N := 16) (n := 16) (f_a_nn ww) c122 rfl (by decide))) (by decide) rfl rfl (Nat.le_of_ble_eq_true rfl) dX5_isGood_130 ?_
        refine y_if_le o dX5_isGood_133 (fun c133 => ?_) (fun c133 => ?_)
        · skip
          refine y_const o dX5_isGood_140 ?_
          exact x_zret o r dX5_isGood_141 (by first | exact Or.inl rfl | exact Or.inr rfl) (by rw [hg]; simp (decide := true) only [if_true, if_false, ix, h_goodW, c29, eq_true c15, eq_false c122, eq_true c133]) (by rfl)
        · skip
          refine y_const o dX5_isGood_136 ?_
          refine y_goto o dX5_isGood_137 ?_
          exact x_zret o r dX5_isGood_141 (by first | exact Or.inl rfl | exact Or.inr rfl) (by rw [hg]; simp (decide := true) only [if_true, if_false, ix, h_goodW, c29, eq_true c15, eq_false c122, eq_false c133]) (by rfl)
    · skip
      refine y_sw o dX5_isGood_29_c1 c29 ?_
      have c29 : x29 = 1 := Int32.toInt_inj.mp c29
      rw [ex29] at c29
      refine y_iload o dX5_isGood_160 rfl ?_
      refine y_if_ne o dX5_isGood_162 (fun cc => ?_) (fun cc => absurd cc (by decide))
      refine y_const o dX5_isGood_179 ?_
      exact x_zret o r dX5_isGood_180 (by first | exact Or.inl rfl | exact Or.inr rfl) (by rw [hg]; simp (decide := true) only [if_true, if_false, ix, h_goodW, c29, eq_true c15]) (by rfl)
    · skip
      refine y_sw o dX5_isGood_29_c2 c29 ?_
      have c29 : x29 = 2 := Int32.toInt_inj.mp c29
      rw [ex29] at c29
      refine y_iload o dX5_isGood_181 rfl ?_
      refine y_if_ne o dX5_isGood_183 (fun cc => ?_) (fun cc => absurd cc (by decide))
      refine y_const o dX5_isGood_220 ?_
      exact x_zret o r dX5_isGood_221 (by first | exact Or.inl rfl | exact Or.inr rfl) (by rw [hg]; simp (decide := true) only [if_true, if_false, ix, h_goodW, c29, eq_true c15]) (by rfl)
    · skip
      refine y_sw o dX5_isGood_29_c3 c29 ?_
      have c29 : x29 = 3 := Int32.toInt_inj.mp c29
      rw [ex29] at c29
      refine y_iload o dX5_isGood_181 rfl ?_
      refine y_if_ne o dX5_isGood_183 (fun cc => ?_) (fun cc => absurd cc (by decide))
      refine y_const o dX5_isGood_220 ?_
      exact x_zret o r dX5_isGood_221 (by first | exact Or.inl rfl | exact Or.inr rfl) (by rw [hg]; simp (decide := true) only [if_true, if_false, ix, h_goodW, c29, eq_true c15]) (by rfl)
    · skip
      refine y_sw o dX5_isGood_29_c4 c29 ?_
      have c29 : x29 = 4 := Int32.toInt_inj.mp c29
      rw [ex29] at c29
      refine y_iload o dX5_isGood_181 rfl ?_
      refine y_if_ne o dX5_isGood_183 (fun cc => ?_) (fun cc => absurd cc (by decide))
      refine y_const o dX5_isGood_220 ?_
      exact x_zret o r dX5_isGood_221 (by first | exact Or.inl rfl | exact Or.inr rfl) (by rw [hg]; simp (decide := true) only [if_true, if_false, ix, h_goodW, c29, eq_true c15]) (by rfl)
    · skip
      refine y_sw o dX5_isGood_29_c5 c29 ?_
      have c29 : x29 = 5 := Int32.toInt_inj.mp c29
      rw [ex29] at c29
      refine y_iload o dX5_isGood_181 rfl ?_
      refine y_if_ne o dX5_isGood_183 (fun cc => ?_) (fun cc => absurd cc (by decide))
      refine y_const o dX5_isGood_220 ?_
      exact x_zret o r dX5_isGood_221 (by first | exact Or.inl rfl | exact Or.inr rfl) (by rw [hg]; simp (decide := true) only [if_true, if_false, ix, h_goodW, c29, eq_true c15]) (by rfl)
    · skip
      refine y_sw o dX5_isGood_29_c6 c29 ?_
      have c29 : x29 = 6 := Int32.toInt_inj.mp c29
      rw [ex29] at c29
      refine y_iload o dX5_isGood_222 rfl ?_
      refine y_if_ne o dX5_isGood_224 (fun cc => ?_) (fun cc => absurd cc (by decide))
      refine y_const o dX5_isGood_253 ?_
      exact x_zret o r dX5_isGood_254 (by first | exact Or.inl rfl | exact Or.inr rfl) (by rw [hg]; simp (decide := true) only [if_true, if_false, ix, h_goodW, c29, eq_true c15]) (by rfl)
    · skip
      refine y_sw o dX5_isGood_29_c7 c29 ?_
      have c29 : x29 = 7 := Int32.toInt_inj.mp c29
      rw [ex29] at c29
      refine y_aload o dX5_isGood_142 rfl ?_
      refine y_getM o iFX5_48 (List.mem_append_right _ hI) rfl dX5_isGood_143 ?_
      refine y_aload o dX5_isGood_146 rfl ?_
      refine y_iload o dX5_isGood_147 rfl ?_
      refine y_callVi o kX5_38 tr_X5 hk (cm_size _ h ex _ _ (hex) (hp) (ht)) (by decide) rfl rfl (Nat.le_of_ble_eq_true rfl) dX5_isGood_148 ?_
      refine y_icmp_ge o dX5_isGood_151 (fun c151 => ?_) (fun c151 => ?_)
      · skip
        refine y_const o dX5_isGood_158 ?_
        exact x_zret o r dX5_isGood_159 (by first | exact Or.inl rfl | exact Or.inr rfl) (by rw [hg]; simp (decide := true) only [if_true, if_false, ix, h_goodW, c29, eq_true c15, eq_true c151]) (by rfl)
      · skip
        refine y_const o dX5_isGood_154 ?_
        refine y_goto o dX5_isGood_155 ?_
        exact x_zret o r dX5_isGood_159 (by first | exact Or.inl rfl | exact Or.inr rfl) (by rw [hg]; simp (decide := true) only [if_true, if_false, ix, h_goodW, c29, eq_true c15, eq_false c151]) (by rfl)
    · skip
      refine y_sw o dX5_isGood_29_c8 c29 ?_
      have c29 : x29 = 8 := Int32.toInt_inj.mp c29
      rw [ex29] at c29
      refine y_iload o dX5_isGood_255 rfl ?_
      refine y_if_ne o dX5_isGood_257 (fun cc => ?_) (fun cc => absurd cc (by decide))
      refine y_const o dX5_isGood_283 ?_
      exact x_zret o r dX5_isGood_284 (by first | exact Or.inl rfl | exact Or.inr rfl) (by rw [hg]; simp (decide := true) only [if_true, if_false, ix, h_goodW, c29, eq_true c15]) (by rfl)
    · skip
      refine y_sw o dX5_isGood_29_c9 c29 ?_
      have c29 : x29 = 9 := Int32.toInt_inj.mp c29
      rw [ex29] at c29
      refine y_iload o dX5_isGood_255 rfl ?_
      refine y_if_ne o dX5_isGood_257 (fun cc => ?_) (fun cc => absurd cc (by decide))
      refine y_const o dX5_isGood_283 ?_
      exact x_zret o r dX5_isGood_284 (by first | exact Or.inl rfl | exact Or.inr rfl) (by rw [hg]; simp (decide := true) only [if_true, if_false, ix, h_goodW, c29, eq_true c15]) (by rfl)
    · skip
      refine y_sw o dX5_isGood_29_c10 c29 ?_
      have c29 : x29 = 10 := Int32.toInt_inj.mp c29
      rw [ex29] at c29
      refine y_iload o dX5_isGood_285 rfl ?_
      refine y_if_ne o dX5_isGood_287 (fun cc => ?_) (fun cc => absurd cc (by decide))
      refine y_const o dX5_isGood_322 ?_
      exact x_zret o r dX5_isGood_323 (by first | exact Or.inl rfl | exact Or.inr rfl) (by rw [hg]; simp (decide := true) only [if_true, if_false, ix, h_goodW, c29, eq_true c15]) (by rfl)
    · skip
      refine y_sw o dX5_isGood_29_c11 c29 ?_
      have c29 : x29 = 11 := Int32.toInt_inj.mp c29
      rw [ex29] at c29
      refine y_iload o dX5_isGood_285 rfl ?_
      refine y_if_ne o dX5_isGood_287 (fun cc => ?_) (fun cc => absurd cc (by decide))
      refine y_const o dX5_isGood_322 ?_
      exact x_zret o r dX5_isGood_323 (by first | exact Or.inl rfl | exact Or.inr rfl) (by rw [hg]; simp (decide := true) only [if_true, if_false, ix, h_goodW, c29, eq_true c15]) (by rfl)
    · skip
      refine y_sw o dX5_isGood_29_c12 c29 ?_
      have c29 : x29 = 12 := Int32.toInt_inj.mp c29
      rw [ex29] at c29
      refine y_iload o dX5_isGood_324 rfl ?_
      refine y_if_ne o dX5_isGood_326 (fun cc => ?_) (fun cc => absurd cc (by decide))
      refine y_const o dX5_isGood_351 ?_
      exact x_zret o r dX5_isGood_352 (by first | exact Or.inl rfl | exact Or.inr rfl) (by rw [hg]; simp (decide := true) only [if_true, if_false, ix, h_goodW, c29, eq_true c15]) (by rfl)
    · skip
      refine y_sw o dX5_isGood_29_c13 c29 ?_
      have c29 : x29 = 13 := Int32.toInt_inj.mp c29
      rw [ex29] at c29
      refine y_iload o dX5_isGood_324 rfl ?_
      refine y_if_ne o dX5_isGood_326 (fun cc => ?_) (fun cc => absurd cc (by decide))
      refine y_const o dX5_isGood_351 ?_
      exact x_zret o r dX5_isGood_352 (by first | exact Or.inl rfl | exact Or.inr rfl) (by rw [hg]; simp (decide := true) only [if_true, if_false, ix, h_goodW, c29, eq_true c15]) (by rfl)
    · skip
      refine y_sw o dX5_isGood_29_c14 c29 ?_
      have c29 : x29 = 14 := Int32.toInt_inj.mp c29
      rw [ex29] at c29
      refine y_iload o dX5_isGood_353 rfl ?_
      refine y_if_ne o dX5_isGood_355 (fun cc => ?_) (fun cc => absurd cc (by decide))
      refine y_const o dX5_isGood_380 ?_
      exact x_zret o r dX5_isGood_381 (by first | exact Or.inl rfl | exact Or.inr rfl) (by rw [hg]; simp (decide := true) only [if_true, if_false, ix, h_goodW, c29, eq_true c15]) (by rfl)
    · skip
      refine y_sw o dX5_isGood_29_c15 c29 ?_
      have c29 : x29 = 15 := Int32.toInt_inj.mp c29
      rw [ex29] at c29
      refine y_iload o dX5_isGood_160 rfl ?_
      refine y_if_ne o dX5_isGood_162 (fun cc => ?_) (fun cc => absurd cc (by decide))
      refine y_const o dX5_isGood_179 ?_
      exact x_zret o r dX5_isGood_180 (by first | exact Or.inl rfl | exact Or.inr rfl) (by rw [hg]; simp (decide := true) only [if_true, if_false, ix, h_goodW, c29, eq_true c15]) (by rfl)
    · skip
      refine y_sw o dX5_isGood_29_c16 c29 ?_
      have c29 : x29 = 16 := Int32.toInt_inj.mp c29
      rw [ex29] at c29
      refine y_iload o dX5_isGood_382 rfl ?_
      refine y_if_ne o dX5_isGood_384 (fun cc => ?_) (fun cc => absurd cc (by decide))
      refine y_const o dX5_isGood_391 ?_
      exact x_zret o r dX5_isGood_392 (by first | exact Or.inl rfl | exact Or.inr rfl) (by rw [hg]; simp (decide := true) only [if_true, if_false, ix, h_goodW, c29, eq_true c15]) (by rfl)
    · skip
      refine y_sw o dX5_isGood_29_c17 c29 ?_
      have c29 : x29 = 17 := Int32.toInt_inj.mp c29
      rw [ex29] at c29
      refine y_iload o dX5_isGood_382 rfl ?_
      refine y_if_ne o dX5_isGood_384 (fun cc => ?_) (fun cc => absurd cc (by decide))
      refine y_const o dX5_isGood_391 ?_
      exact x_zret o r dX5_isGood_392 (by first | exact Or.inl rfl | exact Or.inr rfl) (by rw [hg]; simp (decide := true) only [if_true, if_false, ix, h_goodW, c29, eq_true c15]) (by rfl)
    · skip
      refine y_swd o dX5_isGood_29_d (Or.inr c29) ?_
      rw [ex29] at c29
      refine y_const o dX5_isGood_393 ?_
      exact x_zret o r dX5_isGood_394 (by first | exact Or.inl rfl | exact Or.inr rfl) (by rw [hg]; exact (h_good_out (by omega)).symm) (by rfl)
