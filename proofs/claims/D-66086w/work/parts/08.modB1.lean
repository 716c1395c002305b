/-! the model: its steps and its face -/
set_option maxRecDepth 100000
set_option maxHeartbeats 4000000 in
set_option maxRecDepth 100000 in
theorem mm_program (dd : ClassId × ClassId × ClassId) (h : Nat → Nat) (ex : va_W) (S : XS) (t : Int32) (i : Int32) (w : Int32)  : Cx dd yX12_program cX12_program 4 (some .boolean) 1 mG [.ref (h 0), .int t, .int i, .int w] h ex S (some (.int (f_programR S t i))) (f_program S t i w) := by
  refine Cx.intro (by decide) (by simp [Value.category]) (Nat.le_of_ble_eq_true rfl) (fun K o r hk => ?_)
  have o : Y K cX12_program RX12 4 1 := o
  refine y_aload o dX12_program_0 rfl ?_
  refine y_const o dX12_program_1 ?_
  refine y_put o mpX12_56 dX12_program_2 ?_
  refine y_aload o dX12_program_5 rfl ?_
  refine y_get o mgX12_59 dX12_program_6 ?_
  refine y_if_ne o dX12_program_9 (fun c9 => ?_) (fun c9 => ?_)
  · skip
    refine y_const o dX12_program_39 ?_
    exact x_zret o r dX12_program_40 (by first | exact Or.inl rfl | exact Or.inr rfl) (by simp only [if_true, if_false, ix, f_programR, f_programR0, eq_false c9] <;> rfl) (by simp only [if_true, if_false, ix, f_program, f_program0, f_program1, eq_false c9] <;> rfl)
  · skip
    refine y_iload o dX12_program_12 rfl ?_
    refine y_callSi o kX12_63 hk (mm_isTask _ h ex _ _ ) (by decide) rfl rfl (Nat.le_of_ble_eq_true rfl) dX12_program_13 ?_
    refine y_if_eq o dX12_program_16 (fun c16 => ?_) (fun c16 => ?_)
    · skip
      refine y_const o dX12_program_39 ?_
      exact x_zret o r dX12_program_40 (by first | exact Or.inl rfl | exact Or.inr rfl) (by simp only [if_true, if_false, ix, f_programR, f_programR0, eq_true c9, eq_true c16] <;> rfl) (by simp only [if_true, if_false, ix, f_program, f_program0, f_program1, eq_true c9, eq_true c16] <;> rfl)
    · skip
      refine y_iload o dX12_program_19 rfl ?_
      refine y_if_lt o dX12_program_20 (fun c20 => ?_) (fun c20 => ?_)
      · skip
        refine y_const o dX12_program_39 ?_
        exact x_zret o r dX12_program_40 (by first | exact Or.inl rfl | exact Or.inr rfl) (by simp only [if_true, if_false, ix, f_programR, f_programR0, eq_true c9, eq_false c16, eq_true c20] <;> rfl) (by simp only [if_true, if_false, ix, f_program, f_program0, f_program1, eq_true c9, eq_false c16, eq_true c20] <;> rfl)
      · skip
        refine y_iload o dX12_program_23 rfl ?_
        refine y_aload o dX12_program_24 rfl ?_
        refine y_getr o mgX12_13 dX12_program_25 ?_
        refine y_iload o dX12_program_28 rfl ?_
        refine y_iald o ma_size dX12_program_29 (f_isTask_in c16) ?_
        refine y_icmp_gt o dX12_program_30 (fun c30 => ?_) (fun c30 => ?_)
        · skip
          refine y_const o dX12_program_39 ?_
          exact x_zret o r dX12_program_40 (by first | exact Or.inl rfl | exact Or.inr rfl) (by simp only [if_true, if_false, ix, f_programR, f_programR0, eq_true c9, eq_false c16, eq_false c20, eq_true c30] <;> rfl) (by simp only [if_true, if_false, ix, f_program, f_program0, f_program1, eq_true c9, eq_false c16, eq_false c20, eq_true c30] <;> rfl)
        · skip
          refine y_iload o dX12_program_33 rfl ?_
          refine y_const o dX12_program_34 ?_
          refine y_icmp_lt o dX12_program_36 (fun c36 => ?_) (fun c36 => ?_)
          · skip
            refine y_aload o dX12_program_41 rfl ?_
            refine y_getr o mgX12_7 dX12_program_42 ?_
            refine y_const o dX12_program_45 ?_
            refine y_iload o dX12_program_47 rfl ?_
            refine y_imul o dX12_program_48 ?_
            refine y_iload o dX12_program_49 rfl ?_
            refine y_iadd o dX12_program_50 ?_
            refine y_iload o dX12_program_51 rfl ?_
            refine y_iast o ma_code dX12_program_52 (code_in (f_isTask_in c16) (vi_of c20 c36 rfl (by decide))) ?_
            refine y_iload o dX12_program_53 rfl ?_
            refine y_aload o dX12_program_54 rfl ?_
            refine y_getr o mgX12_13 dX12_program_55 ?_
            refine y_iload o dX12_program_58 rfl ?_
            refine y_iald o ma_size dX12_program_59 (f_isTask_in c16) ?_
            refine y_icmp_ne o dX12_program_60 (fun c60 => ?_) (fun c60 => ?_)
            · skip
              refine y_const o dX12_program_73 ?_
              exact x_zret o r dX12_program_74 (by first | exact Or.inl rfl | exact Or.inr rfl) (by simp only [if_true, if_false, ix, f_programR, f_programR0, eq_true c9, eq_false c16, eq_false c20, eq_false c30, eq_true c36, eq_false c60] <;> rfl) (by simp only [if_true, if_false, ix, f_program, f_program0, f_program1, eq_true c9, eq_false c16, eq_false c20, eq_false c30, eq_true c36, eq_false c60] <;> rfl)
            · skip
              refine y_aload o dX12_program_63 rfl ?_
              refine y_getr o mgX12_13 dX12_program_64 ?_
              refine y_iload o dX12_program_67 rfl ?_
              refine y_dup2 o dX12_program_68 rfl rfl ?_
              refine y_iald o ma_size dX12_program_69 (f_isTask_in c16) ?_
              refine y_const o dX12_program_70 ?_
              refine y_iadd o dX12_program_71 ?_
              refine y_iast o ma_size dX12_program_72 (f_isTask_in c16) ?_
              refine y_const o dX12_program_73 ?_
              exact x_zret o r dX12_program_74 (by first | exact Or.inl rfl | exact Or.inr rfl) (by simp only [if_true, if_false, ix, f_programR, f_programR0, eq_true c9, eq_false c16, eq_false c20, eq_false c30, eq_true c36, eq_true c60] <;> rfl) (by simp only [if_true, if_false, ix, f_program, f_program0, f_program1, eq_true c9, eq_false c16, eq_false c20, eq_false c30, eq_true c36, eq_true c60] <;> rfl)
          · skip
            refine y_const o dX12_program_39 ?_
            exact x_zret o r dX12_program_40 (by first | exact Or.inl rfl | exact Or.inr rfl) (by simp only [if_true, if_false, ix, f_programR, f_programR0, eq_true c9, eq_false c16, eq_false c20, eq_false c30, eq_false c36] <;> rfl) (by simp only [if_true, if_false, ix, f_program, f_program0, f_program1, eq_true c9, eq_false c16, eq_false c20, eq_false c30, eq_false c36] <;> rfl)
set_option maxHeartbeats 4000000 in
set_option maxRecDepth 100000 in
theorem mm_isRight (dd : ClassId × ClassId × ClassId) (h : Nat → Nat) (ex : va_W) (S : XS) (t : Int32) (i : Int32) (ht : vp_in t 16) (hi : vp_in (32 * t + i) 512) : Cx dd yX12_isRight cX12_isRight 6 (some .boolean) 1 mG [.ref (h 0), .int t, .int i] h ex S (some (.int (f_right S t i))) S := by
  refine Cx.intro (by decide) (by simp [Value.category]) (Nat.le_of_ble_eq_true rfl) (fun K o r hk => ?_)
  have o : Y K cX12_isRight RX12 6 1 := o
  refine y_aload o dX12_isRight_0 rfl ?_
  refine y_getr o mgX12_7 dX12_isRight_1 ?_
  refine y_const o dX12_isRight_4 ?_
  refine y_iload o dX12_isRight_6 rfl ?_
  refine y_imul o dX12_isRight_7 ?_
  refine y_iload o dX12_isRight_8 rfl ?_
  refine y_iadd o dX12_isRight_9 ?_
  refine y_iald o ma_code dX12_isRight_10 (hi) ?_
  refine y_istore o dX12_isRight_11 (by decide) (Nat.le_of_ble_eq_true rfl) ?_
  refine y_iload o dX12_isRight_12 rfl ?_
  refine y_callSi o kX12_67 hk (mm_op _ h ex _ _ ) (by decide) rfl rfl (Nat.le_of_ble_eq_true rfl) dX12_isRight_13 ?_
  refine y_istore o dX12_isRight_16 (by decide) (Nat.le_of_ble_eq_true rfl) ?_
  refine y_iload o dX12_isRight_18 rfl ?_
  refine y_const o dX12_isRight_19 ?_
  refine y_iadd o dX12_isRight_20 ?_
  refine y_aload o dX12_isRight_21 rfl ?_
  refine y_getr o mgX12_13 dX12_isRight_22 ?_
  refine y_iload o dX12_isRight_25 rfl ?_
  refine y_iald o ma_size dX12_isRight_26 (ht) ?_
  refine y_icmp_ne o dX12_isRight_27 (fun c27 => ?_) (fun c27 => ?_)
  · skip
    refine y_const o dX12_isRight_34 ?_
    refine y_istore o dX12_isRight_35 (by decide) (Nat.le_of_ble_eq_true rfl) ?_
    refine y_iload o dX12_isRight_37 rfl ?_
    refine y_if_eq o dX12_isRight_39 (fun cc => ?_) (fun cc => absurd cc (by decide))
    refine y_iload o dX12_isRight_56 rfl ?_
    refine y_top o (fun x58 ex58 => ?_)
    rcases (show x58.toInt < 0 ∨ x58.toInt = 0 ∨ x58.toInt = 1 ∨ x58.toInt = 2 ∨ x58.toInt = 3 ∨ x58.toInt = 4 ∨ x58.toInt = 5 ∨ x58.toInt = 6 ∨ x58.toInt = 7 ∨ x58.toInt = 8 ∨ x58.toInt = 9 ∨ x58.toInt = 10 ∨ x58.toInt = 11 ∨ x58.toInt = 12 ∨ x58.toInt = 13 ∨ x58.toInt = 14 ∨ x58.toInt = 15 ∨ x58.toInt = 16 ∨ x58.toInt = 17 ∨ 17 < x58.toInt by omega) with c58 | c58 | c58 | c58 | c58 | c58 | c58 | c58 | c58 | c58 | c58 | c58 | c58 | c58 | c58 | c58 | c58 | c58 | c58 | c58
    · skip
      refine y_swd o dX12_isRight_58_d (Or.inl c58) ?_
      rw [ex58] at c58
      refine y_const o dX12_isRight_371 ?_
      exact x_zret o r dX12_isRight_372 (by first | exact Or.inl rfl | exact Or.inr rfl) (by simp only [if_true, if_false, ix, f_right, f_right0, eq_false c27]; exact (f_rightW_out (by omega)).symm) (by rfl)
    · skip
      refine y_sw o dX12_isRight_58_c0 c58 ?_
      have c58 : x58 = 0 := Int32.toInt_inj.mp c58
      rw [ex58] at c58
      refine y_iload o dX12_isRight_144 rfl ?_
      refine y_callSi o kX12_71 hk (mm_a _ h ex _ _ ) (by decide) rfl rfl (Nat.le_of_ble_eq_true rfl) dX12_isRight_145 ?_
      refine y_callSi o kX12_63 hk (mm_isTask _ h ex _ _ ) (by decide) rfl rfl (Nat.le_of_ble_eq_true rfl) dX12_isRight_148 ?_
      refine y_if_eq o dX12_isRight_151 (fun c151 => ?_) (fun c151 => ?_)
      · skip
        refine y_const o dX12_isRight_170 ?_
        exact x_zret o r dX12_isRight_171 (by first | exact Or.inl rfl | exact Or.inr rfl) (by simp (decide := true) only [if_true, if_false, ix, f_right, f_right0, f_rightW, c58, eq_false c27, eq_true c151]) (by rfl)
      · skip
        refine y_aload o dX12_isRight_154 rfl ?_
        refine y_getr o mgX12_13 dX12_isRight_155 ?_
        refine y_iload o dX12_isRight_158 rfl ?_
        refine y_callSi o kX12_71 hk (mm_a _ h ex _ _ ) (by decide) rfl rfl (Nat.le_of_ble_eq_true rfl) dX12_isRight_159 ?_
        refine y_iald o ma_size dX12_isRight_162 (f_isTask_in c151) ?_
        refine y_if_le o dX12_isRight_163 (fun c163 => ?_) (fun c163 => ?_)
        · skip
          refine y_const o dX12_isRight_170 ?_
          exact x_zret o r dX12_isRight_171 (by first | exact Or.inl rfl | exact Or.inr rfl) (by simp (decide := true) only [if_true, if_false, ix, f_right, f_right0, f_rightW, c58, eq_false c27, eq_false c151, eq_true c163]) (by rfl)
        · skip
          refine y_const o dX12_isRight_166 ?_
          refine y_goto o dX12_isRight_167 ?_
          exact x_zret o r dX12_isRight_171 (by first | exact Or.inl rfl | exact Or.inr rfl) (by simp (decide := true) only [if_true, if_false, ix, f_right, f_right0, f_rightW, c58, eq_false c27, eq_false c151, eq_false c163]) (by rfl)
    · skip
      refine y_sw o dX12_isRight_58_c1 c58 ?_
      have c58 : x58 = 1 := Int32.toInt_inj.mp c58
      rw [ex58] at c58
      refine y_iload o dX12_isRight_172 rfl ?_
      refine y_callSi o kX12_71 hk (mm_a _ h ex _ _ ) (by decide) rfl rfl (Nat.le_of_ble_eq_true rfl) dX12_isRight_173 ?_
      refine y_const o dX12_isRight_176 ?_
      refine y_icmp_ge o dX12_isRight_178 (fun c178 => ?_) (fun c178 => ?_)
      · skip
        refine y_const o dX12_isRight_185 ?_
        exact x_zret o r dX12_isRight_186 (by first | exact Or.inl rfl | exact Or.inr rfl) (by simp (decide := true) only [if_true, if_false, ix, f_right, f_right0, f_rightW, c58, eq_false c27, eq_true c178]) (by rfl)
      · skip
        refine y_const o dX12_isRight_181 ?_
        refine y_goto o dX12_isRight_182 ?_
        exact x_zret o r dX12_isRight_186 (by first | exact Or.inl rfl | exact Or.inr rfl) (by simp (decide := true) only [if_true, if_false, ix, f_right, f_right0, f_rightW, c58, eq_false c27, eq_false c178]) (by rfl)
    · skip
      refine y_sw o dX12_isRight_58_c2 c58 ?_
      have c58 : x58 = 2 := Int32.toInt_inj.mp c58
      rw [ex58] at c58
      refine y_iload o dX12_isRight_187 rfl ?_
      refine y_callSi o kX12_71 hk (mm_a _ h ex _ _ ) (by decide) rfl rfl (Nat.le_of_ble_eq_true rfl) dX12_isRight_188 ?_
      refine y_const o dX12_isRight_191 ?_
      refine y_icmp_ge o dX12_isRight_193 (fun c193 => ?_) (fun c193 => ?_)
      · skip
        refine y_const o dX12_isRight_218 ?_
        exact x_zret o r dX12_isRight_219 (by first | exact Or.inl rfl | exact Or.inr rfl) (by simp (decide := true) only [if_true, if_false, ix, f_right, f_right0, f_rightW, c58, eq_false c27, eq_true c193]) (by rfl)
      · skip
        refine y_iload o dX12_isRight_196 rfl ?_
        refine y_callSi o kX12_74 hk (mm_b _ h ex _ _ ) (by decide) rfl rfl (Nat.le_of_ble_eq_true rfl) dX12_isRight_197 ?_
        refine y_const o dX12_isRight_200 ?_
        refine y_icmp_ge o dX12_isRight_202 (fun c202 => ?_) (fun c202 => ?_)
        · skip
          refine y_const o dX12_isRight_218 ?_
          exact x_zret o r dX12_isRight_219 (by first | exact Or.inl rfl | exact Or.inr rfl) (by simp (decide := true) only [if_true, if_false, ix, f_right, f_right0, f_rightW, c58, eq_false c27, eq_false c193, eq_true c202]) (by rfl)
        · skip
          refine y_iload o dX12_isRight_205 rfl ?_
          refine y_callSi o kX12_77 hk (mm_c _ h ex _ _ ) (by decide) rfl rfl (Nat.le_of_ble_eq_true rfl) dX12_isRight_206 ?_
          refine y_const o dX12_isRight_209 ?_
          refine y_icmp_ge o dX12_isRight_211 (fun c211 => ?_) (fun c211 => ?_)
          · skip
            refine y_const o dX12_isRight_218 ?_
            exact x_zret o r dX12_isRight_219 (by first | exact Or.inl rfl | exact Or.inr rfl) (by simp (decide := true) only [if_true, if_false, ix, f_right, f_right0, f_rightW, c58, eq_false c27, eq_false c193, eq_false c202, eq_true c211]) (by rfl)
          · skip
            refine y_const o dX12_isRight_214 ?_
            refine y_goto o dX12_isRight_215 ?_
            exact x_zret o r dX12_isRight_219 (by first | exact Or.inl rfl | exact Or.inr rfl) (by simp (decide := true) only [if_true, if_false, ix, f_right, f_right0, f_rightW, c58, eq_false c27, eq_false c193, eq_false c202, eq_false c211]) (by rfl)
    · skip
      refine y_sw o dX12_isRight_58_c3 c58 ?_
      have c58 : x58 = 3 := Int32.toInt_inj.mp c58
      rw [ex58] at c58
      refine y_iload o dX12_isRight_187 rfl ?_
      refine y_callSi o kX12_71 hk (mm_a _ h ex _ _ ) (by decide) rfl rfl (Nat.le_of_ble_eq_true rfl) dX12_isRight_188 ?_
      refine y_const o dX12_isRight_191 ?_
      refine y_icmp_ge o dX12_isRight_193 (fun c193 => ?_) (fun c193 => ?_)
      · skip
        refine y_const o dX12_isRight_218 ?_
        exact x_zret o r dX12_isRight_219 (by first | exact Or.inl rfl | exact Or.inr rfl) (by simp (decide := true) only [if_true, if_false, ix, f_right, f_right0, f_rightW, c58, eq_false c27, eq_true c193]) (by rfl)
      · skip
        refine y_iload o dX12_isRight_196 rfl ?_
        refine y_callSi o kX12_74 hk (mm_b _ h ex _ _ ) (by decide) rfl rfl (Nat.le_of_ble_eq_true rfl) dX12_isRight_197 ?_
        refine y_const o dX12_isRight_200 ?_
        refine y_icmp_ge o dX12_isRight_202 (fun c202 => ?_) (fun c202 => ?_)
        · skip
          refine y_const o dX12_isRight_218 ?_
          exact x_zret o r dX12_isRight_219 (by first | exact Or.inl rfl | exact Or.inr rfl) (by simp (decide := true) only [if_true, if_false, ix, f_right, f_right0, f_rightW, c58, eq_false c27, eq_false c193, eq_true c202]) (by rfl)
        · skip
          refine y_iload o dX12_isRight_205 rfl ?_
          refine y_callSi o kX12_77 hk (mm_c _ h ex _ _ ) (by decide) rfl rfl (Nat.le_of_ble_eq_true rfl) dX12_isRight_206 ?_
          refine y_const o dX12_isRight_209 ?_
          refine y_icmp_ge o dX12_isRight_211 (fun c211 => ?_) (fun c211 => ?_)
          · skip
            refine y_const o dX12_isRight_218 ?_
            exact x_zret o r dX12_isRight_219 (by first | exact Or.inl rfl | exact Or.inr rfl) (by simp (decide := true) only [if_true, if_false, ix, f_right, f_right0, f_rightW, c58, eq_false c27, eq_false c193, eq_false c202, eq_true c211]) (by rfl)
          · skip
            refine y_const o dX12_isRight_214 ?_
            refine y_goto o dX12_isRight_215 ?_
            exact x_zret o r dX12_isRight_219 (by first | exact Or.inl rfl | exact Or.inr rfl) (by simp (decide := true) only [if_true, if_false, ix, f_right, f_right0, f_rightW, c58, eq_false c27, eq_false c193, eq_false c202, eq_false c211]) (by rfl)
    · skip
      refine y_sw o dX12_isRight_58_c4 c58 ?_
      have c58 : x58 = 4 := Int32.toInt_inj.mp c58
      rw [ex58] at c58
      refine y_iload o dX12_isRight_187 rfl ?_
      refine y_callSi o kX12_71 hk (mm_a _ h ex _ _ ) (by decide) rfl rfl (Nat.le_of_ble_eq_true rfl) dX12_isRight_188 ?_
      refine y_const o dX12_isRight_191 ?_
      refine y_icmp_ge o dX12_isRight_193 (fun c193 => ?_) (fun c193 => ?_)
      · skip
        refine y_const o dX12_isRight_218 ?_
        exact x_zret o r dX12_isRight_219 (by first | exact Or.inl rfl | exact Or.inr rfl) (by simp (decide := true) only [if_true, if_false, ix, f_right, f_right0, f_rightW, c58, eq_false c27, eq_true c193]) (by rfl)
      · skip
        refine y_iload o dX12_isRight_196 rfl ?_
        refine y_callSi o kX12_74 hk (mm_b _ h ex _ _ ) (by decide) rfl rfl (Nat.le_of_ble_eq_true rfl) dX12_isRight_197 ?_
        refine y_const o dX12_isRight_200 ?_
        refine y_icmp_ge o dX12_isRight_202 (fun c202 => ?_) (fun c202 => ?_)
        · skip
          refine y_const o dX12_isRight_218 ?_
          exact x_zret o r dX12_isRight_219 (by first | exact Or.inl rfl | exact Or.inr rfl) (by simp (decide := true) only [if_true, if_false, ix, f_right, f_right0, f_rightW, c58, eq_false c27, eq_false c193, eq_true c202]) (by rfl)
        · skip
          refine y_iload o dX12_isRight_205 rfl ?_
          refine y_callSi o kX12_77 hk (mm_c _ h ex _ _ ) (by decide) rfl rfl (Nat.le_of_ble_eq_true rfl) dX12_isRight_206 ?_
          refine y_const o dX12_isRight_209 ?_
          refine y_icmp_ge o dX12_isRight_211 (fun c211 => ?_) (fun c211 => ?_)
          · skip
            refine y_const o dX12_isRight_218 ?_
            exact x_zret o r dX12_isRight_219 (by first | exact Or.inl rfl | exact Or.inr rfl) (by simp (decide := true) only [if_true, if_false, ix, f_right, f_right0, f_rightW, c58, eq_false c27, eq_false c193, eq_false c202, eq_true c211]) (by rfl)
          · skip
            refine y_const o dX12_isRight_214 ?_
            refine y_goto o dX12_isRight_215 ?_
            exact x_zret o r dX12_isRight_219 (by first | exact Or.inl rfl | exact Or.inr rfl) (by simp (decide := true) only [if_true, if_false, ix, f_right, f_right0, f_rightW, c58, eq_false c27, eq_false c193, eq_false c202, eq_false c211]) (by rfl)
    · skip
      refine y_sw o dX12_isRight_58_c5 c58 ?_
      have c58 : x58 = 5 := Int32.toInt_inj.mp c58
      rw [ex58] at c58
      refine y_iload o dX12_isRight_187 rfl ?_
      refine y_callSi o kX12_71 hk (mm_a _ h ex _ _ ) (by decide) rfl rfl (Nat.le_of_ble_eq_true rfl) dX12_isRight_188 ?_
      refine y_const o dX12_isRight_191 ?_
      refine y_icmp_ge o dX12_isRight_193 (fun c193 => ?_) (fun c193 => ?_)
      · skip
        refine y_const o dX12_isRight_218 ?_
        exact x_zret o r dX12_isRight_219 (by first | exact Or.inl rfl | exact Or.inr rfl) (by simp (decide := true) only [if_true, if_false, ix, f_right, f_right0, f_rightW, c58, eq_false c27, eq_true c193]) (by rfl)
      · skip
        refine y_iload o dX12_isRight_196 rfl ?_
        refine y_callSi o kX12_74 hk (mm_b _ h ex _ _ ) (by decide) rfl rfl (Nat.le_of_ble_eq_true rfl) dX12_isRight_197 ?_
        refine y_const o dX12_isRight_200 ?_
        refine y_icmp_ge o dX12_isRight_202 (fun c202 => ?_) (fun c202 => ?_)
        · skip
          refine y_const o dX12_isRight_218 ?_
          exact x_zret o r dX12_isRight_219 (by first | exact Or.inl rfl | exact Or.inr rfl) (by simp (decide := true) only [if_true, if_false, ix, f_right, f_right0, f_rightW, c58, eq_false c27, eq_false c193, eq_true c202]) (by rfl)
        · skip
          refine y_iload o dX12_isRight_205 rfl ?_
          refine y_callSi o kX12_77 hk (mm_c _ h ex _ _ ) (by decide) rfl rfl (Nat.le_of_ble_eq_true rfl) dX12_isRight_206 ?_
          refine y_const o dX12_isRight_209 ?_
          refine y_icmp_ge o dX12_isRight_211 (fun c211 => ?_) (fun c211 => ?_)
          · skip
            refine y_const o dX12_isRight_218 ?_
            exact x_zret o r dX12_isRight_219 (by first | exact Or.inl rfl | exact Or.inr rfl) (by simp (decide := true) only [if_true, if_false, ix, f_right, f_right0, f_rightW, c58, eq_false c27, eq_false c193, eq_false c202, eq_true c211]) (by rfl)
          · skip
            refine y_const o dX12_isRight_214 ?_
            refine y_goto o dX12_isRight_215 ?_
            exact x_zret o r dX12_isRight_219 (by first | exact Or.inl rfl | exact Or.inr rfl) (by simp (decide := true) only [if_true, if_false, ix, f_right, f_right0, f_rightW, c58, eq_false c27, eq_false c193, eq_false c202, eq_false c211]) (by rfl)
    · skip
      refine y_sw o dX12_isRight_58_c6 c58 ?_
      have c58 : x58 = 6 := Int32.toInt_inj.mp c58
      rw [ex58] at c58
      refine y_iload o dX12_isRight_220 rfl ?_
      refine y_callSi o kX12_71 hk (mm_a _ h ex _ _ ) (by decide) rfl rfl (Nat.le_of_ble_eq_true rfl) dX12_isRight_221 ?_
      refine y_const o dX12_isRight_224 ?_
      refine y_icmp_ge o dX12_isRight_226 (fun c226 => ?_) (fun c226 => ?_)
      · skip
        refine y_const o dX12_isRight_246 ?_
        exact x_zret o r dX12_isRight_247 (by first | exact Or.inl rfl | exact Or.inr rfl) (by simp (decide := true) only [if_true, if_false, ix, f_right, f_right0, f_rightW, c58, eq_false c27, eq_true c226]) (by rfl)
      · skip
        refine y_iload o dX12_isRight_229 rfl ?_
        refine y_callSi o kX12_74 hk (mm_b _ h ex _ _ ) (by decide) rfl rfl (Nat.le_of_ble_eq_true rfl) dX12_isRight_230 ?_
        refine y_aload o dX12_isRight_233 rfl ?_
        refine y_getr o mgX12_13 dX12_isRight_234 ?_
        refine y_iload o dX12_isRight_237 rfl ?_
        refine y_iald o ma_size dX12_isRight_238 (ht) ?_
        refine y_icmp_ge o dX12_isRight_239 (fun c239 => ?_) (fun c239 => ?_)
        · skip
          refine y_const o dX12_isRight_246 ?_
          exact x_zret o r dX12_isRight_247 (by first | exact Or.inl rfl | exact Or.inr rfl) (by simp (decide := true) only [if_true, if_false, ix, f_right, f_right0, f_rightW, c58, eq_false c27, eq_false c226, eq_true c239]) (by rfl)
        · skip
          refine y_const o dX12_isRight_242 ?_
          refine y_goto o dX12_isRight_243 ?_
          exact x_zret o r dX12_isRight_247 (by first | exact Or.inl rfl | exact Or.inr rfl) (by simp (decide := true) only [if_true, if_false, ix, f_right, f_right0, f_rightW, c58, eq_false c27, eq_false c226, eq_false c239]) (by rfl)
    · skip
      refine y_sw o dX12_isRight_58_c7 c58 ?_
      have c58 : x58 = 7 := Int32.toInt_inj.mp c58
      rw [ex58] at c58
      refine y_iload o dX12_isRight_248 rfl ?_
      refine y_callSi o kX12_74 hk (mm_b _ h ex _ _ ) (by decide) rfl rfl (Nat.le_of_ble_eq_true rfl) dX12_isRight_249 ?_
      refine y_aload o dX12_isRight_252 rfl ?_
      refine y_getr o mgX12_13 dX12_isRight_253 ?_
      refine y_iload o dX12_isRight_256 rfl ?_
      refine y_iald o ma_size dX12_isRight_257 (ht) ?_
      refine y_icmp_ge o dX12_isRight_258 (fun c258 => ?_) (fun c258 => ?_)
      · skip
        refine y_const o dX12_isRight_265 ?_
        exact x_zret o r dX12_isRight_266 (by first | exact Or.inl rfl | exact Or.inr rfl) (by simp (decide := true) only [if_true, if_false, ix, f_right, f_right0, f_rightW, c58, eq_false c27, eq_true c258]) (by rfl)
      · skip
        refine y_const o dX12_isRight_261 ?_
        refine y_goto o dX12_isRight_262 ?_
        exact x_zret o r dX12_isRight_266 (by first | exact Or.inl rfl | exact Or.inr rfl) (by simp (decide := true) only [if_true, if_false, ix, f_right, f_right0, f_rightW, c58, eq_false c27, eq_false c258]) (by rfl)
    · skip
      refine y_sw o dX12_isRight_58_c8 c58 ?_
      have c58 : x58 = 8 := Int32.toInt_inj.mp c58
      rw [ex58] at c58
      refine y_iload o dX12_isRight_267 rfl ?_
      refine y_callSi o kX12_71 hk (mm_a _ h ex _ _ ) (by decide) rfl rfl (Nat.le_of_ble_eq_true rfl) dX12_isRight_268 ?_
      refine y_const o dX12_isRight_271 ?_
      refine y_icmp_ge o dX12_isRight_273 (fun c273 => ?_) (fun c273 => ?_)
      · skip
        refine y_const o dX12_isRight_289 ?_
        exact x_zret o r dX12_isRight_290 (by first | exact Or.inl rfl | exact Or.inr rfl) (by simp (decide := true) only [if_true, if_false, ix, f_right, f_right0, f_rightW, c58, eq_false c27, eq_true c273]) (by rfl)
      · skip
        refine y_iload o dX12_isRight_276 rfl ?_
        refine y_callSi o kX12_74 hk (mm_b _ h ex _ _ ) (by decide) rfl rfl (Nat.le_of_ble_eq_true rfl) dX12_isRight_277 ?_
        refine y_const o dX12_isRight_280 ?_
        refine y_icmp_ge o dX12_isRight_282 (fun c282 => ?_) (fun c282 => ?_)
        · skip
          refine y_const o dX12_isRight_289 ?_
          exact x_zret o r dX12_isRight_290 (by first | exact Or.inl rfl | exact Or.inr rfl) (by simp (decide := true) only [if_true, if_false, ix, f_right, f_right0, f_rightW, c58, eq_false c27, eq_false c273, eq_true c282]) (by rfl)
        · skip
          refine y_const o dX12_isRight_285 ?_
          refine y_goto o dX12_isRight_286 ?_
          exact x_zret o r dX12_isRight_290 (by first | exact Or.inl rfl | exact Or.inr rfl) (by simp (decide := true) only [if_true, if_false, ix, f_right, f_right0, f_rightW, c58, eq_false c27, eq_false c273, eq_false c282]) (by rfl)
    · skip
      refine y_sw o dX12_isRight_58_c9 c58 ?_
      have c58 : x58 = 9 := Int32.toInt_inj.mp c58
      rw [ex58] at c58
      refine y_iload o dX12_isRight_267 rfl ?_
      refine y_callSi o kX12_71 hk (mm_a _ h ex _ _ ) (by decide) rfl rfl (Nat.le_of_ble_eq_true rfl) dX12_isRight_268 ?_
      refine y_const o dX12_isRight_271 ?_
      refine y_icmp_ge o dX12_isRight_273 (fun c273 => ?_) (fun c273 => ?_)
      · skip
        refine y_const o dX12_isRight_289 ?_
        exact x_zret o r dX12_isRight_290 (by first | exact Or.inl rfl | exact Or.inr rfl) (by simp (decide := true) only [if_true, if_false, ix, f_right, f_right0, f_rightW, c58, eq_false c27, eq_true c273]) (by rfl)
      · skip
        refine y_iload o dX12_isRight_276 rfl ?_
        refine y_callSi o kX12_74 hk (mm_b _ h ex _ _ ) (by decide) rfl rfl (Nat.le_of_ble_eq_true rfl) dX12_isRight_277 ?_
        refine y_const o dX12_isRight_280 ?_
        refine y_icmp_ge o dX12_isRight_282 (fun c282 => ?_) (fun c282 => ?_)
        · skip
          refine y_const o dX12_isRight_289 ?_
          exact x_zret o r dX12_isRight_290 (by first | exact Or.inl rfl | exact Or.inr rfl) (by simp (decide := true) only [if_true, if_false, ix, f_right, f_right0, f_rightW, c58, eq_false c27, eq_false c273, eq_true c282]) (by rfl)
        · skip
          refine y_const o dX12_isRight_285 ?_
          refine y_goto o dX12_isRight_286 ?_
          exact x_zret o r dX12_isRight_290 (by first | exact Or.inl rfl | exact Or.inr rfl) (by simp (decide := true) only [if_true, if_false, ix, f_right, f_right0, f_rightW, c58, eq_false c27, eq_false c273, eq_false c282]) (by rfl)
    · skip
      refine y_sw o dX12_isRight_58_c10 c58 ?_
      have c58 : x58 = 10 := Int32.toInt_inj.mp c58
      rw [ex58] at c58
      refine y_iload o dX12_isRight_291 rfl ?_
      refine y_callSi o kX12_71 hk (mm_a _ h ex _ _ ) (by decide) rfl rfl (Nat.le_of_ble_eq_true rfl) dX12_isRight_292 ?_
      refine y_const o dX12_isRight_295 ?_
      refine y_icmp_ge o dX12_isRight_297 (fun c297 => ?_) (fun c297 => ?_)
      · skip
        refine y_const o dX12_isRight_321 ?_
        exact x_zret o r dX12_isRight_322 (by first | exact Or.inl rfl | exact Or.inr rfl) (by simp (decide := true) only [if_true, if_false, ix, f_right, f_right0, f_rightW, c58, eq_false c27, eq_true c297]) (by rfl)
      · skip
        refine y_iload o dX12_isRight_300 rfl ?_
        refine y_callSi o kX12_74 hk (mm_b _ h ex _ _ ) (by decide) rfl rfl (Nat.le_of_ble_eq_true rfl) dX12_isRight_301 ?_
        refine y_const o dX12_isRight_304 ?_
        refine y_icmp_ge o dX12_isRight_305 (fun c305 => ?_) (fun c305 => ?_)
        · skip
          refine y_const o dX12_isRight_321 ?_
          exact x_zret o r dX12_isRight_322 (by first | exact Or.inl rfl | exact Or.inr rfl) (by simp (decide := true) only [if_true, if_false, ix, f_right, f_right0, f_rightW, c58, eq_false c27, eq_false c297, eq_true c305]) (by rfl)
        · skip
          refine y_iload o dX12_isRight_308 rfl ?_
          refine y_callSi o kX12_77 hk (mm_c _ h ex _ _ ) (by decide) rfl rfl (Nat.le_of_ble_eq_true rfl) dX12_isRight_309 ?_
          refine y_const o dX12_isRight_312 ?_
          refine y_icmp_ge o dX12_isRight_314 (fun c314 => ?_) (fun c314 => ?_)
          · skip
            refine y_const o dX12_isRight_321 ?_
            exact x_zret o r dX12_isRight_322 (by first | exact Or.inl rfl | exact Or.inr rfl) (by simp (decide := true) only [if_true, if_false, ix, f_right, f_right0, f_rightW, c58, eq_false c27, eq_false c297, eq_false c305, eq_true c314]) (by rfl)
          · skip
            refine y_const o dX12_isRight_317 ?_
            refine y_goto o dX12_isRight_318 ?_
            exact x_zret o r dX12_isRight_322 (by first | exact Or.inl rfl | exact Or.inr rfl) (by simp (decide := true) only [if_true, if_false, ix, f_right, f_right0, f_rightW, c58, eq_false c27, eq_false c297, eq_false c305, eq_false c314]) (by rfl)
    · skip
      refine y_sw o dX12_isRight_58_c11 c58 ?_
      have c58 : x58 = 11 := Int32.toInt_inj.mp c58
      rw [ex58] at c58
      refine y_iload o dX12_isRight_291 rfl ?_
      refine y_callSi o kX12_71 hk (mm_a _ h ex _ _ ) (by decide) rfl rfl (Nat.le_of_ble_eq_true rfl) dX12_isRight_292 ?_
      refine y_const o dX12_isRight_295 ?_
      refine y_icmp_ge o dX12_isRight_297 (fun c297 => ?_) (fun c297 => ?_)
      · skip
        refine y_const o dX12_isRight_321 ?_
        exact x_zret o r dX12_isRight_322 (by first | exact Or.inl rfl | exact Or.inr rfl) (by simp (decide := true) only [if_true, if_false, ix, f_right, f_right0, f_rightW, c58, eq_false c27, eq_true c297]) (by rfl)
      · skip
        refine y_iload o dX12_isRight_300 rfl ?_
        refine y_callSi o kX12_74 hk (mm_b _ h ex _ _ ) (by decide) rfl rfl (Nat.le_of_ble_eq_true rfl) dX12_isRight_301 ?_
        refine y_const o dX12_isRight_304 ?_
        refine y_icmp_ge o dX12_isRight_305 (fun c305 => ?_) (fun c305 => ?_)
        · skip
          refine y_const o dX12_isRight_321 ?_
          exact x_zret o r dX12_isRight_322 (by first | exact Or.inl rfl | exact Or.inr rfl) (by simp (decide := true) only [if_true, if_false, ix, f_right, f_right0, f_rightW, c58, eq_false c27, eq_false c297, eq_true c305]) (by rfl)
        · skip
          refine y_iload o dX12_isRight_308 rfl ?_
          refine y_callSi o kX12_77 hk (mm_c _ h ex _ _ ) (by decide) rfl rfl (Nat.le_of_ble_eq_true rfl) dX12_isRight_309 ?_
          refine y_const o dX12_isRight_312 ?_
          refine y_icmp_ge o dX12_isRight_314 (fun c314 => ?_) (fun c314 => ?_)
          · skip
            refine y_const o dX12_isRight_321 ?_
            exact x_zret o r dX12_isRight_322 (by first | exact Or.inl rfl | exact Or.inr rfl) (by simp (decide := true) only [if_true, if_false, ix, f_right, f_right0, f_rightW, c58, eq_false c27, eq_false c297, eq_false c305, eq_true c314]) (by rfl)
          · skip
            refine y_const o dX12_isRight_317 ?_
            refine y_goto o dX12_isRight_318 ?_
            exact x_zret o r dX12_isRight_322 (by first | exact Or.inl rfl | exact Or.inr rfl) (by simp (decide := true) only [if_true, if_false, ix, f_right, f_right0, f_rightW, c58, eq_false c27, eq_false c297, eq_false c305, eq_false c314]) (by rfl)
    · skip
      refine y_sw o dX12_isRight_58_c12 c58 ?_
      have c58 : x58 = 12 := Int32.toInt_inj.mp c58
      rw [ex58] at c58
      refine y_iload o dX12_isRight_323 rfl ?_
      refine y_callSi o kX12_71 hk (mm_a _ h ex _ _ ) (by decide) rfl rfl (Nat.le_of_ble_eq_true rfl) dX12_isRight_324 ?_
      refine y_const o dX12_isRight_327 ?_
      refine y_icmp_ge o dX12_isRight_329 (fun c329 => ?_) (fun c329 => ?_)
      · skip
        refine y_const o dX12_isRight_344 ?_
        exact x_zret o r dX12_isRight_345 (by first | exact Or.inl rfl | exact Or.inr rfl) (by simp (decide := true) only [if_true, if_false, ix, f_right, f_right0, f_rightW, c58, eq_false c27, eq_true c329]) (by rfl)
      · skip
        refine y_iload o dX12_isRight_332 rfl ?_
        refine y_callSi o kX12_74 hk (mm_b _ h ex _ _ ) (by decide) rfl rfl (Nat.le_of_ble_eq_true rfl) dX12_isRight_333 ?_
        refine y_const o dX12_isRight_336 ?_
        refine y_icmp_ge o dX12_isRight_337 (fun c337 => ?_) (fun c337 => ?_)
        · skip
          refine y_const o dX12_isRight_344 ?_
          exact x_zret o r dX12_isRight_345 (by first | exact Or.inl rfl | exact Or.inr rfl) (by simp (decide := true) only [if_true, if_false, ix, f_right, f_right0, f_rightW, c58, eq_false c27, eq_false c329, eq_true c337]) (by rfl)
        · skip
          refine y_const o dX12_isRight_340 ?_
          refine y_goto o dX12_isRight_341 ?_
          exact x_zret o r dX12_isRight_345 (by first | exact Or.inl rfl | exact Or.inr rfl) (by simp (decide := true) only [if_true, if_false, ix, f_right, f_right0, f_rightW, c58, eq_false c27, eq_false c329, eq_false c337]) (by rfl)
    · skip
      refine y_sw o dX12_isRight_58_c13 c58 ?_
      have c58 : x58 = 13 := Int32.toInt_inj.mp c58
      rw [ex58] at c58
      refine y_iload o dX12_isRight_323 rfl ?_
      refine y_callSi o kX12_71 hk (mm_a _ h ex _ _ ) (by decide) rfl rfl (Nat.le_of_ble_eq_true rfl) dX12_isRight_324 ?_
      refine y_const o dX12_isRight_327 ?_
      refine y_icmp_ge o dX12_isRight_329 (fun c329 => ?_) (fun c329 => ?_)
      · skip
        refine y_const o dX12_isRight_344 ?_
        exact x_zret o r dX12_isRight_345 (by first | exact Or.inl rfl | exact Or.inr rfl) (by simp (decide := true) only [if_true, if_false, ix, f_right, f_right0, f_rightW, c58, eq_false c27, eq_true c329]) (by rfl)
      · skip
        refine y_iload o dX12_isRight_332 rfl ?_
        refine y_callSi o kX12_74 hk (mm_b _ h ex _ _ ) (by decide) rfl rfl (Nat.le_of_ble_eq_true rfl) dX12_isRight_333 ?_
        refine y_const o dX12_isRight_336 ?_
        refine y_icmp_ge o dX12_isRight_337 (fun c337 => ?_) (fun c337 => ?_)
        · skip
          refine y_const o dX12_isRight_344 ?_
          exact x_zret o r dX12_isRight_345 (by first | exact Or.inl rfl | exact Or.inr rfl) (by simp (decide := true) only [if_true, if_false, ix, f_right, f_right0, f_rightW, c58, eq_false c27, eq_false c329, eq_true c337]) (by rfl)
        · skip
          refine y_const o dX12_isRight_340 ?_
          refine y_goto o dX12_isRight_341 ?_
          exact x_zret o r dX12_isRight_345 (by first | exact Or.inl rfl | exact Or.inr rfl) (by simp (decide := true) only [if_true, if_false, ix, f_right, f_right0, f_rightW, c58, eq_false c27, eq_false c329, eq_false c337]) (by rfl)
    · skip
      refine y_sw o dX12_isRight_58_c14 c58 ?_
      have c58 : x58 = 14 := Int32.toInt_inj.mp c58
      rw [ex58] at c58
      refine y_iload o dX12_isRight_346 rfl ?_
      refine y_callSi o kX12_71 hk (mm_a _ h ex _ _ ) (by decide) rfl rfl (Nat.le_of_ble_eq_true rfl) dX12_isRight_347 ?_
      refine y_const o dX12_isRight_350 ?_
      refine y_icmp_ge o dX12_isRight_352 (fun c352 => ?_) (fun c352 => ?_)
      · skip
        refine y_const o dX12_isRight_367 ?_
        exact x_zret o r dX12_isRight_368 (by first | exact Or.inl rfl | exact Or.inr rfl) (by simp (decide := true) only [if_true, if_false, ix, f_right, f_right0, f_rightW, c58, eq_false c27, eq_true c352]) (by rfl)
      · skip
        refine y_iload o dX12_isRight_355 rfl ?_
        refine y_callSi o kX12_74 hk (mm_b _ h ex _ _ ) (by decide) rfl rfl (Nat.le_of_ble_eq_true rfl) dX12_isRight_356 ?_
        refine y_const o dX12_isRight_359 ?_
        refine y_icmp_ge o dX12_isRight_360 (fun c360 => ?_) (fun c360 => ?_)
        · skip
          refine y_const o dX12_isRight_367 ?_
          exact x_zret o r dX12_isRight_368 (by first | exact Or.inl rfl | exact Or.inr rfl) (by simp (decide := true) only [if_true, if_false, ix, f_right, f_right0, f_rightW, c58, eq_false c27, eq_false c352, eq_true c360]) (by rfl)
        · skip
          refine y_const o dX12_isRight_363 ?_
          refine y_goto o dX12_isRight_364 ?_
          exact x_zret o r dX12_isRight_368 (by first | exact Or.inl rfl | exact Or.inr rfl) (by simp (decide := true) only [if_true, if_false, ix, f_right, f_right0, f_rightW, c58, eq_false c27, eq_false c352, eq_false c360]) (by rfl)
    · skip
      refine y_sw o dX12_isRight_58_c15 c58 ?_
      have c58 : x58 = 15 := Int32.toInt_inj.mp c58
      rw [ex58] at c58
      refine y_iload o dX12_isRight_172 rfl ?_
      refine y_callSi o kX12_71 hk (mm_a _ h ex _ _ ) (by decide) rfl rfl (Nat.le_of_ble_eq_true rfl) dX12_isRight_173 ?_
      refine y_const o dX12_isRight_176 ?_
      refine y_icmp_ge o dX12_isRight_178 (fun c178 => ?_) (fun c178 => ?_)
      · skip
        refine y_const o dX12_isRight_185 ?_
        exact x_zret o r dX12_isRight_186 (by first | exact Or.inl rfl | exact Or.inr rfl) (by simp (decide := true) only [if_true, if_false, ix, f_right, f_right0, f_rightW, c58, eq_false c27, eq_true c178]) (by rfl)
      · skip
        refine y_const o dX12_isRight_181 ?_
        refine y_goto o dX12_isRight_182 ?_
        exact x_zret o r dX12_isRight_186 (by first | exact Or.inl rfl | exact Or.inr rfl) (by simp (decide := true) only [if_true, if_false, ix, f_right, f_right0, f_rightW, c58, eq_false c27, eq_false c178]) (by rfl)
    · skip
      refine y_sw o dX12_isRight_58_c16 c58 ?_
      have c58 : x58 = 16 := Int32.toInt_inj.mp c58
      rw [ex58] at c58
      refine y_const o dX12_isRight_369 ?_
      exact x_zret o r dX12_isRight_370 (by first | exact Or.inl rfl | exact Or.inr rfl) (by simp (decide := true) only [if_true, if_false, ix, f_right, f_right0, f_rightW, c58, eq_false c27]) (by rfl)
    · skip
      refine y_sw o dX12_isRight_58_c17 c58 ?_
      have c58 : x58 = 17 := Int32.toInt_inj.mp c58
      rw [ex58] at c58
      refine y_const o dX12_isRight_369 ?_
      exact x_zret o r dX12_isRight_370 (by first | exact Or.inl rfl | exact Or.inr rfl) (by simp (decide := true) only [if_true, if_false, ix, f_right, f_right0, f_rightW, c58, eq_false c27]) (by rfl)
    · skip
      refine y_swd o dX12_isRight_58_d (Or.inr c58) ?_
      rw [ex58] at c58
      refine y_const o dX12_isRight_371 ?_
      exact x_zret o r dX12_isRight_372 (by first | exact Or.inl rfl | exact Or.inr rfl) (by simp only [if_true, if_false, ix, f_right, f_right0, eq_false c27]; exact (f_rightW_out (by omega)).symm) (by rfl)
  · skip
    refine y_const o dX12_isRight_30 ?_
    refine y_goto o dX12_isRight_31 ?_
    refine y_istore o dX12_isRight_35 (by decide) (Nat.le_of_ble_eq_true rfl) ?_
    refine y_iload o dX12_isRight_37 rfl ?_
    refine y_if_eq o dX12_isRight_39 (fun cc => absurd cc (by decide)) (fun cc => ?_)
    refine y_iload o dX12_isRight_42 rfl ?_
    refine y_if_eq o dX12_isRight_44 (fun c44 => ?_) (fun c44 => ?_)
    · skip
      refine y_iload o dX12_isRight_56 rfl ?_
      refine y_top o (fun x58 ex58 => ?_)
      rcases (show x58.toInt < 0 ∨ x58.toInt = 0 ∨ x58.toInt = 1 ∨ x58.toInt = 2 ∨ x58.toInt = 3 ∨ x58.toInt = 4 ∨ x58.toInt = 5 ∨ x58.toInt = 6 ∨ x58.toInt = 7 ∨ x58.toInt = 8 ∨ x58.toInt = 9 ∨ x58.toInt = 10 ∨ x58.toInt = 11 ∨ x58.toInt = 12 ∨ x58.toInt = 13 ∨ x58.toInt = 14 ∨ x58.toInt = 15 ∨ x58.toInt = 16 ∨ x58.toInt = 17 ∨ 17 < x58.toInt by omega) with c58 | c58 | c58 | c58 | c58 | c58 | c58 | c58 | c58 | c58 | c58 | c58 | c58 | c58 | c58 | c58 | c58 | c58 | c58 | c58
      · skip
        exact absurd c58 (by rw [ex58, c44]; decide)
      · skip
        refine y_sw o dX12_isRight_58_c0 c58 ?_
        have c58 : x58 = 0 := Int32.toInt_inj.mp c58
        rw [ex58] at c58
        refine y_iload o dX12_isRight_144 rfl ?_
        refine y_callSi o kX12_71 hk (mm_a _ h ex _ _ ) (by decide) rfl rfl (Nat.le_of_ble_eq_true rfl) dX12_isRight_145 ?_
        refine y_callSi o kX12_63 hk (mm_isTask _ h ex _ _ ) (by decide) rfl rfl (Nat.le_of_ble_eq_true rfl) dX12_isRight_148 ?_
        refine y_if_eq o dX12_isRight_151 (fun c151 => ?_) (fun c151 => ?_)
        · skip
          refine y_const o dX12_isRight_170 ?_
          exact x_zret o r dX12_isRight_171 (by first | exact Or.inl rfl | exact Or.inr rfl) (by simp (decide := true) only [if_true, if_false, ix, f_right, f_right0, f_rightW, c58, eq_true c27, eq_true c44, eq_true c151]) (by rfl)
        · skip
          refine y_aload o dX12_isRight_154 rfl ?_
          refine y_getr o mgX12_13 dX12_isRight_155 ?_
          refine y_iload o dX12_isRight_158 rfl ?_
          refine y_callSi o kX12_71 hk (mm_a _ h ex _ _ ) (by decide) rfl rfl (Nat.le_of_ble_eq_true rfl) dX12_isRight_159 ?_
          refine y_iald o ma_size dX12_isRight_162 (f_isTask_in c151) ?_
          refine y_if_le o dX12_isRight_163 (fun c163 => ?_) (fun c163 => ?_)
          · skip
            refine y_const o dX12_isRight_170 ?_
            exact x_zret o r dX12_isRight_171 (by first | exact Or.inl rfl | exact Or.inr rfl) (by simp (decide := true) only [if_true, if_false, ix, f_right, f_right0, f_rightW, c58, eq_true c27, eq_true c44, eq_false c151, eq_true c163]) (by rfl)
          · skip
            refine y_const o dX12_isRight_166 ?_
            refine y_goto o dX12_isRight_167 ?_
            exact x_zret o r dX12_isRight_171 (by first | exact Or.inl rfl | exact Or.inr rfl) (by simp (decide := true) only [if_true, if_false, ix, f_right, f_right0, f_rightW, c58, eq_true c27, eq_true c44, eq_false c151, eq_false c163]) (by rfl)
      · skip
        exact absurd (c44.symm.trans (ex58.symm.trans (Int32.toInt_inj.mp c58 : x58 = 1))) (by decide)
      · skip
        exact absurd (c44.symm.trans (ex58.symm.trans (Int32.toInt_inj.mp c58 : x58 = 2))) (by decide)
      · skip
        exact absurd (c44.symm.trans (ex58.symm.trans (Int32.toInt_inj.mp c58 : x58 = 3))) (by decide)
      · skip
        exact absurd (c44.symm.trans (ex58.symm.trans (Int32.toInt_inj.mp c58 : x58 = 4))) (by decide)
      · skip
        exact absurd (c44.symm.trans (ex58.symm.trans (Int32.toInt_inj.mp c58 : x58 = 5))) (by decide)
      · skip
        exact absurd (c44.symm.trans (ex58.symm.trans (Int32.toInt_inj.mp c58 : x58 = 6))) (by decide)
      · skip
        exact absurd (c44.symm.trans (ex58.symm.trans (Int32.toInt_inj.mp c58 : x58 = 7))) (by decide)
      · skip
        exact absurd (c44.symm.trans (ex58.symm.trans (Int32.toInt_inj.mp c58 : x58 = 8))) (by decide)
      · skip
        exact absurd (c44.symm.trans (ex58.symm.trans (Int32.toInt_inj.mp c58 : x58 = 9))) (by decide)
      · skip
        exact absurd (c44.symm.trans (ex58.symm.trans (Int32.toInt_inj.mp c58 : x58 = 10))) (by decide)
      · skip
        exact absurd (c44.symm.trans (ex58.symm.trans (Int32.toInt_inj.mp c58 : x58 = 11))) (by decide)
      · skip
        exact absurd (c44.symm.trans (ex58.symm.trans (Int32.toInt_inj.mp c58 : x58 = 12))) (by decide)
      · skip
        exact absurd (c44.symm.trans (ex58.symm.trans (Int32.toInt_inj.mp c58 : x58 = 13))) (by decide)
      · skip
        exact absurd (c44.symm.trans (ex58.symm.trans (Int32.toInt_inj.mp c58 : x58 = 14))) (by decide)
      · skip
        exact absurd (c44.symm.trans (ex58.symm.trans (Int32.toInt_inj.mp c58 : x58 = 15))) (by decide)
      · skip
        exact absurd (c44.symm.trans (ex58.symm.trans (Int32.toInt_inj.mp c58 : x58 = 16))) (by decide)
      · skip
        exact absurd (c44.symm.trans (ex58.symm.trans (Int32.toInt_inj.mp c58 : x58 = 17))) (by decide)
      · skip
        exact absurd c58 (by rw [ex58, c44]; decide)
    · skip
      refine y_iload o dX12_isRight_47 rfl ?_
      refine y_const o dX12_isRight_49 ?_
      refine y_icmp_eq o dX12_isRight_51 (fun c51 => ?_) (fun c51 => ?_)
      · skip
        refine y_iload o dX12_isRight_56 rfl ?_
        refine y_top o (fun x58 ex58 => ?_)
        rcases (show x58.toInt < 0 ∨ x58.toInt = 0 ∨ x58.toInt = 1 ∨ x58.toInt = 2 ∨ x58.toInt = 3 ∨ x58.toInt = 4 ∨ x58.toInt = 5 ∨ x58.toInt = 6 ∨ x58.toInt = 7 ∨ x58.toInt = 8 ∨ x58.toInt = 9 ∨ x58.toInt = 10 ∨ x58.toInt = 11 ∨ x58.toInt = 12 ∨ x58.toInt = 13 ∨ x58.toInt = 14 ∨ x58.toInt = 15 ∨ x58.toInt = 16 ∨ x58.toInt = 17 ∨ 17 < x58.toInt by omega) with c58 | c58 | c58 | c58 | c58 | c58 | c58 | c58 | c58 | c58 | c58 | c58 | c58 | c58 | c58 | c58 | c58 | c58 | c58 | c58
        · skip
          exact absurd c58 (by rw [ex58, c51]; decide)
        · skip
          exact absurd (c51.symm.trans (ex58.symm.trans (Int32.toInt_inj.mp c58 : x58 = 0))) (by decide)
        · skip
          exact absurd (c51.symm.trans (ex58.symm.trans (Int32.toInt_inj.mp c58 : x58 = 1))) (by decide)
        · skip
          exact absurd (c51.symm.trans (ex58.symm.trans (Int32.toInt_inj.mp c58 : x58 = 2))) (by decide)
        · skip
          exact absurd (c51.symm.trans (ex58.symm.trans (Int32.toInt_inj.mp c58 : x58 = 3))) (by decide)
        · skip
          exact absurd (c51.symm.trans (ex58.symm.trans (Int32.toInt_inj.mp c58 : x58 = 4))) (by decide)
        · skip
          exact absurd (c51.symm.trans (ex58.symm.trans (Int32.toInt_inj.mp c58 : x58 = 5))) (by decide)
        · skip
          exact absurd (c51.symm.trans (ex58.symm.trans (Int32.toInt_inj.mp c58 : x58 = 6))) (by decide)
        · skip
          refine y_sw o dX12_isRight_58_c7 c58 ?_
          have c58 : x58 = 7 := Int32.toInt_inj.mp c58
          rw [ex58] at c58
          refine y_iload o dX12_isRight_248 rfl ?_
          refine y_callSi o kX12_74 hk (mm_b _ h ex _ _ ) (by decide) rfl rfl (Nat.le_of_ble_eq_true rfl) dX12_isRight_249 ?_
          refine y_aload o dX12_isRight_252 rfl ?_
          refine y_getr o mgX12_13 dX12_isRight_253 ?_
          refine y_iload o dX12_isRight_256 rfl ?_
          refine y_iald o ma_size dX12_isRight_257 (ht) ?_
          refine y_icmp_ge o dX12_isRight_258 (fun c258 => ?_) (fun c258 => ?_)
          · skip
            refine y_const o dX12_isRight_265 ?_
            exact x_zret o r dX12_isRight_266 (by first | exact Or.inl rfl | exact Or.inr rfl) (by simp (decide := true) only [if_true, if_false, ix, f_right, f_right0, f_rightW, c58, eq_true c27, eq_false c44, eq_true c51, eq_true c258]) (by rfl)
          · skip
            refine y_const o dX12_isRight_261 ?_
            refine y_goto o dX12_isRight_262 ?_
            exact x_zret o r dX12_isRight_266 (by first | exact Or.inl rfl | exact Or.inr rfl) (by simp (decide := true) only [if_true, if_false, ix, f_right, f_right0, f_rightW, c58, eq_true c27, eq_false c44, eq_true c51, eq_false c258]) (by rfl)
        · skip
          exact absurd (c51.symm.trans (ex58.symm.trans (Int32.toInt_inj.mp c58 : x58 = 8))) (by decide)
        · skip
          exact absurd (c51.symm.trans (ex58.symm.trans (Int32.toInt_inj.mp c58 : x58 = 9))) (by decide)
        · skip
          exact absurd (c51.symm.trans (ex58.symm.trans (Int32.toInt_inj.mp c58 : x58 = 10))) (by decide)
        · skip
          exact absurd (c51.symm.trans (ex58.symm.trans (Int32.toInt_inj.mp c58 : x58 = 11))) (by decide)
        · skip
          exact absurd (c51.symm.trans (ex58.symm.trans (Int32.toInt_inj.mp c58 : x58 = 12))) (by decide)
        · skip
          exact absurd (c51.symm.trans (ex58.symm.trans (Int32.toInt_inj.mp c58 : x58 = 13))) (by decide)
        · skip
          exact absurd (c51.symm.trans (ex58.symm.trans (Int32.toInt_inj.mp c58 : x58 = 14))) (by decide)
        · skip
          exact absurd (c51.symm.trans (ex58.symm.trans (Int32.toInt_inj.mp c58 : x58 = 15))) (by decide)
        · skip
          exact absurd (c51.symm.trans (ex58.symm.trans (Int32.toInt_inj.mp c58 : x58 = 16))) (by decide)
        · skip
          exact absurd (c51.symm.trans (ex58.symm.trans (Int32.toInt_inj.mp c58 : x58 = 17))) (by decide)
        · skip
          exact absurd c58 (by rw [ex58, c51]; decide)
      · skip
        refine y_const o dX12_isRight_54 ?_
        exact x_zret o r dX12_isRight_55 (by first | exact Or.inl rfl | exact Or.inr rfl) (by simp only [if_true, if_false, ix, f_right, f_right0, eq_true c27, eq_false c44, eq_false c51]) (by rfl)
set_option maxHeartbeats 4000000 in
set_option maxRecDepth 100000 in
theorem mm_seal (dd : ClassId × ClassId × ClassId) (h : Nat → Nat) (ex : va_W) (S : XS)  (hs : szOk S) : Cx dd yX12_seal cX12_seal 3 (some .int) 2 mG [.ref (h 0)] h ex S (some (.int (f_sealR S))) (f_seal S) := by
  refine Cx.intro (by decide) (by simp [Value.category]) (Nat.le_of_ble_eq_true rfl) (fun K o r hk => ?_)
  have o : Y K cX12_seal RX12 3 2 := o
  obtain ⟨T, eT⟩ : ∃ T, T = xs S 19 0 := ⟨_, rfl⟩
  have hs : szOk T := by rw [eT]; exact hs
  have hR : f_sealR S = f_sealR0 T := by rw [eT]; rfl
  have hF : f_seal S = f_seal0 T := by rw [eT]; rfl
  have outer : ¬ T.2 13 0 = 0 → T.1 14 = 0 → ∀ (n t : Nat), t + n = 16 → f_sealT T n t = f_sealT T 16 0 → ∀ lv : List Value, lv.take 2 = [.ref (h 0), .int (nI t)] → Vw K 3 (g_W (kd K).1 mG h T ++ ex) 0 0 lv 27 [] := by
    intro e20 e9 n
    induction n with
    | zero =>
      intro t h1 hT lv hlv
      have ht : t = 16 := by omega
      subst ht
      refine y_take 2 hlv ?_
      refine y_iload o dX12_seal_27 rfl ?_
      refine y_const o dX12_seal_28 ?_
      refine y_icmp_ge o dX12_seal_30 (fun c30 => ?_) (fun c30 => ?_)
      · skip
        refine y_aload o dX12_seal_75 rfl ?_
        refine y_const o dX12_seal_76 ?_
        refine y_putz o mpX12_59 (by first | exact Or.inl rfl | exact Or.inr rfl) dX12_seal_77 ?_
        refine y_const o dX12_seal_80 ?_
        exact x_iret o r dX12_seal_81 (by rw [hR]; simp only [f_sealR0, if_true, if_false, eq_true e9, eq_false e20]; exact hT) (by rw [hF]; simp only [f_seal0, if_true, if_false, eq_true e9, eq_false e20, eq_true (show f_sealT T 16 0 = 0 from hT.symm)])
      · skip
        exact absurd (by decide) c30
    | succ n ih =>
      intro t h1 hT lv hlv
      refine y_take 2 hlv ?_
      obtain ⟨z, z1, z2⟩ := hs t (by omega)
      have ez : (T.2 13 t).toNatClampNeg = z := by rw [z2]; exact nI_clamp (by omega)
      have inner : ∀ (m i : Nat), i + m = z → f_sealI T t m i = f_sealI T t z 0 → Vw K 3 (g_W (kd K).1 mG h T ++ ex) 0 0 [.ref (h 0), .int (nI t), .int (nI i)] 35 [] := by
        intro m
        induction m with
        | zero =>
          intro i h2 hI
          refine y_iload o dX12_seal_35 rfl ?_
          refine y_aload o dX12_seal_36 rfl ?_
          refine y_getr o mgX12_13 dX12_seal_37 ?_
          refine y_iload o dX12_seal_40 rfl ?_
          refine y_iald o ma_size dX12_seal_41 (vp_in_nI (by omega) (by decide)) ?_
          refine y_icmp_ge o dX12_seal_42 (fun c42 => ?_) (fun c42 => ?_)
          · skip
            refine y_iinc1 o dX12_seal_69 rfl (by decide) ?_
            refine y_goto o dX12_seal_72 ?_
            refine ih (t + 1) (by omega) ?_ _ (by rw [← nI_1]; rfl)
            rw [← hT]
            show _ = (if f_sealI T t (ix (T.2 13 t)) 0 = 0 then _ else _)
            rw [show ix (T.2 13 t) = z from ez, ← hI]
            exact (if_pos rfl).symm
          · skip
            exact absurd (show T.2 13 (nI t).toNatClampNeg ≤ nI i by rw [nI_clamp (by omega), z2]; exact nI_le (by omega) (by omega)) c42
        | succ m ihm =>
          intro i h2 hI
          have hti : vp_in (32 * nI t + nI i) 512 := code_in (vp_in_nI (by omega) (by decide)) (vp_in_nI (by omega) (by decide))
          have hz0 : f_sealI T t z 0 = (if f_right T (nI t) (nI i) = 0 then 1 + 32 * nI t + nI i else f_sealI T t m (i + 1)) := hI.symm
          refine y_iload o dX12_seal_35 rfl ?_
          refine y_aload o dX12_seal_36 rfl ?_
          refine y_getr o mgX12_13 dX12_seal_37 ?_
          refine y_iload o dX12_seal_40 rfl ?_
          refine y_iald o ma_size dX12_seal_41 (vp_in_nI (by omega) (by decide)) ?_
          refine y_icmp_ge o dX12_seal_42 (fun c42 => ?_) (fun c42 => ?_)
          · skip
            exact absurd (show T.2 13 (nI t).toNatClampNeg ≤ nI i from c42) (by rw [nI_clamp (by omega), z2]; exact nI_ge (by omega) (by omega))
          · skip
            refine y_aload o dX12_seal_45 rfl ?_
            refine y_iload o dX12_seal_46 rfl ?_
            refine y_iload o dX12_seal_47 rfl ?_
            refine y_callVi o kX12_80 mr_X12 hk (mm_isRight _ h ex _ _ _ (vp_in_nI (by omega) (by decide)) (hti)) (by decide) rfl rfl (Nat.le_of_ble_eq_true rfl) dX12_seal_48 ?_
            refine y_if_ne o dX12_seal_51 (fun c51 => ?_) (fun c51 => ?_)
            · skip
              refine y_iinc1 o dX12_seal_63 rfl (by decide) ?_
              refine y_goto o dX12_seal_66 ?_
              refine y_lv (lv' := [.ref (h 0), .int (nI t), .int (nI (i + 1))]) (by rw [← nI_1]; rfl) ?_
              refine ihm (i + 1) (by omega) ?_
              rw [hz0, if_neg c51]
            · skip
              refine y_const o dX12_seal_54 ?_
              refine y_const o dX12_seal_55 ?_
              refine y_iload o dX12_seal_57 rfl ?_
              refine y_imul o dX12_seal_58 ?_
              refine y_iadd o dX12_seal_59 ?_
              refine y_iload o dX12_seal_60 rfl ?_
              refine y_iadd o dX12_seal_61 ?_
              exact x_iret o r dX12_seal_62 (by rw [hR]; simp only [f_sealR0, if_true, if_false, eq_true e9, eq_false e20]; exact seal_hit hT ez (by rw [hz0, if_pos c51]) (by omega) (by omega)) (by rw [hF]; simp only [f_seal0, if_true, if_false, eq_true e9, eq_false e20]; exact seal_hitS hT ez (by rw [hz0, if_pos c51]) (by omega) (by omega))
      refine y_iload o dX12_seal_27 rfl ?_
      refine y_const o dX12_seal_28 ?_
      refine y_icmp_ge o dX12_seal_30 (fun c30 => ?_) (fun c30 => ?_)
      · skip
        exact absurd c30 (nI_ge (a := t) (b := 16) (by omega) (by decide))
      · skip
        refine y_const o dX12_seal_33 ?_
        refine y_istore o dX12_seal_34 (by decide) (Nat.le_of_ble_eq_true rfl) ?_
        refine y_take 3 rfl ?_
        exact inner z 0 (by omega) rfl
  refine y_aload o dX12_seal_0 rfl ?_
  refine y_const o dX12_seal_1 ?_
  refine y_put o mpX12_56 dX12_seal_2 ?_
  rw [← eT]
  refine y_aload o dX12_seal_5 rfl ?_
  refine y_get o mgX12_59 dX12_seal_6 ?_
  refine y_if_eq o dX12_seal_9 (fun c9 => ?_) (fun c9 => ?_)
  · skip
    refine y_aload o dX12_seal_14 rfl ?_
    refine y_getr o mgX12_13 dX12_seal_15 ?_
    refine y_const o dX12_seal_18 ?_
    refine y_ialdc (j0 := 0) o ma_size dX12_seal_19 (by unfold vp_in; decide) (by decide) ?_
    refine y_if_ne o dX12_seal_20 (fun c20 => ?_) (fun c20 => ?_)
    · skip
      refine y_const o dX12_seal_25 ?_
      refine y_istore o dX12_seal_26 (by decide) (Nat.le_of_ble_eq_true rfl) ?_
      exact outer c20 c9 16 0 rfl rfl _ rfl
    · skip
      refine y_const o dX12_seal_23 ?_
      exact x_iret o r dX12_seal_24 (by rw [hR]; simp only [f_sealR0, if_true, if_false, eq_true c9, eq_true c20]) (by rw [hF]; simp only [f_seal0, if_true, if_false, eq_true c9, eq_true c20])
  · skip
    refine y_const o dX12_seal_12 ?_
    exact x_iret o r dX12_seal_13 (by rw [hR]; simp only [f_sealR0, if_true, if_false, eq_false c9]) (by rw [hF]; simp only [f_seal0, if_true, if_false, eq_false c9])
