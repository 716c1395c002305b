/-! the component and its program -/
set_option maxRecDepth 100000
set_option maxHeartbeats 4000000 in
set_option maxRecDepth 100000 in
theorem cm_cut (dd : ClassId × ClassId × ClassId) (h : Nat → Nat) (ex : va_W) (S : XS) (x : Int32)  : Cx dd yX1_cut cX1_cut 2 (some .boolean) 0 cG [.ref (h 0), .int x] h ex S (some (.int (f_cutR x))) (g_cutC S x) := by
  refine Cx.intro (by decide) (by simp [Value.category]) (Nat.le_of_ble_eq_true rfl) (fun K o r hk => ?_)
  have o : Y K cX1_cut RX1 2 0 := o
  refine y_iload o dX1_cut_0 rfl ?_
  refine y_if_lt o dX1_cut_1 (fun c1 => ?_) (fun c1 => ?_)
  · skip
    refine y_const o dX1_cut_11 ?_
    exact x_zret o r dX1_cut_12 (by first | exact Or.inl rfl | exact Or.inr rfl) (by simp only [if_true, if_false, ix, f_cutR, eq_true c1] <;> rfl) (by simp only [if_true, if_false, ix, g_cutC, eq_true c1] <;> rfl)
  · skip
    refine y_iload o dX1_cut_4 rfl ?_
    refine y_const o dX1_cut_5 ?_
    refine y_icmp_le o dX1_cut_8 (fun c8 => ?_) (fun c8 => ?_)
    · skip
      refine y_aload o dX1_cut_13 rfl ?_
      refine y_getr o tgX1_10 dX1_cut_14 ?_
      refine y_iload o dX1_cut_17 rfl ?_
      refine y_put o tpX1_71 dX1_cut_18 ?_
      refine y_const o dX1_cut_21 ?_
      exact x_zret o r dX1_cut_22 (by first | exact Or.inl rfl | exact Or.inr rfl) (by simp only [if_true, if_false, ix, f_cutR, eq_false c1, eq_true c8] <;> rfl) (by simp only [if_true, if_false, ix, g_cutC, eq_false c1, eq_true c8] <;> rfl)
    · skip
      refine y_const o dX1_cut_11 ?_
      exact x_zret o r dX1_cut_12 (by first | exact Or.inl rfl | exact Or.inr rfl) (by simp only [if_true, if_false, ix, f_cutR, eq_false c1, eq_false c8] <;> rfl) (by simp only [if_true, if_false, ix, g_cutC, eq_false c1, eq_false c8] <;> rfl)
set_option maxHeartbeats 4000000 in
set_option maxRecDepth 100000 in
theorem cm_sense (dd : ClassId × ClassId × ClassId) (h : Nat → Nat) (ex : va_W) (S : XS) (x : Int32) (v : Int32)  : Cx dd yX1_sense cX1_sense 3 (some .boolean) 0 cG [.ref (h 0), .int x, .int v] h ex S (some (.int (f_senseR x))) (g_sense S x v) := by
  refine Cx.intro (by decide) (by simp [Value.category]) (Nat.le_of_ble_eq_true rfl) (fun K o r hk => ?_)
  have o : Y K cX1_sense RX1 3 0 := o
  refine y_iload o dX1_sense_0 rfl ?_
  refine y_if_lt o dX1_sense_1 (fun c1 => ?_) (fun c1 => ?_)
  · skip
    refine y_const o dX1_sense_9 ?_
    exact x_zret o r dX1_sense_10 (by first | exact Or.inl rfl | exact Or.inr rfl) (by simp only [if_true, if_false, ix, f_senseR, eq_true c1] <;> rfl) (by simp only [if_true, if_false, ix, g_sense, eq_true c1] <;> rfl)
  · skip
    refine y_iload o dX1_sense_4 rfl ?_
    refine y_const o dX1_sense_5 ?_
    refine y_icmp_le o dX1_sense_6 (fun c6 => ?_) (fun c6 => ?_)
    · skip
      refine y_aload o dX1_sense_11 rfl ?_
      refine y_getr o tgX1_10 dX1_sense_12 ?_
      refine y_getr o tgX1_75 dX1_sense_15 ?_
      refine y_iload o dX1_sense_18 rfl ?_
      refine y_iload o dX1_sense_19 rfl ?_
      refine y_iast o ta_sensors dX1_sense_20 (vi_le c1 c6 rfl (by decide)) ?_
      refine y_const o dX1_sense_21 ?_
      exact x_zret o r dX1_sense_22 (by first | exact Or.inl rfl | exact Or.inr rfl) (by simp only [if_true, if_false, ix, f_senseR, eq_false c1, eq_true c6] <;> rfl) (by simp only [if_true, if_false, ix, g_sense, eq_false c1, eq_true c6] <;> rfl)
    · skip
      refine y_const o dX1_sense_9 ?_
      exact x_zret o r dX1_sense_10 (by first | exact Or.inl rfl | exact Or.inr rfl) (by simp only [if_true, if_false, ix, f_senseR, eq_false c1, eq_false c6] <;> rfl) (by simp only [if_true, if_false, ix, g_sense, eq_false c1, eq_false c6] <;> rfl)
set_option maxHeartbeats 4000000 in
set_option maxRecDepth 100000 in
theorem cm_aired (dd : ClassId × ClassId × ClassId) (h : Nat → Nat) (ex : va_W) (S : XS) (x : Int32) (v : Int32) (ha : vp_in (S.1 13) 1048576) : Cx dd yX1_aired cX1_aired 5 (some .int) 0 cG [.ref (h 0), .int x, .int v] h ex S (some (.int (f_airedR0 S x v))) S := by
  refine Cx.intro (by decide) (by simp [Value.category]) (Nat.le_of_ble_eq_true rfl) (fun K o r hk => ?_)
  have o : Y K cX1_aired RX1 5 0 := o
  refine y_aload o dX1_aired_0 rfl ?_
  refine y_getr o tgX1_10 dX1_aired_1 ?_
  refine y_getr o tgX1_94 dX1_aired_4 ?_
  refine y_astore o dX1_aired_7 (by decide) (Nat.le_of_ble_eq_true rfl) ?_
  refine y_iload o dX1_aired_8 rfl ?_
  refine y_if_lt o dX1_aired_9 (fun c9 => ?_) (fun c9 => ?_)
  · skip
    refine y_const o dX1_aired_35 ?_
    exact x_iret o r dX1_aired_36 (by simp only [if_true, if_false, ix, f_airedR0, eq_true c9] <;> rfl) (by rfl)
  · skip
    refine y_iload o dX1_aired_12 rfl ?_
    refine y_const o dX1_aired_13 ?_
    refine y_icmp_ge o dX1_aired_15 (fun c15 => ?_) (fun c15 => ?_)
    · skip
      refine y_const o dX1_aired_35 ?_
      exact x_iret o r dX1_aired_36 (by simp only [if_true, if_false, ix, f_airedR0, eq_false c9, eq_true c15] <;> rfl) (by rfl)
    · skip
      refine y_iload o dX1_aired_18 rfl ?_
      refine y_aload o dX1_aired_19 rfl ?_
      refine y_get o tgX1_100 dX1_aired_20 ?_
      refine y_icmp_ge o dX1_aired_23 (fun c23 => ?_) (fun c23 => ?_)
      · skip
        refine y_const o dX1_aired_35 ?_
        exact x_iret o r dX1_aired_36 (by simp only [if_true, if_false, ix, f_airedR0, eq_false c9, eq_false c15, eq_true c23] <;> rfl) (by rfl)
      · skip
        refine y_iload o dX1_aired_26 rfl ?_
        refine y_if_lt o dX1_aired_27 (fun c27 => ?_) (fun c27 => ?_)
        · skip
          refine y_const o dX1_aired_35 ?_
          exact x_iret o r dX1_aired_36 (by simp only [if_true, if_false, ix, f_airedR0, eq_false c9, eq_false c15, eq_false c23, eq_true c27] <;> rfl) (by rfl)
        · skip
          refine y_iload o dX1_aired_30 rfl ?_
          refine y_const o dX1_aired_31 ?_
          refine y_icmp_le o dX1_aired_32 (fun c32 => ?_) (fun c32 => ?_)
          · skip
            refine y_aload o dX1_aired_37 rfl ?_
            refine y_get o tgX1_100 dX1_aired_38 ?_
            refine y_const o dX1_aired_41 ?_
            refine y_isub o dX1_aired_42 ?_
            refine y_iload o dX1_aired_43 rfl ?_
            refine y_isub o dX1_aired_44 ?_
            refine y_const o dX1_aired_45 ?_
            refine y_irem o dX1_aired_47 (by decide) ?_
            refine y_istore o dX1_aired_48 (by decide) (Nat.le_of_ble_eq_true rfl) ?_
            refine y_iload o dX1_aired_50 rfl ?_
            refine y_if_ne o dX1_aired_51 (fun c51 => ?_) (fun c51 => ?_)
            · skip
              refine y_aload o dX1_aired_64 rfl ?_
              refine y_getr o tgX1_106 dX1_aired_65 ?_
              refine y_iload o dX1_aired_68 rfl ?_
              refine y_iald o ta_payloads dX1_aired_70 (aired_in ha c9 c23) ?_
              exact x_iret o r dX1_aired_71 (by simp only [if_true, if_false, ix, f_airedR0, eq_false c9, eq_false c15, eq_false c23, eq_false c27, eq_true c32, eq_false c51] <;> rfl) (by rfl)
            · skip
              refine y_aload o dX1_aired_54 rfl ?_
              refine y_getr o tgX1_103 dX1_aired_55 ?_
              refine y_iload o dX1_aired_58 rfl ?_
              refine y_iald o ta_numbers dX1_aired_60 (aired_in ha c9 c23) ?_
              refine y_goto o dX1_aired_61 ?_
              exact x_iret o r dX1_aired_71 (by simp only [if_true, if_false, ix, f_airedR0, eq_false c9, eq_false c15, eq_false c23, eq_false c27, eq_true c32, eq_true c51] <;> rfl) (by rfl)
          · skip
            refine y_const o dX1_aired_35 ?_
            exact x_iret o r dX1_aired_36 (by simp only [if_true, if_false, ix, f_airedR0, eq_false c9, eq_false c15, eq_false c23, eq_false c27, eq_false c32] <;> rfl) (by rfl)
set_option maxHeartbeats 4000000 in
set_option maxRecDepth 100000 in
theorem cm_state (dd : ClassId × ClassId × ClassId) (h : Nat → Nat) (ex : va_W) (S : XS) (x : Int32) (hs : stOk (S.1 17)) : Cx dd yX1_state cX1_state 2 (some .int) 1 cG [.ref (h 0), .int x] h ex S (some (.int (g_stateR S x))) S := by
  refine Cx.intro (by decide) (by simp [Value.category]) (Nat.le_of_ble_eq_true rfl) (fun K o r hk => ?_)
  have o : Y K cX1_state RX1 2 1 := o
  refine y_iload o dX1_state_0 rfl ?_
  refine y_top o (fun x1 ex1 => ?_)
  rcases (show x1.toInt < 0 ∨ x1.toInt = 0 ∨ x1.toInt = 1 ∨ x1.toInt = 2 ∨ x1.toInt = 3 ∨ x1.toInt = 4 ∨ x1.toInt = 5 ∨ x1.toInt = 6 ∨ x1.toInt = 7 ∨ x1.toInt = 8 ∨ x1.toInt = 9 ∨ 9 < x1.toInt by omega) with c1 | c1 | c1 | c1 | c1 | c1 | c1 | c1 | c1 | c1 | c1 | c1
  · skip
    refine y_swd o dX1_state_1_d (Or.inl c1) ?_
    rw [ex1] at c1
    refine y_const o dX1_state_219 ?_
    exact x_iret o r dX1_state_220 (by exact (g_state_out (by omega)).symm) (by rfl)
  · skip
    refine y_sw o dX1_state_1_c0 c1 ?_
    have c1 : x1 = 0 := Int32.toInt_inj.mp c1
    rw [ex1] at c1
    refine y_aload o dX1_state_56 rfl ?_
    refine y_getr o tgX1_10 dX1_state_57 ?_
    refine y_callVi o kX1_114 tr_X2 hk (cm_phase _ h ex _ (hs)) (by decide) rfl rfl (Nat.le_of_ble_eq_true rfl) dX1_state_60 ?_
    exact x_iret o r dX1_state_63 (by simp (decide := true) only [if_true, if_false, g_stateR, c1]) (by rfl)
  · skip
    refine y_sw o dX1_state_1_c1 c1 ?_
    have c1 : x1 = 1 := Int32.toInt_inj.mp c1
    rw [ex1] at c1
    refine y_aload o dX1_state_64 rfl ?_
    refine y_getr o tgX1_10 dX1_state_65 ?_
    refine y_get o tgX1_117 dX1_state_68 ?_
    exact x_iret o r dX1_state_71 (by simp (decide := true) only [if_true, if_false, g_stateR, c1]) (by rfl)
  · skip
    refine y_sw o dX1_state_1_c2 c1 ?_
    have c1 : x1 = 2 := Int32.toInt_inj.mp c1
    rw [ex1] at c1
    refine y_aload o dX1_state_72 rfl ?_
    refine y_getr o tgX1_10 dX1_state_73 ?_
    refine y_get o tgX1_120 dX1_state_76 ?_
    exact x_iret o r dX1_state_79 (by simp (decide := true) only [if_true, if_false, g_stateR, c1]) (by rfl)
  · skip
    refine y_sw o dX1_state_1_c3 c1 ?_
    have c1 : x1 = 3 := Int32.toInt_inj.mp c1
    rw [ex1] at c1
    refine y_aload o dX1_state_80 rfl ?_
    refine y_getr o tgX1_10 dX1_state_81 ?_
    refine y_get o tgX1_122 dX1_state_84 ?_
    exact x_iret o r dX1_state_87 (by simp (decide := true) only [if_true, if_false, g_stateR, c1]) (by rfl)
  · skip
    refine y_sw o dX1_state_1_c4 c1 ?_
    have c1 : x1 = 4 := Int32.toInt_inj.mp c1
    rw [ex1] at c1
    refine y_aload o dX1_state_88 rfl ?_
    refine y_getr o tgX1_10 dX1_state_89 ?_
    refine y_gets o tgX1_125 dX1_state_92 ?_
    refine y_aload o dX1_state_95 rfl ?_
    refine y_getr o tgX1_10 dX1_state_96 ?_
    refine y_getr o tgX1_129 dX1_state_99 ?_
    refine y_sacmp_ne o (hs) (by decide) (by decide) dX1_state_102 (fun c102 => ?_) (fun c102 => ?_)
    · skip
      refine y_aload o dX1_state_118 rfl ?_
      refine y_getr o tgX1_10 dX1_state_119 ?_
      refine y_gets o tgX1_125 dX1_state_122 ?_
      refine y_aload o dX1_state_125 rfl ?_
      refine y_getr o tgX1_10 dX1_state_126 ?_
      refine y_getr o tgX1_140 dX1_state_129 ?_
      refine y_sacmp_ne o (hs) (by decide) (by decide) dX1_state_132 (fun c132 => ?_) (fun c132 => ?_)
      · skip
        refine y_const o dX1_state_150 ?_
        exact x_iret o r dX1_state_151 (by simp (decide := true) only [if_true, if_false, g_stateR, c1, eq_false (show ¬ S.1 17 = 8 from c102), eq_false (show ¬ S.1 17 = 9 from c132)]) (by rfl)
      · skip
        refine y_aload o dX1_state_135 rfl ?_
        refine y_getr o tgX1_10 dX1_state_136 ?_
        refine y_getr o tgX1_133 dX1_state_139 ?_
        refine y_get o tgX1_137 dX1_state_142 ?_
        refine y_const o dX1_state_145 ?_
        refine y_isub o dX1_state_146 ?_
        refine y_goto o dX1_state_147 ?_
        exact x_iret o r dX1_state_151 (by simp (decide := true) only [if_true, if_false, g_stateR, c1, eq_false (show ¬ S.1 17 = 8 from c102), eq_true (show S.1 17 = 9 from c132)]) (by rfl)
    · skip
      refine y_aload o dX1_state_105 rfl ?_
      refine y_getr o tgX1_10 dX1_state_106 ?_
      refine y_getr o tgX1_133 dX1_state_109 ?_
      refine y_get o tgX1_137 dX1_state_112 ?_
      refine y_goto o dX1_state_115 ?_
      exact x_iret o r dX1_state_151 (by simp (decide := true) only [if_true, if_false, g_stateR, c1, eq_true (show S.1 17 = 8 from c102)]) (by rfl)
  · skip
    refine y_sw o dX1_state_1_c5 c1 ?_
    have c1 : x1 = 5 := Int32.toInt_inj.mp c1
    rw [ex1] at c1
    refine y_aload o dX1_state_152 rfl ?_
    refine y_getr o tgX1_10 dX1_state_153 ?_
    refine y_gets o tgX1_125 dX1_state_156 ?_
    refine y_aload o dX1_state_159 rfl ?_
    refine y_getr o tgX1_10 dX1_state_160 ?_
    refine y_getr o tgX1_129 dX1_state_163 ?_
    refine y_sacmp_ne o (hs) (by decide) (by decide) dX1_state_166 (fun c166 => ?_) (fun c166 => ?_)
    · skip
      refine y_const o dX1_state_182 ?_
      exact x_iret o r dX1_state_183 (by simp (decide := true) only [if_true, if_false, g_stateR, c1, eq_false (show ¬ S.1 17 = 8 from c166)]) (by rfl)
    · skip
      refine y_aload o dX1_state_169 rfl ?_
      refine y_getr o tgX1_10 dX1_state_170 ?_
      refine y_getr o tgX1_129 dX1_state_173 ?_
      refine y_get o tgX1_144 dX1_state_176 ?_
      refine y_goto o dX1_state_179 ?_
      exact x_iret o r dX1_state_183 (by simp (decide := true) only [if_true, if_false, g_stateR, c1, eq_true (show S.1 17 = 8 from c166)]) (by rfl)
  · skip
    refine y_sw o dX1_state_1_c6 c1 ?_
    have c1 : x1 = 6 := Int32.toInt_inj.mp c1
    rw [ex1] at c1
    refine y_aload o dX1_state_184 rfl ?_
    refine y_getr o tgX1_10 dX1_state_185 ?_
    refine y_get o tgX1_149 dX1_state_188 ?_
    exact x_iret o r dX1_state_191 (by simp (decide := true) only [if_true, if_false, g_stateR, c1]) (by rfl)
  · skip
    refine y_sw o dX1_state_1_c7 c1 ?_
    have c1 : x1 = 7 := Int32.toInt_inj.mp c1
    rw [ex1] at c1
    refine y_aload o dX1_state_192 rfl ?_
    refine y_getr o tgX1_10 dX1_state_193 ?_
    refine y_get o tgX1_152 dX1_state_196 ?_
    exact x_iret o r dX1_state_199 (by simp (decide := true) only [if_true, if_false, g_stateR, c1]) (by rfl)
  · skip
    refine y_sw o dX1_state_1_c8 c1 ?_
    have c1 : x1 = 8 := Int32.toInt_inj.mp c1
    rw [ex1] at c1
    refine y_aload o dX1_state_200 rfl ?_
    refine y_getr o tgX1_10 dX1_state_201 ?_
    refine y_get o tgX1_155 dX1_state_204 ?_
    exact x_iret o r dX1_state_207 (by simp (decide := true) only [if_true, if_false, g_stateR, c1]) (by rfl)
  · skip
    refine y_sw o dX1_state_1_c9 c1 ?_
    have c1 : x1 = 9 := Int32.toInt_inj.mp c1
    rw [ex1] at c1
    refine y_aload o dX1_state_208 rfl ?_
    refine y_getr o tgX1_10 dX1_state_209 ?_
    refine y_getr o tgX1_94 dX1_state_212 ?_
    refine y_get o tgX1_100 dX1_state_215 ?_
    exact x_iret o r dX1_state_218 (by simp (decide := true) only [if_true, if_false, g_stateR, c1]) (by rfl)
  · skip
    refine y_swd o dX1_state_1_d (Or.inr c1) ?_
    rw [ex1] at c1
    refine y_const o dX1_state_219 ?_
    exact x_iret o r dX1_state_220 (by exact (g_state_out (by omega)).symm) (by rfl)
set_option maxHeartbeats 4000000 in
set_option maxRecDepth 100000 in
theorem cm_register (dd : ClassId × ClassId × ClassId) (h : Nat → Nat) (ex : va_W) (S : XS) (x : Int32)  : Cx dd yX1_register cX1_register 2 (some .int) 0 cG [.ref (h 0), .int x] h ex S (some (.int (g_registerR S x))) S := by
  refine Cx.intro (by decide) (by simp [Value.category]) (Nat.le_of_ble_eq_true rfl) (fun K o r hk => ?_)
  have o : Y K cX1_register RX1 2 0 := o
  refine y_iload o dX1_register_0 rfl ?_
  refine y_if_lt o dX1_register_1 (fun c1 => ?_) (fun c1 => ?_)
  · skip
    refine y_const o dX1_register_10 ?_
    refine y_goto o dX1_register_11 ?_
    exact x_iret o r dX1_register_23 (by simp only [if_true, if_false, ix, g_registerR, eq_true c1] <;> rfl) (by rfl)
  · skip
    refine y_iload o dX1_register_4 rfl ?_
    refine y_const o dX1_register_5 ?_
    refine y_icmp_lt o dX1_register_7 (fun c7 => ?_) (fun c7 => ?_)
    · skip
      refine y_aload o dX1_register_14 rfl ?_
      refine y_getr o tgX1_10 dX1_register_15 ?_
      refine y_getr o tgX1_164 dX1_register_18 ?_
      refine y_iload o dX1_register_21 rfl ?_
      refine y_iald o ta_registers dX1_register_22 (vi_of c1 c7 rfl (by decide)) ?_
      exact x_iret o r dX1_register_23 (by simp only [if_true, if_false, ix, g_registerR, eq_false c1, eq_true c7] <;> rfl) (by rfl)
    · skip
      refine y_const o dX1_register_10 ?_
      refine y_goto o dX1_register_11 ?_
      exact x_iret o r dX1_register_23 (by simp only [if_true, if_false, ix, g_registerR, eq_false c1, eq_false c7] <;> rfl) (by rfl)
set_option maxHeartbeats 4000000 in
set_option maxRecDepth 100000 in
theorem cm_task (dd : ClassId × ClassId × ClassId) (h : Nat → Nat) (ex : va_W) (S : XS) (t : Int32) (v : Int32) {P : PA} {cd sz : Nat → Int32} {ex0 : va_W} (hex : ex = pW dd.2.2 h P cd sz ++ ex0) (hp : pOK P sz) (hsz : S.2 13 = sz) : Cx dd yX1_task cX1_task 3 (some .int) 4 cG [.ref (h 0), .int t, .int v] h ex S (some (.int (g_taskR S t v))) S := by
  refine Cx.introE (by decide) (by simp [Value.category]) (Nat.le_of_ble_eq_true rfl) (fun K e o r hk => ?_)
  subst e
  have o : Y K cX1_task RX1 3 4 := o
  refine y_iload o dX1_task_0 rfl ?_
  refine y_callSi o kX1_26 hk (cm_isTask _ h ex _ _ ) (by decide) rfl rfl (Nat.le_of_ble_eq_true rfl) dX1_task_1 ?_
  refine y_if_ne o dX1_task_4 (fun c4 => ?_) (fun c4 => ?_)
  · skip
    refine y_iload o dX1_task_9 rfl ?_
    refine y_top o (fun x10 ex10 => ?_)
    rcases (show x10.toInt < 0 ∨ x10.toInt = 0 ∨ x10.toInt = 1 ∨ x10.toInt = 2 ∨ 2 < x10.toInt by omega) with c10 | c10 | c10 | c10 | c10
    · skip
      refine y_swd o dX1_task_10_d (Or.inl c10) ?_
      rw [ex10] at c10
      refine y_const o dX1_task_68 ?_
      exact x_iret o r dX1_task_69 (by exact (g_task_out c4 (by omega)).symm) (by rfl)
    · skip
      refine y_sw o dX1_task_10_c0 c10 ?_
      have c10 : x10 = 0 := Int32.toInt_inj.mp c10
      rw [ex10] at c10
      refine y_aload o dX1_task_36 rfl ?_
      refine y_getr o tgX1_10 dX1_task_37 ?_
      refine y_getr o tgX1_158 dX1_task_40 ?_
      refine y_iload o dX1_task_43 rfl ?_
      refine y_iald o ta_estimates dX1_task_44 (f_isTask_in c4) ?_
      exact x_iret o r dX1_task_45 (by simp (decide := true) only [if_true, if_false, ix, g_taskR, c10, hsz, eq_false c4]) (by rfl)
    · skip
      refine y_sw o dX1_task_10_c1 c10 ?_
      have c10 : x10 = 1 := Int32.toInt_inj.mp c10
      rw [ex10] at c10
      refine y_aload o dX1_task_46 rfl ?_
      refine y_getr o tgX1_10 dX1_task_47 ?_
      refine y_getr o tgX1_161 dX1_task_50 ?_
      refine y_iload o dX1_task_53 rfl ?_
      refine y_iald o ta_failures dX1_task_54 (f_isTask_in c4) ?_
      exact x_iret o r dX1_task_55 (by simp (decide := true) only [if_true, if_false, ix, g_taskR, c10, hsz, eq_false c4]) (by rfl)
    · skip
      refine y_sw o dX1_task_10_c2 c10 ?_
      have c10 : x10 = 2 := Int32.toInt_inj.mp c10
      rw [ex10] at c10
      refine y_aload o dX1_task_56 rfl ?_
      refine y_getr o tgX1_10 dX1_task_57 ?_
      refine y_getr o tgX1_16 dX1_task_60 ?_
      refine y_iload o dX1_task_63 rfl ?_
      refine y_callVi o kX1_30 tr_X5 hk (cm_size _ h ex _ _ (hex) (hp) (f_isTask_in c4)) (by decide) rfl rfl (Nat.le_of_ble_eq_true rfl) dX1_task_64 ?_
      exact x_iret o r dX1_task_67 (by simp (decide := true) only [if_true, if_false, ix, g_taskR, c10, hsz, eq_false c4]) (by rfl)
    · skip
      refine y_swd o dX1_task_10_d (Or.inr c10) ?_
      rw [ex10] at c10
      refine y_const o dX1_task_68 ?_
      exact x_iret o r dX1_task_69 (by exact (g_task_out c4 (by omega)).symm) (by rfl)
  · skip
    refine y_const o dX1_task_7 ?_
    exact x_iret o r dX1_task_8 (by simp only [if_true, if_false, g_taskR, eq_true c4]) (by rfl)
