/-! the model: its steps and its face -/
set_option maxRecDepth 100000
set_option maxHeartbeats 4000000 in
set_option maxRecDepth 100000 in
theorem mm_commit (dd : ClassId × ClassId × ClassId) (h : Nat → Nat) (ex : va_W) (S : XS)  (ht : vp_in (S.2 0 0) 16) (hc : comOk S) : Cx dd yX12_commitOne cX12_commitOne 4 none 3 mG [.ref (h 0)] h ex S none (f_commit S) := by
  refine Cx.intro (by decide) (by simp [Value.category]) (Nat.le_of_ble_eq_true rfl) (fun K o r hk => ?_)
  have o : Y K cX12_commitOne RX12 4 3 := o
  have j9 : ∀ (T : XS), comOk T → f_com1 T = f_commit S → Vw K 4 (g_W (kd K).1 mG h T ++ ex) 0 0 [.ref (h 0)] 9 [] := by
    intro T hc hT
    refine y_aload o dX12_commitOne_9 rfl ?_
    refine y_get o mgX12_84 dX12_commitOne_10 ?_
    refine y_const o dX12_commitOne_13 ?_
    refine y_iadd o dX12_commitOne_14 ?_
    refine y_istore o dX12_commitOne_15 (by decide) (Nat.le_of_ble_eq_true rfl) ?_
    refine y_aload o dX12_commitOne_16 rfl ?_
    refine y_get o mgX12_108 dX12_commitOne_17 ?_
    refine y_istore o dX12_commitOne_20 (by decide) (Nat.le_of_ble_eq_true rfl) ?_
    refine y_aload o dX12_commitOne_21 rfl ?_
    refine y_dup o dX12_commitOne_22 rfl ?_
    refine y_get o mgX12_108 dX12_commitOne_23 ?_
    refine y_const o dX12_commitOne_26 ?_
    refine y_iadd o dX12_commitOne_27 ?_
    refine y_put o mpX12_108 dX12_commitOne_28 ?_
    refine y_iload o dX12_commitOne_31 rfl ?_
    refine y_const o dX12_commitOne_32 ?_
    refine y_iload o dX12_commitOne_33 rfl ?_
    refine y_imul o dX12_commitOne_34 ?_
    refine y_icmp_ge o dX12_commitOne_35 (fun c35 => ?_) (fun c35 => ?_)
    · skip
      refine y_iload o dX12_commitOne_74 rfl ?_
      refine y_const o dX12_commitOne_75 ?_
      refine y_iload o dX12_commitOne_76 rfl ?_
      refine y_imul o dX12_commitOne_77 ?_
      refine y_icmp_ne o dX12_commitOne_78 (fun c78 => ?_) (fun c78 => ?_)
      · skip
        refine y_iload o dX12_commitOne_90 rfl ?_
        refine y_const o dX12_commitOne_91 ?_
        refine y_iload o dX12_commitOne_92 rfl ?_
        refine y_imul o dX12_commitOne_93 ?_
        refine y_icmp_gt o dX12_commitOne_94 (fun c94 => ?_) (fun c94 => ?_)
        · skip
          refine y_aload o dX12_commitOne_145 rfl ?_
          refine y_const o dX12_commitOne_146 ?_
          refine y_const o dX12_commitOne_147 ?_
          refine y_callVv o kX12_123 mr_X12 hk (mm_write _ h ex _ _ _ (by unfold vp_in; decide)) (by decide) rfl rfl (Nat.le_of_ble_eq_true rfl) dX12_commitOne_148 ?_
          refine y_aload o dX12_commitOne_151 rfl ?_
          refine y_get o mgX12_96 dX12_commitOne_152 ?_
          refine y_aload o dX12_commitOne_155 rfl ?_
          refine y_getr o mgX12_25 dX12_commitOne_156 ?_
          refine y_aload o dX12_commitOne_159 rfl ?_
          refine y_get o mgX12_161 dX12_commitOne_160 ?_
          refine y_iald o ma_estimate dX12_commitOne_163 (show vp_in (T.1 15) 16 from com_t hc c94) ?_
          refine y_icmp_le o dX12_commitOne_164 (fun c164 => ?_) (fun c164 => ?_)
          · skip
            refine y_aload o dX12_commitOne_180 rfl ?_
            refine y_getr o mgX12_28 dX12_commitOne_181 ?_
            refine y_aload o dX12_commitOne_184 rfl ?_
            refine y_get o mgX12_161 dX12_commitOne_185 ?_
            refine y_const o dX12_commitOne_188 ?_
            refine y_iast o ma_failures dX12_commitOne_189 (show vp_in (T.1 15) 16 from com_t hc c94) ?_
            refine y_aload o dX12_commitOne_190 rfl ?_
            refine y_const o dX12_commitOne_191 ?_
            refine y_put o mpX12_93 dX12_commitOne_192 ?_
            refine y_aload o dX12_commitOne_195 rfl ?_
            refine y_const o dX12_commitOne_196 ?_
            refine y_putz o mpX12_127 (by first | exact Or.inl rfl | exact Or.inr rfl) dX12_commitOne_197 ?_
            refine y_aload o dX12_commitOne_200 rfl ?_
            refine y_callVv o kX12_99 mr_X12 hk (mm_end _ h ex _ ) (by decide) rfl rfl (Nat.le_of_ble_eq_true rfl) dX12_commitOne_201 ?_
            exact x_vret o r dX12_commitOne_204 (by rw [← hT]; simp only [if_true, if_false, ix, f_com1, f_com2, f_apply, f_done, f_done1, f_est, f_leave, eq_true c35, eq_false c78, eq_true c94, eq_true c164] <;> rfl)
          · skip
            refine y_aload o dX12_commitOne_167 rfl ?_
            refine y_getr o mgX12_25 dX12_commitOne_168 ?_
            refine y_aload o dX12_commitOne_171 rfl ?_
            refine y_get o mgX12_161 dX12_commitOne_172 ?_
            refine y_aload o dX12_commitOne_175 rfl ?_
            refine y_get o mgX12_96 dX12_commitOne_176 ?_
            refine y_iast o ma_estimate dX12_commitOne_179 (show vp_in (T.1 15) 16 from com_t hc c94) ?_
            refine y_aload o dX12_commitOne_180 rfl ?_
            refine y_getr o mgX12_28 dX12_commitOne_181 ?_
            refine y_aload o dX12_commitOne_184 rfl ?_
            refine y_get o mgX12_161 dX12_commitOne_185 ?_
            refine y_const o dX12_commitOne_188 ?_
            refine y_iast o ma_failures dX12_commitOne_189 (show vp_in (T.1 15) 16 from com_t hc c94) ?_
            refine y_aload o dX12_commitOne_190 rfl ?_
            refine y_const o dX12_commitOne_191 ?_
            refine y_put o mpX12_93 dX12_commitOne_192 ?_
            refine y_aload o dX12_commitOne_195 rfl ?_
            refine y_const o dX12_commitOne_196 ?_
            refine y_putz o mpX12_127 (by first | exact Or.inl rfl | exact Or.inr rfl) dX12_commitOne_197 ?_
            refine y_aload o dX12_commitOne_200 rfl ?_
            refine y_callVv o kX12_99 mr_X12 hk (mm_end _ h ex _ ) (by decide) rfl rfl (Nat.le_of_ble_eq_true rfl) dX12_commitOne_201 ?_
            exact x_vret o r dX12_commitOne_204 (by rw [← hT]; simp only [if_true, if_false, ix, f_com1, f_com2, f_apply, f_done, f_done1, f_est, f_leave, eq_true c35, eq_false c78, eq_true c94, eq_false c164] <;> rfl)
        · skip
          refine y_iload o dX12_commitOne_97 rfl ?_
          refine y_const o dX12_commitOne_98 ?_
          refine y_iload o dX12_commitOne_99 rfl ?_
          refine y_imul o dX12_commitOne_100 ?_
          refine y_isub o dX12_commitOne_101 ?_
          refine y_const o dX12_commitOne_102 ?_
          refine y_isub o dX12_commitOne_103 ?_
          refine y_istore o dX12_commitOne_104 (by decide) (Nat.le_of_ble_eq_true rfl) ?_
          refine y_aload o dX12_commitOne_105 rfl ?_
          refine y_iload o dX12_commitOne_106 rfl ?_
          refine y_if_ne o dX12_commitOne_107 (fun c107 => ?_) (fun c107 => ?_)
          · skip
            refine y_aload o dX12_commitOne_119 rfl ?_
            refine y_get o mgX12_161 dX12_commitOne_120 ?_
            refine y_put o mpX12_161 dX12_commitOne_123 ?_
            refine y_aload o dX12_commitOne_126 rfl ?_
            refine y_aload o dX12_commitOne_127 rfl ?_
            refine y_getr o mgX12_38 dX12_commitOne_128 ?_
            refine y_iload o dX12_commitOne_131 rfl ?_
            refine y_iald o ma_where dX12_commitOne_132 (com_e hc c78 c94 c35) ?_
            refine y_aload o dX12_commitOne_133 rfl ?_
            refine y_getr o mgX12_41 dX12_commitOne_134 ?_
            refine y_iload o dX12_commitOne_137 rfl ?_
            refine y_iald o ma_what dX12_commitOne_138 (com_e hc c78 c94 c35) ?_
            refine y_callVv o kX12_123 mr_X12 hk (mm_write _ h ex _ _ _ (com_w hc c78 c94 c35)) (by decide) rfl rfl (Nat.le_of_ble_eq_true rfl) dX12_commitOne_139 ?_
            refine y_goto o dX12_commitOne_142 ?_
            exact x_vret o r dX12_commitOne_204 (by rw [← hT]; simp only [if_true, if_false, ix, f_com1, f_com2, f_apply, f_done, f_done1, f_est, f_leave, eq_true c35, eq_false c78, eq_false c94, eq_false c107] <;> rfl)
          · skip
            refine y_aload o dX12_commitOne_110 rfl ?_
            refine y_getr o mgX12_16 dX12_commitOne_111 ?_
            refine y_const o dX12_commitOne_114 ?_
            refine y_ialdc (j0 := 0) o ma_kept dX12_commitOne_115 (by unfold vp_in; decide) (by decide) ?_
            refine y_goto o dX12_commitOne_116 ?_
            refine y_put o mpX12_161 dX12_commitOne_123 ?_
            refine y_aload o dX12_commitOne_126 rfl ?_
            refine y_aload o dX12_commitOne_127 rfl ?_
            refine y_getr o mgX12_38 dX12_commitOne_128 ?_
            refine y_iload o dX12_commitOne_131 rfl ?_
            refine y_iald o ma_where dX12_commitOne_132 (com_e hc c78 c94 c35) ?_
            refine y_aload o dX12_commitOne_133 rfl ?_
            refine y_getr o mgX12_41 dX12_commitOne_134 ?_
            refine y_iload o dX12_commitOne_137 rfl ?_
            refine y_iald o ma_what dX12_commitOne_138 (com_e hc c78 c94 c35) ?_
            refine y_callVv o kX12_123 mr_X12 hk (mm_write _ h ex _ _ _ (com_w hc c78 c94 c35)) (by decide) rfl rfl (Nat.le_of_ble_eq_true rfl) dX12_commitOne_139 ?_
            refine y_goto o dX12_commitOne_142 ?_
            exact x_vret o r dX12_commitOne_204 (by rw [← hT]; simp only [if_true, if_false, ix, f_com1, f_com2, f_apply, f_done, f_done1, f_est, f_leave, eq_true c35, eq_false c78, eq_false c94, eq_true c107] <;> rfl)
      · skip
        refine y_aload o dX12_commitOne_81 rfl ?_
        refine y_const o dX12_commitOne_82 ?_
        refine y_iload o dX12_commitOne_83 rfl ?_
        refine y_callVv o kX12_123 mr_X12 hk (mm_write _ h ex _ _ _ (by unfold vp_in; decide)) (by decide) rfl rfl (Nat.le_of_ble_eq_true rfl) dX12_commitOne_84 ?_
        refine y_goto o dX12_commitOne_87 ?_
        exact x_vret o r dX12_commitOne_204 (by rw [← hT]; simp only [if_true, if_false, ix, f_com1, f_com2, f_apply, f_done, f_done1, f_est, f_leave, eq_true c35, eq_true c78] <;> rfl)
    · skip
      refine y_aload o dX12_commitOne_38 rfl ?_
      refine y_const o dX12_commitOne_39 ?_
      refine y_iload o dX12_commitOne_41 rfl ?_
      refine y_iadd o dX12_commitOne_42 ?_
      refine y_iload o dX12_commitOne_43 rfl ?_
      refine y_const o dX12_commitOne_44 ?_
      refine y_irem o dX12_commitOne_45 (by decide) ?_
      refine y_if_ne o dX12_commitOne_46 (fun c46 => ?_) (fun c46 => ?_)
      · skip
        refine y_aload o dX12_commitOne_60 rfl ?_
        refine y_getr o mgX12_41 dX12_commitOne_61 ?_
        refine y_iload o dX12_commitOne_64 rfl ?_
        refine y_const o dX12_commitOne_65 ?_
        refine y_idiv o dX12_commitOne_66 (by decide) ?_
        refine y_iald o ma_what dX12_commitOne_67 (com_half hc c35) ?_
        refine y_callVv o kX12_123 mr_X12 hk (mm_write _ h ex _ _ _ (com_list hc c35)) (by decide) rfl rfl (Nat.le_of_ble_eq_true rfl) dX12_commitOne_68 ?_
        refine y_goto o dX12_commitOne_71 ?_
        exact x_vret o r dX12_commitOne_204 (by rw [← hT]; simp only [if_true, if_false, ix, f_com1, f_com2, f_apply, f_done, f_done1, f_est, f_leave, eq_false c35, eq_false c46] <;> rfl)
      · skip
        refine y_aload o dX12_commitOne_49 rfl ?_
        refine y_getr o mgX12_38 dX12_commitOne_50 ?_
        refine y_iload o dX12_commitOne_53 rfl ?_
        refine y_const o dX12_commitOne_54 ?_
        refine y_idiv o dX12_commitOne_55 (by decide) ?_
        refine y_iald o ma_where dX12_commitOne_56 (com_half hc c35) ?_
        refine y_goto o dX12_commitOne_57 ?_
        refine y_callVv o kX12_123 mr_X12 hk (mm_write _ h ex _ _ _ (com_list hc c35)) (by decide) rfl rfl (Nat.le_of_ble_eq_true rfl) dX12_commitOne_68 ?_
        refine y_goto o dX12_commitOne_71 ?_
        exact x_vret o r dX12_commitOne_204 (by rw [← hT]; simp only [if_true, if_false, ix, f_com1, f_com2, f_apply, f_done, f_done1, f_est, f_leave, eq_false c35, eq_true c46] <;> rfl)
  refine y_aload o dX12_commitOne_0 rfl ?_
  refine y_const o dX12_commitOne_1 ?_
  refine y_callVi o kX12_117 mr_X12 hk (mm_pays _ h ex _ _ (ht)) (by decide) rfl rfl (Nat.le_of_ble_eq_true rfl) dX12_commitOne_2 ?_
  refine y_if_ne o dX12_commitOne_5 (fun c5 => ?_) (fun c5 => ?_)
  · skip
    refine y_take 1 rfl ?_
    exact j9 _ (comOk_pays c5 hc) (by simp only [f_commit, if_true, if_false, eq_false c5])
  · skip
    exact x_vret o r dX12_commitOne_8 (by simp only [if_true, if_false, ix, f_commit, eq_true c5] <;> rfl)
set_option maxHeartbeats 4000000 in
set_option maxRecDepth 100000 in
theorem mm_step (dd : ClassId × ClassId × ClassId) (h : Nat → Nat) (ex : va_W) (S : XS)  (h1 : stepOk (f_begin S)) (h2 : vp_in ((f_phase (f_begin S)).2 0 0) 16) : Cx dd yX12_stepOnce cX12_stepOnce 2 (some .boolean) 4 mG [.ref (h 0)] h ex S (some (.int (f_stepR S))) (f_step S) := by
  refine Cx.intro (by decide) (by simp [Value.category]) (Nat.le_of_ble_eq_true rfl) (fun K o r hk => ?_)
  have o : Y K cX12_stepOnce RX12 2 4 := o
  have j93 : ∀ (T : XS), T = f_phase (f_begin S) → Vw K 2 (g_W (kd K).1 mG h T ++ ex) 0 0 [.ref (h 0), .int ((f_begin S).1 5)] 93 [] := by
    intro T eT
    rw [← eT] at h2
    refine y_aload o dX12_stepOnce_93 rfl ?_
    refine y_get o mgX12_90 dX12_stepOnce_94 ?_
    refine y_iload o dX12_stepOnce_97 rfl ?_
    refine y_icmp_eq o dX12_stepOnce_98 (fun c98 => ?_) (fun c98 => ?_)
    · skip
      refine y_aload o dX12_stepOnce_103 rfl ?_
      refine y_get o mgX12_179 dX12_stepOnce_104 ?_
      refine y_if_le o dX12_stepOnce_107 (fun c107 => ?_) (fun c107 => ?_)
      · skip
        refine y_const o dX12_stepOnce_131 ?_
        exact x_zret o r dX12_stepOnce_132 (by first | exact Or.inl rfl | exact Or.inr rfl) (by simp only [if_true, if_false, f_stepR, ← eT, eq_true c98, eq_true c107]) (by simp only [if_true, if_false, f_step, f_cut, ← eT, eq_true c98, eq_true c107])
      · skip
        refine y_aload o dX12_stepOnce_110 rfl ?_
        refine y_dup o dX12_stepOnce_111 rfl ?_
        refine y_get o mgX12_179 dX12_stepOnce_112 ?_
        refine y_const o dX12_stepOnce_115 ?_
        refine y_isub o dX12_stepOnce_116 ?_
        refine y_put o mpX12_179 dX12_stepOnce_117 ?_
        refine y_aload o dX12_stepOnce_120 rfl ?_
        refine y_get o mgX12_179 dX12_stepOnce_121 ?_
        refine y_if_ne o dX12_stepOnce_124 (fun c124 => ?_) (fun c124 => ?_)
        · skip
          refine y_const o dX12_stepOnce_131 ?_
          exact x_zret o r dX12_stepOnce_132 (by first | exact Or.inl rfl | exact Or.inr rfl) (by simp only [if_true, if_false, f_stepR, ← eT, eq_true c98, eq_false c107, eq_false c124]) (by simp only [if_true, if_false, f_step, f_cut, ← eT, eq_true c98, eq_false c107, eq_false c124])
        · skip
          refine y_aload o dX12_stepOnce_127 rfl ?_
          refine y_callVv o kX12_114 mr_X12 hk (mm_fail _ h ex _ (h2)) (by decide) rfl rfl (Nat.le_of_ble_eq_true rfl) dX12_stepOnce_128 ?_
          refine y_const o dX12_stepOnce_131 ?_
          exact x_zret o r dX12_stepOnce_132 (by first | exact Or.inl rfl | exact Or.inr rfl) (by simp only [if_true, if_false, f_stepR, ← eT, eq_true c98, eq_false c107, eq_true c124]) (by simp only [if_true, if_false, f_step, f_cut, ← eT, eq_true c98, eq_false c107, eq_true c124])
    · skip
      refine y_const o dX12_stepOnce_101 ?_
      exact x_zret o r dX12_stepOnce_102 (by first | exact Or.inl rfl | exact Or.inr rfl) (by simp only [if_true, if_false, f_stepR, ← eT, eq_false c98]) (by simp only [if_true, if_false, f_step, f_cut, ← eT, eq_false c98])
  have j34 : ∀ (T : XS), T = f_begin S → Vw K 2 (g_W (kd K).1 mG h T ++ ex) 0 0 [.ref (h 0)] 34 [] := by
    intro T eT
    rw [← eT] at h1 j93
    refine y_aload o dX12_stepOnce_34 rfl ?_
    refine y_get o mgX12_90 dX12_stepOnce_35 ?_
    refine y_istore o dX12_stepOnce_38 (by decide) (Nat.le_of_ble_eq_true rfl) ?_
    refine y_aload o dX12_stepOnce_39 rfl ?_
    refine y_get o mgX12_93 dX12_stepOnce_40 ?_
    refine y_top o (fun x43 ex43 => ?_)
    rcases (show x43.toInt < 1 ∨ x43.toInt = 1 ∨ x43.toInt = 2 ∨ x43.toInt = 3 ∨ 3 < x43.toInt by omega) with c43 | c43 | c43 | c43 | c43
    · skip
      refine y_swd o dX12_stepOnce_43_d (Or.inl c43) ?_
      rw [ex43] at c43
      refine y_aload o dX12_stepOnce_89 rfl ?_
      refine y_callVv o kX12_176 mr_X12 hk (mm_commit _ h ex _ (h1.1) (h1.2.2.2.2 (by omega))) (by decide) rfl rfl (Nat.le_of_ble_eq_true rfl) dX12_stepOnce_90 ?_
      exact j93 _ (f_phase_out (by omega)).symm
    · skip
      refine y_sw o dX12_stepOnce_43_c1 c43 ?_
      have c43 : x43 = 1 := Int32.toInt_inj.mp c43
      rw [ex43] at c43
      refine y_aload o dX12_stepOnce_68 rfl ?_
      refine y_callVv o kX12_167 mr_X12 hk (mm_replay _ h ex _ (h1.1) (h1.2.1 c43)) (by decide) rfl rfl (Nat.le_of_ble_eq_true rfl) dX12_stepOnce_69 ?_
      refine y_goto o dX12_stepOnce_72 ?_
      exact j93 _ (by simp (decide := true) only [f_phase, if_true, if_false, c43])
    · skip
      refine y_sw o dX12_stepOnce_43_c2 c43 ?_
      have c43 : x43 = 2 := Int32.toInt_inj.mp c43
      rw [ex43] at c43
      refine y_aload o dX12_stepOnce_75 rfl ?_
      refine y_callVv o kX12_170 mr_X12 hk (mm_air _ h ex _ (h1.1) (h1.2.2.1 c43)) (by decide) rfl rfl (Nat.le_of_ble_eq_true rfl) dX12_stepOnce_76 ?_
      refine y_goto o dX12_stepOnce_79 ?_
      exact j93 _ (by simp (decide := true) only [f_phase, if_true, if_false, c43])
    · skip
      refine y_sw o dX12_stepOnce_43_c3 c43 ?_
      have c43 : x43 = 3 := Int32.toInt_inj.mp c43
      rw [ex43] at c43
      refine y_aload o dX12_stepOnce_82 rfl ?_
      refine y_callVv o kX12_173 mr_X12 hk (mm_run _ h ex _ (h1.1) (h1.2.2.2.1 c43)) (by decide) rfl rfl (Nat.le_of_ble_eq_true rfl) dX12_stepOnce_83 ?_
      refine y_goto o dX12_stepOnce_86 ?_
      exact j93 _ (by simp (decide := true) only [f_phase, if_true, if_false, c43])
    · skip
      refine y_swd o dX12_stepOnce_43_d (Or.inr c43) ?_
      rw [ex43] at c43
      refine y_aload o dX12_stepOnce_89 rfl ?_
      refine y_callVv o kX12_176 mr_X12 hk (mm_commit _ h ex _ (h1.1) (h1.2.2.2.2 (by omega))) (by decide) rfl rfl (Nat.le_of_ble_eq_true rfl) dX12_stepOnce_90 ?_
      exact j93 _ (f_phase_out (by omega)).symm
  refine y_aload o dX12_stepOnce_0 rfl ?_
  refine y_get o mgX12_93 dX12_stepOnce_1 ?_
  refine y_const o dX12_stepOnce_4 ?_
  refine y_icmp_ne o dX12_stepOnce_5 (fun c5 => ?_) (fun c5 => ?_)
  · skip
    exact j34 _ (by simp only [f_begin, if_true, if_false, eq_false c5])
  · skip
    refine y_aload o dX12_stepOnce_8 rfl ?_
    refine y_get o mgX12_127 dX12_stepOnce_9 ?_
    refine y_if_ne o dX12_stepOnce_12 (fun c12 => ?_) (fun c12 => ?_)
    · skip
      exact j34 _ (by simp only [f_begin, if_true, if_false, eq_true c5, eq_false c12])
    · skip
      refine y_aload o dX12_stepOnce_15 rfl ?_
      refine y_getr o mgX12_16 dX12_stepOnce_16 ?_
      refine y_const o dX12_stepOnce_19 ?_
      refine y_ialdc (j0 := 4) o ma_kept dX12_stepOnce_20 (by unfold vp_in; decide) (by decide) ?_
      refine y_aload o dX12_stepOnce_21 rfl ?_
      refine y_getr o mgX12_16 dX12_stepOnce_22 ?_
      refine y_const o dX12_stepOnce_25 ?_
      refine y_ialdc (j0 := 3) o ma_kept dX12_stepOnce_26 (by unfold vp_in; decide) (by decide) ?_
      refine y_icmp_ne o dX12_stepOnce_27 (fun c27 => ?_) (fun c27 => ?_)
      · skip
        exact j34 _ (by simp only [f_begin, if_true, if_false, eq_true c5, eq_true c12, eq_false c27])
      · skip
        refine y_aload o dX12_stepOnce_30 rfl ?_
        refine y_callVv o kX12_164 mr_X12 hk (mm_begin _ h ex _ ) (by decide) rfl rfl (Nat.le_of_ble_eq_true rfl) dX12_stepOnce_31 ?_
        exact j34 _ (by simp only [f_begin, if_true, if_false, eq_true c5, eq_true c12, eq_true c27])
