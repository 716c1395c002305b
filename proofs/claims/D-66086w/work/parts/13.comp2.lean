/-! the component -/
set_option maxRecDepth 100000
set_option maxHeartbeats 4000000 in
set_option maxRecDepth 100000 in
theorem cm_clear (dd : ClassId × ClassId × ClassId) (h : Nat → Nat) (ex : va_W) (S : XS)   : Cx dd yX2_clear cX2_clear 2 none 0 cG [.ref (h 1)] h ex S none (g_clear S) := by
  refine Cx.intro (by decide) (by simp [Value.category]) (Nat.le_of_ble_eq_true rfl) (fun K o r hk => ?_)
  have o : Y K cX2_clear RX2 2 0 := o
  have loop : ∀ (n j : Nat) (T : XS), j + n = 8 → f_clr T n j = g_clear S → Vw K 2 (g_W (kd K).1 cG h T ++ ex) 0 0 [.ref (h 1), .int (nI j)] 15 [] := by
    intro n
    induction n with
    | zero =>
      intro j T h1 hf
      have hj : j = 8 := by omega
      subst hj
      refine y_iload o dX2_clear_15 rfl ?_
      refine y_const o dX2_clear_16 ?_
      refine y_icmp_ge o dX2_clear_18 (fun c18 => ?_) (fun c18 => ?_)
      · skip
        exact x_vret o r dX2_clear_34 (by exact hf)
      · skip
        exact absurd (by decide) c18
    | succ n ih =>
      intro j T h1 hf
      refine y_iload o dX2_clear_15 rfl ?_
      refine y_const o dX2_clear_16 ?_
      refine y_icmp_ge o dX2_clear_18 (fun c18 => ?_) (fun c18 => ?_)
      · skip
        exact absurd c18 (nI_ge (a := j) (b := 8) (by omega) (by decide))
      · skip
        refine y_aload o dX2_clear_21 rfl ?_
        refine y_getr o tgX2_41 dX2_clear_22 ?_
        refine y_iload o dX2_clear_25 rfl ?_
        refine y_const o dX2_clear_26 ?_
        refine y_iast o ta_registers dX2_clear_27 (vp_in_nI (by omega) (by decide)) ?_
        refine y_iinc1 o dX2_clear_28 rfl (by decide) ?_
        refine y_goto o dX2_clear_31 ?_
        refine y_lv (lv' := [.ref (h 1), .int (nI (j + 1))]) (by rw [← nI_1]; rfl) ?_
        refine ih (j + 1) _ (by omega) ?_
        rw [nI_clamp (by omega)]
        exact hf
  refine y_aload o dX2_clear_0 rfl ?_
  refine y_const o dX2_clear_1 ?_
  refine y_put o tpX2_99 dX2_clear_2 ?_
  refine y_aload o dX2_clear_5 rfl ?_
  refine y_getr o tgX2_23 dX2_clear_6 ?_
  refine y_const o dX2_clear_9 ?_
  refine y_put o tpX2_102 dX2_clear_10 ?_
  refine y_const o dX2_clear_13 ?_
  refine y_istore o dX2_clear_14 (by decide) (Nat.le_of_ble_eq_true rfl) ?_
  exact loop 8 0 _ rfl rfl
set_option maxHeartbeats 4000000 in
set_option maxRecDepth 100000 in
theorem cm_trying (dd : ClassId × ClassId × ClassId) (h : Nat → Nat) (ex : va_W) (S : XS)  (hs : stOk (S.1 17)) : Cx dd yX2_isTrying cX2_isTrying 1 (some .boolean) 0 cG [.ref (h 1)] h ex S (some (.int (g_try S))) S := by
  refine Cx.intro (by decide) (by simp [Value.category]) (Nat.le_of_ble_eq_true rfl) (fun K o r hk => ?_)
  have o : Y K cX2_isTrying RX2 1 0 := o
  refine y_aload o dX2_isTrying_0 rfl ?_
  refine y_gets o tgX2_88 dX2_isTrying_1 ?_
  refine y_aload o dX2_isTrying_4 rfl ?_
  refine y_getr o tgX2_73 dX2_isTrying_5 ?_
  refine y_sacmp_eq o (hs) (by decide) (by decide) dX2_isTrying_8 (fun c8 => ?_) (fun c8 => ?_)
  · skip
    refine y_const o dX2_isTrying_22 ?_
    refine y_goto o dX2_isTrying_23 ?_
    exact x_zret o r dX2_isTrying_27 (by first | exact Or.inl rfl | exact Or.inr rfl) (by first | (simp only [if_true, if_false, g_try, eq_true (show S.1 17 = 8 from c8)]; done) | (simp only [if_true, if_false, g_try, eq_false (show ¬ S.1 17 = 8 from c8), eq_true (show S.1 17 = 9 from c19)]; done) | simp only [if_true, if_false, g_try, eq_false (show ¬ S.1 17 = 8 from c8), eq_false (show ¬ S.1 17 = 9 from c19)]) (by rfl)
  · skip
    refine y_aload o dX2_isTrying_11 rfl ?_
    refine y_gets o tgX2_88 dX2_isTrying_12 ?_
    refine y_aload o dX2_isTrying_15 rfl ?_
    refine y_getr o tgX2_80 dX2_isTrying_16 ?_
    refine y_sacmp_ne o (hs) (by decide) (by decide) dX2_isTrying_19 (fun c19 => ?_) (fun c19 => ?_)
    · skip
      refine y_const o dX2_isTrying_26 ?_
      exact x_zret o r dX2_isTrying_27 (by first | exact Or.inl rfl | exact Or.inr rfl) (by first | (simp only [if_true, if_false, g_try, eq_true (show S.1 17 = 8 from c8)]; done) | (simp only [if_true, if_false, g_try, eq_false (show ¬ S.1 17 = 8 from c8), eq_true (show S.1 17 = 9 from c19)]; done) | simp only [if_true, if_false, g_try, eq_false (show ¬ S.1 17 = 8 from c8), eq_false (show ¬ S.1 17 = 9 from c19)]) (by rfl)
    · skip
      refine y_const o dX2_isTrying_22 ?_
      refine y_goto o dX2_isTrying_23 ?_
      exact x_zret o r dX2_isTrying_27 (by first | exact Or.inl rfl | exact Or.inr rfl) (by first | (simp only [if_true, if_false, g_try, eq_true (show S.1 17 = 8 from c8)]; done) | (simp only [if_true, if_false, g_try, eq_false (show ¬ S.1 17 = 8 from c8), eq_true (show S.1 17 = 9 from c19)]; done) | simp only [if_true, if_false, g_try, eq_false (show ¬ S.1 17 = 8 from c8), eq_false (show ¬ S.1 17 = 9 from c19)]) (by rfl)
set_option maxHeartbeats 4000000 in
set_option maxRecDepth 100000 in
theorem cm_leave (dd : ClassId × ClassId × ClassId) (h : Nat → Nat) (ex : va_W) (S : XS)   : Cx dd yX2_leave cX2_leave 1 none 1 cG [.ref (h 1)] h ex S none (g_leave S) := by
  refine Cx.intro (by decide) (by simp [Value.category]) (Nat.le_of_ble_eq_true rfl) (fun K o r hk => ?_)
  have o : Y K cX2_leave RX2 1 1 := o
  refine y_aload o dX2_leave_0 rfl ?_
  refine y_aload o dX2_leave_1 rfl ?_
  refine y_getr o tgX2_66 dX2_leave_2 ?_
  refine y_puts o tpX2_88 ⟨_, rfl⟩ (by decide) (by decide) dX2_leave_5 ?_
  refine y_aload o dX2_leave_8 rfl ?_
  refine y_getr o tgX2_66 dX2_leave_9 ?_
  refine y_const o dX2_leave_12 ?_
  refine y_putz o tpX2_92 (by first | exact Or.inl rfl | exact Or.inr rfl) dX2_leave_13 ?_
  refine y_aload o dX2_leave_16 rfl ?_
  refine y_callVv o kX2_96 tr_X2 hk (cm_clear _ h ex _ ) (by decide) rfl rfl (Nat.le_of_ble_eq_true rfl) dX2_leave_17 ?_
  exact x_vret o r dX2_leave_20 (by rfl)
set_option maxHeartbeats 4000000 in
set_option maxRecDepth 100000 in
theorem cm_succ (dd : ClassId × ClassId × ClassId) (h : Nat → Nat) (ex : va_W) (S : XS)  (ht : vp_in (S.1 15) 16) : Cx dd yX2_succeeded cX2_succeeded 1 none 1 cG [.ref (h 1)] h ex S none (g_succ S) := by
  refine Cx.intro (by decide) (by simp [Value.category]) (Nat.le_of_ble_eq_true rfl) (fun K o r hk => ?_)
  have o : Y K cX2_succeeded RX2 1 1 := o
  refine y_aload o dX2_succeeded_0 rfl ?_
  refine y_getr o tgX2_48 dX2_succeeded_1 ?_
  refine y_aload o dX2_succeeded_4 rfl ?_
  refine y_get o tgX2_105 dX2_succeeded_5 ?_
  refine y_aload o dX2_succeeded_8 rfl ?_
  refine y_getr o tgX2_48 dX2_succeeded_9 ?_
  refine y_aload o dX2_succeeded_12 rfl ?_
  refine y_get o tgX2_105 dX2_succeeded_13 ?_
  refine y_iald o ta_estimates dX2_succeeded_16 (ht) ?_
  refine y_aload o dX2_succeeded_17 rfl ?_
  refine y_get o tgX2_99 dX2_succeeded_18 ?_
  refine y_mmax o q955 q254 q55 q255 (by decide) hk (Nat.le_of_ble_eq_true rfl) dX2_succeeded_21 ?_
  refine y_iast o ta_estimates dX2_succeeded_24 (ht) ?_
  refine y_aload o dX2_succeeded_25 rfl ?_
  refine y_getr o tgX2_51 dX2_succeeded_26 ?_
  refine y_aload o dX2_succeeded_29 rfl ?_
  refine y_get o tgX2_105 dX2_succeeded_30 ?_
  refine y_const o dX2_succeeded_33 ?_
  refine y_iast o ta_failures dX2_succeeded_34 (ht) ?_
  exact x_vret o r dX2_succeeded_35 (by rfl)
set_option maxHeartbeats 4000000 in
set_option maxRecDepth 100000 in
theorem cm_nbegin (dd : ClassId × ClassId × ClassId) (h : Nat → Nat) (ex : va_W) (S : XS)   : Cx dd yX2_begin cX2_begin 1 none 1 cG [.ref (h 1)] h ex S none (g_nbegin S) := by
  refine Cx.intro (by decide) (by simp [Value.category]) (Nat.le_of_ble_eq_true rfl) (fun K o r hk => ?_)
  have o : Y K cX2_begin RX2 1 1 := o
  refine y_aload o dX2_begin_0 rfl ?_
  refine y_callVv o kX2_96 tr_X2 hk (cm_clear _ h ex _ ) (by decide) rfl rfl (Nat.le_of_ble_eq_true rfl) dX2_begin_1 ?_
  refine y_aload o dX2_begin_4 rfl ?_
  refine y_aload o dX2_begin_5 rfl ?_
  refine y_getr o tgX2_12 dX2_begin_6 ?_
  refine y_getr o tgX2_114 dX2_begin_9 ?_
  refine y_const o dX2_begin_12 ?_
  refine y_ialdc (j0 := 0) o ta_words dX2_begin_13 (by unfold vp_in; decide) (by decide) ?_
  refine y_put o tpX2_105 dX2_begin_14 ?_
  refine y_aload o dX2_begin_17 rfl ?_
  refine y_getr o tgX2_73 dX2_begin_18 ?_
  refine y_callVv o kX2_117 tr_X10 hk (cm_rbegin _ h ex _ ) (by decide) rfl rfl (Nat.le_of_ble_eq_true rfl) dX2_begin_21 ?_
  refine y_aload o dX2_begin_24 rfl ?_
  refine y_aload o dX2_begin_25 rfl ?_
  refine y_getr o tgX2_73 dX2_begin_26 ?_
  refine y_puts o tpX2_88 ⟨_, rfl⟩ (by decide) (by decide) dX2_begin_29 ?_
  exact x_vret o r dX2_begin_32 (by rfl)
set_option maxHeartbeats 4000000 in
set_option maxRecDepth 100000 in
theorem cm_aband (dd : ClassId × ClassId × ClassId) (h : Nat → Nat) (ex : va_W) (S : XS)   : Cx dd yX10_abandon cX10_abandon 1 none 2 cG [.ref (h 8)] h ex S none (g_aband S) := by
  refine Cx.intro (by decide) (by simp [Value.category]) (Nat.le_of_ble_eq_true rfl) (fun K o r hk => ?_)
  have o : Y K cX10_abandon RX10 1 2 := o
  refine y_aload o dX10_abandon_0 rfl ?_
  refine y_getr o tgX10_18 dX10_abandon_1 ?_
  refine y_dup o dX10_abandon_4 rfl ?_
  refine y_get o tgX10_119 dX10_abandon_5 ?_
  refine y_const o dX10_abandon_8 ?_
  refine y_iadd o dX10_abandon_9 ?_
  refine y_put o tpX10_119 dX10_abandon_10 ?_
  refine y_aload o dX10_abandon_13 rfl ?_
  refine y_getr o tgX10_18 dX10_abandon_14 ?_
  refine y_callVv o kX10_122 tr_X2 hk (cm_leave _ h ex _ ) (by decide) rfl rfl (Nat.le_of_ble_eq_true rfl) dX10_abandon_17 ?_
  exact x_vret o r dX10_abandon_20 (by rfl)
set_option maxHeartbeats 4000000 in
set_option maxRecDepth 100000 in
theorem cm_cbegin (dd : ClassId × ClassId × ClassId) (h : Nat → Nat) (ex : va_W) (S : XS) (t : Int32) (hp : pOk 38 S) : Cx dd yX11_begin cX11_begin 3 none 2 cG [.ref (h 9), .int t] h ex S none (g_cbegin S t) := by
  refine Cx.intro (by decide) (by simp [Value.category]) (Nat.le_of_ble_eq_true rfl) (fun K o r hk => ?_)
  have o : Y K cX11_begin RX11 3 2 := o
  refine y_aload o dX11_begin_0 rfl ?_
  refine y_getr o tgX11_9 dX11_begin_1 ?_
  refine y_getr o tgX11_15 dX11_begin_4 ?_
  refine y_astore o dX11_begin_7 (by decide) (Nat.le_of_ble_eq_true rfl) ?_
  refine y_aload o dX11_begin_8 rfl ?_
  refine y_const o dX11_begin_9 ?_
  refine y_iload o dX11_begin_10 rfl ?_
  refine y_callVv o kX11_23 tr_X4 hk (cm_pwrite _ h ex _ _ _ (pOk.mono hp (by decide))) (by decide) rfl rfl (Nat.le_of_ble_eq_true rfl) dX11_begin_11 ?_
  refine y_aload o dX11_begin_14 rfl ?_
  refine y_const o dX11_begin_15 ?_
  refine y_aload o dX11_begin_16 rfl ?_
  refine y_getr o tgX11_9 dX11_begin_17 ?_
  refine y_getr o tgX11_29 dX11_begin_20 ?_
  refine y_getr o tgX11_33 dX11_begin_23 ?_
  refine y_const o dX11_begin_26 ?_
  refine y_ialdc (j0 := 1) o ta_words dX11_begin_27 (by unfold vp_in; decide) (by decide) ?_
  refine y_const o dX11_begin_28 ?_
  refine y_iadd o dX11_begin_29 ?_
  refine y_callVv o kX11_23 tr_X4 hk (cm_pwrite _ h ex _ _ _ (pOk_put (n := 38) hp)) (by decide) rfl rfl (Nat.le_of_ble_eq_true rfl) dX11_begin_30 ?_
  refine y_aload o dX11_begin_33 rfl ?_
  refine y_const o dX11_begin_34 ?_
  refine y_put o tpX11_37 dX11_begin_35 ?_
  refine y_aload o dX11_begin_38 rfl ?_
  refine y_getr o tgX11_9 dX11_begin_39 ?_
  refine y_aload o dX11_begin_42 rfl ?_
  refine y_puts o tpX11_41 ⟨_, rfl⟩ (by decide) (by decide) dX11_begin_43 ?_
  exact x_vret o r dX11_begin_46 (by rfl)
set_option maxHeartbeats 4000000 in
set_option maxRecDepth 100000 in
theorem cm_cend (dd : ClassId × ClassId × ClassId) (h : Nat → Nat) (ex : va_W) (S : XS)  (ht : vp_in (S.1 15) 16) : Cx dd yX11_end cX11_end 1 none 2 cG [.ref (h 9)] h ex S none (g_done S) := by
  refine Cx.intro (by decide) (by simp [Value.category]) (Nat.le_of_ble_eq_true rfl) (fun K o r hk => ?_)
  have o : Y K cX11_end RX11 1 2 := o
  refine y_aload o dX11_end_0 rfl ?_
  refine y_getr o tgX11_9 dX11_end_1 ?_
  refine y_getr o tgX11_29 dX11_end_4 ?_
  refine y_const o dX11_end_7 ?_
  refine y_const o dX11_end_8 ?_
  refine y_callVv o kX11_54 tr_X3 hk (cm_kwrite _ h ex _ _ _ (by unfold vp_in; decide)) (by decide) rfl rfl (Nat.le_of_ble_eq_true rfl) dX11_end_9 ?_
  refine y_aload o dX11_end_12 rfl ?_
  refine y_getr o tgX11_9 dX11_end_13 ?_
  refine y_callVv o kX11_59 tr_X2 hk (cm_succ _ h ex _ (ht)) (by decide) rfl rfl (Nat.le_of_ble_eq_true rfl) dX11_end_16 ?_
  refine y_aload o dX11_end_19 rfl ?_
  refine y_getr o tgX11_9 dX11_end_20 ?_
  refine y_callVv o kX11_62 tr_X2 hk (cm_leave _ h ex _ ) (by decide) rfl rfl (Nat.le_of_ble_eq_true rfl) dX11_end_23 ?_
  exact x_vret o r dX11_end_26 (by rfl)
set_option maxHeartbeats 4000000 in
set_option maxRecDepth 100000 in
theorem cm_cact (dd : ClassId × ClassId × ClassId) (h : Nat → Nat) (ex : va_W) (S : XS)  (hc : comOkC S) : Cx dd yX11_act cX11_act 3 none 3 cG [.ref (h 9)] h ex S none (g_com S) := by
  refine Cx.intro (by decide) (by simp [Value.category]) (Nat.le_of_ble_eq_true rfl) (fun K o r hk => ?_)
  have o : Y K cX11_act RX11 3 3 := o
  have j159 : ∀ (T : XS), g_inc T = g_com S → Vw K 3 (g_W (kd K).1 cG h T ++ ex) 0 0 [.ref (h 9)] 159 [] := by
    intro T hT
    refine y_aload o dX11_act_159 rfl ?_
    refine y_dup o dX11_act_160 rfl ?_
    refine y_get o tgX11_37 dX11_act_161 ?_
    refine y_const o dX11_act_164 ?_
    refine y_iadd o dX11_act_165 ?_
    refine y_put o tpX11_37 dX11_act_166 ?_
    exact x_vret o r dX11_act_169 (by rw [← hT]; rfl)
  refine y_aload o dX11_act_0 rfl ?_
  refine y_getr o tgX11_9 dX11_act_1 ?_
  refine y_getr o tgX11_15 dX11_act_4 ?_
  refine y_astore o dX11_act_7 (by decide) (Nat.le_of_ble_eq_true rfl) ?_
  refine y_aload o dX11_act_8 rfl ?_
  refine y_get o tgX11_45 dX11_act_9 ?_
  refine y_istore o dX11_act_12 (by decide) (Nat.le_of_ble_eq_true rfl) ?_
  refine y_aload o dX11_act_13 rfl ?_
  refine y_get o tgX11_37 dX11_act_14 ?_
  refine y_const o dX11_act_17 ?_
  refine y_iload o dX11_act_18 rfl ?_
  refine y_imul o dX11_act_19 ?_
  refine y_icmp_ge o dX11_act_20 (fun c20 => ?_) (fun c20 => ?_)
  · skip
    refine y_aload o dX11_act_77 rfl ?_
    refine y_get o tgX11_37 dX11_act_78 ?_
    refine y_const o dX11_act_81 ?_
    refine y_iload o dX11_act_82 rfl ?_
    refine y_imul o dX11_act_83 ?_
    refine y_icmp_ne o dX11_act_84 (fun c84 => ?_) (fun c84 => ?_)
    · skip
      refine y_aload o dX11_act_102 rfl ?_
      refine y_get o tgX11_37 dX11_act_103 ?_
      refine y_const o dX11_act_106 ?_
      refine y_iload o dX11_act_107 rfl ?_
      refine y_imul o dX11_act_108 ?_
      refine y_icmp_gt o dX11_act_109 (fun c109 => ?_) (fun c109 => ?_)
      · skip
        refine y_aload o dX11_act_155 rfl ?_
        refine y_callVv o kX11_55 tr_X11 hk (cm_cend _ h ex _ (cc_t hc c109)) (by decide) rfl rfl (Nat.le_of_ble_eq_true rfl) dX11_act_156 ?_
        refine y_take 1 rfl ?_
        exact j159 _ (by simp only [if_true, if_false, ix, g_com, g_com2, eq_true c20, eq_false c84, eq_true c109] <;> rfl)
      · skip
        refine y_aload o dX11_act_112 rfl ?_
        refine y_getr o tgX11_9 dX11_act_113 ?_
        refine y_getr o tgX11_29 dX11_act_116 ?_
        refine y_aload o dX11_act_119 rfl ?_
        refine y_getr o tgX11_48 dX11_act_120 ?_
        refine y_aload o dX11_act_123 rfl ?_
        refine y_get o tgX11_37 dX11_act_124 ?_
        refine y_const o dX11_act_127 ?_
        refine y_iload o dX11_act_128 rfl ?_
        refine y_imul o dX11_act_129 ?_
        refine y_isub o dX11_act_130 ?_
        refine y_const o dX11_act_131 ?_
        refine y_isub o dX11_act_132 ?_
        refine y_iald o ta_where dX11_act_133 (cc_e hc c84 c109 c20) ?_
        refine y_aload o dX11_act_134 rfl ?_
        refine y_getr o tgX11_51 dX11_act_135 ?_
        refine y_aload o dX11_act_138 rfl ?_
        refine y_get o tgX11_37 dX11_act_139 ?_
        refine y_const o dX11_act_142 ?_
        refine y_iload o dX11_act_143 rfl ?_
        refine y_imul o dX11_act_144 ?_
        refine y_isub o dX11_act_145 ?_
        refine y_const o dX11_act_146 ?_
        refine y_isub o dX11_act_147 ?_
        refine y_iald o ta_what dX11_act_148 (cc_e hc c84 c109 c20) ?_
        refine y_callVv o kX11_54 tr_X3 hk (cm_kwrite _ h ex _ _ _ (cc_w hc c84 c109 c20)) (by decide) rfl rfl (Nat.le_of_ble_eq_true rfl) dX11_act_149 ?_
        refine y_goto o dX11_act_152 ?_
        refine y_take 1 rfl ?_
        exact j159 _ (by simp only [if_true, if_false, ix, g_com, g_com2, eq_true c20, eq_false c84, eq_false c109] <;> rfl)
    · skip
      refine y_aload o dX11_act_87 rfl ?_
      refine y_getr o tgX11_9 dX11_act_88 ?_
      refine y_getr o tgX11_29 dX11_act_91 ?_
      refine y_const o dX11_act_94 ?_
      refine y_iload o dX11_act_95 rfl ?_
      refine y_callVv o kX11_54 tr_X3 hk (cm_kwrite _ h ex _ _ _ (by unfold vp_in; decide)) (by decide) rfl rfl (Nat.le_of_ble_eq_true rfl) dX11_act_96 ?_
      refine y_goto o dX11_act_99 ?_
      refine y_take 1 rfl ?_
      exact j159 _ (by simp only [if_true, if_false, ix, g_com, g_com2, eq_true c20, eq_true c84] <;> rfl)
  · skip
    refine y_aload o dX11_act_23 rfl ?_
    refine y_getr o tgX11_9 dX11_act_24 ?_
    refine y_getr o tgX11_29 dX11_act_27 ?_
    refine y_const o dX11_act_30 ?_
    refine y_aload o dX11_act_32 rfl ?_
    refine y_get o tgX11_37 dX11_act_33 ?_
    refine y_iadd o dX11_act_36 ?_
    refine y_aload o dX11_act_37 rfl ?_
    refine y_get o tgX11_37 dX11_act_38 ?_
    refine y_const o dX11_act_41 ?_
    refine y_irem o dX11_act_42 (by decide) ?_
    refine y_if_ne o dX11_act_43 (fun c43 => ?_) (fun c43 => ?_)
    · skip
      refine y_aload o dX11_act_60 rfl ?_
      refine y_getr o tgX11_51 dX11_act_61 ?_
      refine y_aload o dX11_act_64 rfl ?_
      refine y_get o tgX11_37 dX11_act_65 ?_
      refine y_const o dX11_act_68 ?_
      refine y_idiv o dX11_act_69 (by decide) ?_
      refine y_iald o ta_what dX11_act_70 (cc_half hc c20) ?_
      refine y_callVv o kX11_54 tr_X3 hk (cm_kwrite _ h ex _ _ _ (cc_list hc c20)) (by decide) rfl rfl (Nat.le_of_ble_eq_true rfl) dX11_act_71 ?_
      refine y_goto o dX11_act_74 ?_
      refine y_take 1 rfl ?_
      exact j159 _ (by simp only [if_true, if_false, ix, g_com, g_com2, eq_false c20, eq_false c43] <;> rfl)
    · skip
      refine y_aload o dX11_act_46 rfl ?_
      refine y_getr o tgX11_48 dX11_act_47 ?_
      refine y_aload o dX11_act_50 rfl ?_
      refine y_get o tgX11_37 dX11_act_51 ?_
      refine y_const o dX11_act_54 ?_
      refine y_idiv o dX11_act_55 (by decide) ?_
      refine y_iald o ta_where dX11_act_56 (cc_half hc c20) ?_
      refine y_goto o dX11_act_57 ?_
      refine y_callVv o kX11_54 tr_X3 hk (cm_kwrite _ h ex _ _ _ (cc_list hc c20)) (by decide) rfl rfl (Nat.le_of_ble_eq_true rfl) dX11_act_71 ?_
      refine y_goto o dX11_act_74 ?_
      refine y_take 1 rfl ?_
      exact j159 _ (by simp only [if_true, if_false, ix, g_com, g_com2, eq_false c20, eq_true c43] <;> rfl)
set_option maxHeartbeats 4000000 in
set_option maxRecDepth 100000 in
theorem cm_fail (dd : ClassId × ClassId × ClassId) (h : Nat → Nat) (ex : va_W) (S : XS)  (hs : S.1 17 = 6 ∨ S.1 17 = 7 ∨ S.1 17 = 8 ∨ S.1 17 = 9) (ht : ¬ g_counts S = 0 → vp_in (S.1 15) 16) : Cx dd yX2_fail cX2_fail 1 none 1 cG [.ref (h 1)] h ex S none (g_fail S) := by
  refine Cx.intro (by decide) (by simp [Value.category]) (Nat.le_of_ble_eq_true rfl) (fun K o r hk => ?_)
  have o : Y K cX2_fail RX2 1 1 := o
  have j88 : ∀ (T : XS), g_clear (xs T 17 0) = g_fail S → Vw K 1 (g_W (kd K).1 cG h T ++ ex) 0 0 [.ref (h 1)] 88 [] := by
    intro T hT
    refine y_aload o dX2_fail_88 rfl ?_
    refine y_null o dX2_fail_89 ?_
    refine y_puts0 o tpX2_88 ⟨_, rfl⟩ dX2_fail_90 ?_
    refine y_aload o dX2_fail_93 rfl ?_
    refine y_callVv o kX2_96 tr_X2 hk (cm_clear _ h ex _ ) (by decide) rfl rfl (Nat.le_of_ble_eq_true rfl) dX2_fail_94 ?_
    exact x_vret o r dX2_fail_97 (by exact hT)
  have j20 : ∀ (T : XS), vp_in (T.1 15) 16 → g_clear (xs (g_count T) 17 0) = g_fail S → Vw K 1 (g_W (kd K).1 cG h T ++ ex) 0 0 [.ref (h 1)] 20 [] := by
    intro T ht hT
    refine y_aload o dX2_fail_20 rfl ?_
    refine y_getr o tgX2_51 dX2_fail_21 ?_
    refine y_aload o dX2_fail_24 rfl ?_
    refine y_get o tgX2_105 dX2_fail_25 ?_
    refine y_dup2 o dX2_fail_28 rfl rfl ?_
    refine y_iald o ta_failures dX2_fail_29 (ht) ?_
    refine y_const o dX2_fail_30 ?_
    refine y_iadd o dX2_fail_31 ?_
    refine y_iast o ta_failures dX2_fail_32 (ht) ?_
    refine y_aload o dX2_fail_33 rfl ?_
    refine y_getr o tgX2_48 dX2_fail_34 ?_
    refine y_aload o dX2_fail_37 rfl ?_
    refine y_get o tgX2_105 dX2_fail_38 ?_
    refine y_const o dX2_fail_41 ?_
    refine y_aload o dX2_fail_42 rfl ?_
    refine y_getr o tgX2_48 dX2_fail_43 ?_
    refine y_aload o dX2_fail_46 rfl ?_
    refine y_get o tgX2_105 dX2_fail_47 ?_
    refine y_iald o ta_estimates dX2_fail_50 (ht) ?_
    refine y_aload o dX2_fail_51 rfl ?_
    refine y_get o tgX2_99 dX2_fail_52 ?_
    refine y_mmax o q955 q254 q55 q255 (by decide) hk (Nat.le_of_ble_eq_true rfl) dX2_fail_55 ?_
    refine y_imul o dX2_fail_58 ?_
    refine y_const o dX2_fail_59 ?_
    refine y_mmin o q888 q272 q55 q273 (by decide) hk (Nat.le_of_ble_eq_true rfl) dX2_fail_62 ?_
    refine y_iast o ta_estimates dX2_fail_65 (ht) ?_
    refine y_aload o dX2_fail_66 rfl ?_
    refine y_getr o tgX2_51 dX2_fail_67 ?_
    refine y_aload o dX2_fail_70 rfl ?_
    refine y_get o tgX2_105 dX2_fail_71 ?_
    refine y_iald o ta_failures dX2_fail_74 (ht) ?_
    refine y_const o dX2_fail_75 ?_
    refine y_icmp_ne o dX2_fail_77 (fun c77 => ?_) (fun c77 => ?_)
    · skip
      exact j88 _ (by rw [← hT]; exact congrArg (fun z => g_clear (xs z 17 0)) (show _ = g_count3 (g_count2 (g_count1 T)) from (if_neg c77).symm))
    · skip
      refine y_aload o dX2_fail_80 rfl ?_
      refine y_aload o dX2_fail_81 rfl ?_
      refine y_get o tgX2_105 dX2_fail_82 ?_
      refine y_put o tpX2_84 dX2_fail_85 ?_
      exact j88 _ (by rw [← hT]; exact congrArg (fun z => g_clear (xs z 17 0)) (show _ = g_count3 (g_count2 (g_count1 T)) from (if_pos c77).symm))
  refine y_aload o dX2_fail_0 rfl ?_
  refine y_dup o dX2_fail_1 rfl ?_
  refine y_get o tgX2_120 dX2_fail_2 ?_
  refine y_const o dX2_fail_5 ?_
  refine y_iadd o dX2_fail_6 ?_
  refine y_put o tpX2_120 dX2_fail_7 ?_
  refine y_aload o dX2_fail_10 rfl ?_
  refine y_gets o tgX2_88 dX2_fail_11 ?_
  rcases hs with e | e | e | e
  · skip
    refine y_sref (q := 6) (show (xs S 5 (S.1 5 + 1)).1 17 = nI 6 from e) (by decide) (by decide) ?_
    refine y_callUi o uX2_123_X8 tr_X8 hk (cm_scounts6 _ h ex _) (by decide) rfl rfl (Nat.le_of_ble_eq_true rfl) dX2_fail_14 ?_
    refine y_if_eq o dX2_fail_17 (fun cc => ?_) (fun cc => absurd cc (by decide))
    exact j88 _ (by simp (decide := true) only [g_fail, g_fail1, g_counts, y_s17, e, if_true, if_false])
  · skip
    refine y_sref (q := 7) (show (xs S 5 (S.1 5 + 1)).1 17 = nI 7 from e) (by decide) (by decide) ?_
    refine y_callUi o uX2_123_X9 tr_X9 hk (cm_scounts7 _ h ex _) (by decide) rfl rfl (Nat.le_of_ble_eq_true rfl) dX2_fail_14 ?_
    refine y_if_eq o dX2_fail_17 (fun cc => ?_) (fun cc => absurd cc (by decide))
    exact j88 _ (by simp (decide := true) only [g_fail, g_fail1, g_counts, y_s17, e, if_true, if_false])
  · skip
    refine y_sref (q := 8) (show (xs S 5 (S.1 5 + 1)).1 17 = nI 8 from e) (by decide) (by decide) ?_
    refine y_callUi o uX2_123_X10 tr_X10 hk (cm_rcounts _ h ex _) (by decide) rfl rfl (Nat.le_of_ble_eq_true rfl) dX2_fail_14 ?_
    refine y_if_eq o dX2_fail_17 (fun cc => absurd cc (by decide)) (fun cc => ?_)
    exact j20 _ (ht (by simp (decide := true) only [g_counts, e, if_true, if_false])) (by simp (decide := true) only [g_fail, g_fail1, g_counts, y_s17, e, if_true, if_false])
  · skip
    refine y_sref (q := 9) (show (xs S 5 (S.1 5 + 1)).1 17 = nI 9 from e) (by decide) (by decide) ?_
    refine y_callUi o uX2_123_X11 tr_X11 hk (cm_ccounts _ h ex _) (by decide) rfl rfl (Nat.le_of_ble_eq_true rfl) dX2_fail_14 ?_
    refine y_if_eq o dX2_fail_17 (fun c17 => ?_) (fun c17 => ?_)
    · skip
      exact j88 _ (by have c17 : ¬ S.2 0 2 = 0 := fun z => (by simp [xs, z] at c17); simp (decide := true) only [g_fail, g_fail1, g_counts, y_s17, y_s17b, e, if_true, if_false, eq_false c17])
    · skip
      have c17 : S.2 0 2 = 0 := Decidable.byContradiction (fun z => c17 (if_neg z))
      exact j20 _ (ht (by simp (decide := true) only [g_counts, e, c17, if_true, if_false])) (by simp (decide := true) only [g_fail, g_fail1, g_counts, y_s17, y_s17b, e, c17, if_true, if_false])
set_option maxHeartbeats 4000000 in
set_option maxRecDepth 100000 in
theorem cm_boots (dd : ClassId × ClassId × ClassId) (h : Nat → Nat) (ex : va_W) (S : XS)  (ht : vp_in (S.2 0 0) 16) : Cx dd yX2_boots cX2_boots 1 (some .boolean) 1 cG [.ref (h 1)] h ex S (some (.int (g_bootsR S))) (g_boots S) := by
  refine Cx.intro (by decide) (by simp [Value.category]) (Nat.le_of_ble_eq_true rfl) (fun K o r hk => ?_)
  have o : Y K cX2_boots RX2 1 1 := o
  refine y_aload o dX2_boots_0 rfl ?_
  refine y_get o tgX2_84 dX2_boots_1 ?_
  refine y_const o dX2_boots_4 ?_
  refine y_icmp_ne o dX2_boots_5 (fun c5 => ?_) (fun c5 => ?_)
  · skip
    refine y_const o dX2_boots_47 ?_
    exact x_zret o r dX2_boots_48 (by first | exact Or.inl rfl | exact Or.inr rfl) (by simp only [if_true, if_false, ix, g_bootsR, g_wants, g_min, eq_false c5] <;> rfl) (by simp only [if_true, if_false, ix, g_boots, g_wants, g_min, g_boot1, eq_false c5] <;> rfl)
  · skip
    refine y_aload o dX2_boots_8 rfl ?_
    refine y_get o tgX2_132 dX2_boots_9 ?_
    refine y_const o dX2_boots_12 ?_
    refine y_icmp_lt o dX2_boots_14 (fun c14 => ?_) (fun c14 => ?_)
    · skip
      refine y_const o dX2_boots_47 ?_
      exact x_zret o r dX2_boots_48 (by first | exact Or.inl rfl | exact Or.inr rfl) (by simp only [if_true, if_false, ix, g_bootsR, g_wants, g_min, eq_true c5, eq_true c14] <;> rfl) (by simp only [if_true, if_false, ix, g_boots, g_wants, g_min, g_boot1, eq_true c5, eq_true c14] <;> rfl)
    · skip
      refine y_aload o dX2_boots_17 rfl ?_
      refine y_get o tgX2_132 dX2_boots_18 ?_
      refine y_const o dX2_boots_21 ?_
      refine y_aload o dX2_boots_23 rfl ?_
      refine y_getr o tgX2_48 dX2_boots_24 ?_
      refine y_aload o dX2_boots_27 rfl ?_
      refine y_getr o tgX2_12 dX2_boots_28 ?_
      refine y_getr o tgX2_114 dX2_boots_31 ?_
      refine y_const o dX2_boots_34 ?_
      refine y_ialdc (j0 := 0) o ta_words dX2_boots_35 (by unfold vp_in; decide) (by decide) ?_
      refine y_iald o ta_estimates dX2_boots_36 (ht) ?_
      refine y_iadd o dX2_boots_37 ?_
      refine y_const o dX2_boots_38 ?_
      refine y_mmin o q888 q272 q55 q273 (by decide) hk (Nat.le_of_ble_eq_true rfl) dX2_boots_41 ?_
      refine y_icmp_ge o dX2_boots_44 (fun c44 => ?_) (fun c44 => ?_)
      · skip
        refine y_aload o dX2_boots_49 rfl ?_
        refine y_dup o dX2_boots_50 rfl ?_
        refine y_get o tgX2_132 dX2_boots_51 ?_
        refine y_const o dX2_boots_54 ?_
        refine y_isub o dX2_boots_56 ?_
        refine y_put o tpX2_132 dX2_boots_57 ?_
        refine y_aload o dX2_boots_60 rfl ?_
        refine y_getr o tgX2_59 dX2_boots_61 ?_
        refine y_const o dX2_boots_64 ?_
        refine y_put o tpX2_135 dX2_boots_65 ?_
        refine y_aload o dX2_boots_68 rfl ?_
        refine y_getr o tgX2_66 dX2_boots_69 ?_
        refine y_const o dX2_boots_72 ?_
        refine y_putz o tpX2_92 (by first | exact Or.inl rfl | exact Or.inr rfl) dX2_boots_73 ?_
        refine y_aload o dX2_boots_76 rfl ?_
        refine y_aload o dX2_boots_77 rfl ?_
        refine y_getr o tgX2_12 dX2_boots_78 ?_
        refine y_getr o tgX2_114 dX2_boots_81 ?_
        refine y_const o dX2_boots_84 ?_
        refine y_ialdc (j0 := 2) o ta_words dX2_boots_85 (by unfold vp_in; decide) (by decide) ?_
        refine y_if_eq o dX2_boots_86 (fun c86 => ?_) (fun c86 => ?_)
        · skip
          refine y_aload o dX2_boots_96 rfl ?_
          refine y_getr o tgX2_66 dX2_boots_97 ?_
          refine y_puts o tpX2_88 ⟨_, rfl⟩ (by decide) (by decide) dX2_boots_100 ?_
          refine y_const o dX2_boots_103 ?_
          exact x_zret o r dX2_boots_104 (by first | exact Or.inl rfl | exact Or.inr rfl) (by simp only [if_true, if_false, ix, g_bootsR, g_wants, g_min, eq_true c5, eq_false c14, eq_true c44, eq_true c86] <;> rfl) (by simp only [if_true, if_false, ix, g_boots, g_wants, g_min, g_boot1, eq_true c5, eq_false c14, eq_true c44, eq_true (show S.2 0 2 = 0 from c86)] <;> rfl)
        · skip
          refine y_aload o dX2_boots_89 rfl ?_
          refine y_getr o tgX2_59 dX2_boots_90 ?_
          refine y_goto o dX2_boots_93 ?_
          refine y_puts o tpX2_88 ⟨_, rfl⟩ (by decide) (by decide) dX2_boots_100 ?_
          refine y_const o dX2_boots_103 ?_
          exact x_zret o r dX2_boots_104 (by first | exact Or.inl rfl | exact Or.inr rfl) (by simp only [if_true, if_false, ix, g_bootsR, g_wants, g_min, eq_true c5, eq_false c14, eq_true c44, eq_false c86] <;> rfl) (by simp only [if_true, if_false, ix, g_boots, g_wants, g_min, g_boot1, eq_true c5, eq_false c14, eq_true c44, eq_false (show ¬ S.2 0 2 = 0 from c86)] <;> rfl)
      · skip
        refine y_const o dX2_boots_47 ?_
        exact x_zret o r dX2_boots_48 (by first | exact Or.inl rfl | exact Or.inr rfl) (by simp only [if_true, if_false, ix, g_bootsR, g_wants, g_min, eq_true c5, eq_false c14, eq_false c44] <;> rfl) (by simp only [if_true, if_false, ix, g_boots, g_wants, g_min, g_boot1, eq_true c5, eq_false c14, eq_false c44] <;> rfl)
set_option maxHeartbeats 4000000 in
set_option maxRecDepth 100000 in
theorem cm_phase (dd : ClassId × ClassId × ClassId) (h : Nat → Nat) (ex : va_W) (S : XS)  (hs : stOk (S.1 17)) : Cx dd yX2_phase cX2_phase 1 (some .int) 0 cG [.ref (h 1)] h ex S (some (.int (g_phase S))) S := by
  refine Cx.intro (by decide) (by simp [Value.category]) (Nat.le_of_ble_eq_true rfl) (fun K o r hk => ?_)
  have o : Y K cX2_phase RX2 1 0 := o
  refine y_aload o dX2_phase_0 rfl ?_
  refine y_gets o tgX2_88 dX2_phase_1 ?_
  refine y_snonnull o dX2_phase_4 (fun c4 => ?_) (fun c4 => ?_)
  · skip
    refine y_aload o dX2_phase_11 rfl ?_
    refine y_gets o tgX2_88 dX2_phase_12 ?_
    refine y_aload o dX2_phase_15 rfl ?_
    refine y_getr o tgX2_59 dX2_phase_16 ?_
    refine y_sacmp_ne o (hs) (by decide) (by decide) dX2_phase_19 (fun c19 => ?_) (fun c19 => ?_)
    · skip
      refine y_aload o dX2_phase_26 rfl ?_
      refine y_gets o tgX2_88 dX2_phase_27 ?_
      refine y_aload o dX2_phase_30 rfl ?_
      refine y_getr o tgX2_66 dX2_phase_31 ?_
      refine y_sacmp_ne o (hs) (by decide) (by decide) dX2_phase_34 (fun c34 => ?_) (fun c34 => ?_)
      · skip
        refine y_aload o dX2_phase_41 rfl ?_
        refine y_gets o tgX2_88 dX2_phase_42 ?_
        refine y_aload o dX2_phase_45 rfl ?_
        refine y_getr o tgX2_73 dX2_phase_46 ?_
        refine y_sacmp_ne o (hs) (by decide) (by decide) dX2_phase_49 (fun c49 => ?_) (fun c49 => ?_)
        · skip
          refine y_const o dX2_phase_56 ?_
          exact x_iret o r dX2_phase_57 (by simp only [if_true, if_false, g_phase, eq_false (show ¬ S.1 17 = 0 from c4), eq_false (show ¬ S.1 17 = 6 from c19), eq_false (show ¬ S.1 17 = 7 from c34), eq_false (show ¬ S.1 17 = 8 from c49)]) (by rfl)
        · skip
          refine y_const o dX2_phase_52 ?_
          refine y_goto o dX2_phase_53 ?_
          exact x_iret o r dX2_phase_57 (by simp only [if_true, if_false, g_phase, eq_false (show ¬ S.1 17 = 0 from c4), eq_false (show ¬ S.1 17 = 6 from c19), eq_false (show ¬ S.1 17 = 7 from c34), eq_true (show S.1 17 = 8 from c49)]) (by rfl)
      · skip
        refine y_const o dX2_phase_37 ?_
        refine y_goto o dX2_phase_38 ?_
        exact x_iret o r dX2_phase_57 (by simp only [if_true, if_false, g_phase, eq_false (show ¬ S.1 17 = 0 from c4), eq_false (show ¬ S.1 17 = 6 from c19), eq_true (show S.1 17 = 7 from c34)]) (by rfl)
    · skip
      refine y_const o dX2_phase_22 ?_
      refine y_goto o dX2_phase_23 ?_
      exact x_iret o r dX2_phase_57 (by simp only [if_true, if_false, g_phase, eq_false (show ¬ S.1 17 = 0 from c4), eq_true (show S.1 17 = 6 from c19)]) (by rfl)
  · skip
    refine y_const o dX2_phase_7 ?_
    refine y_goto o dX2_phase_8 ?_
    exact x_iret o r dX2_phase_57 (by simp only [if_true, if_false, g_phase, eq_true (show S.1 17 = 0 from c4)]) (by rfl)
