/-! the model: its steps and its face -/
set_option maxRecDepth 100000
set_option maxHeartbeats 4000000 in
set_option maxRecDepth 100000 in
theorem mm_replay (dd : ClassId × ClassId × ClassId) (h : Nat → Nat) (ex : va_W) (S : XS)  (ht : vp_in (S.2 0 0) 16) (hr : repOk S) : Cx dd yX12_replayStep cX12_replayStep 1 none 3 mG [.ref (h 0)] h ex S none (f_replay S) := by
  refine Cx.intro (by decide) (by simp [Value.category]) (Nat.le_of_ble_eq_true rfl) (fun K o r hk => ?_)
  have o : Y K cX12_replayStep RX12 1 3 := o
  have j9 : ∀ (T : XS), repOk T → f_rep T = f_replay S → Vw K 1 (g_W (kd K).1 mG h T ++ ex) 0 0 [.ref (h 0)] 9 [] := by
    intro T hr hT
    refine y_aload o dX12_replayStep_9 rfl ?_
    refine y_get o mgX12_120 dX12_replayStep_10 ?_
    refine y_aload o dX12_replayStep_13 rfl ?_
    refine y_getr o mgX12_16 dX12_replayStep_14 ?_
    refine y_const o dX12_replayStep_17 ?_
    refine y_ialdc (j0 := 2) o ma_kept dX12_replayStep_18 (by unfold vp_in; decide) (by decide) ?_
    refine y_icmp_ge o dX12_replayStep_19 (fun c19 => ?_) (fun c19 => ?_)
    · skip
      refine y_aload o dX12_replayStep_69 rfl ?_
      refine y_const o dX12_replayStep_70 ?_
      refine y_const o dX12_replayStep_71 ?_
      refine y_callVv o kX12_123 mr_X12 hk (mm_write _ h ex _ _ _ (by unfold vp_in; decide)) (by decide) rfl rfl (Nat.le_of_ble_eq_true rfl) dX12_replayStep_72 ?_
      refine y_aload o dX12_replayStep_75 rfl ?_
      refine y_const o dX12_replayStep_76 ?_
      refine y_put o mpX12_93 dX12_replayStep_77 ?_
      refine y_aload o dX12_replayStep_80 rfl ?_
      refine y_const o dX12_replayStep_81 ?_
      refine y_putz o mpX12_127 (by first | exact Or.inl rfl | exact Or.inr rfl) dX12_replayStep_82 ?_
      exact x_vret o r dX12_replayStep_85 (by rw [← hT]; simp only [if_true, if_false, ix, f_rep, eq_true c19])
    · skip
      refine y_aload o dX12_replayStep_22 rfl ?_
      refine y_aload o dX12_replayStep_23 rfl ?_
      refine y_getr o mgX12_16 dX12_replayStep_24 ?_
      refine y_const o dX12_replayStep_27 ?_
      refine y_const o dX12_replayStep_29 ?_
      refine y_aload o dX12_replayStep_30 rfl ?_
      refine y_get o mgX12_120 dX12_replayStep_31 ?_
      refine y_imul o dX12_replayStep_34 ?_
      refine y_iadd o dX12_replayStep_35 ?_
      refine y_iald o ma_kept dX12_replayStep_36 ((hr (i_nle c19)).1) ?_
      refine y_aload o dX12_replayStep_37 rfl ?_
      refine y_getr o mgX12_16 dX12_replayStep_38 ?_
      refine y_const o dX12_replayStep_41 ?_
      refine y_const o dX12_replayStep_43 ?_
      refine y_aload o dX12_replayStep_44 rfl ?_
      refine y_get o mgX12_120 dX12_replayStep_45 ?_
      refine y_imul o dX12_replayStep_48 ?_
      refine y_iadd o dX12_replayStep_49 ?_
      refine y_const o dX12_replayStep_50 ?_
      refine y_iadd o dX12_replayStep_51 ?_
      refine y_iald o ma_kept dX12_replayStep_52 ((hr (i_nle c19)).2.1) ?_
      refine y_callVv o kX12_123 mr_X12 hk (mm_write _ h ex _ _ _ ((hr (i_nle c19)).2.2)) (by decide) rfl rfl (Nat.le_of_ble_eq_true rfl) dX12_replayStep_53 ?_
      refine y_aload o dX12_replayStep_56 rfl ?_
      refine y_dup o dX12_replayStep_57 rfl ?_
      refine y_get o mgX12_120 dX12_replayStep_58 ?_
      refine y_const o dX12_replayStep_61 ?_
      refine y_iadd o dX12_replayStep_62 ?_
      refine y_put o mpX12_120 dX12_replayStep_63 ?_
      refine y_goto o dX12_replayStep_66 ?_
      exact x_vret o r dX12_replayStep_85 (by rw [← hT]; simp only [if_true, if_false, ix, f_rep, eq_false c19])
  refine y_aload o dX12_replayStep_0 rfl ?_
  refine y_const o dX12_replayStep_1 ?_
  refine y_callVi o kX12_117 mr_X12 hk (mm_pays _ h ex _ _ (ht)) (by decide) rfl rfl (Nat.le_of_ble_eq_true rfl) dX12_replayStep_2 ?_
  refine y_if_ne o dX12_replayStep_5 (fun c5 => ?_) (fun c5 => ?_)
  · skip
    refine y_take 1 rfl ?_
    exact j9 _ (by unfold repOk; rw [f_pays_2 c5, f_pays_1 c5 8 (by decide) (by decide)]; exact hr) (by simp only [f_replay, if_true, if_false, eq_false c5])
  · skip
    exact x_vret o r dX12_replayStep_8 (by simp only [if_true, if_false, ix, f_replay, eq_true c5] <;> rfl)
set_option maxHeartbeats 4000000 in
set_option maxRecDepth 100000 in
theorem mm_air (dd : ClassId × ClassId × ClassId) (h : Nat → Nat) (ex : va_W) (S : XS)  (ht : vp_in (S.2 0 0) 16) (ha : airOk S) : Cx dd yX12_airStep cX12_airStep 3 none 3 mG [.ref (h 0)] h ex S none (f_air S) := by
  refine Cx.intro (by decide) (by simp [Value.category]) (Nat.le_of_ble_eq_true rfl) (fun K o r hk => ?_)
  have o : Y K cX12_airStep RX12 3 3 := o
  have j21 : ∀ (T : XS), airOk T → f_air1 T = f_air S → Vw K 3 (g_W (kd K).1 mG h T ++ ex) 0 0 [.ref (h 0)] 21 [] := by
    intro T ha hT
    refine y_aload o dX12_airStep_21 rfl ?_
    refine y_get o mgX12_127 dX12_airStep_22 ?_
    refine y_if_eq o dX12_airStep_25 (fun c25 => ?_) (fun c25 => ?_)
    · skip
      refine y_aload o dX12_airStep_47 rfl ?_
      refine y_const o dX12_airStep_48 ?_
      refine y_putz o mpX12_127 (by first | exact Or.inl rfl | exact Or.inr rfl) dX12_airStep_49 ?_
      refine y_aload o dX12_airStep_52 rfl ?_
      refine y_getr o mgX12_16 dX12_airStep_53 ?_
      refine y_const o dX12_airStep_56 ?_
      refine y_ialdc (j0 := 4) o ma_kept dX12_airStep_57 (by unfold vp_in; decide) (by decide) ?_
      refine y_istore o dX12_airStep_58 (by decide) (Nat.le_of_ble_eq_true rfl) ?_
      refine y_aload o dX12_airStep_59 rfl ?_
      refine y_getr o mgX12_16 dX12_airStep_60 ?_
      refine y_const o dX12_airStep_63 ?_
      refine y_iload o dX12_airStep_65 rfl ?_
      refine y_const o dX12_airStep_66 ?_
      refine y_irem o dX12_airStep_68 (by decide) ?_
      refine y_iadd o dX12_airStep_69 ?_
      refine y_iald o ma_kept dX12_airStep_70 (pl_in ha.1) ?_
      refine y_istore o dX12_airStep_71 (by decide) (Nat.le_of_ble_eq_true rfl) ?_
      refine y_aload o dX12_airStep_72 rfl ?_
      refine y_getr o mgX12_44 dX12_airStep_73 ?_
      refine y_aload o dX12_airStep_76 rfl ?_
      refine y_get o mgX12_130 dX12_airStep_77 ?_
      refine y_const o dX12_airStep_80 ?_
      refine y_irem o dX12_airStep_82 (by decide) ?_
      refine y_iload o dX12_airStep_83 rfl ?_
      refine y_iast o ma_airNumber dX12_airStep_84 (jrem_in ha.2 (by decide) rfl (by decide) (by decide)) ?_
      refine y_aload o dX12_airStep_85 rfl ?_
      refine y_getr o mgX12_47 dX12_airStep_86 ?_
      refine y_aload o dX12_airStep_89 rfl ?_
      refine y_get o mgX12_130 dX12_airStep_90 ?_
      refine y_const o dX12_airStep_93 ?_
      refine y_irem o dX12_airStep_95 (by decide) ?_
      refine y_iload o dX12_airStep_96 rfl ?_
      refine y_iast o ma_airPayload dX12_airStep_97 (jrem_in ha.2 (by decide) rfl (by decide) (by decide)) ?_
      refine y_aload o dX12_airStep_98 rfl ?_
      refine y_dup o dX12_airStep_99 rfl ?_
      refine y_get o mgX12_130 dX12_airStep_100 ?_
      refine y_const o dX12_airStep_103 ?_
      refine y_iadd o dX12_airStep_104 ?_
      refine y_put o mpX12_130 dX12_airStep_105 ?_
      refine y_aload o dX12_airStep_108 rfl ?_
      refine y_getr o mgX12_50 dX12_airStep_109 ?_
      refine y_iload o dX12_airStep_112 rfl ?_
      refine y_const o dX12_airStep_113 ?_
      refine y_irem o dX12_airStep_115 (by decide) ?_
      refine y_iald o ma_farNumber dX12_airStep_116 (jrem_in ha.1 (by decide) rfl (by decide) (by decide)) ?_
      refine y_iload o dX12_airStep_117 rfl ?_
      refine y_icmp_eq o dX12_airStep_118 (fun c118 => ?_) (fun c118 => ?_)
      · skip
        exact x_vret o r dX12_airStep_141 (by rw [← hT]; exact air_leaf1 c25 c118)
      · skip
        refine y_aload o dX12_airStep_121 rfl ?_
        refine y_getr o mgX12_50 dX12_airStep_122 ?_
        refine y_iload o dX12_airStep_125 rfl ?_
        refine y_const o dX12_airStep_126 ?_
        refine y_irem o dX12_airStep_128 (by decide) ?_
        refine y_iload o dX12_airStep_129 rfl ?_
        refine y_iast o ma_farNumber dX12_airStep_130 (jrem_in ha.1 (by decide) rfl (by decide) (by decide)) ?_
        refine y_aload o dX12_airStep_131 rfl ?_
        refine y_getr o mgX12_53 dX12_airStep_132 ?_
        refine y_iload o dX12_airStep_135 rfl ?_
        refine y_const o dX12_airStep_136 ?_
        refine y_irem o dX12_airStep_138 (by decide) ?_
        refine y_iload o dX12_airStep_139 rfl ?_
        refine y_iast o ma_farPayload dX12_airStep_140 (jrem_in ha.1 (by decide) rfl (by decide) (by decide)) ?_
        exact x_vret o r dX12_airStep_141 (by rw [← hT]; exact air_leaf2 c25 c118)
    · skip
      refine y_aload o dX12_airStep_28 rfl ?_
      refine y_const o dX12_airStep_29 ?_
      refine y_putz o mpX12_127 (by first | exact Or.inl rfl | exact Or.inr rfl) dX12_airStep_30 ?_
      refine y_aload o dX12_airStep_33 rfl ?_
      refine y_const o dX12_airStep_34 ?_
      refine y_aload o dX12_airStep_35 rfl ?_
      refine y_getr o mgX12_16 dX12_airStep_36 ?_
      refine y_const o dX12_airStep_39 ?_
      refine y_ialdc (j0 := 4) o ma_kept dX12_airStep_40 (by unfold vp_in; decide) (by decide) ?_
      refine y_const o dX12_airStep_41 ?_
      refine y_iadd o dX12_airStep_42 ?_
      refine y_callVv o kX12_123 mr_X12 hk (mm_write _ h ex _ _ _ (by unfold vp_in; decide)) (by decide) rfl rfl (Nat.le_of_ble_eq_true rfl) dX12_airStep_43 ?_
      exact x_vret o r dX12_airStep_46 (by rw [← hT]; simp only [if_true, if_false, f_air1, eq_false c25] <;> rfl)
  refine y_aload o dX12_airStep_0 rfl ?_
  refine y_aload o dX12_airStep_1 rfl ?_
  refine y_get o mgX12_127 dX12_airStep_2 ?_
  refine y_if_eq o dX12_airStep_5 (fun c5 => ?_) (fun c5 => ?_)
  · skip
    refine y_const o dX12_airStep_12 ?_
    refine y_callVi o kX12_117 mr_X12 hk (mm_pays _ h ex _ _ (ht)) (by decide) rfl rfl (Nat.le_of_ble_eq_true rfl) dX12_airStep_14 ?_
    refine y_if_ne o dX12_airStep_17 (fun c17 => ?_) (fun c17 => ?_)
    · skip
      refine y_take 1 rfl ?_
      exact j21 _ (by unfold airOk; rw [f_pays_2 c17, f_pays_1 c17 13 (by decide) (by decide)]; exact ha) (by simp only [f_air, f_airC, if_true, if_false, eq_true c5, eq_false c17])
    · skip
      exact x_vret o r dX12_airStep_20 (by simp only [if_true, if_false, ix, f_air, f_airC, eq_true c5, eq_true c17] <;> rfl)
  · skip
    refine y_const o dX12_airStep_8 ?_
    refine y_goto o dX12_airStep_9 ?_
    refine y_callVi o kX12_117 mr_X12 hk (mm_pays _ h ex _ _ (ht)) (by decide) rfl rfl (Nat.le_of_ble_eq_true rfl) dX12_airStep_14 ?_
    refine y_if_ne o dX12_airStep_17 (fun c17 => ?_) (fun c17 => ?_)
    · skip
      refine y_take 1 rfl ?_
      exact j21 _ (by unfold airOk; rw [f_pays_2 c17, f_pays_1 c17 13 (by decide) (by decide)]; exact ha) (by simp only [f_air, f_airC, if_true, if_false, eq_false c5, eq_false c17])
    · skip
      exact x_vret o r dX12_airStep_20 (by simp only [if_true, if_false, ix, f_air, f_airC, eq_false c5, eq_true c17] <;> rfl)
set_option maxHeartbeats 4000000 in
set_option maxRecDepth 100000 in
theorem mm_push (dd : ClassId × ClassId × ClassId) (h : Nat → Nat) (ex : va_W) (S : XS) (q : Int32) (v : Int32) (hq : vp_in q 2) (hp : pOk 38 S) : Cx dd yX12_push cX12_push 6 none 2 mG [.ref (h 0), .int q, .int v] h ex S none (f_push S q v) := by
  refine Cx.intro (by decide) (by simp [Value.category]) (Nat.le_of_ble_eq_true rfl) (fun K o r hk => ?_)
  have o : Y K cX12_push RX12 6 2 := o
  refine y_const o dX12_push_0 ?_
  refine y_const o dX12_push_2 ?_
  refine y_iload o dX12_push_4 rfl ?_
  refine y_imul o dX12_push_5 ?_
  refine y_iadd o dX12_push_6 ?_
  refine y_istore o dX12_push_7 (by decide) (Nat.le_of_ble_eq_true rfl) ?_
  refine y_aload o dX12_push_8 rfl ?_
  refine y_iload o dX12_push_9 rfl ?_
  refine y_const o dX12_push_10 ?_
  refine y_iadd o dX12_push_11 ?_
  refine y_callVi o kX12_133 mr_X12 hk (mm_see _ h ex _ _ (q_in1 hq) (pOk.mono hp (by decide))) (by decide) rfl rfl (Nat.le_of_ble_eq_true rfl) dX12_push_12 ?_
  refine y_istore o dX12_push_15 (by decide) (Nat.le_of_ble_eq_true rfl) ?_
  refine y_iload o dX12_push_17 rfl ?_
  refine y_const o dX12_push_18 ?_
  refine y_iadd o dX12_push_19 ?_
  refine y_aload o dX12_push_20 rfl ?_
  refine y_iload o dX12_push_21 rfl ?_
  refine y_callVi o kX12_133 mr_X12 hk (mm_see _ h ex _ _ (q_in0 hq) (pOk.mono hp (by decide))) (by decide) rfl rfl (Nat.le_of_ble_eq_true rfl) dX12_push_22 ?_
  refine y_iload o dX12_push_25 rfl ?_
  refine y_iadd o dX12_push_27 ?_
  refine y_const o dX12_push_28 ?_
  refine y_irem o dX12_push_29 (by decide) ?_
  refine y_iadd o dX12_push_30 ?_
  refine y_istore o dX12_push_31 (by decide) (Nat.le_of_ble_eq_true rfl) ?_
  refine y_aload o dX12_push_33 rfl ?_
  refine y_getr o mgX12_35 dX12_push_34 ?_
  refine y_const o dX12_push_37 ?_
  refine y_const o dX12_push_39 ?_
  refine y_iastc (j0 := 7) o ma_register dX12_push_40 (by unfold vp_in; decide) (by decide) ?_
  refine y_iload o dX12_push_41 rfl ?_
  refine y_const o dX12_push_43 ?_
  refine y_icmp_eq o dX12_push_44 (fun c44 => ?_) (fun c44 => ?_)
  · skip
    exact x_vret o r dX12_push_59 (by simp only [if_true, if_false, ix, f_push, f_push1, f_push2, eq_true c44] <;> rfl)
  · skip
    refine y_aload o dX12_push_47 rfl ?_
    refine y_iload o dX12_push_48 rfl ?_
    refine y_iload o dX12_push_50 rfl ?_
    refine y_const o dX12_push_51 ?_
    refine y_iadd o dX12_push_52 ?_
    refine y_callVi o kX12_136 mr_X12 hk (mm_hasRoom _ h ex _ _ _ (pOk.mono hp (by decide))) (by decide) rfl rfl (Nat.le_of_ble_eq_true rfl) dX12_push_53 ?_
    refine y_if_ne o dX12_push_56 (fun c56 => ?_) (fun c56 => ?_)
    · skip
      refine y_aload o dX12_push_60 rfl ?_
      refine y_iload o dX12_push_61 rfl ?_
      refine y_iload o dX12_push_63 rfl ?_
      refine y_callVv o kX12_139 mr_X12 hk (mm_put _ h ex _ _ _ (pOk.mono hp (by decide))) (by decide) rfl rfl (Nat.le_of_ble_eq_true rfl) dX12_push_64 ?_
      refine y_aload o dX12_push_67 rfl ?_
      refine y_iload o dX12_push_68 rfl ?_
      refine y_const o dX12_push_69 ?_
      refine y_iadd o dX12_push_70 ?_
      refine y_iload o dX12_push_71 rfl ?_
      refine y_const o dX12_push_73 ?_
      refine y_iadd o dX12_push_74 ?_
      refine y_callVv o kX12_139 mr_X12 hk (mm_put _ h ex _ _ _ (pOk_put hp)) (by decide) rfl rfl (Nat.le_of_ble_eq_true rfl) dX12_push_75 ?_
      refine y_aload o dX12_push_78 rfl ?_
      refine y_getr o mgX12_35 dX12_push_79 ?_
      refine y_const o dX12_push_82 ?_
      refine y_const o dX12_push_84 ?_
      refine y_iastc (j0 := 7) o ma_register dX12_push_85 (by unfold vp_in; decide) (by decide) ?_
      exact x_vret o r dX12_push_86 (by simp only [if_true, if_false, ix, f_push, f_push1, f_push2, eq_false c44, eq_false c56] <;> rfl)
    · skip
      exact x_vret o r dX12_push_59 (by simp only [if_true, if_false, ix, f_push, f_push1, f_push2, eq_false c44, eq_true c56] <;> rfl)
set_option maxHeartbeats 4000000 in
set_option maxRecDepth 100000 in
theorem mm_pop (dd : ClassId × ClassId × ClassId) (h : Nat → Nat) (ex : va_W) (S : XS) (q : Int32) (r_ : Int32) (hq : vp_in q 2) (hr : vp_in r_ 8) (hf : vp_in (f_see S (56 + 6 * q)) 4) (hp : pOk 38 S) : Cx dd yX12_pop cX12_pop 6 none 2 mG [.ref (h 0), .int q, .int r_] h ex S none (f_pop S q r_) := by
  refine Cx.intro (by decide) (by simp [Value.category]) (Nat.le_of_ble_eq_true rfl) (fun K o r hk => ?_)
  have o : Y K cX12_pop RX12 6 2 := o
  refine y_const o dX12_pop_0 ?_
  refine y_const o dX12_pop_2 ?_
  refine y_iload o dX12_pop_4 rfl ?_
  refine y_imul o dX12_pop_5 ?_
  refine y_iadd o dX12_pop_6 ?_
  refine y_istore o dX12_pop_7 (by decide) (Nat.le_of_ble_eq_true rfl) ?_
  refine y_aload o dX12_pop_8 rfl ?_
  refine y_iload o dX12_pop_9 rfl ?_
  refine y_callVi o kX12_133 mr_X12 hk (mm_see _ h ex _ _ (q_in0 hq) (pOk.mono hp (by decide))) (by decide) rfl rfl (Nat.le_of_ble_eq_true rfl) dX12_pop_10 ?_
  refine y_istore o dX12_pop_13 (by decide) (Nat.le_of_ble_eq_true rfl) ?_
  refine y_aload o dX12_pop_15 rfl ?_
  refine y_iload o dX12_pop_16 rfl ?_
  refine y_const o dX12_pop_17 ?_
  refine y_iadd o dX12_pop_18 ?_
  refine y_callVi o kX12_133 mr_X12 hk (mm_see _ h ex _ _ (q_in1 hq) (pOk.mono hp (by decide))) (by decide) rfl rfl (Nat.le_of_ble_eq_true rfl) dX12_pop_19 ?_
  refine y_istore o dX12_pop_22 (by decide) (Nat.le_of_ble_eq_true rfl) ?_
  refine y_iload o dX12_pop_24 rfl ?_
  refine y_if_ne o dX12_pop_26 (fun c26 => ?_) (fun c26 => ?_)
  · skip
    refine y_aload o dX12_pop_45 rfl ?_
    refine y_iload o dX12_pop_46 rfl ?_
    refine y_iload o dX12_pop_47 rfl ?_
    refine y_const o dX12_pop_48 ?_
    refine y_iadd o dX12_pop_49 ?_
    refine y_callVi o kX12_136 mr_X12 hk (mm_hasRoom _ h ex _ _ _ (pOk.mono hp (by decide))) (by decide) rfl rfl (Nat.le_of_ble_eq_true rfl) dX12_pop_50 ?_
    refine y_if_ne o dX12_pop_53 (fun c53 => ?_) (fun c53 => ?_)
    · skip
      refine y_aload o dX12_pop_65 rfl ?_
      refine y_getr o mgX12_35 dX12_pop_66 ?_
      refine y_iload o dX12_pop_69 rfl ?_
      refine y_aload o dX12_pop_70 rfl ?_
      refine y_iload o dX12_pop_71 rfl ?_
      refine y_const o dX12_pop_72 ?_
      refine y_iadd o dX12_pop_73 ?_
      refine y_iload o dX12_pop_74 rfl ?_
      refine y_iadd o dX12_pop_76 ?_
      refine y_callVi o kX12_133 mr_X12 hk (mm_see _ h ex _ _ (q_inf hq hf) (pOk.mono hp (by decide))) (by decide) rfl rfl (Nat.le_of_ble_eq_true rfl) dX12_pop_77 ?_
      refine y_iast o ma_register dX12_pop_80 (hr) ?_
      refine y_aload o dX12_pop_81 rfl ?_
      refine y_iload o dX12_pop_82 rfl ?_
      refine y_iload o dX12_pop_83 rfl ?_
      refine y_const o dX12_pop_85 ?_
      refine y_iadd o dX12_pop_86 ?_
      refine y_const o dX12_pop_87 ?_
      refine y_irem o dX12_pop_88 (by decide) ?_
      refine y_callVv o kX12_139 mr_X12 hk (mm_put _ h ex _ _ _ (pOk.mono (n := 38) hp (by decide))) (by decide) rfl rfl (Nat.le_of_ble_eq_true rfl) dX12_pop_89 ?_
      refine y_aload o dX12_pop_92 rfl ?_
      refine y_iload o dX12_pop_93 rfl ?_
      refine y_const o dX12_pop_94 ?_
      refine y_iadd o dX12_pop_95 ?_
      refine y_iload o dX12_pop_96 rfl ?_
      refine y_const o dX12_pop_98 ?_
      refine y_isub o dX12_pop_99 ?_
      refine y_callVv o kX12_139 mr_X12 hk (mm_put _ h ex _ _ _ (pOk_put (n := 38) hp)) (by decide) rfl rfl (Nat.le_of_ble_eq_true rfl) dX12_pop_100 ?_
      refine y_aload o dX12_pop_103 rfl ?_
      refine y_getr o mgX12_35 dX12_pop_104 ?_
      refine y_const o dX12_pop_107 ?_
      refine y_const o dX12_pop_109 ?_
      refine y_iastc (j0 := 7) o ma_register dX12_pop_110 (by unfold vp_in; decide) (by decide) ?_
      exact x_vret o r dX12_pop_111 (by simp only [if_true, if_false, ix, f_pop, f_pop1, f_pop2, eq_false c26, eq_false c53] <;> rfl)
    · skip
      refine y_aload o dX12_pop_56 rfl ?_
      refine y_getr o mgX12_35 dX12_pop_57 ?_
      refine y_const o dX12_pop_60 ?_
      refine y_const o dX12_pop_62 ?_
      refine y_iastc (j0 := 7) o ma_register dX12_pop_63 (by unfold vp_in; decide) (by decide) ?_
      exact x_vret o r dX12_pop_64 (by simp only [if_true, if_false, ix, f_pop, f_pop1, f_pop2, eq_false c26, eq_true c53] <;> rfl)
  · skip
    refine y_aload o dX12_pop_29 rfl ?_
    refine y_getr o mgX12_35 dX12_pop_30 ?_
    refine y_iload o dX12_pop_33 rfl ?_
    refine y_const o dX12_pop_34 ?_
    refine y_iast o ma_register dX12_pop_35 (hr) ?_
    refine y_aload o dX12_pop_36 rfl ?_
    refine y_getr o mgX12_35 dX12_pop_37 ?_
    refine y_const o dX12_pop_40 ?_
    refine y_const o dX12_pop_42 ?_
    refine y_iastc (j0 := 7) o ma_register dX12_pop_43 (by unfold vp_in; decide) (by decide) ?_
    exact x_vret o r dX12_pop_44 (by simp only [if_true, if_false, ix, f_pop, f_pop1, f_pop2, eq_true c26] <;> rfl)
set_option maxHeartbeats 4000000 in
set_option maxRecDepth 100000 in
theorem mm_send (dd : ClassId × ClassId × ClassId) (h : Nat → Nat) (ex : va_W) (S : XS) (v : Int32) (hp : pOk 38 S) : Cx dd yX12_sendFrame cX12_sendFrame 3 none 2 mG [.ref (h 0), .int v] h ex S none (f_send S v) := by
  refine Cx.intro (by decide) (by simp [Value.category]) (Nat.le_of_ble_eq_true rfl) (fun K o r hk => ?_)
  have o : Y K cX12_sendFrame RX12 3 2 := o
  refine y_aload o dX12_sendFrame_0 rfl ?_
  refine y_const o dX12_sendFrame_1 ?_
  refine y_callVi o kX12_133 mr_X12 hk (mm_see _ h ex _ _ (by unfold vp_in; decide) (pOk.mono hp (by decide))) (by decide) rfl rfl (Nat.le_of_ble_eq_true rfl) dX12_sendFrame_2 ?_
  refine y_istore o dX12_sendFrame_5 (by decide) (Nat.le_of_ble_eq_true rfl) ?_
  refine y_aload o dX12_sendFrame_6 rfl ?_
  refine y_getr o mgX12_35 dX12_sendFrame_7 ?_
  refine y_const o dX12_sendFrame_10 ?_
  refine y_const o dX12_sendFrame_12 ?_
  refine y_iastc (j0 := 7) o ma_register dX12_sendFrame_13 (by unfold vp_in; decide) (by decide) ?_
  refine y_iload o dX12_sendFrame_14 rfl ?_
  refine y_aload o dX12_sendFrame_15 rfl ?_
  refine y_getr o mgX12_16 dX12_sendFrame_16 ?_
  refine y_const o dX12_sendFrame_19 ?_
  refine y_ialdc (j0 := 4) o ma_kept dX12_sendFrame_20 (by unfold vp_in; decide) (by decide) ?_
  refine y_isub o dX12_sendFrame_21 ?_
  refine y_const o dX12_sendFrame_22 ?_
  refine y_icmp_eq o dX12_sendFrame_24 (fun c24 => ?_) (fun c24 => ?_)
  · skip
    exact x_vret o r dX12_sendFrame_42 (by simp only [if_true, if_false, ix, f_send, f_send2, eq_true c24] <;> rfl)
  · skip
    refine y_aload o dX12_sendFrame_27 rfl ?_
    refine y_const o dX12_sendFrame_28 ?_
    refine y_iload o dX12_sendFrame_30 rfl ?_
    refine y_const o dX12_sendFrame_31 ?_
    refine y_irem o dX12_sendFrame_33 (by decide) ?_
    refine y_iadd o dX12_sendFrame_34 ?_
    refine y_const o dX12_sendFrame_35 ?_
    refine y_callVi o kX12_136 mr_X12 hk (mm_hasRoom _ h ex _ _ _ (pOk.mono hp (by decide))) (by decide) rfl rfl (Nat.le_of_ble_eq_true rfl) dX12_sendFrame_36 ?_
    refine y_if_ne o dX12_sendFrame_39 (fun c39 => ?_) (fun c39 => ?_)
    · skip
      refine y_aload o dX12_sendFrame_43 rfl ?_
      refine y_const o dX12_sendFrame_44 ?_
      refine y_iload o dX12_sendFrame_46 rfl ?_
      refine y_const o dX12_sendFrame_47 ?_
      refine y_irem o dX12_sendFrame_49 (by decide) ?_
      refine y_iadd o dX12_sendFrame_50 ?_
      refine y_iload o dX12_sendFrame_51 rfl ?_
      refine y_callVv o kX12_139 mr_X12 hk (mm_put _ h ex _ _ _ (pOk.mono hp (by decide))) (by decide) rfl rfl (Nat.le_of_ble_eq_true rfl) dX12_sendFrame_52 ?_
      refine y_aload o dX12_sendFrame_55 rfl ?_
      refine y_const o dX12_sendFrame_56 ?_
      refine y_iload o dX12_sendFrame_57 rfl ?_
      refine y_const o dX12_sendFrame_58 ?_
      refine y_iadd o dX12_sendFrame_59 ?_
      refine y_callVv o kX12_139 mr_X12 hk (mm_put _ h ex _ _ _ (pOk_put hp)) (by decide) rfl rfl (Nat.le_of_ble_eq_true rfl) dX12_sendFrame_60 ?_
      refine y_aload o dX12_sendFrame_63 rfl ?_
      refine y_getr o mgX12_35 dX12_sendFrame_64 ?_
      refine y_const o dX12_sendFrame_67 ?_
      refine y_const o dX12_sendFrame_69 ?_
      refine y_iastc (j0 := 7) o ma_register dX12_sendFrame_70 (by unfold vp_in; decide) (by decide) ?_
      exact x_vret o r dX12_sendFrame_71 (by simp only [if_true, if_false, ix, f_send, f_send2, eq_false c24, eq_false c39] <;> rfl)
    · skip
      exact x_vret o r dX12_sendFrame_42 (by simp only [if_true, if_false, ix, f_send, f_send2, eq_false c24, eq_true c39] <;> rfl)
