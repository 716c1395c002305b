/-! the component and its program -/
set_option maxRecDepth 100000
set_option maxHeartbeats 4000000 in
set_option maxRecDepth 100000 in
theorem cm_step (dd : ClassId × ClassId × ClassId) (h : Nat → Nat) (ex : va_W) (S : XS)  {P : PA} {cd sz : Nat → Int32} {ex0 : va_W} (hex : ex = pW dd.2.2 h P cd sz ++ ex0) (hp : pOK P sz) (hs : stOk (S.1 17)) (h1 : stepOkC cd sz (g_pre S)) (h3 : failOkC (g_actS (g_pay (g_pre S) (g_cost (g_pre S))))) : Cx dd yX2_step cX2_step 2 (some .boolean) 6 cG [.ref (h 1)] h ex S (some (.int (g_stepR S))) (g_step S) := by
  refine Cx.introE (by decide) (by simp [Value.category]) (Nat.le_of_ble_eq_true rfl) (fun K e o r hk => ?_)
  subst e
  have o : Y K cX2_step RX2 2 6 := o
  obtain ⟨U, eU⟩ : ∃ U, U = g_pre S := ⟨_, rfl⟩
  have hR : g_stepR S = g_step1R U := by rw [eU]; rfl
  have hF : g_step S = g_step1 U := by rw [eU]; rfl
  rw [← eU] at h1 h3
  obtain ⟨hU, hrep, hair, hrun, hcom, ht15, ecd, esz⟩ := h1
  have hsU : stOk (U.1 17) := by rcases hU with e | e | e | e <;> simp [stOk, e]
  have j85 : ∀ (V : XS), g_cost U ≤ U.1 0 → V = g_actS (g_pay U (g_cost U)) → Vw K 2 (g_W (kd K).1 cG h V ++ ex) 0 0 [.ref (h 1)] 85 [] := by
    intro V hc eV
    rw [← eV] at h3
    refine y_aload o dX2_step_85 rfl ?_
    refine y_get o tgX2_155 dX2_step_86 ?_
    refine y_if_le o dX2_step_89 (fun c89 => ?_) (fun c89 => ?_)
    · skip
      refine y_const o dX2_step_113 ?_
      exact x_zret o r dX2_step_114 (by first | exact Or.inl rfl | exact Or.inr rfl) (by rw [hR]; simp only [g_step1R, if_true, if_false, eq_true hc]) (by rw [hF]; simp only [g_step1, if_true, if_false, eq_true hc, ← eV, g_cut, eq_true c89])
    · skip
      refine y_aload o dX2_step_92 rfl ?_
      refine y_dup o dX2_step_93 rfl ?_
      refine y_get o tgX2_155 dX2_step_94 ?_
      refine y_const o dX2_step_97 ?_
      refine y_isub o dX2_step_98 ?_
      refine y_put o tpX2_155 dX2_step_99 ?_
      refine y_aload o dX2_step_102 rfl ?_
      refine y_get o tgX2_155 dX2_step_103 ?_
      refine y_if_ne o dX2_step_106 (fun c106 => ?_) (fun c106 => ?_)
      · skip
        refine y_const o dX2_step_113 ?_
        exact x_zret o r dX2_step_114 (by first | exact Or.inl rfl | exact Or.inr rfl) (by rw [hR]; simp only [g_step1R, if_true, if_false, eq_true hc]) (by rw [hF]; simp only [g_step1, if_true, if_false, eq_true hc, ← eV, g_cut, eq_false c89, eq_false c106])
      · skip
        refine y_aload o dX2_step_109 rfl ?_
        refine y_callVv o kX2_146 tr_X2 hk (cm_fail _ h ex _ (h3.1) (fun _ => h3.2)) (by decide) rfl rfl (Nat.le_of_ble_eq_true rfl) dX2_step_110 ?_
        refine y_const o dX2_step_113 ?_
        exact x_zret o r dX2_step_114 (by first | exact Or.inl rfl | exact Or.inr rfl) (by rw [hR]; simp only [g_step1R, if_true, if_false, eq_true hc]) (by rw [hF]; simp only [g_step1, if_true, if_false, eq_true hc, ← eV, g_cut, eq_false c89, eq_true c106])
  have j25 : Vw K 2 (g_W (kd K).1 cG h U ++ ex) 0 0 [.ref (h 1)] 25 [] := by
    refine y_aload o dX2_step_25 rfl ?_
    refine y_gets o tgX2_88 dX2_step_26 ?_
    rcases hU with e | e | e | e
    · skip
      have hcst : g_cost U = 4 := by simp (decide := true) only [g_cost, e, if_true, if_false]
      refine y_sref (q := 6) e (by decide) (by decide) ?_
      refine y_callUi (z := 4) o uX2_142_X8 tr_X8 hk (cm_rcost _ h ex _) (by decide) rfl rfl (Nat.le_of_ble_eq_true rfl) dX2_step_29 ?_
      rw [← hcst]
      refine y_istore o dX2_step_32 (by decide) (Nat.le_of_ble_eq_true rfl) ?_
      refine y_iload o dX2_step_33 rfl ?_
      refine y_aload o dX2_step_34 rfl ?_
      refine y_get o tgX2_132 dX2_step_35 ?_
      refine y_icmp_le o dX2_step_38 (fun c38 => ?_) (fun c38 => ?_)
      · skip
        refine y_aload o dX2_step_47 rfl ?_
        refine y_dup o dX2_step_48 rfl ?_
        refine y_get o tgX2_132 dX2_step_49 ?_
        refine y_iload o dX2_step_52 rfl ?_
        refine y_isub o dX2_step_53 ?_
        refine y_put o tpX2_132 dX2_step_54 ?_
        refine y_aload o dX2_step_57 rfl ?_
        refine y_dup o dX2_step_58 rfl ?_
        refine y_get o tgX2_99 dX2_step_59 ?_
        refine y_aload o dX2_step_62 rfl ?_
        refine y_callVi o kX2_149 tr_X2 hk (cm_trying _ h ex _ (hsU)) (by decide) rfl rfl (Nat.le_of_ble_eq_true rfl) dX2_step_63 ?_
        refine y_if_eq o dX2_step_66 (fun c66 => ?_) (fun c66 => ?_)
        · skip
          refine y_const o dX2_step_73 ?_
          refine y_iadd o dX2_step_74 ?_
          refine y_put o tpX2_99 dX2_step_75 ?_
          refine y_aload o dX2_step_78 rfl ?_
          refine y_gets o tgX2_88 dX2_step_79 ?_
          refine y_sref (q := 6) (show U.1 17 = nI 6 from e) (by decide) (by decide) ?_
          refine y_callUv o uX2_152_X8 tr_X8 hk (cm_ract _ h ex _ (hrep e)) (by decide) rfl rfl (Nat.le_of_ble_eq_true rfl) dX2_step_82 ?_
          refine y_take 1 rfl ?_
          refine j85 _ c38 ?_
          have hpay : g_pay U (g_cost U) = xs (xs U 0 (U.1 0 - g_cost U)) 2 ((xs U 0 (U.1 0 - g_cost U)).1 2 + 0) := by unfold g_pay g_pay2; rw [if_pos c66]
          rw [hpay]
          exact (act_at6 (show (xs (xs U 0 (U.1 0 - g_cost U)) 2 ((xs U 0 (U.1 0 - g_cost U)).1 2 + 0)).1 17 = 6 from e)).symm
        · skip
          refine y_iload o dX2_step_69 rfl ?_
          refine y_goto o dX2_step_70 ?_
          refine y_iadd o dX2_step_74 ?_
          refine y_put o tpX2_99 dX2_step_75 ?_
          refine y_aload o dX2_step_78 rfl ?_
          refine y_gets o tgX2_88 dX2_step_79 ?_
          refine y_sref (q := 6) (show U.1 17 = nI 6 from e) (by decide) (by decide) ?_
          refine y_callUv o uX2_152_X8 tr_X8 hk (cm_ract _ h ex _ (hrep e)) (by decide) rfl rfl (Nat.le_of_ble_eq_true rfl) dX2_step_82 ?_
          refine y_take 1 rfl ?_
          refine j85 _ c38 ?_
          have hpay : g_pay U (g_cost U) = xs (xs U 0 (U.1 0 - g_cost U)) 2 ((xs U 0 (U.1 0 - g_cost U)).1 2 + g_cost U) := by unfold g_pay g_pay2; rw [if_neg c66]
          rw [hpay]
          exact (act_at6 (show (xs (xs U 0 (U.1 0 - g_cost U)) 2 ((xs U 0 (U.1 0 - g_cost U)).1 2 + g_cost U)).1 17 = 6 from e)).symm
      · skip
        refine y_aload o dX2_step_41 rfl ?_
        refine y_callVv o kX2_146 tr_X2 hk (cm_fail _ h ex _ (by first | exact Or.inl e | exact Or.inr (Or.inl e) | exact Or.inr (Or.inr (Or.inl e)) | exact Or.inr (Or.inr (Or.inr e))) (fun _ => ht15)) (by decide) rfl rfl (Nat.le_of_ble_eq_true rfl) dX2_step_42 ?_
        refine y_const o dX2_step_45 ?_
        exact x_zret o r dX2_step_46 (by first | exact Or.inl rfl | exact Or.inr rfl) (by rw [hR]; simp only [g_step1R, if_true, if_false, eq_false c38]) (by rw [hF]; simp only [g_step1, if_true, if_false, eq_false c38])
    · skip
      have hcst : g_cost U = (f_airC U) := by simp (decide := true) only [g_cost, e, if_true, if_false]
      refine y_sref (q := 7) e (by decide) (by decide) ?_
      refine y_callUi (z := (f_airC U)) o uX2_142_X9 tr_X9 hk (cm_acost _ h ex _) (by decide) rfl rfl (Nat.le_of_ble_eq_true rfl) dX2_step_29 ?_
      rw [← hcst]
      refine y_istore o dX2_step_32 (by decide) (Nat.le_of_ble_eq_true rfl) ?_
      refine y_iload o dX2_step_33 rfl ?_
      refine y_aload o dX2_step_34 rfl ?_
      refine y_get o tgX2_132 dX2_step_35 ?_
      refine y_icmp_le o dX2_step_38 (fun c38 => ?_) (fun c38 => ?_)
      · skip
        refine y_aload o dX2_step_47 rfl ?_
        refine y_dup o dX2_step_48 rfl ?_
        refine y_get o tgX2_132 dX2_step_49 ?_
        refine y_iload o dX2_step_52 rfl ?_
        refine y_isub o dX2_step_53 ?_
        refine y_put o tpX2_132 dX2_step_54 ?_
        refine y_aload o dX2_step_57 rfl ?_
        refine y_dup o dX2_step_58 rfl ?_
        refine y_get o tgX2_99 dX2_step_59 ?_
        refine y_aload o dX2_step_62 rfl ?_
        refine y_callVi o kX2_149 tr_X2 hk (cm_trying _ h ex _ (hsU)) (by decide) rfl rfl (Nat.le_of_ble_eq_true rfl) dX2_step_63 ?_
        refine y_if_eq o dX2_step_66 (fun c66 => ?_) (fun c66 => ?_)
        · skip
          refine y_const o dX2_step_73 ?_
          refine y_iadd o dX2_step_74 ?_
          refine y_put o tpX2_99 dX2_step_75 ?_
          refine y_aload o dX2_step_78 rfl ?_
          refine y_gets o tgX2_88 dX2_step_79 ?_
          refine y_sref (q := 7) (show U.1 17 = nI 7 from e) (by decide) (by decide) ?_
          refine y_callUv o uX2_152_X9 tr_X9 hk (cm_aact _ h ex _ (hair e)) (by decide) rfl rfl (Nat.le_of_ble_eq_true rfl) dX2_step_82 ?_
          refine y_take 1 rfl ?_
          refine j85 _ c38 ?_
          have hpay : g_pay U (g_cost U) = xs (xs U 0 (U.1 0 - g_cost U)) 2 ((xs U 0 (U.1 0 - g_cost U)).1 2 + 0) := by unfold g_pay g_pay2; rw [if_pos c66]
          rw [hpay]
          exact (act_at7 (show (xs (xs U 0 (U.1 0 - g_cost U)) 2 ((xs U 0 (U.1 0 - g_cost U)).1 2 + 0)).1 17 = 7 from e)).symm
        · skip
          refine y_iload o dX2_step_69 rfl ?_
          refine y_goto o dX2_step_70 ?_
          refine y_iadd o dX2_step_74 ?_
          refine y_put o tpX2_99 dX2_step_75 ?_
          refine y_aload o dX2_step_78 rfl ?_
          refine y_gets o tgX2_88 dX2_step_79 ?_
          refine y_sref (q := 7) (show U.1 17 = nI 7 from e) (by decide) (by decide) ?_
          refine y_callUv o uX2_152_X9 tr_X9 hk (cm_aact _ h ex _ (hair e)) (by decide) rfl rfl (Nat.le_of_ble_eq_true rfl) dX2_step_82 ?_
          refine y_take 1 rfl ?_
          refine j85 _ c38 ?_
          have hpay : g_pay U (g_cost U) = xs (xs U 0 (U.1 0 - g_cost U)) 2 ((xs U 0 (U.1 0 - g_cost U)).1 2 + g_cost U) := by unfold g_pay g_pay2; rw [if_neg c66]
          rw [hpay]
          exact (act_at7 (show (xs (xs U 0 (U.1 0 - g_cost U)) 2 ((xs U 0 (U.1 0 - g_cost U)).1 2 + g_cost U)).1 17 = 7 from e)).symm
      · skip
        refine y_aload o dX2_step_41 rfl ?_
        refine y_callVv o kX2_146 tr_X2 hk (cm_fail _ h ex _ (by first | exact Or.inl e | exact Or.inr (Or.inl e) | exact Or.inr (Or.inr (Or.inl e)) | exact Or.inr (Or.inr (Or.inr e))) (fun _ => ht15)) (by decide) rfl rfl (Nat.le_of_ble_eq_true rfl) dX2_step_42 ?_
        refine y_const o dX2_step_45 ?_
        exact x_zret o r dX2_step_46 (by first | exact Or.inl rfl | exact Or.inr rfl) (by rw [hR]; simp only [g_step1R, if_true, if_false, eq_false c38]) (by rw [hF]; simp only [g_step1, if_true, if_false, eq_false c38])
    · skip
      have hcst : g_cost U = (y_cost (ix (f_op (f_word U)))) := by simp (decide := true) only [g_cost, e, if_true, if_false]
      refine y_sref (q := 8) e (by decide) (by decide) ?_
      refine y_callUi (z := (y_cost (ix (f_op (f_word U))))) o uX2_142_X10 tr_X10 hk (cm_rucost _ h ex _ hex hp (hrun e).2.1 (esz ▸ (hrun e).2.2) ecd (hrun e).1.2.2.1) (by decide) rfl rfl (Nat.le_of_ble_eq_true rfl) dX2_step_29 ?_
      rw [← hcst]
      refine y_istore o dX2_step_32 (by decide) (Nat.le_of_ble_eq_true rfl) ?_
      refine y_iload o dX2_step_33 rfl ?_
      refine y_aload o dX2_step_34 rfl ?_
      refine y_get o tgX2_132 dX2_step_35 ?_
      refine y_icmp_le o dX2_step_38 (fun c38 => ?_) (fun c38 => ?_)
      · skip
        refine y_aload o dX2_step_47 rfl ?_
        refine y_dup o dX2_step_48 rfl ?_
        refine y_get o tgX2_132 dX2_step_49 ?_
        refine y_iload o dX2_step_52 rfl ?_
        refine y_isub o dX2_step_53 ?_
        refine y_put o tpX2_132 dX2_step_54 ?_
        refine y_aload o dX2_step_57 rfl ?_
        refine y_dup o dX2_step_58 rfl ?_
        refine y_get o tgX2_99 dX2_step_59 ?_
        refine y_aload o dX2_step_62 rfl ?_
        refine y_callVi o kX2_149 tr_X2 hk (cm_trying _ h ex _ (hsU)) (by decide) rfl rfl (Nat.le_of_ble_eq_true rfl) dX2_step_63 ?_
        refine y_if_eq o dX2_step_66 (fun c66 => ?_) (fun c66 => ?_)
        · skip
          refine y_const o dX2_step_73 ?_
          refine y_iadd o dX2_step_74 ?_
          refine y_put o tpX2_99 dX2_step_75 ?_
          refine y_aload o dX2_step_78 rfl ?_
          refine y_gets o tgX2_88 dX2_step_79 ?_
          refine y_sref (q := 8) (show U.1 17 = nI 8 from e) (by decide) (by decide) ?_
          refine y_callUv o uX2_152_X10 tr_X10 hk (cm_ruact _ h ex _ hex hp (hrun e).2.1 (esz ▸ (hrun e).2.2) ecd (hrun e).1) (by decide) rfl rfl (Nat.le_of_ble_eq_true rfl) dX2_step_82 ?_
          refine y_take 1 rfl ?_
          refine j85 _ c38 ?_
          have hpay : g_pay U (g_cost U) = xs (xs U 0 (U.1 0 - g_cost U)) 2 ((xs U 0 (U.1 0 - g_cost U)).1 2 + 0) := by unfold g_pay g_pay2; rw [if_pos c66]
          rw [hpay]
          exact (act_at8 (show (xs (xs U 0 (U.1 0 - g_cost U)) 2 ((xs U 0 (U.1 0 - g_cost U)).1 2 + 0)).1 17 = 8 from e)).symm
        · skip
          refine y_iload o dX2_step_69 rfl ?_
          refine y_goto o dX2_step_70 ?_
          refine y_iadd o dX2_step_74 ?_
          refine y_put o tpX2_99 dX2_step_75 ?_
          refine y_aload o dX2_step_78 rfl ?_
          refine y_gets o tgX2_88 dX2_step_79 ?_
          refine y_sref (q := 8) (show U.1 17 = nI 8 from e) (by decide) (by decide) ?_
          refine y_callUv o uX2_152_X10 tr_X10 hk (cm_ruact _ h ex _ hex hp (hrun e).2.1 (esz ▸ (hrun e).2.2) ecd (hrun e).1) (by decide) rfl rfl (Nat.le_of_ble_eq_true rfl) dX2_step_82 ?_
          refine y_take 1 rfl ?_
          refine j85 _ c38 ?_
          have hpay : g_pay U (g_cost U) = xs (xs U 0 (U.1 0 - g_cost U)) 2 ((xs U 0 (U.1 0 - g_cost U)).1 2 + g_cost U) := by unfold g_pay g_pay2; rw [if_neg c66]
          rw [hpay]
          exact (act_at8 (show (xs (xs U 0 (U.1 0 - g_cost U)) 2 ((xs U 0 (U.1 0 - g_cost U)).1 2 + g_cost U)).1 17 = 8 from e)).symm
      · skip
        refine y_aload o dX2_step_41 rfl ?_
        refine y_callVv o kX2_146 tr_X2 hk (cm_fail _ h ex _ (by first | exact Or.inl e | exact Or.inr (Or.inl e) | exact Or.inr (Or.inr (Or.inl e)) | exact Or.inr (Or.inr (Or.inr e))) (fun _ => ht15)) (by decide) rfl rfl (Nat.le_of_ble_eq_true rfl) dX2_step_42 ?_
        refine y_const o dX2_step_45 ?_
        exact x_zret o r dX2_step_46 (by first | exact Or.inl rfl | exact Or.inr rfl) (by rw [hR]; simp only [g_step1R, if_true, if_false, eq_false c38]) (by rw [hF]; simp only [g_step1, if_true, if_false, eq_false c38])
    · skip
      have hcst : g_cost U = 4 := by simp (decide := true) only [g_cost, e, if_true, if_false]
      refine y_sref (q := 9) e (by decide) (by decide) ?_
      refine y_callUi (z := 4) o uX2_142_X11 tr_X11 hk (cm_ccost _ h ex _) (by decide) rfl rfl (Nat.le_of_ble_eq_true rfl) dX2_step_29 ?_
      rw [← hcst]
      refine y_istore o dX2_step_32 (by decide) (Nat.le_of_ble_eq_true rfl) ?_
      refine y_iload o dX2_step_33 rfl ?_
      refine y_aload o dX2_step_34 rfl ?_
      refine y_get o tgX2_132 dX2_step_35 ?_
      refine y_icmp_le o dX2_step_38 (fun c38 => ?_) (fun c38 => ?_)
      · skip
        refine y_aload o dX2_step_47 rfl ?_
        refine y_dup o dX2_step_48 rfl ?_
        refine y_get o tgX2_132 dX2_step_49 ?_
        refine y_iload o dX2_step_52 rfl ?_
        refine y_isub o dX2_step_53 ?_
        refine y_put o tpX2_132 dX2_step_54 ?_
        refine y_aload o dX2_step_57 rfl ?_
        refine y_dup o dX2_step_58 rfl ?_
        refine y_get o tgX2_99 dX2_step_59 ?_
        refine y_aload o dX2_step_62 rfl ?_
        refine y_callVi o kX2_149 tr_X2 hk (cm_trying _ h ex _ (hsU)) (by decide) rfl rfl (Nat.le_of_ble_eq_true rfl) dX2_step_63 ?_
        refine y_if_eq o dX2_step_66 (fun c66 => ?_) (fun c66 => ?_)
        · skip
          refine y_const o dX2_step_73 ?_
          refine y_iadd o dX2_step_74 ?_
          refine y_put o tpX2_99 dX2_step_75 ?_
          refine y_aload o dX2_step_78 rfl ?_
          refine y_gets o tgX2_88 dX2_step_79 ?_
          refine y_sref (q := 9) (show U.1 17 = nI 9 from e) (by decide) (by decide) ?_
          refine y_callUv o uX2_152_X11 tr_X11 hk (cm_cact _ h ex _ (hcom e)) (by decide) rfl rfl (Nat.le_of_ble_eq_true rfl) dX2_step_82 ?_
          refine y_take 1 rfl ?_
          refine j85 _ c38 ?_
          have hpay : g_pay U (g_cost U) = xs (xs U 0 (U.1 0 - g_cost U)) 2 ((xs U 0 (U.1 0 - g_cost U)).1 2 + 0) := by unfold g_pay g_pay2; rw [if_pos c66]
          rw [hpay]
          exact (act_at9 (show (xs (xs U 0 (U.1 0 - g_cost U)) 2 ((xs U 0 (U.1 0 - g_cost U)).1 2 + 0)).1 17 = 9 from e)).symm
        · skip
          refine y_iload o dX2_step_69 rfl ?_
          refine y_goto o dX2_step_70 ?_
          refine y_iadd o dX2_step_74 ?_
          refine y_put o tpX2_99 dX2_step_75 ?_
          refine y_aload o dX2_step_78 rfl ?_
          refine y_gets o tgX2_88 dX2_step_79 ?_
          refine y_sref (q := 9) (show U.1 17 = nI 9 from e) (by decide) (by decide) ?_
          refine y_callUv o uX2_152_X11 tr_X11 hk (cm_cact _ h ex _ (hcom e)) (by decide) rfl rfl (Nat.le_of_ble_eq_true rfl) dX2_step_82 ?_
          refine y_take 1 rfl ?_
          refine j85 _ c38 ?_
          have hpay : g_pay U (g_cost U) = xs (xs U 0 (U.1 0 - g_cost U)) 2 ((xs U 0 (U.1 0 - g_cost U)).1 2 + g_cost U) := by unfold g_pay g_pay2; rw [if_neg c66]
          rw [hpay]
          exact (act_at9 (show (xs (xs U 0 (U.1 0 - g_cost U)) 2 ((xs U 0 (U.1 0 - g_cost U)).1 2 + g_cost U)).1 17 = 9 from e)).symm
      · skip
        refine y_aload o dX2_step_41 rfl ?_
        refine y_callVv o kX2_146 tr_X2 hk (cm_fail _ h ex _ (by first | exact Or.inl e | exact Or.inr (Or.inl e) | exact Or.inr (Or.inr (Or.inl e)) | exact Or.inr (Or.inr (Or.inr e))) (fun _ => ht15)) (by decide) rfl rfl (Nat.le_of_ble_eq_true rfl) dX2_step_42 ?_
        refine y_const o dX2_step_45 ?_
        exact x_zret o r dX2_step_46 (by first | exact Or.inl rfl | exact Or.inr rfl) (by rw [hR]; simp only [g_step1R, if_true, if_false, eq_false c38]) (by rw [hF]; simp only [g_step1, if_true, if_false, eq_false c38])
  refine y_aload o dX2_step_0 rfl ?_
  refine y_gets o tgX2_88 dX2_step_1 ?_
  refine y_aload o dX2_step_4 rfl ?_
  refine y_getr o tgX2_66 dX2_step_5 ?_
  refine y_sacmp_ne o (hs) (by decide) (by decide) dX2_step_8 (fun c8 => ?_) (fun c8 => ?_)
  · skip
    have eS : U = S := by rw [eU]; simp only [g_pre, if_true, if_false, eq_false (show ¬ S.1 17 = 7 from c8)]
    exact eS ▸ j25
  · skip
    refine y_aload o dX2_step_11 rfl ?_
    refine y_getr o tgX2_66 dX2_step_12 ?_
    refine y_callVi o kX2_138 tr_X9 hk (cm_idle _ h ex _ ) (by decide) rfl rfl (Nat.le_of_ble_eq_true rfl) dX2_step_15 ?_
    refine y_if_eq o dX2_step_18 (fun c18 => ?_) (fun c18 => ?_)
    · skip
      have eS : U = S := by rw [eU]; simp only [g_pre, if_true, if_false, eq_true (show S.1 17 = 7 from c8), eq_true (show g_idle S = 0 from c18)]
      exact eS ▸ j25
    · skip
      refine y_aload o dX2_step_21 rfl ?_
      refine y_callVv o kX2_141 tr_X2 hk (cm_nbegin _ h ex _ ) (by decide) rfl rfl (Nat.le_of_ble_eq_true rfl) dX2_step_22 ?_
      have eS : U = g_nbegin S := by rw [eU]; simp only [g_pre, if_true, if_false, eq_true (show S.1 17 = 7 from c8), eq_false (show ¬ g_idle S = 0 from c18)]
      exact eS ▸ j25
