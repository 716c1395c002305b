/-! the component and its program -/
set_option maxRecDepth 100000
set_option maxHeartbeats 4000000 in
set_option maxRecDepth 100000 in
theorem cm_nslot (dd : ClassId × ClassId × ClassId) (h : Nat → Nat) (ex : va_W) (S : XS) (x : Int32) {P : PA} {cd sz : Nat → Int32} {ex0 : va_W} (hex : ex = pW dd.2.2 h P cd sz ++ ex0) (hp : pOK P sz) (ht : vp_in (S.2 0 0) 16) (Q : Nat → XS → Prop) (hQ : ∀ j T, j < 16 → Q j T → ¬ T.1 17 = 0 → stOk (T.1 17) ∧ stepOkC cd sz (g_pre T) ∧ failOkC (g_actS (g_pay (g_pre T) (g_cost (g_pre T)))) ∧ Q (j + 1) (g_step T)) (hA : ¬ S.1 17 = 0 → Q 0 (g_harv S x)) (hB : S.1 17 = 0 → ¬ g_bootsR (g_harv S x) = 0 → Q 0 (g_boots (g_harv S x))) : Cx dd yX2_slot cX2_slot 3 (some .int) 7 cG [.ref (h 1), .int x] h ex S (some (.int (g_slotR S x))) (g_slot S x) := by
  refine Cx.introE (by decide) (by simp [Value.category]) (Nat.le_of_ble_eq_true rfl) (fun K e o r hk => ?_)
  subst e
  have o : Y K cX2_slot RX2 3 7 := o
  have loop : ∀ (n j : Nat) (T : XS), j + n = 16 → Q j T → g_loop T n = g_slot S x → g_loopR T (nI j) n = g_slotR S x → Vw K 3 (g_W (kd K).1 cG h T ++ ex) 0 0 [.ref (h 1), .int x, .int (nI j)] 44 [] := by
    intro n
    induction n with
    | zero =>
      intro j T h1 hQj e1 e2
      have hj : j = 16 := by omega
      subst hj
      refine y_aload o dX2_slot_44 rfl ?_
      refine y_gets o tgX2_88 dX2_slot_45 ?_
      refine y_snull o dX2_slot_48 (fun c48 => ?_) (fun c48 => ?_)
      · skip
        refine y_iload o dX2_slot_70 rfl ?_
        exact x_iret o r dX2_slot_71 (by exact e2) (by exact e1)
      · skip
        refine y_iload o dX2_slot_51 rfl ?_
        refine y_const o dX2_slot_52 ?_
        refine y_icmp_ge o dX2_slot_54 (fun c54 => ?_) (fun c54 => ?_)
        · skip
          refine y_iload o dX2_slot_70 rfl ?_
          exact x_iret o r dX2_slot_71 (by exact e2) (by exact e1)
        · skip
          exact absurd (by decide) c54
    | succ n ih =>
      intro j T h1 hQj e1 e2
      have e1 : (if T.1 17 = 0 then T else if g_stepR T = 0 then g_step T else g_loop (g_step T) n) = g_slot S x := e1
      have e2 : (if T.1 17 = 0 then nI j else if g_stepR T = 0 then nI j else g_loopR (g_step T) (nI j + 1) n) = g_slotR S x := e2
      refine y_aload o dX2_slot_44 rfl ?_
      refine y_gets o tgX2_88 dX2_slot_45 ?_
      refine y_snull o dX2_slot_48 (fun c48 => ?_) (fun c48 => ?_)
      · skip
        refine y_iload o dX2_slot_70 rfl ?_
        exact x_iret o r dX2_slot_71 (by rw [← e2, if_pos c48]) (by rw [← e1, if_pos c48])
      · skip
        refine y_iload o dX2_slot_51 rfl ?_
        refine y_const o dX2_slot_52 ?_
        refine y_icmp_ge o dX2_slot_54 (fun c54 => ?_) (fun c54 => ?_)
        · skip
          exact absurd c54 (nI_ge (a := j) (b := 16) (by omega) (by decide))
        · skip
          refine y_aload o dX2_slot_57 rfl ?_
          refine y_callVi o kX2_164 tr_X2 hk (cm_step _ h ex _ (hex) (hp) ((hQ j T (by omega) hQj c48).1) ((hQ j T (by omega) hQj c48).2.1) ((hQ j T (by omega) hQj c48).2.2.1)) (by decide) rfl rfl (Nat.le_of_ble_eq_true rfl) dX2_slot_58 ?_
          refine y_if_eq o dX2_slot_61 (fun c61 => ?_) (fun c61 => ?_)
          · skip
            refine y_iload o dX2_slot_70 rfl ?_
            exact x_iret o r dX2_slot_71 (by rw [← e2, if_neg c48, if_pos c61]) (by rw [← e1, if_neg c48, if_pos c61])
          · skip
            refine y_iinc1 o dX2_slot_64 rfl (by decide) ?_
            refine y_goto o dX2_slot_67 ?_
            rw [if_neg c48, if_neg c61] at e1 e2
            exact y_lv (by rw [nI_1]; rfl) (ih (j + 1) _ (by omega) (hQ j T (by omega) hQj c48).2.2.2 e1 (by rw [← nI_1]; exact e2))
  have j26 : ∀ (T : XS), T = g_harv S x → Vw K 3 (g_W (kd K).1 cG h T ++ ex) 0 0 [.ref (h 1), .int x] 26 [] := by
    intro T eT
    have k17 : T.1 17 = S.1 17 := by rw [eT]; rfl
    have k2 : T.2 = S.2 := by rw [eT]; rfl
    rw [← eT] at hA hB
    have eS : g_slot S x = g_slot1 T := by rw [eT]; rfl
    have eR : g_slotR S x = g_slot1R T := by rw [eT]; rfl
    refine y_aload o dX2_slot_26 rfl ?_
    refine y_gets o tgX2_88 dX2_slot_27 ?_
    refine y_snonnull o dX2_slot_30 (fun c30 => ?_) (fun c30 => ?_)
    · skip
      refine y_const o dX2_slot_42 ?_
      refine y_istore o dX2_slot_43 (by decide) (Nat.le_of_ble_eq_true rfl) ?_
      exact loop 16 0 _ rfl (hA (fun z => c30 (k17.trans z))) (by rw [eS]; simp only [if_true, if_false, g_slot1, eq_false c30]) (by rw [eR]; simp only [if_true, if_false, g_slot1R, eq_false c30]; rfl)
    · skip
      refine y_aload o dX2_slot_33 rfl ?_
      refine y_callVi o kX2_161 tr_X2 hk (cm_boots _ h ex _ (by rw [k2]; exact ht)) (by decide) rfl rfl (Nat.le_of_ble_eq_true rfl) dX2_slot_34 ?_
      refine y_if_ne o dX2_slot_37 (fun c37 => ?_) (fun c37 => ?_)
      · skip
        refine y_const o dX2_slot_42 ?_
        refine y_istore o dX2_slot_43 (by decide) (Nat.le_of_ble_eq_true rfl) ?_
        exact loop 16 0 _ rfl (hB (k17.symm.trans c30) c37) (by rw [eS]; simp only [if_true, if_false, g_slot1, eq_true c30, eq_false c37]) (by rw [eR]; simp only [if_true, if_false, g_slot1R, eq_true c30, eq_false c37]; rfl)
      · skip
        refine y_const o dX2_slot_40 ?_
        exact x_iret o r dX2_slot_41 (by rw [eR]; simp only [if_true, if_false, g_slot1R, eq_true c30, eq_true c37]) (by rw [eS]; simp only [if_true, if_false, g_slot1, eq_true c30, eq_true c37])
  refine y_aload o dX2_slot_0 rfl ?_
  refine y_aload o dX2_slot_1 rfl ?_
  refine y_get o tgX2_132 dX2_slot_2 ?_
  refine y_iload o dX2_slot_5 rfl ?_
  refine y_iadd o dX2_slot_6 ?_
  refine y_const o dX2_slot_7 ?_
  refine y_mmin o q888 q272 q55 q273 (by decide) hk (Nat.le_of_ble_eq_true rfl) dX2_slot_10 ?_
  refine y_put o tpX2_132 dX2_slot_13 ?_
  refine y_aload o dX2_slot_16 rfl ?_
  refine y_dup o dX2_slot_17 rfl ?_
  refine y_get o tgX2_158 dX2_slot_18 ?_
  refine y_const o dX2_slot_21 ?_
  refine y_iadd o dX2_slot_22 ?_
  refine y_put o tpX2_158 dX2_slot_23 ?_
  exact j26 _ rfl
