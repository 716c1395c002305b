/-! the component -/
set_option maxRecDepth 100000
set_option maxHeartbeats 4000000 in
set_option maxRecDepth 100000 in
theorem cm_kwrite (dd : ClassId × ClassId × ClassId) (h : Nat → Nat) (ex : va_W) (S : XS) (a : Int32) (v : Int32) (ha : vp_in a 164) : Cx dd yX3_write cX3_write 3 none 0 cG [.ref (h 2), .int a, .int v] h ex S none (f_write S a v) := by
  refine Cx.intro (by decide) (by simp [Value.category]) (Nat.le_of_ble_eq_true rfl) (fun K o r hk => ?_)
  have o : Y K cX3_write RX3 3 0 := o
  refine y_aload o dX3_write_0 rfl ?_
  refine y_getr o tgX3_9 dX3_write_1 ?_
  refine y_iload o dX3_write_4 rfl ?_
  refine y_iload o dX3_write_5 rfl ?_
  refine y_iast o ta_words dX3_write_6 (by assumption) ?_
  refine y_aload o dX3_write_7 rfl ?_
  refine y_getr o tgX3_13 dX3_write_8 ?_
  refine y_iload o dX3_write_11 rfl ?_
  refine y_dup2 o dX3_write_12 rfl rfl ?_
  refine y_iald o ta_wear dX3_write_13 (by assumption) ?_
  refine y_const o dX3_write_14 ?_
  refine y_iadd o dX3_write_15 ?_
  refine y_iast o ta_wear dX3_write_16 (by assumption) ?_
  exact x_vret o r dX3_write_17 (by rfl)
set_option maxHeartbeats 4000000 in
set_option maxRecDepth 100000 in
theorem cm_find (dd : ClassId × ClassId × ClassId) (h : Nat → Nat) (ex : va_W) (S : XS) (a : Int32) (hp : pOk 40 S) : Cx dd yX4_find cX4_find 3 (some .int) 0 cG [.ref (h 3), .int a] h ex S (some (.int (f_place S a))) S := by
  refine Cx.intro (by decide) (by simp [Value.category]) (Nat.le_of_ble_eq_true rfl) (fun K o r hk => ?_)
  have o : Y K cX4_find RX4 3 0 := o
  obtain ⟨p, hp1, hp2⟩ := hp
  have ep : ix (S.1 12) = p := by rw [hp2]; exact nI_clamp (by omega)
  have loop : ∀ (n j : Nat), j ≤ p → p + 1 ≤ j + n → f_find (S.2 2) a (p - j) j = f_place S a → Vw K 3 (g_W (kd K).1 cG h S ++ ex) 0 0 [.ref (h 3), .int a, .int (nI j)] 2 [] := by
    intro n
    induction n with
    | zero => intro j h1 h2; exact absurd h2 (by omega)
    | succ n ih =>
      intro j h1 h2 hf
      refine y_iload o dX4_find_2 rfl ?_
      refine y_aload o dX4_find_3 rfl ?_
      refine y_get o tgX4_22 dX4_find_4 ?_
      refine y_icmp_ge o dX4_find_7 (fun c7 => ?_) (fun c7 => ?_)
      · skip
        refine y_const o dX4_find_28 ?_
        exact x_iret o r dX4_find_29 (by rw [← hf, show p - j = 0 by have := nI_le_of c7 hp2 (by omega) (by omega); omega]; rfl) (by rfl)
      · skip
        refine y_aload o dX4_find_10 rfl ?_
        refine y_getr o tgX4_11 dX4_find_11 ?_
        refine y_iload o dX4_find_14 rfl ?_
        refine y_iald o ta_where dX4_find_15 (vp_in_nI (by have := nI_nle_lt c7 hp2 (by omega); omega) (by decide)) ?_
        refine y_iload o dX4_find_16 rfl ?_
        refine y_icmp_ne o dX4_find_17 (fun c17 => ?_) (fun c17 => ?_)
        · skip
          refine y_iinc1 o dX4_find_22 rfl (by decide) ?_
          refine y_goto o dX4_find_25 ?_
          refine y_lv (lv' := [.ref (h 3), .int a, .int (nI (j + 1))]) (by rw [← nI_1]; rfl) ?_
          have hlt : j < p := nI_nle_lt c7 hp2 (by omega)
          have hs : f_find (S.2 2) a (p - j) j = f_find (S.2 2) a (p - (j + 1)) (j + 1) := by
            rw [show p - j = (p - (j + 1)) + 1 by omega]
            rw [nI_clamp (by omega)] at c17
            exact (if_neg c17)
          exact ih (j + 1) (by omega) (by omega) (hs.symm.trans hf)
        · skip
          refine y_iload o dX4_find_20 rfl ?_
          exact x_iret o r dX4_find_21 (by have hlt : j < p := nI_nle_lt c7 hp2 (by omega); rw [← hf, show p - j = (p - (j + 1)) + 1 by omega]; rw [nI_clamp (by omega)] at c17; exact (if_pos c17).symm) (by rfl)
  refine y_const o dX4_find_0 ?_
  refine y_istore o dX4_find_1 (by decide) (Nat.le_of_ble_eq_true rfl) ?_
  exact loop (p + 1) 0 (by omega) (by omega) (by unfold f_place; rw [ep]; rfl)
set_option maxHeartbeats 4000000 in
set_option maxRecDepth 100000 in
theorem cm_read (dd : ClassId × ClassId × ClassId) (h : Nat → Nat) (ex : va_W) (S : XS) (a : Int32) (ha : vp_in a 164) (hp : pOk 40 S) : Cx dd yX4_read cX4_read 3 (some .int) 1 cG [.ref (h 3), .int a] h ex S (some (.int (f_see S a))) S := by
  refine Cx.intro (by decide) (by simp [Value.category]) (Nat.le_of_ble_eq_true rfl) (fun K o r hk => ?_)
  have o : Y K cX4_read RX4 3 1 := o
  refine y_aload o dX4_read_0 rfl ?_
  refine y_iload o dX4_read_1 rfl ?_
  refine y_callVi o kX4_26 tr_X4 hk (cm_find _ h ex _ _ (hp)) (by decide) rfl rfl (Nat.le_of_ble_eq_true rfl) dX4_read_2 ?_
  refine y_istore o dX4_read_5 (by decide) (Nat.le_of_ble_eq_true rfl) ?_
  refine y_iload o dX4_read_6 rfl ?_
  refine y_const o dX4_read_7 ?_
  refine y_icmp_ne o dX4_read_8 (fun c8 => ?_) (fun c8 => ?_)
  · skip
    refine y_aload o dX4_read_23 rfl ?_
    refine y_getr o tgX4_15 dX4_read_24 ?_
    refine y_iload o dX4_read_27 rfl ?_
    refine y_iald o ta_what dX4_read_28 (f_place_in hp (by decide) c8) ?_
    exact x_iret o r dX4_read_29 (by simp only [if_true, if_false, ix, f_see, eq_false c8] <;> rfl) (by rfl)
  · skip
    refine y_aload o dX4_read_11 rfl ?_
    refine y_getr o tgX4_18 dX4_read_12 ?_
    refine y_getr o tgX4_30 dX4_read_15 ?_
    refine y_iload o dX4_read_18 rfl ?_
    refine y_iald o ta_words dX4_read_19 (by assumption) ?_
    refine y_goto o dX4_read_20 ?_
    exact x_iret o r dX4_read_29 (by simp only [if_true, if_false, ix, f_see, eq_true c8] <;> rfl) (by rfl)
set_option maxHeartbeats 4000000 in
set_option maxRecDepth 100000 in
theorem cm_takes (dd : ClassId × ClassId × ClassId) (h : Nat → Nat) (ex : va_W) (S : XS) (a : Int32) (b : Int32) (hp : pOk 40 S) : Cx dd yX4_takes cX4_takes 3 (some .boolean) 1 cG [.ref (h 3), .int a, .int b] h ex S (some (.int (g_takes S a b))) S := by
  refine Cx.intro (by decide) (by simp [Value.category]) (Nat.le_of_ble_eq_true rfl) (fun K o r hk => ?_)
  have o : Y K cX4_takes RX4 3 1 := o
  refine y_aload o dX4_takes_0 rfl ?_
  refine y_get o tgX4_22 dX4_takes_1 ?_
  refine y_aload o dX4_takes_4 rfl ?_
  refine y_iload o dX4_takes_5 rfl ?_
  refine y_callVi o kX4_26 tr_X4 hk (cm_find _ h ex _ _ (hp)) (by decide) rfl rfl (Nat.le_of_ble_eq_true rfl) dX4_takes_6 ?_
  refine y_const o dX4_takes_9 ?_
  refine y_icmp_ne o dX4_takes_10 (fun c10 => ?_) (fun c10 => ?_)
  · skip
    refine y_const o dX4_takes_17 ?_
    refine y_iadd o dX4_takes_18 ?_
    refine y_iload o dX4_takes_19 rfl ?_
    refine y_iload o dX4_takes_20 rfl ?_
    refine y_icmp_eq o dX4_takes_21 (fun c21 => ?_) (fun c21 => ?_)
    · skip
      refine y_const o dX4_takes_33 ?_
      refine y_goto o dX4_takes_34 ?_
      refine y_iadd o dX4_takes_38 ?_
      refine y_const o dX4_takes_39 ?_
      refine y_icmp_gt o dX4_takes_41 (fun c41 => ?_) (fun c41 => ?_)
      · skip
        refine y_const o dX4_takes_48 ?_
        exact x_zret o r dX4_takes_49 (by first | exact Or.inl rfl | exact Or.inr rfl) (by simp only [if_true, if_false, ix, g_takes, g_m1, g_m2, eq_false c10, eq_true c21, eq_true c41] <;> rfl) (by rfl)
      · skip
        refine y_const o dX4_takes_44 ?_
        refine y_goto o dX4_takes_45 ?_
        exact x_zret o r dX4_takes_49 (by first | exact Or.inl rfl | exact Or.inr rfl) (by simp only [if_true, if_false, ix, g_takes, g_m1, g_m2, eq_false c10, eq_true c21, eq_false c41] <;> rfl) (by rfl)
    · skip
      refine y_aload o dX4_takes_24 rfl ?_
      refine y_iload o dX4_takes_25 rfl ?_
      refine y_callVi o kX4_26 tr_X4 hk (cm_find _ h ex _ _ (hp)) (by decide) rfl rfl (Nat.le_of_ble_eq_true rfl) dX4_takes_26 ?_
      refine y_const o dX4_takes_29 ?_
      refine y_icmp_eq o dX4_takes_30 (fun c30 => ?_) (fun c30 => ?_)
      · skip
        refine y_const o dX4_takes_37 ?_
        refine y_iadd o dX4_takes_38 ?_
        refine y_const o dX4_takes_39 ?_
        refine y_icmp_gt o dX4_takes_41 (fun c41 => ?_) (fun c41 => ?_)
        · skip
          refine y_const o dX4_takes_48 ?_
          exact x_zret o r dX4_takes_49 (by first | exact Or.inl rfl | exact Or.inr rfl) (by simp only [if_true, if_false, ix, g_takes, g_m1, g_m2, eq_false c10, eq_false c21, eq_true c30, eq_true c41] <;> rfl) (by rfl)
        · skip
          refine y_const o dX4_takes_44 ?_
          refine y_goto o dX4_takes_45 ?_
          exact x_zret o r dX4_takes_49 (by first | exact Or.inl rfl | exact Or.inr rfl) (by simp only [if_true, if_false, ix, g_takes, g_m1, g_m2, eq_false c10, eq_false c21, eq_true c30, eq_false c41] <;> rfl) (by rfl)
      · skip
        refine y_const o dX4_takes_33 ?_
        refine y_goto o dX4_takes_34 ?_
        refine y_iadd o dX4_takes_38 ?_
        refine y_const o dX4_takes_39 ?_
        refine y_icmp_gt o dX4_takes_41 (fun c41 => ?_) (fun c41 => ?_)
        · skip
          refine y_const o dX4_takes_48 ?_
          exact x_zret o r dX4_takes_49 (by first | exact Or.inl rfl | exact Or.inr rfl) (by simp only [if_true, if_false, ix, g_takes, g_m1, g_m2, eq_false c10, eq_false c21, eq_false c30, eq_true c41] <;> rfl) (by rfl)
        · skip
          refine y_const o dX4_takes_44 ?_
          refine y_goto o dX4_takes_45 ?_
          exact x_zret o r dX4_takes_49 (by first | exact Or.inl rfl | exact Or.inr rfl) (by simp only [if_true, if_false, ix, g_takes, g_m1, g_m2, eq_false c10, eq_false c21, eq_false c30, eq_false c41] <;> rfl) (by rfl)
  · skip
    refine y_const o dX4_takes_13 ?_
    refine y_goto o dX4_takes_14 ?_
    refine y_iadd o dX4_takes_18 ?_
    refine y_iload o dX4_takes_19 rfl ?_
    refine y_iload o dX4_takes_20 rfl ?_
    refine y_icmp_eq o dX4_takes_21 (fun c21 => ?_) (fun c21 => ?_)
    · skip
      refine y_const o dX4_takes_33 ?_
      refine y_goto o dX4_takes_34 ?_
      refine y_iadd o dX4_takes_38 ?_
      refine y_const o dX4_takes_39 ?_
      refine y_icmp_gt o dX4_takes_41 (fun c41 => ?_) (fun c41 => ?_)
      · skip
        refine y_const o dX4_takes_48 ?_
        exact x_zret o r dX4_takes_49 (by first | exact Or.inl rfl | exact Or.inr rfl) (by simp only [if_true, if_false, ix, g_takes, g_m1, g_m2, eq_true c10, eq_true c21, eq_true c41] <;> rfl) (by rfl)
      · skip
        refine y_const o dX4_takes_44 ?_
        refine y_goto o dX4_takes_45 ?_
        exact x_zret o r dX4_takes_49 (by first | exact Or.inl rfl | exact Or.inr rfl) (by simp only [if_true, if_false, ix, g_takes, g_m1, g_m2, eq_true c10, eq_true c21, eq_false c41] <;> rfl) (by rfl)
    · skip
      refine y_aload o dX4_takes_24 rfl ?_
      refine y_iload o dX4_takes_25 rfl ?_
      refine y_callVi o kX4_26 tr_X4 hk (cm_find _ h ex _ _ (hp)) (by decide) rfl rfl (Nat.le_of_ble_eq_true rfl) dX4_takes_26 ?_
      refine y_const o dX4_takes_29 ?_
      refine y_icmp_eq o dX4_takes_30 (fun c30 => ?_) (fun c30 => ?_)
      · skip
        refine y_const o dX4_takes_37 ?_
        refine y_iadd o dX4_takes_38 ?_
        refine y_const o dX4_takes_39 ?_
        refine y_icmp_gt o dX4_takes_41 (fun c41 => ?_) (fun c41 => ?_)
        · skip
          refine y_const o dX4_takes_48 ?_
          exact x_zret o r dX4_takes_49 (by first | exact Or.inl rfl | exact Or.inr rfl) (by simp only [if_true, if_false, ix, g_takes, g_m1, g_m2, eq_true c10, eq_false c21, eq_true c30, eq_true c41] <;> rfl) (by rfl)
        · skip
          refine y_const o dX4_takes_44 ?_
          refine y_goto o dX4_takes_45 ?_
          exact x_zret o r dX4_takes_49 (by first | exact Or.inl rfl | exact Or.inr rfl) (by simp only [if_true, if_false, ix, g_takes, g_m1, g_m2, eq_true c10, eq_false c21, eq_true c30, eq_false c41] <;> rfl) (by rfl)
      · skip
        refine y_const o dX4_takes_33 ?_
        refine y_goto o dX4_takes_34 ?_
        refine y_iadd o dX4_takes_38 ?_
        refine y_const o dX4_takes_39 ?_
        refine y_icmp_gt o dX4_takes_41 (fun c41 => ?_) (fun c41 => ?_)
        · skip
          refine y_const o dX4_takes_48 ?_
          exact x_zret o r dX4_takes_49 (by first | exact Or.inl rfl | exact Or.inr rfl) (by simp only [if_true, if_false, ix, g_takes, g_m1, g_m2, eq_true c10, eq_false c21, eq_false c30, eq_true c41] <;> rfl) (by rfl)
        · skip
          refine y_const o dX4_takes_44 ?_
          refine y_goto o dX4_takes_45 ?_
          exact x_zret o r dX4_takes_49 (by first | exact Or.inl rfl | exact Or.inr rfl) (by simp only [if_true, if_false, ix, g_takes, g_m1, g_m2, eq_true c10, eq_false c21, eq_false c30, eq_false c41] <;> rfl) (by rfl)
set_option maxHeartbeats 4000000 in
set_option maxRecDepth 100000 in
theorem cm_pwrite (dd : ClassId × ClassId × ClassId) (h : Nat → Nat) (ex : va_W) (S : XS) (a : Int32) (v : Int32) (hp : pOk 39 S) : Cx dd yX4_write cX4_write 4 none 1 cG [.ref (h 3), .int a, .int v] h ex S none (f_put S a v) := by
  refine Cx.intro (by decide) (by simp [Value.category]) (Nat.le_of_ble_eq_true rfl) (fun K o r hk => ?_)
  have o : Y K cX4_write RX4 4 1 := o
  refine y_aload o dX4_write_0 rfl ?_
  refine y_iload o dX4_write_1 rfl ?_
  refine y_callVi o kX4_26 tr_X4 hk (cm_find _ h ex _ _ (pOk.mono hp (by decide))) (by decide) rfl rfl (Nat.le_of_ble_eq_true rfl) dX4_write_2 ?_
  refine y_istore o dX4_write_5 (by decide) (Nat.le_of_ble_eq_true rfl) ?_
  refine y_iload o dX4_write_6 rfl ?_
  refine y_const o dX4_write_7 ?_
  refine y_icmp_ne o dX4_write_8 (fun c8 => ?_) (fun c8 => ?_)
  · skip
    refine y_aload o dX4_write_33 rfl ?_
    refine y_getr o tgX4_15 dX4_write_34 ?_
    refine y_iload o dX4_write_37 rfl ?_
    refine y_iload o dX4_write_38 rfl ?_
    refine y_iast o ta_what dX4_write_39 (f_place_in (n := 40) (pOk.mono hp (by decide)) (by decide) c8) ?_
    exact x_vret o r dX4_write_40 (by simp only [if_true, if_false, ix, f_put, eq_false c8] <;> rfl)
  · skip
    refine y_aload o dX4_write_11 rfl ?_
    refine y_get o tgX4_22 dX4_write_12 ?_
    refine y_istore o dX4_write_15 (by decide) (Nat.le_of_ble_eq_true rfl) ?_
    refine y_aload o dX4_write_16 rfl ?_
    refine y_getr o tgX4_11 dX4_write_17 ?_
    refine y_iload o dX4_write_20 rfl ?_
    refine y_iload o dX4_write_21 rfl ?_
    refine y_iast o ta_where dX4_write_22 (pOk_in hp (by decide) (by decide)) ?_
    refine y_aload o dX4_write_23 rfl ?_
    refine y_dup o dX4_write_24 rfl ?_
    refine y_get o tgX4_22 dX4_write_25 ?_
    refine y_const o dX4_write_28 ?_
    refine y_iadd o dX4_write_29 ?_
    refine y_put o tpX4_22 dX4_write_30 ?_
    refine y_aload o dX4_write_33 rfl ?_
    refine y_getr o tgX4_15 dX4_write_34 ?_
    refine y_iload o dX4_write_37 rfl ?_
    refine y_iload o dX4_write_38 rfl ?_
    refine y_iast o ta_what dX4_write_39 (pOk_in hp (by decide) (by decide)) ?_
    exact x_vret o r dX4_write_40 (by simp only [if_true, if_false, ix, f_put, eq_true c8] <;> rfl)
set_option maxHeartbeats 4000000 in
set_option maxRecDepth 100000 in
theorem cm_aput (dd : ClassId × ClassId × ClassId) (h : Nat → Nat) (ex : va_W) (S : XS) (n : Int32) (x : Int32) (hn : vp_in n 1048576) (hm : vp_in (S.1 13) 1048576) : Cx dd yX6_put cX6_put 3 none 0 cG [.ref (h 5), .int n, .int x] h ex S none (g_out S n x) := by
  refine Cx.intro (by decide) (by simp [Value.category]) (Nat.le_of_ble_eq_true rfl) (fun K o r hk => ?_)
  have o : Y K cX6_put RX6 3 0 := o
  refine y_aload o dX6_put_0 rfl ?_
  refine y_getr o tgX6_9 dX6_put_1 ?_
  refine y_aload o dX6_put_4 rfl ?_
  refine y_get o tgX6_19 dX6_put_5 ?_
  refine y_const o dX6_put_8 ?_
  refine y_irem o dX6_put_10 (by decide) ?_
  refine y_iload o dX6_put_11 rfl ?_
  refine y_iast o ta_numbers dX6_put_12 (jrem_in hm (by decide) rfl (by decide) (by decide)) ?_
  refine y_aload o dX6_put_13 rfl ?_
  refine y_getr o tgX6_13 dX6_put_14 ?_
  refine y_aload o dX6_put_17 rfl ?_
  refine y_get o tgX6_19 dX6_put_18 ?_
  refine y_const o dX6_put_21 ?_
  refine y_irem o dX6_put_23 (by decide) ?_
  refine y_iload o dX6_put_24 rfl ?_
  refine y_iast o ta_payloads dX6_put_25 (jrem_in hm (by decide) rfl (by decide) (by decide)) ?_
  refine y_aload o dX6_put_26 rfl ?_
  refine y_dup o dX6_put_27 rfl ?_
  refine y_get o tgX6_19 dX6_put_28 ?_
  refine y_const o dX6_put_31 ?_
  refine y_iadd o dX6_put_32 ?_
  refine y_put o tpX6_19 dX6_put_33 ?_
  refine y_iload o dX6_put_36 rfl ?_
  refine y_aload o dX6_put_37 rfl ?_
  refine y_get o tgX6_23 dX6_put_38 ?_
  refine y_icmp_ge o dX6_put_41 (fun c41 => ?_) (fun c41 => ?_)
  · skip
    refine y_aload o dX6_put_45 rfl ?_
    refine y_getr o tgX6_16 dX6_put_46 ?_
    refine y_iload o dX6_put_49 rfl ?_
    refine y_const o dX6_put_50 ?_
    refine y_irem o dX6_put_52 (by decide) ?_
    refine y_iload o dX6_put_53 rfl ?_
    refine y_iast o ta_akept dX6_put_54 (jrem_in hn (by decide) rfl (by decide) (by decide)) ?_
    refine y_aload o dX6_put_55 rfl ?_
    refine y_iload o dX6_put_56 rfl ?_
    refine y_const o dX6_put_57 ?_
    refine y_iadd o dX6_put_58 ?_
    refine y_put o tpX6_23 dX6_put_59 ?_
    exact x_vret o r dX6_put_62 (by unfold g_out g_far; exact (if_pos c41).symm)
  · skip
    exact x_vret o r dX6_put_44 (by unfold g_out g_far; exact (if_neg c41).symm)
set_option maxHeartbeats 4000000 in
set_option maxRecDepth 100000 in
theorem cm_keeps (dd : ClassId × ClassId × ClassId) (h : Nat → Nat) (ex : va_W) (S : XS) (n : Int32)  : Cx dd yX6_keeps cX6_keeps 2 (some .boolean) 0 cG [.ref (h 5), .int n] h ex S (some (.int (g_keeps S n))) S := by
  refine Cx.intro (by decide) (by simp [Value.category]) (Nat.le_of_ble_eq_true rfl) (fun K o r hk => ?_)
  have o : Y K cX6_keeps RX6 2 0 := o
  refine y_iload o dX6_keeps_0 rfl ?_
  refine y_if_lt o dX6_keeps_1 (fun c1 => ?_) (fun c1 => ?_)
  · skip
    refine y_const o dX6_keeps_27 ?_
    exact x_zret o r dX6_keeps_28 (by first | exact Or.inl rfl | exact Or.inr rfl) (by simp only [if_true, if_false, ix, g_keeps, eq_true c1] <;> rfl) (by rfl)
  · skip
    refine y_iload o dX6_keeps_4 rfl ?_
    refine y_aload o dX6_keeps_5 rfl ?_
    refine y_get o tgX6_23 dX6_keeps_6 ?_
    refine y_icmp_ge o dX6_keeps_9 (fun c9 => ?_) (fun c9 => ?_)
    · skip
      refine y_const o dX6_keeps_27 ?_
      exact x_zret o r dX6_keeps_28 (by first | exact Or.inl rfl | exact Or.inr rfl) (by simp only [if_true, if_false, ix, g_keeps, eq_false c1, eq_true c9] <;> rfl) (by rfl)
    · skip
      refine y_iload o dX6_keeps_12 rfl ?_
      refine y_aload o dX6_keeps_13 rfl ?_
      refine y_get o tgX6_23 dX6_keeps_14 ?_
      refine y_const o dX6_keeps_17 ?_
      refine y_isub o dX6_keeps_19 ?_
      refine y_icmp_lt o dX6_keeps_20 (fun c20 => ?_) (fun c20 => ?_)
      · skip
        refine y_const o dX6_keeps_27 ?_
        exact x_zret o r dX6_keeps_28 (by first | exact Or.inl rfl | exact Or.inr rfl) (by simp only [if_true, if_false, ix, g_keeps, eq_false c1, eq_false c9, eq_true c20] <;> rfl) (by rfl)
      · skip
        refine y_const o dX6_keeps_23 ?_
        refine y_goto o dX6_keeps_24 ?_
        exact x_zret o r dX6_keeps_28 (by first | exact Or.inl rfl | exact Or.inr rfl) (by simp only [if_true, if_false, ix, g_keeps, eq_false c1, eq_false c9, eq_false c20] <;> rfl) (by rfl)
set_option maxHeartbeats 4000000 in
set_option maxRecDepth 100000 in
theorem cm_rcost (dd : ClassId × ClassId × ClassId) (h : Nat → Nat) (ex : va_W) (S : XS)   : Cx dd yX8_cost cX8_cost 1 (some .int) 0 cG [.ref (h 6)] h ex S (some (.int 4)) S := by
  refine Cx.intro (by decide) (by simp [Value.category]) (Nat.le_of_ble_eq_true rfl) (fun K o r hk => ?_)
  have o : Y K cX8_cost RX8 1 0 := o
  refine y_const o dX8_cost_0 ?_
  exact x_iret o r dX8_cost_1 (by rfl) (by rfl)
set_option maxHeartbeats 4000000 in
set_option maxRecDepth 100000 in
theorem cm_ract (dd : ClassId × ClassId × ClassId) (h : Nat → Nat) (ex : va_W) (S : XS)  (hr : repOk S) : Cx dd yX8_act cX8_act 2 none 1 cG [.ref (h 6)] h ex S none (g_rep S) := by
  refine Cx.intro (by decide) (by simp [Value.category]) (Nat.le_of_ble_eq_true rfl) (fun K o r hk => ?_)
  have o : Y K cX8_act RX8 2 1 := o
  refine y_aload o dX8_act_0 rfl ?_
  refine y_getr o tgX8_9 dX8_act_1 ?_
  refine y_getr o tgX8_15 dX8_act_4 ?_
  refine y_astore o dX8_act_7 (by decide) (Nat.le_of_ble_eq_true rfl) ?_
  refine y_aload o dX8_act_8 rfl ?_
  refine y_get o tgX8_21 dX8_act_9 ?_
  refine y_aload o dX8_act_12 rfl ?_
  refine y_getr o tgX8_25 dX8_act_13 ?_
  refine y_const o dX8_act_16 ?_
  refine y_ialdc (j0 := 2) o ta_words dX8_act_17 (by unfold vp_in; decide) (by decide) ?_
  refine y_icmp_ge o dX8_act_18 (fun c18 => ?_) (fun c18 => ?_)
  · skip
    refine y_aload o dX8_act_66 rfl ?_
    refine y_const o dX8_act_67 ?_
    refine y_const o dX8_act_68 ?_
    refine y_callVv o kX8_31 tr_X3 hk (cm_kwrite _ h ex _ _ _ (by unfold vp_in; decide)) (by decide) rfl rfl (Nat.le_of_ble_eq_true rfl) dX8_act_69 ?_
    refine y_aload o dX8_act_72 rfl ?_
    refine y_getr o tgX8_9 dX8_act_73 ?_
    refine y_aload o dX8_act_76 rfl ?_
    refine y_getr o tgX8_9 dX8_act_77 ?_
    refine y_getr o tgX8_35 dX8_act_80 ?_
    refine y_puts o tpX8_39 ⟨_, rfl⟩ (by decide) (by decide) dX8_act_83 ?_
    exact x_vret o r dX8_act_86 (by simp only [if_true, if_false, ix, g_rep, eq_true c18] <;> rfl)
  · skip
    refine y_aload o dX8_act_21 rfl ?_
    refine y_aload o dX8_act_22 rfl ?_
    refine y_getr o tgX8_25 dX8_act_23 ?_
    refine y_const o dX8_act_26 ?_
    refine y_const o dX8_act_28 ?_
    refine y_aload o dX8_act_29 rfl ?_
    refine y_get o tgX8_21 dX8_act_30 ?_
    refine y_imul o dX8_act_33 ?_
    refine y_iadd o dX8_act_34 ?_
    refine y_iald o ta_words dX8_act_35 ((hr (i_nle c18)).1) ?_
    refine y_aload o dX8_act_36 rfl ?_
    refine y_getr o tgX8_25 dX8_act_37 ?_
    refine y_const o dX8_act_40 ?_
    refine y_const o dX8_act_42 ?_
    refine y_aload o dX8_act_43 rfl ?_
    refine y_get o tgX8_21 dX8_act_44 ?_
    refine y_imul o dX8_act_47 ?_
    refine y_iadd o dX8_act_48 ?_
    refine y_const o dX8_act_49 ?_
    refine y_iadd o dX8_act_50 ?_
    refine y_iald o ta_words dX8_act_51 ((hr (i_nle c18)).2.1) ?_
    refine y_callVv o kX8_31 tr_X3 hk (cm_kwrite _ h ex _ _ _ ((hr (i_nle c18)).2.2)) (by decide) rfl rfl (Nat.le_of_ble_eq_true rfl) dX8_act_52 ?_
    refine y_aload o dX8_act_55 rfl ?_
    refine y_dup o dX8_act_56 rfl ?_
    refine y_get o tgX8_21 dX8_act_57 ?_
    refine y_const o dX8_act_60 ?_
    refine y_iadd o dX8_act_61 ?_
    refine y_put o tpX8_21 dX8_act_62 ?_
    exact x_vret o r dX8_act_65 (by simp only [if_true, if_false, ix, g_rep, eq_false c18] <;> rfl)
set_option maxHeartbeats 4000000 in
set_option maxRecDepth 100000 in
theorem cm_idle (dd : ClassId × ClassId × ClassId) (h : Nat → Nat) (ex : va_W) (S : XS)   : Cx dd yX9_isIdle cX9_isIdle 1 (some .boolean) 0 cG [.ref (h 7)] h ex S (some (.int (g_idle S))) S := by
  refine Cx.intro (by decide) (by simp [Value.category]) (Nat.le_of_ble_eq_true rfl) (fun K o r hk => ?_)
  have o : Y K cX9_isIdle RX9 1 0 := o
  refine y_aload o dX9_isIdle_0 rfl ?_
  refine y_getr o tgX9_9 dX9_isIdle_1 ?_
  refine y_getr o tgX9_15 dX9_isIdle_4 ?_
  refine y_getr o tgX9_21 dX9_isIdle_7 ?_
  refine y_const o dX9_isIdle_10 ?_
  refine y_ialdc (j0 := 4) o ta_words dX9_isIdle_11 (by unfold vp_in; decide) (by decide) ?_
  refine y_aload o dX9_isIdle_12 rfl ?_
  refine y_getr o tgX9_9 dX9_isIdle_13 ?_
  refine y_getr o tgX9_15 dX9_isIdle_16 ?_
  refine y_getr o tgX9_21 dX9_isIdle_19 ?_
  refine y_const o dX9_isIdle_22 ?_
  refine y_ialdc (j0 := 3) o ta_words dX9_isIdle_23 (by unfold vp_in; decide) (by decide) ?_
  refine y_icmp_ne o dX9_isIdle_24 (fun c24 => ?_) (fun c24 => ?_)
  · skip
    refine y_const o dX9_isIdle_31 ?_
    exact x_zret o r dX9_isIdle_32 (by first | exact Or.inl rfl | exact Or.inr rfl) (by simp only [if_true, if_false, ix, g_idle, eq_false c24] <;> rfl) (by rfl)
  · skip
    refine y_const o dX9_isIdle_27 ?_
    refine y_goto o dX9_isIdle_28 ?_
    exact x_zret o r dX9_isIdle_32 (by first | exact Or.inl rfl | exact Or.inr rfl) (by simp only [if_true, if_false, ix, g_idle, eq_true c24] <;> rfl) (by rfl)
set_option maxHeartbeats 4000000 in
set_option maxRecDepth 100000 in
theorem cm_acost (dd : ClassId × ClassId × ClassId) (h : Nat → Nat) (ex : va_W) (S : XS)   : Cx dd yX9_cost cX9_cost 1 (some .int) 0 cG [.ref (h 7)] h ex S (some (.int (f_airC S))) S := by
  refine Cx.intro (by decide) (by simp [Value.category]) (Nat.le_of_ble_eq_true rfl) (fun K o r hk => ?_)
  have o : Y K cX9_cost RX9 1 0 := o
  refine y_aload o dX9_cost_0 rfl ?_
  refine y_get o tgX9_27 dX9_cost_1 ?_
  refine y_if_eq o dX9_cost_4 (fun c4 => ?_) (fun c4 => ?_)
  · skip
    refine y_const o dX9_cost_11 ?_
    exact x_iret o r dX9_cost_13 (by simp only [if_true, if_false, ix, f_airC, eq_true c4] <;> rfl) (by rfl)
  · skip
    refine y_const o dX9_cost_7 ?_
    refine y_goto o dX9_cost_8 ?_
    exact x_iret o r dX9_cost_13 (by simp only [if_true, if_false, ix, f_airC, eq_false c4] <;> rfl) (by rfl)
set_option maxHeartbeats 4000000 in
set_option maxRecDepth 100000 in
theorem cm_aact (dd : ClassId × ClassId × ClassId) (h : Nat → Nat) (ex : va_W) (S : XS)  (ha : airOk S) : Cx dd yX9_act cX9_act 2 none 1 cG [.ref (h 7)] h ex S none (g_air S) := by
  refine Cx.intro (by decide) (by simp [Value.category]) (Nat.le_of_ble_eq_true rfl) (fun K o r hk => ?_)
  have o : Y K cX9_act RX9 2 1 := o
  have j66 : ∀ (T : XS) (v : Value), g_tog T = g_air S → Vw K 2 (g_W (kd K).1 cG h T ++ ex) 0 0 [.ref (h 7)] 66 [] := by
    intro T v hT
    refine y_aload o dX9_act_66 rfl ?_
    refine y_aload o dX9_act_67 rfl ?_
    refine y_get o tgX9_27 dX9_act_68 ?_
    refine y_if_ne o dX9_act_71 (fun c71 => ?_) (fun c71 => ?_)
    · skip
      refine y_const o dX9_act_78 ?_
      refine y_putz o tpX9_27 (by first | exact Or.inl rfl | exact Or.inr rfl) dX9_act_79 ?_
      exact x_vret o r dX9_act_82 (by rw [← hT]; simp only [if_true, if_false, g_tog, eq_false c71] <;> rfl)
    · skip
      refine y_const o dX9_act_74 ?_
      refine y_goto o dX9_act_75 ?_
      refine y_putz o tpX9_27 (by first | exact Or.inl rfl | exact Or.inr rfl) dX9_act_79 ?_
      exact x_vret o r dX9_act_82 (by rw [← hT]; simp only [if_true, if_false, g_tog, eq_true c71] <;> rfl)
  refine y_aload o dX9_act_0 rfl ?_
  refine y_getr o tgX9_9 dX9_act_1 ?_
  refine y_getr o tgX9_15 dX9_act_4 ?_
  refine y_getr o tgX9_21 dX9_act_7 ?_
  refine y_const o dX9_act_10 ?_
  refine y_ialdc (j0 := 4) o ta_words dX9_act_11 (by unfold vp_in; decide) (by decide) ?_
  refine y_istore o dX9_act_12 (by decide) (Nat.le_of_ble_eq_true rfl) ?_
  refine y_aload o dX9_act_13 rfl ?_
  refine y_get o tgX9_27 dX9_act_14 ?_
  refine y_if_eq o dX9_act_17 (fun c17 => ?_) (fun c17 => ?_)
  · skip
    refine y_aload o dX9_act_37 rfl ?_
    refine y_getr o tgX9_9 dX9_act_38 ?_
    refine y_getr o tgX9_35 dX9_act_41 ?_
    refine y_iload o dX9_act_44 rfl ?_
    refine y_aload o dX9_act_45 rfl ?_
    refine y_getr o tgX9_9 dX9_act_46 ?_
    refine y_getr o tgX9_15 dX9_act_49 ?_
    refine y_getr o tgX9_21 dX9_act_52 ?_
    refine y_const o dX9_act_55 ?_
    refine y_iload o dX9_act_57 rfl ?_
    refine y_const o dX9_act_58 ?_
    refine y_irem o dX9_act_60 (by decide) ?_
    refine y_iadd o dX9_act_61 ?_
    refine y_iald o ta_words dX9_act_62 (pl_in ha.1) ?_
    refine y_callVv o kX9_39 tr_X6 hk (cm_aput _ h ex _ _ _ (ha.1) (ha.2)) (by decide) rfl rfl (Nat.le_of_ble_eq_true rfl) dX9_act_63 ?_
    refine y_take 1 rfl ?_
    exact j66 _ .null (by simp only [if_true, if_false, ix, g_air, g_air0, eq_true c17] <;> rfl)
  · skip
    refine y_aload o dX9_act_20 rfl ?_
    refine y_getr o tgX9_9 dX9_act_21 ?_
    refine y_getr o tgX9_15 dX9_act_24 ?_
    refine y_const o dX9_act_27 ?_
    refine y_iload o dX9_act_28 rfl ?_
    refine y_const o dX9_act_29 ?_
    refine y_iadd o dX9_act_30 ?_
    refine y_callVv o kX9_31 tr_X3 hk (cm_kwrite _ h ex _ _ _ (by unfold vp_in; decide)) (by decide) rfl rfl (Nat.le_of_ble_eq_true rfl) dX9_act_31 ?_
    refine y_goto o dX9_act_34 ?_
    refine y_take 1 rfl ?_
    exact j66 _ .null (by simp only [if_true, if_false, ix, g_air, g_air0, eq_false c17] <;> rfl)
set_option maxHeartbeats 4000000 in
set_option maxRecDepth 100000 in
theorem cm_rbegin (dd : ClassId × ClassId × ClassId) (h : Nat → Nat) (ex : va_W) (S : XS)   : Cx dd yX10_begin cX10_begin 1 none 0 cG [.ref (h 8)] h ex S none (xs (xs S 9 0) 10 (-1)) := by
  refine Cx.intro (by decide) (by simp [Value.category]) (Nat.le_of_ble_eq_true rfl) (fun K o r hk => ?_)
  have o : Y K cX10_begin RX10 1 0 := o
  refine y_aload o dX10_begin_0 rfl ?_
  refine y_const o dX10_begin_1 ?_
  refine y_put o tpX10_9 dX10_begin_2 ?_
  refine y_aload o dX10_begin_5 rfl ?_
  refine y_const o dX10_begin_6 ?_
  refine y_put o tpX10_15 dX10_begin_7 ?_
  exact x_vret o r dX10_begin_10 (by rfl)
set_option maxHeartbeats 4000000 in
set_option maxRecDepth 100000 in
theorem cm_rcounts (dd : ClassId × ClassId × ClassId) (h : Nat → Nat) (ex : va_W) (S : XS)   : Cx dd yX10_counts cX10_counts 1 (some .boolean) 0 cG [.ref (h 8)] h ex S (some (.int 1)) S := by
  refine Cx.intro (by decide) (by simp [Value.category]) (Nat.le_of_ble_eq_true rfl) (fun K o r hk => ?_)
  have o : Y K cX10_counts RX10 1 0 := o
  refine y_const o dX10_counts_0 ?_
  exact x_zret o r dX10_counts_1 (by first | exact Or.inl rfl | exact Or.inr rfl) (by rfl) (by rfl)
set_option maxHeartbeats 4000000 in
set_option maxRecDepth 100000 in
theorem cm_scounts6 (dd : ClassId × ClassId × ClassId) (h : Nat → Nat) (ex : va_W) (S : XS)   : Cx dd yX7_counts cX7_counts 1 (some .boolean) 0 cG [.ref (h 6)] h ex S (some (.int 0)) S := by
  refine Cx.intro (by decide) (by simp [Value.category]) (Nat.le_of_ble_eq_true rfl) (fun K o r hk => ?_)
  have o : Y K cX7_counts RX7 1 0 := o
  refine y_const o dX7_counts_0 ?_
  exact x_zret o r dX7_counts_1 (by first | exact Or.inl rfl | exact Or.inr rfl) (by rfl) (by rfl)
set_option maxHeartbeats 4000000 in
set_option maxRecDepth 100000 in
theorem cm_scounts7 (dd : ClassId × ClassId × ClassId) (h : Nat → Nat) (ex : va_W) (S : XS)   : Cx dd yX7_counts cX7_counts 1 (some .boolean) 0 cG [.ref (h 7)] h ex S (some (.int 0)) S := by
  refine Cx.intro (by decide) (by simp [Value.category]) (Nat.le_of_ble_eq_true rfl) (fun K o r hk => ?_)
  have o : Y K cX7_counts RX7 1 0 := o
  refine y_const o dX7_counts_0 ?_
  exact x_zret o r dX7_counts_1 (by first | exact Or.inl rfl | exact Or.inr rfl) (by rfl) (by rfl)
set_option maxHeartbeats 4000000 in
set_option maxRecDepth 100000 in
theorem cm_ccounts (dd : ClassId × ClassId × ClassId) (h : Nat → Nat) (ex : va_W) (S : XS)   : Cx dd yX11_counts cX11_counts 1 (some .boolean) 0 cG [.ref (h 9)] h ex S (some (.int (if S.2 0 2 = 0 then 1 else 0))) S := by
  refine Cx.intro (by decide) (by simp [Value.category]) (Nat.le_of_ble_eq_true rfl) (fun K o r hk => ?_)
  have o : Y K cX11_counts RX11 1 0 := o
  refine y_aload o dX11_counts_0 rfl ?_
  refine y_getr o tgX11_9 dX11_counts_1 ?_
  refine y_getr o tgX11_29 dX11_counts_4 ?_
  refine y_getr o tgX11_33 dX11_counts_7 ?_
  refine y_const o dX11_counts_10 ?_
  refine y_ialdc (j0 := 2) o ta_words dX11_counts_11 (by unfold vp_in; decide) (by decide) ?_
  refine y_if_ne o dX11_counts_12 (fun c12 => ?_) (fun c12 => ?_)
  · skip
    refine y_const o dX11_counts_19 ?_
    exact x_zret o r dX11_counts_20 (by first | exact Or.inl rfl | exact Or.inr rfl) (by simp only [if_true, if_false, eq_false c12]) (by rfl)
  · skip
    refine y_const o dX11_counts_15 ?_
    refine y_goto o dX11_counts_16 ?_
    exact x_zret o r dX11_counts_20 (by first | exact Or.inl rfl | exact Or.inr rfl) (by simp only [if_true, if_false, eq_true c12]) (by rfl)
set_option maxHeartbeats 4000000 in
set_option maxRecDepth 100000 in
theorem cm_ccost (dd : ClassId × ClassId × ClassId) (h : Nat → Nat) (ex : va_W) (S : XS)   : Cx dd yX11_cost cX11_cost 1 (some .int) 0 cG [.ref (h 9)] h ex S (some (.int 4)) S := by
  refine Cx.intro (by decide) (by simp [Value.category]) (Nat.le_of_ble_eq_true rfl) (fun K o r hk => ?_)
  have o : Y K cX11_cost RX11 1 0 := o
  refine y_const o dX11_cost_0 ?_
  exact x_iret o r dX11_cost_1 (by rfl) (by rfl)
set_option maxHeartbeats 4000000 in
set_option maxRecDepth 100000 in
theorem cm_rput (dd : ClassId × ClassId × ClassId) (h : Nat → Nat) (ex : va_W) (S : XS) (a : Int32) (v : Int32) (hp : pOk 38 S) : Cx dd yX10_put cX10_put 3 none 2 cG [.ref (h 8), .int a, .int v] h ex S none (g_store S a v) := by
  refine Cx.intro (by decide) (by simp [Value.category]) (Nat.le_of_ble_eq_true rfl) (fun K o r hk => ?_)
  have o : Y K cX10_put RX10 3 2 := o
  refine y_aload o dX10_put_0 rfl ?_
  refine y_getr o tgX10_18 dX10_put_1 ?_
  refine y_getr o tgX10_79 dX10_put_4 ?_
  refine y_iload o dX10_put_7 rfl ?_
  refine y_iload o dX10_put_8 rfl ?_
  refine y_callVi o kX10_112 tr_X4 hk (cm_takes _ h ex _ _ _ (pOk.mono hp (by decide))) (by decide) rfl rfl (Nat.le_of_ble_eq_true rfl) dX10_put_9 ?_
  refine y_if_eq o dX10_put_12 (fun c12 => ?_) (fun c12 => ?_)
  · skip
    exact x_vret o r dX10_put_27 (by simp only [if_true, if_false, ix, g_store, eq_true c12] <;> rfl)
  · skip
    refine y_aload o dX10_put_15 rfl ?_
    refine y_getr o tgX10_18 dX10_put_16 ?_
    refine y_getr o tgX10_79 dX10_put_19 ?_
    refine y_iload o dX10_put_22 rfl ?_
    refine y_iload o dX10_put_23 rfl ?_
    refine y_callVv o kX10_116 tr_X4 hk (cm_pwrite _ h ex _ _ _ (pOk.mono hp (by decide))) (by decide) rfl rfl (Nat.le_of_ble_eq_true rfl) dX10_put_24 ?_
    exact x_vret o r dX10_put_27 (by simp only [if_true, if_false, ix, g_store, eq_false c12] <;> rfl)
set_option maxHeartbeats 4000000 in
set_option maxRecDepth 100000 in
theorem cm_push (dd : ClassId × ClassId × ClassId) (h : Nat → Nat) (ex : va_W) (S : XS) (a : Int32) (v : Int32) (ha : vp_in a 164) (hb : vp_in (a + 1) 164) (hp : pOk 38 S) : Cx dd yX10_push cX10_push 7 none 2 cG [.ref (h 8), .int a, .int v] h ex S none (g_push S a v) := by
  refine Cx.intro (by decide) (by simp [Value.category]) (Nat.le_of_ble_eq_true rfl) (fun K o r hk => ?_)
  have o : Y K cX10_push RX10 7 2 := o
  refine y_aload o dX10_push_0 rfl ?_
  refine y_getr o tgX10_18 dX10_push_1 ?_
  refine y_getr o tgX10_79 dX10_push_4 ?_
  refine y_astore o dX10_push_7 (by decide) (Nat.le_of_ble_eq_true rfl) ?_
  refine y_aload o dX10_push_8 rfl ?_
  refine y_iload o dX10_push_9 rfl ?_
  refine y_const o dX10_push_10 ?_
  refine y_iadd o dX10_push_11 ?_
  refine y_callVi o kX10_83 tr_X4 hk (cm_read _ h ex _ _ (hb) (pOk.mono hp (by decide))) (by decide) rfl rfl (Nat.le_of_ble_eq_true rfl) dX10_push_12 ?_
  refine y_istore o dX10_push_15 (by decide) (Nat.le_of_ble_eq_true rfl) ?_
  refine y_iload o dX10_push_17 rfl ?_
  refine y_const o dX10_push_18 ?_
  refine y_iadd o dX10_push_19 ?_
  refine y_aload o dX10_push_20 rfl ?_
  refine y_iload o dX10_push_21 rfl ?_
  refine y_callVi o kX10_83 tr_X4 hk (cm_read _ h ex _ _ (ha) (pOk.mono hp (by decide))) (by decide) rfl rfl (Nat.le_of_ble_eq_true rfl) dX10_push_22 ?_
  refine y_iload o dX10_push_25 rfl ?_
  refine y_iadd o dX10_push_27 ?_
  refine y_const o dX10_push_28 ?_
  refine y_irem o dX10_push_29 (by decide) ?_
  refine y_iadd o dX10_push_30 ?_
  refine y_istore o dX10_push_31 (by decide) (Nat.le_of_ble_eq_true rfl) ?_
  refine y_iload o dX10_push_33 rfl ?_
  refine y_const o dX10_push_35 ?_
  refine y_icmp_ge o dX10_push_36 (fun c36 => ?_) (fun c36 => ?_)
  · skip
    refine y_const o dX10_push_55 ?_
    refine y_istore o dX10_push_56 (by decide) (Nat.le_of_ble_eq_true rfl) ?_
    refine y_iload o dX10_push_58 rfl ?_
    refine y_if_eq o dX10_push_60 (fun cc => ?_) (fun cc => absurd cc (by decide))
    refine y_aload o dX10_push_81 rfl ?_
    refine y_getr o tgX10_18 dX10_push_82 ?_
    refine y_getr o tgX10_54 dX10_push_85 ?_
    refine y_const o dX10_push_88 ?_
    refine y_iload o dX10_push_90 rfl ?_
    refine y_if_eq o dX10_push_92 (fun cc => ?_) (fun cc => absurd cc (by decide))
    refine y_const o dX10_push_99 ?_
    refine y_iastc (j0 := 7) o ta_registers dX10_push_100 (by unfold vp_in; decide) (by decide) ?_
    exact x_vret o r dX10_push_101 (by simp only [if_true, if_false, ix, g_push, g_push2, eq_true c36] <;> rfl)
  · skip
    refine y_aload o dX10_push_39 rfl ?_
    refine y_iload o dX10_push_40 rfl ?_
    refine y_iload o dX10_push_42 rfl ?_
    refine y_const o dX10_push_43 ?_
    refine y_iadd o dX10_push_44 ?_
    refine y_callVi o kX10_112 tr_X4 hk (cm_takes _ h ex _ _ _ (pOk.mono hp (by decide))) (by decide) rfl rfl (Nat.le_of_ble_eq_true rfl) dX10_push_45 ?_
    refine y_if_eq o dX10_push_48 (fun c48 => ?_) (fun c48 => ?_)
    · skip
      refine y_const o dX10_push_55 ?_
      refine y_istore o dX10_push_56 (by decide) (Nat.le_of_ble_eq_true rfl) ?_
      refine y_iload o dX10_push_58 rfl ?_
      refine y_if_eq o dX10_push_60 (fun cc => ?_) (fun cc => absurd cc (by decide))
      refine y_aload o dX10_push_81 rfl ?_
      refine y_getr o tgX10_18 dX10_push_82 ?_
      refine y_getr o tgX10_54 dX10_push_85 ?_
      refine y_const o dX10_push_88 ?_
      refine y_iload o dX10_push_90 rfl ?_
      refine y_if_eq o dX10_push_92 (fun cc => ?_) (fun cc => absurd cc (by decide))
      refine y_const o dX10_push_99 ?_
      refine y_iastc (j0 := 7) o ta_registers dX10_push_100 (by unfold vp_in; decide) (by decide) ?_
      exact x_vret o r dX10_push_101 (by simp only [if_true, if_false, ix, g_push, g_push2, eq_false c36, eq_true c48] <;> rfl)
    · skip
      refine y_const o dX10_push_51 ?_
      refine y_goto o dX10_push_52 ?_
      refine y_istore o dX10_push_56 (by decide) (Nat.le_of_ble_eq_true rfl) ?_
      refine y_iload o dX10_push_58 rfl ?_
      refine y_if_eq o dX10_push_60 (fun cc => absurd cc (by decide)) (fun cc => ?_)
      refine y_aload o dX10_push_63 rfl ?_
      refine y_iload o dX10_push_64 rfl ?_
      refine y_iload o dX10_push_66 rfl ?_
      refine y_callVv o kX10_116 tr_X4 hk (cm_pwrite _ h ex _ _ _ (pOk.mono (n := 38) hp (by decide))) (by decide) rfl rfl (Nat.le_of_ble_eq_true rfl) dX10_push_67 ?_
      refine y_aload o dX10_push_70 rfl ?_
      refine y_iload o dX10_push_71 rfl ?_
      refine y_const o dX10_push_72 ?_
      refine y_iadd o dX10_push_73 ?_
      refine y_iload o dX10_push_74 rfl ?_
      refine y_const o dX10_push_76 ?_
      refine y_iadd o dX10_push_77 ?_
      refine y_callVv o kX10_116 tr_X4 hk (cm_pwrite _ h ex _ _ _ (pOk_put (n := 38) hp)) (by decide) rfl rfl (Nat.le_of_ble_eq_true rfl) dX10_push_78 ?_
      refine y_aload o dX10_push_81 rfl ?_
      refine y_getr o tgX10_18 dX10_push_82 ?_
      refine y_getr o tgX10_54 dX10_push_85 ?_
      refine y_const o dX10_push_88 ?_
      refine y_iload o dX10_push_90 rfl ?_
      refine y_if_eq o dX10_push_92 (fun cc => absurd cc (by decide)) (fun cc => ?_)
      refine y_const o dX10_push_95 ?_
      refine y_goto o dX10_push_96 ?_
      refine y_iastc (j0 := 7) o ta_registers dX10_push_100 (by unfold vp_in; decide) (by decide) ?_
      exact x_vret o r dX10_push_101 (by simp only [if_true, if_false, ix, g_push, g_push2, eq_false c36, eq_false c48] <;> rfl)
set_option maxHeartbeats 4000000 in
set_option maxRecDepth 100000 in
theorem cm_pop (dd : ClassId × ClassId × ClassId) (h : Nat → Nat) (ex : va_W) (S : XS) (a : Int32) (r_ : Int32) (ha : vp_in a 164) (hb : vp_in (a + 1) 164) (hr : vp_in r_ 8) (hf : vp_in (a + 2 + f_see S a) 164) (hp : pOk 38 S) : Cx dd yX10_pop cX10_pop 7 none 2 cG [.ref (h 8), .int a, .int r_] h ex S none (g_pop S a r_) := by
  refine Cx.intro (by decide) (by simp [Value.category]) (Nat.le_of_ble_eq_true rfl) (fun K o r hk => ?_)
  have o : Y K cX10_pop RX10 7 2 := o
  refine y_aload o dX10_pop_0 rfl ?_
  refine y_getr o tgX10_18 dX10_pop_1 ?_
  refine y_getr o tgX10_79 dX10_pop_4 ?_
  refine y_astore o dX10_pop_7 (by decide) (Nat.le_of_ble_eq_true rfl) ?_
  refine y_aload o dX10_pop_8 rfl ?_
  refine y_iload o dX10_pop_9 rfl ?_
  refine y_const o dX10_pop_10 ?_
  refine y_iadd o dX10_pop_11 ?_
  refine y_callVi o kX10_83 tr_X4 hk (cm_read _ h ex _ _ (hb) (pOk.mono hp (by decide))) (by decide) rfl rfl (Nat.le_of_ble_eq_true rfl) dX10_pop_12 ?_
  refine y_istore o dX10_pop_15 (by decide) (Nat.le_of_ble_eq_true rfl) ?_
  refine y_aload o dX10_pop_17 rfl ?_
  refine y_iload o dX10_pop_18 rfl ?_
  refine y_callVi o kX10_83 tr_X4 hk (cm_read _ h ex _ _ (ha) (pOk.mono hp (by decide))) (by decide) rfl rfl (Nat.le_of_ble_eq_true rfl) dX10_pop_19 ?_
  refine y_istore o dX10_pop_22 (by decide) (Nat.le_of_ble_eq_true rfl) ?_
  refine y_iload o dX10_pop_24 rfl ?_
  refine y_if_le o dX10_pop_26 (fun c26 => ?_) (fun c26 => ?_)
  · skip
    refine y_const o dX10_pop_44 ?_
    refine y_istore o dX10_pop_45 (by decide) (Nat.le_of_ble_eq_true rfl) ?_
    refine y_iload o dX10_pop_47 rfl ?_
    refine y_if_ne o dX10_pop_49 (fun cc => absurd cc (by decide)) (fun cc => ?_)
    refine y_iload o dX10_pop_52 rfl ?_
    refine y_if_ne o dX10_pop_54 (fun c54 => ?_) (fun c54 => ?_)
    · skip
      refine y_iload o dX10_pop_85 rfl ?_
      refine y_if_eq o dX10_pop_87 (fun cc => ?_) (fun cc => absurd cc (by decide))
      refine y_aload o dX10_pop_112 rfl ?_
      refine y_getr o tgX10_18 dX10_pop_113 ?_
      refine y_getr o tgX10_54 dX10_pop_116 ?_
      refine y_const o dX10_pop_119 ?_
      refine y_iload o dX10_pop_121 rfl ?_
      refine y_if_eq o dX10_pop_123 (fun cc => ?_) (fun cc => absurd cc (by decide))
      refine y_const o dX10_pop_130 ?_
      refine y_iastc (j0 := 7) o ta_registers dX10_pop_131 (by unfold vp_in; decide) (by decide) ?_
      exact x_vret o r dX10_pop_132 (by simp only [if_true, if_false, ix, g_pop, g_pop1, g_pop0, f_pop2, eq_true c26, eq_false c54] <;> rfl)
    · skip
      refine y_aload o dX10_pop_57 rfl ?_
      refine y_getr o tgX10_18 dX10_pop_58 ?_
      refine y_getr o tgX10_54 dX10_pop_61 ?_
      refine y_iload o dX10_pop_64 rfl ?_
      refine y_iload o dX10_pop_65 rfl ?_
      refine y_if_eq o dX10_pop_67 (fun cc => ?_) (fun cc => absurd cc (by decide))
      refine y_const o dX10_pop_83 ?_
      refine y_iast o ta_registers dX10_pop_84 (hr) ?_
      refine y_iload o dX10_pop_85 rfl ?_
      refine y_if_eq o dX10_pop_87 (fun cc => ?_) (fun cc => absurd cc (by decide))
      refine y_aload o dX10_pop_112 rfl ?_
      refine y_getr o tgX10_18 dX10_pop_113 ?_
      refine y_getr o tgX10_54 dX10_pop_116 ?_
      refine y_const o dX10_pop_119 ?_
      refine y_iload o dX10_pop_121 rfl ?_
      refine y_if_eq o dX10_pop_123 (fun cc => ?_) (fun cc => absurd cc (by decide))
      refine y_const o dX10_pop_130 ?_
      refine y_iastc (j0 := 7) o ta_registers dX10_pop_131 (by unfold vp_in; decide) (by decide) ?_
      exact x_vret o r dX10_pop_132 (by simp only [if_true, if_false, ix, g_pop, g_pop1, g_pop0, f_pop2, eq_true c26, eq_true c54] <;> rfl)
  · skip
    refine y_aload o dX10_pop_29 rfl ?_
    refine y_iload o dX10_pop_30 rfl ?_
    refine y_iload o dX10_pop_31 rfl ?_
    refine y_const o dX10_pop_32 ?_
    refine y_iadd o dX10_pop_33 ?_
    refine y_callVi o kX10_112 tr_X4 hk (cm_takes _ h ex _ _ _ (pOk.mono hp (by decide))) (by decide) rfl rfl (Nat.le_of_ble_eq_true rfl) dX10_pop_34 ?_
    refine y_if_eq o dX10_pop_37 (fun c37 => ?_) (fun c37 => ?_)
    · skip
      refine y_const o dX10_pop_44 ?_
      refine y_istore o dX10_pop_45 (by decide) (Nat.le_of_ble_eq_true rfl) ?_
      refine y_iload o dX10_pop_47 rfl ?_
      refine y_if_ne o dX10_pop_49 (fun cc => absurd cc (by decide)) (fun cc => ?_)
      refine y_iload o dX10_pop_52 rfl ?_
      refine y_if_ne o dX10_pop_54 (fun c54 => ?_) (fun c54 => ?_)
      · skip
        refine y_iload o dX10_pop_85 rfl ?_
        refine y_if_eq o dX10_pop_87 (fun cc => ?_) (fun cc => absurd cc (by decide))
        refine y_aload o dX10_pop_112 rfl ?_
        refine y_getr o tgX10_18 dX10_pop_113 ?_
        refine y_getr o tgX10_54 dX10_pop_116 ?_
        refine y_const o dX10_pop_119 ?_
        refine y_iload o dX10_pop_121 rfl ?_
        refine y_if_eq o dX10_pop_123 (fun cc => ?_) (fun cc => absurd cc (by decide))
        refine y_const o dX10_pop_130 ?_
        refine y_iastc (j0 := 7) o ta_registers dX10_pop_131 (by unfold vp_in; decide) (by decide) ?_
        exact x_vret o r dX10_pop_132 (by simp only [if_true, if_false, ix, g_pop, g_pop1, g_pop0, f_pop2, eq_false c26, eq_true c37, eq_false c54] <;> rfl)
      · skip
        refine y_aload o dX10_pop_57 rfl ?_
        refine y_getr o tgX10_18 dX10_pop_58 ?_
        refine y_getr o tgX10_54 dX10_pop_61 ?_
        refine y_iload o dX10_pop_64 rfl ?_
        refine y_iload o dX10_pop_65 rfl ?_
        refine y_if_eq o dX10_pop_67 (fun cc => ?_) (fun cc => absurd cc (by decide))
        refine y_const o dX10_pop_83 ?_
        refine y_iast o ta_registers dX10_pop_84 (hr) ?_
        refine y_iload o dX10_pop_85 rfl ?_
        refine y_if_eq o dX10_pop_87 (fun cc => ?_) (fun cc => absurd cc (by decide))
        refine y_aload o dX10_pop_112 rfl ?_
        refine y_getr o tgX10_18 dX10_pop_113 ?_
        refine y_getr o tgX10_54 dX10_pop_116 ?_
        refine y_const o dX10_pop_119 ?_
        refine y_iload o dX10_pop_121 rfl ?_
        refine y_if_eq o dX10_pop_123 (fun cc => ?_) (fun cc => absurd cc (by decide))
        refine y_const o dX10_pop_130 ?_
        refine y_iastc (j0 := 7) o ta_registers dX10_pop_131 (by unfold vp_in; decide) (by decide) ?_
        exact x_vret o r dX10_pop_132 (by simp only [if_true, if_false, ix, g_pop, g_pop1, g_pop0, f_pop2, eq_false c26, eq_true c37, eq_true c54] <;> rfl)
    · skip
      refine y_const o dX10_pop_40 ?_
      refine y_goto o dX10_pop_41 ?_
      refine y_istore o dX10_pop_45 (by decide) (Nat.le_of_ble_eq_true rfl) ?_
      refine y_iload o dX10_pop_47 rfl ?_
      refine y_if_ne o dX10_pop_49 (fun cc => ?_) (fun cc => absurd cc (by decide))
      refine y_aload o dX10_pop_57 rfl ?_
      refine y_getr o tgX10_18 dX10_pop_58 ?_
      refine y_getr o tgX10_54 dX10_pop_61 ?_
      refine y_iload o dX10_pop_64 rfl ?_
      refine y_iload o dX10_pop_65 rfl ?_
      refine y_if_eq o dX10_pop_67 (fun cc => absurd cc (by decide)) (fun cc => ?_)
      refine y_aload o dX10_pop_70 rfl ?_
      refine y_iload o dX10_pop_71 rfl ?_
      refine y_const o dX10_pop_72 ?_
      refine y_iadd o dX10_pop_73 ?_
      refine y_iload o dX10_pop_74 rfl ?_
      refine y_iadd o dX10_pop_76 ?_
      refine y_callVi o kX10_83 tr_X4 hk (cm_read _ h ex _ _ (hf) (pOk.mono hp (by decide))) (by decide) rfl rfl (Nat.le_of_ble_eq_true rfl) dX10_pop_77 ?_
      refine y_goto o dX10_pop_80 ?_
      refine y_iast o ta_registers dX10_pop_84 (hr) ?_
      refine y_iload o dX10_pop_85 rfl ?_
      refine y_if_eq o dX10_pop_87 (fun cc => absurd cc (by decide)) (fun cc => ?_)
      refine y_aload o dX10_pop_90 rfl ?_
      refine y_iload o dX10_pop_91 rfl ?_
      refine y_iload o dX10_pop_92 rfl ?_
      refine y_const o dX10_pop_94 ?_
      refine y_iadd o dX10_pop_95 ?_
      refine y_const o dX10_pop_96 ?_
      refine y_irem o dX10_pop_97 (by decide) ?_
      refine y_callVv o kX10_116 tr_X4 hk (cm_pwrite _ h ex _ _ _ (pOk.mono (n := 38) hp (by decide))) (by decide) rfl rfl (Nat.le_of_ble_eq_true rfl) dX10_pop_98 ?_
      refine y_aload o dX10_pop_101 rfl ?_
      refine y_iload o dX10_pop_102 rfl ?_
      refine y_const o dX10_pop_103 ?_
      refine y_iadd o dX10_pop_104 ?_
      refine y_iload o dX10_pop_105 rfl ?_
      refine y_const o dX10_pop_107 ?_
      refine y_isub o dX10_pop_108 ?_
      refine y_callVv o kX10_116 tr_X4 hk (cm_pwrite _ h ex _ _ _ (pOk_put (n := 38) hp)) (by decide) rfl rfl (Nat.le_of_ble_eq_true rfl) dX10_pop_109 ?_
      refine y_aload o dX10_pop_112 rfl ?_
      refine y_getr o tgX10_18 dX10_pop_113 ?_
      refine y_getr o tgX10_54 dX10_pop_116 ?_
      refine y_const o dX10_pop_119 ?_
      refine y_iload o dX10_pop_121 rfl ?_
      refine y_if_eq o dX10_pop_123 (fun cc => absurd cc (by decide)) (fun cc => ?_)
      refine y_const o dX10_pop_126 ?_
      refine y_goto o dX10_pop_127 ?_
      refine y_iastc (j0 := 7) o ta_registers dX10_pop_131 (by unfold vp_in; decide) (by decide) ?_
      exact x_vret o r dX10_pop_132 (by simp only [if_true, if_false, ix, g_pop, g_pop1, g_pop0, f_pop2, eq_false c26, eq_false c37] <;> rfl)
set_option maxHeartbeats 4000000 in
set_option maxRecDepth 100000 in
theorem cm_send (dd : ClassId × ClassId × ClassId) (h : Nat → Nat) (ex : va_W) (S : XS) (v : Int32) (hp : pOk 38 S) : Cx dd yX10_send cX10_send 6 none 2 cG [.ref (h 8), .int v] h ex S none (g_send S v) := by
  refine Cx.intro (by decide) (by simp [Value.category]) (Nat.le_of_ble_eq_true rfl) (fun K o r hk => ?_)
  have o : Y K cX10_send RX10 6 2 := o
  refine y_aload o dX10_send_0 rfl ?_
  refine y_getr o tgX10_18 dX10_send_1 ?_
  refine y_getr o tgX10_79 dX10_send_4 ?_
  refine y_astore o dX10_send_7 (by decide) (Nat.le_of_ble_eq_true rfl) ?_
  refine y_aload o dX10_send_8 rfl ?_
  refine y_const o dX10_send_9 ?_
  refine y_callVi o kX10_83 tr_X4 hk (cm_read _ h ex _ _ (by unfold vp_in; decide) (pOk.mono hp (by decide))) (by decide) rfl rfl (Nat.le_of_ble_eq_true rfl) dX10_send_10 ?_
  refine y_istore o dX10_send_13 (by decide) (Nat.le_of_ble_eq_true rfl) ?_
  refine y_const o dX10_send_14 ?_
  refine y_iload o dX10_send_16 rfl ?_
  refine y_const o dX10_send_17 ?_
  refine y_irem o dX10_send_19 (by decide) ?_
  refine y_iadd o dX10_send_20 ?_
  refine y_istore o dX10_send_21 (by decide) (Nat.le_of_ble_eq_true rfl) ?_
  refine y_iload o dX10_send_23 rfl ?_
  refine y_aload o dX10_send_24 rfl ?_
  refine y_getr o tgX10_18 dX10_send_25 ?_
  refine y_getr o tgX10_28 dX10_send_28 ?_
  refine y_getr o tgX10_32 dX10_send_31 ?_
  refine y_const o dX10_send_34 ?_
  refine y_ialdc (j0 := 4) o ta_words dX10_send_35 (by unfold vp_in; decide) (by decide) ?_
  refine y_isub o dX10_send_36 ?_
  refine y_const o dX10_send_37 ?_
  refine y_icmp_ge o dX10_send_39 (fun c39 => ?_) (fun c39 => ?_)
  · skip
    refine y_const o dX10_send_56 ?_
    refine y_istore o dX10_send_57 (by decide) (Nat.le_of_ble_eq_true rfl) ?_
    refine y_iload o dX10_send_59 rfl ?_
    refine y_if_eq o dX10_send_61 (fun cc => ?_) (fun cc => absurd cc (by decide))
    refine y_aload o dX10_send_79 rfl ?_
    refine y_getr o tgX10_18 dX10_send_80 ?_
    refine y_getr o tgX10_54 dX10_send_83 ?_
    refine y_const o dX10_send_86 ?_
    refine y_iload o dX10_send_88 rfl ?_
    refine y_if_eq o dX10_send_90 (fun cc => ?_) (fun cc => absurd cc (by decide))
    refine y_const o dX10_send_97 ?_
    refine y_iastc (j0 := 7) o ta_registers dX10_send_98 (by unfold vp_in; decide) (by decide) ?_
    exact x_vret o r dX10_send_99 (by simp only [if_true, if_false, ix, g_send, g_send2, eq_true c39] <;> rfl)
  · skip
    refine y_aload o dX10_send_42 rfl ?_
    refine y_iload o dX10_send_43 rfl ?_
    refine y_const o dX10_send_45 ?_
    refine y_callVi o kX10_112 tr_X4 hk (cm_takes _ h ex _ _ _ (pOk.mono hp (by decide))) (by decide) rfl rfl (Nat.le_of_ble_eq_true rfl) dX10_send_46 ?_
    refine y_if_eq o dX10_send_49 (fun c49 => ?_) (fun c49 => ?_)
    · skip
      refine y_const o dX10_send_56 ?_
      refine y_istore o dX10_send_57 (by decide) (Nat.le_of_ble_eq_true rfl) ?_
      refine y_iload o dX10_send_59 rfl ?_
      refine y_if_eq o dX10_send_61 (fun cc => ?_) (fun cc => absurd cc (by decide))
      refine y_aload o dX10_send_79 rfl ?_
      refine y_getr o tgX10_18 dX10_send_80 ?_
      refine y_getr o tgX10_54 dX10_send_83 ?_
      refine y_const o dX10_send_86 ?_
      refine y_iload o dX10_send_88 rfl ?_
      refine y_if_eq o dX10_send_90 (fun cc => ?_) (fun cc => absurd cc (by decide))
      refine y_const o dX10_send_97 ?_
      refine y_iastc (j0 := 7) o ta_registers dX10_send_98 (by unfold vp_in; decide) (by decide) ?_
      exact x_vret o r dX10_send_99 (by simp only [if_true, if_false, ix, g_send, g_send2, eq_false c39, eq_true c49] <;> rfl)
    · skip
      refine y_const o dX10_send_52 ?_
      refine y_goto o dX10_send_53 ?_
      refine y_istore o dX10_send_57 (by decide) (Nat.le_of_ble_eq_true rfl) ?_
      refine y_iload o dX10_send_59 rfl ?_
      refine y_if_eq o dX10_send_61 (fun cc => absurd cc (by decide)) (fun cc => ?_)
      refine y_aload o dX10_send_64 rfl ?_
      refine y_iload o dX10_send_65 rfl ?_
      refine y_iload o dX10_send_67 rfl ?_
      refine y_callVv o kX10_116 tr_X4 hk (cm_pwrite _ h ex _ _ _ (pOk.mono (n := 38) hp (by decide))) (by decide) rfl rfl (Nat.le_of_ble_eq_true rfl) dX10_send_68 ?_
      refine y_aload o dX10_send_71 rfl ?_
      refine y_const o dX10_send_72 ?_
      refine y_iload o dX10_send_73 rfl ?_
      refine y_const o dX10_send_74 ?_
      refine y_iadd o dX10_send_75 ?_
      refine y_callVv o kX10_116 tr_X4 hk (cm_pwrite _ h ex _ _ _ (pOk_put (n := 38) hp)) (by decide) rfl rfl (Nat.le_of_ble_eq_true rfl) dX10_send_76 ?_
      refine y_aload o dX10_send_79 rfl ?_
      refine y_getr o tgX10_18 dX10_send_80 ?_
      refine y_getr o tgX10_54 dX10_send_83 ?_
      refine y_const o dX10_send_86 ?_
      refine y_iload o dX10_send_88 rfl ?_
      refine y_if_eq o dX10_send_90 (fun cc => absurd cc (by decide)) (fun cc => ?_)
      refine y_const o dX10_send_93 ?_
      refine y_goto o dX10_send_94 ?_
      refine y_iastc (j0 := 7) o ta_registers dX10_send_98 (by unfold vp_in; decide) (by decide) ?_
      exact x_vret o r dX10_send_99 (by simp only [if_true, if_false, ix, g_send, g_send2, eq_false c39, eq_false c49] <;> rfl)
