/-! the component and its program -/
set_option maxRecDepth 100000
set_option maxHeartbeats 4000000 in
set_option maxRecDepth 100000 in
theorem cm_pseal (dd : ClassId × ClassId × ClassId) (h : Nat → Nat) (ex : va_W) (S : XS)  {P : PA} {cd sz : Nat → Int32} {ex0 : va_W} (hex : ex = pW dd.2.2 h P cd sz ++ ex0) (hp : pOK P sz) : Cx dd yX5_seal cX5_seal 3 (some .int) 5 cG [.ref (h 4)] h ex S (some (.int (h_sealR cd sz S))) (h_seal cd sz S) := by
  refine Cx.introE (by decide) (by simp [Value.category]) (Nat.le_of_ble_eq_true rfl) (fun K e o r hk => ?_)
  subst e
  have o : Y K cX5_seal RX5 3 5 := o
  have outer : S.1 14 = 0 → ∀ (n t : Nat), t + n = 16 → h_sealT cd sz n t = h_sealT cd sz 16 0 → ∀ lv : List Value, lv.take 2 = [.ref (h 4), .int (nI t)] → Vw K 3 (g_W (kd K).1 cG h S ++ ex) 0 0 lv 11 [] := by
    intro e4 n
    induction n with
    | zero =>
      intro t h1 hT lv hlv
      have ht : t = 16 := by omega
      subst ht
      refine y_take 2 hlv ?_
      refine y_iload o dX5_seal_11 rfl ?_
      refine y_const o dX5_seal_12 ?_
      refine y_icmp_ge o dX5_seal_14 (fun c14 => ?_) (fun c14 => ?_)
      · skip
        refine y_aload o dX5_seal_72 rfl ?_
        refine y_const o dX5_seal_73 ?_
        refine y_putz o tpX5_58 (by first | exact Or.inl rfl | exact Or.inr rfl) dX5_seal_74 ?_
        refine y_const o dX5_seal_77 ?_
        exact x_iret o r dX5_seal_78 (by simp only [h_sealR, if_true, if_false, eq_true e4]; exact hT) (by simp only [h_seal, if_true, if_false, eq_true e4, eq_true (show h_sealT cd sz 16 0 = 0 from hT.symm)])
      · skip
        exact absurd (by decide) c14
    | succ n ih =>
      intro t h1 hT lv hlv
      refine y_take 2 hlv ?_
      obtain ⟨z, z1, z2, -⟩ := hp t (by omega)
      have et : (nI t).toNatClampNeg = t := nI_clamp (by omega)
      have ht : vp_in (nI t) 16 := vp_in_nI (by omega) (by decide)
      have ez : (sz t).toNatClampNeg = z := by rw [z2]; exact nI_clamp (by omega)
      have hT1 : (if t = 0 then (if sz t = 0 then 1 else (if h_sealI cd sz t z 0 = 0 then h_sealT cd sz n (t + 1) else h_sealI cd sz t z 0)) else (if h_sealI cd sz t z 0 = 0 then h_sealT cd sz n (t + 1) else h_sealI cd sz t z 0)) = h_sealT cd sz 16 0 := by rw [← hT, ← ez]; rfl
      have inner : (h_sealT cd sz 16 0 = (if h_sealI cd sz t z 0 = 0 then h_sealT cd sz n (t + 1) else h_sealI cd sz t z 0)) → ∀ (m i : Nat), i + m = z → h_sealI cd sz t m i = h_sealI cd sz t z 0 → Vw K 3 (g_W (kd K).1 cG h S ++ ex) 0 0 [.ref (h 4), .int (nI t), .int (nI i)] 33 [] := by
        intro hT2 m
        induction m with
        | zero =>
          intro i h2 hI
          refine y_iload o dX5_seal_33 rfl ?_
          refine y_aload o dX5_seal_34 rfl ?_
          refine y_iload o dX5_seal_35 rfl ?_
          refine y_callVi o kX5_38 tr_X5 hk (cm_size _ h ex _ _ (hex) (hp) (ht)) (by decide) rfl rfl (Nat.le_of_ble_eq_true rfl) dX5_seal_36 ?_
          refine y_icmp_ge o dX5_seal_39 (fun c39 => ?_) (fun c39 => ?_)
          · skip
            refine y_iinc1 o dX5_seal_66 rfl (by decide) ?_
            refine y_goto o dX5_seal_69 ?_
            refine ih (t + 1) (by omega) ?_ _ (by rw [← nI_1]; rfl)
            rw [hT2, ← hI]
            exact (if_pos rfl).symm
          · skip
            exact absurd (show sz (nI t).toNatClampNeg ≤ nI i by rw [et, z2]; exact nI_le (by omega) (by omega)) c39
        | succ m ihm =>
          intro i h2 hI
          have hz0 : h_sealI cd sz t z 0 = (if h_good cd sz (nI t) (nI i) = 0 then 1 + 32 * nI t + nI i else h_sealI cd sz t m (i + 1)) := hI.symm
          refine y_iload o dX5_seal_33 rfl ?_
          refine y_aload o dX5_seal_34 rfl ?_
          refine y_iload o dX5_seal_35 rfl ?_
          refine y_callVi o kX5_38 tr_X5 hk (cm_size _ h ex _ _ (hex) (hp) (ht)) (by decide) rfl rfl (Nat.le_of_ble_eq_true rfl) dX5_seal_36 ?_
          refine y_icmp_ge o dX5_seal_39 (fun c39 => ?_) (fun c39 => ?_)
          · skip
            exact absurd (show sz (nI t).toNatClampNeg ≤ nI i from c39) (by rw [et, z2]; exact nI_ge (by omega) (by omega))
          · skip
            refine y_aload o dX5_seal_42 rfl ?_
            refine y_iload o dX5_seal_43 rfl ?_
            refine y_iload o dX5_seal_44 rfl ?_
            refine y_callVi o kX5_62 tr_X5 hk (cm_isGood _ h ex _ _ _ (hex) (hp) (ht) (by rw [show ix (nI t) = t from et, show ix (sz t) = z from ez]; exact vp_in_nI (by omega) (by omega))) (by decide) rfl rfl (Nat.le_of_ble_eq_true rfl) dX5_seal_45 ?_
            refine y_if_ne o dX5_seal_48 (fun c48 => ?_) (fun c48 => ?_)
            · skip
              refine y_iinc1 o dX5_seal_60 rfl (by decide) ?_
              refine y_goto o dX5_seal_63 ?_
              refine y_lv (lv' := [.ref (h 4), .int (nI t), .int (nI (i + 1))]) (by rw [← nI_1]; rfl) ?_
              refine ihm (i + 1) (by omega) ?_
              rw [hz0, if_neg c48]
            · skip
              refine y_const o dX5_seal_51 ?_
              refine y_const o dX5_seal_52 ?_
              refine y_iload o dX5_seal_54 rfl ?_
              refine y_imul o dX5_seal_55 ?_
              refine y_iadd o dX5_seal_56 ?_
              refine y_iload o dX5_seal_57 rfl ?_
              refine y_iadd o dX5_seal_58 ?_
              exact x_iret o r dX5_seal_59 (by simp only [h_sealR, if_true, if_false, eq_true e4]; exact (show 1 + 32 * nI t + nI i = h_sealT cd sz 16 0 by rw [hT2, hz0, if_pos c48, if_neg (seal_ne (by omega) (by omega))])) (by simp only [h_seal, if_true, if_false, eq_true e4]; rw [← (show 1 + 32 * nI t + nI i = h_sealT cd sz 16 0 by rw [hT2, hz0, if_pos c48, if_neg (seal_ne (by omega) (by omega))]), if_neg (seal_ne (by omega) (by omega))])
      refine y_iload o dX5_seal_11 rfl ?_
      refine y_const o dX5_seal_12 ?_
      refine y_icmp_ge o dX5_seal_14 (fun c14 => ?_) (fun c14 => ?_)
      · skip
        exact absurd c14 (nI_ge (a := t) (b := 16) (by omega) (by decide))
      · skip
        refine y_iload o dX5_seal_17 rfl ?_
        refine y_if_ne o dX5_seal_18 (fun c18 => ?_) (fun c18 => ?_)
        · skip
          refine y_const o dX5_seal_31 ?_
          refine y_istore o dX5_seal_32 (by decide) (Nat.le_of_ble_eq_true rfl) ?_
          refine y_take 3 rfl ?_
          have t0 : ¬ t = 0 := fun z => c18 (by rw [z]; rfl)
          rw [if_neg t0] at hT1
          exact inner hT1.symm z 0 (by omega) rfl
        · skip
          refine y_aload o dX5_seal_21 rfl ?_
          refine y_iload o dX5_seal_22 rfl ?_
          refine y_callVi o kX5_38 tr_X5 hk (cm_size _ h ex _ _ (hex) (hp) (ht)) (by decide) rfl rfl (Nat.le_of_ble_eq_true rfl) dX5_seal_23 ?_
          refine y_if_ne o dX5_seal_26 (fun c26 => ?_) (fun c26 => ?_)
          · skip
            refine y_const o dX5_seal_31 ?_
            refine y_istore o dX5_seal_32 (by decide) (Nat.le_of_ble_eq_true rfl) ?_
            refine y_take 3 rfl ?_
            have t0 : t = 0 := (nI_eq (b := 0) (by omega) (by decide)).mp c18
            rw [show ix (nI t) = t from et] at c26
            rw [if_pos t0, if_neg c26] at hT1
            exact inner hT1.symm z 0 (by omega) rfl
          · skip
            refine y_const o dX5_seal_29 ?_
            exact x_iret o r dX5_seal_30 (by have t0 : t = 0 := (nI_eq (b := 0) (by omega) (by decide)).mp c18; rw [show ix (nI t) = t from et] at c26; rw [if_pos t0, if_pos c26] at hT1; simp only [h_sealR, if_true, if_false, eq_true e4]; exact hT1) (by have t0 : t = 0 := (nI_eq (b := 0) (by omega) (by decide)).mp c18; rw [show ix (nI t) = t from et] at c26; rw [if_pos t0, if_pos c26] at hT1; simp only [h_seal, if_true, if_false, eq_true e4]; rw [← hT1]; exact (if_neg (by decide)).symm)
  refine y_aload o dX5_seal_0 rfl ?_
  refine y_get o tgX5_58 dX5_seal_1 ?_
  refine y_if_eq o dX5_seal_4 (fun c4 => ?_) (fun c4 => ?_)
  · skip
    refine y_const o dX5_seal_9 ?_
    refine y_istore o dX5_seal_10 (by decide) (Nat.le_of_ble_eq_true rfl) ?_
    exact outer c4 16 0 rfl rfl _ rfl
  · skip
    refine y_const o dX5_seal_7 ?_
    exact x_iret o r dX5_seal_8 (by simp only [h_sealR, if_true, if_false, eq_false c4]) (by simp only [h_seal, if_true, if_false, eq_false c4])
set_option maxHeartbeats 4000000 in
set_option maxRecDepth 100000 in
theorem cm_seal (dd : ClassId × ClassId × ClassId) (h : Nat → Nat) (ex : va_W) (S : XS)  {P : PA} {cd sz : Nat → Int32} {ex0 : va_W} (hex : ex = pW dd.2.2 h P cd sz ++ ex0) (hp : pOK P sz) : Cx dd yX1_seal cX1_seal 1 (some .int) 6 cG [.ref (h 0)] h ex S (some (.int (h_sealR cd sz S))) (h_seal cd sz S) := by
  refine Cx.introE (by decide) (by simp [Value.category]) (Nat.le_of_ble_eq_true rfl) (fun K e o r hk => ?_)
  subst e
  have o : Y K cX1_seal RX1 1 6 := o
  refine y_aload o dX1_seal_0 rfl ?_
  refine y_getr o tgX1_10 dX1_seal_1 ?_
  refine y_getr o tgX1_16 dX1_seal_4 ?_
  refine y_callVi o kX1_58 tr_X5 hk (cm_pseal _ h ex _ (hex) (hp)) (by decide) rfl rfl (Nat.le_of_ble_eq_true rfl) dX1_seal_7 ?_
  exact x_iret o r dX1_seal_10 (by rfl) (by rfl)
