/-! the component and its program -/
set_option maxRecDepth 100000
set_option maxHeartbeats 4000000 in
set_option maxRecDepth 100000 in
/-- program(t, i, w) -/
theorem cm_program (dd : ClassId × ClassId × ClassId) (h : Nat → Nat) (ex : va_W) (S : XS) (t i w : Int32) {P : PA} {ex0 : va_W} (hex : ex = pW dd.2.2 h P (S.2 12) (S.2 13) ++ ex0) (hp : pOK P (S.2 13)) : Cw dd yX1_program cX1_program 5 (some .boolean) 7 2 52 [.ref (h 0), .int t, .int i, .int w] (g_W dd.1 cG h S ++ ex) (fun v w' => v = some (.int (f_programR0 S t i)) ∧ ∃ P', pOK P' ((f_program0 S t i w).2 13) ∧ sw (g_W dd.1 cG h (f_program0 S t i w) ++ (pW dd.2.2 h P' ((f_program0 S t i w).2 12) ((f_program0 S t i w).2 13) ++ ex0)) w') := by
  refine Cw.intro (by decide) (by simp [Value.category]) (Nat.le_of_ble_eq_true rfl) (fun K e o r hkk => ?_)
  subst e
  have o : Y K cX1_program RX1 5 7 := o
  have hk : 0 ≤ (kR K).cells ∧ 0 ≤ (kR K).slots := ⟨Nat.zero_le _, Nat.zero_le _⟩
  have no : f_programR0 S t i = 0 → f_program0 S t i w = S → ∀ lv : List Value, Vw K 5 (g_W (kd K).1 cG h S ++ ex) 0 0 lv 45 [] := by
    intro e1 e2 lv
    refine y_wide (k' := 2) (n' := 52) (by omega) (by omega) ?_
    refine y_const o dX1_program_45 ?_
    exact y_zret o r dX1_program_46 (Or.inl rfl) ⟨by rw [e1], P, by rw [e2]; exact hp, by rw [e2, hex]; exact sw.of (List.Perm.refl _)⟩
  have j53 : ∀ (ex : va_W) (q : Nat), S.1 14 = 0 → ¬ f_isTask t = 0 → ¬ i < 0 → ¬ S.2 13 (ix t) < i → ¬ i = 32 → ex = pW (kd K).2.2 h P (S.2 12) (S.2 13) ++ (ex0 ++ [iC q w]) → Vw K 5 (g_W (kd K).1 cG h S ++ ex) 1 4 [.ref (h 0), .int t, .int i, .int w, .ref q] 53 [] := by
    intro ex q c10 c17 c21 c36 c42 hex
    have hk : 1 ≤ (kR K).cells ∧ 4 ≤ (kR K).slots := ⟨Nat.le_trans (by decide) hkk.1, Nat.le_trans (by decide) hkk.2⟩
    have ht := f_isTask_in c17
    obtain ⟨j, hj, rfl⟩ := vp_in_of ht (by decide)
    obtain ⟨z, z1, z2, z3, z4, z5⟩ := hp j hj
    have ej : ix (nI j) = j := nI_clamp (by omega)
    have ez : ix (S.2 13 j) = z := by rw [z2]; exact nI_clamp (by omega)
    obtain ⟨i', hi1, rfl⟩ := nI_of c21
    rw [ej, z2, nI_ltI (by omega) hi1] at c36
    have hi2 : ¬ i' = 32 := fun z => c42 (by rw [z]; rfl)
    have hR : f_programR0 S (nI j) (nI i') = 1 := by
      simp only [f_programR0, if_true, if_false, eq_true c10, eq_false c17, eq_false c21, ej, z2, eq_false (show ¬ nI z < nI i' by rw [nI_ltI (by omega) hi1]; omega), eq_true (show nI i' < 32 from nI_lt (b := 32) (by omega) (by decide))]
    have hF : f_program0 S (nI j) (nI i') w = f_program1 S (nI j) (nI i') w := by
      simp only [f_program0, if_true, if_false, eq_true c10, eq_false c17, eq_false c21, ej, z2, eq_false (show ¬ nI z < nI i' by rw [nI_ltI (by omega) hi1]; omega), eq_true (show nI i' < 32 from nI_lt (b := 32) (by omega) (by decide))]
    have hO := List.mem_append_right (g_W (kd K).1 cG h S) (p_mO hex)
    have hO2 := List.mem_append_right (g_W (kd K).1 cG h S) (p_mO2 hex)
    have hL := List.mem_append_right (g_W (kd K).1 cG h S) (p_mL hex hj)
    refine y_iload o dX1_program_53 rfl ?_
    refine y_aload o dX1_program_54 rfl ?_
    refine y_getr o tgX1_10 dX1_program_55 ?_
    refine y_getr o tgX1_16 dX1_program_58 ?_
    refine y_iload o dX1_program_61 rfl ?_
    refine y_callVi o kX1_30 tr_X5 hk (cm_size _ h ex _ _ (hex) (hp) (ht)) (by decide) rfl rfl (Nat.le_of_ble_eq_true rfl) dX1_program_62 ?_
    refine y_icmp_ne o dX1_program_65 (fun c65 => ?_) (fun c65 => ?_)
    · skip
      refine y_aload o dX1_program_94 rfl ?_
      refine y_getr o tgX1_10 dX1_program_95 ?_
      refine y_getr o tgX1_16 dX1_program_98 ?_
      refine y_getr o tgX1_40 dX1_program_101 ?_
      refine y_iload o dX1_program_104 rfl ?_
      refine y_callVe o kX1_44 (al_get _ _ (h 21) (h 22) 16 (h (23 + j)) 16 16 (nI j) _ hO hO2 (vp_in_nI hj (by decide)) (nI_lt hj (by decide)) (by rw [nI_clamp (by omega)]; exact if_pos hj)) (rc_mem rfl hO) (by decide) rfl rfl (Nat.le_of_ble_eq_true rfl) hk dX1_program_105 ?_
      refine y_cast o hL rfl q794 dX1_program_108 ?_
      refine y_iload o dX1_program_111 rfl ?_
      refine y_aload o dX1_program_112 rfl ?_
      have ci : i' < z := by
        rw [ej, z2] at c65
        have : ¬ i' = z := fun z9 => c65 (by rw [z9])
        omega
      have ei : ix (nI i') = i' := nI_clamp hi1
      refine y_ws (ws' := lC (h (23 + j)) (P.2.2.1 j) (P.2.1 j) (nI z) :: (P.2.1 j, rA (kd K).2.2 (P.1 j) (p_F P (S.2 13) j)) :: (p_R (kd K).2.2 h P (S.2 12) (S.2 13) j ++ (g_W (kd K).1 cG h S ++ (ex0 ++ [iC q w])))) (sw.of (prog_out hex hj z2)) ?_
      refine y_callVe (As := [.int (nI i'), .ref q]) (rest := []) o kX1_54 (al_set _ (p_R (kd K).2.2 h P (S.2 12) (S.2 13) j ++ (g_W (kd K).1 cG h S ++ (ex0 ++ [iC q w]))) (h (23 + j)) (P.2.1 j) (P.1 j) (P.2.2.2 j i') q (P.2.2.1 j) (nI z) (nI i') (p_F P (S.2 13) j) _ (vp_in_nI (by omega) (by omega)) (nI_lt ci (by omega)) (by rw [nI_clamp (by omega)]; exact if_pos (by omega)) (List.mem_append_right _ (List.mem_append_right _ (List.mem_append_right _ List.mem_cons_self)))) (rc_mem rfl List.mem_cons_self) (by decide) rfl rfl (Nat.le_of_ble_eq_true rfl) hk dX1_program_114 ?_
      refine y_pop (v := .ref (P.2.2.2 j i')) (st := []) o dX1_program_117 rfl ?_
      refine y_wide (k' := 2) (n' := 52) (by omega) (by omega) ?_
      refine y_const o dX1_program_118 ?_
      refine y_zret o r dX1_program_119 (Or.inr rfl) ⟨by rw [hR], p_set P j i' q, ?_, ?_⟩
      · rw [hF]
        exact prog_set_ok hp hj z2 (by omega) ci
      · rw [hF]
        have hcl : (nI i').toNatClampNeg = i' := ei
        rw [hcl]
        exact prog_set_sw hp hj z2 (by omega) ci ex0
    · skip
      refine y_aload o dX1_program_68 rfl ?_
      refine y_getr o tgX1_10 dX1_program_69 ?_
      refine y_getr o tgX1_16 dX1_program_72 ?_
      refine y_getr o tgX1_40 dX1_program_75 ?_
      refine y_iload o dX1_program_78 rfl ?_
      refine y_callVe o kX1_44 (al_get _ _ (h 21) (h 22) 16 (h (23 + j)) 16 16 (nI j) _ hO hO2 (vp_in_nI hj (by decide)) (nI_lt hj (by decide)) (by rw [nI_clamp (by omega)]; exact if_pos hj)) (rc_mem rfl hO) (by decide) rfl rfl (Nat.le_of_ble_eq_true rfl) hk dX1_program_79 ?_
      refine y_cast o hL rfl q794 dX1_program_82 ?_
      refine y_aload o dX1_program_85 rfl ?_
      have ci : i' = z := by
        rw [ej, z2] at c65
        exact (nI_eq hi1 (by omega)).mp c65
      subst ci
      refine y_ws (ws' := lC (h (23 + j)) (P.2.2.1 j) (P.2.1 j) (nI i') :: (P.2.1 j, rA (kd K).2.2 (P.1 j) (p_F P (S.2 13) j)) :: (p_R (kd K).2.2 h P (S.2 12) (S.2 13) j ++ (g_W (kd K).1 cG h S ++ (ex0 ++ [iC q w])))) (sw.of (prog_out hex hj z2)) ?_
      refine y_callV (As := [.ref q]) (rest := []) o kX1_50 (al_add _ (p_R (kd K).2.2 h P (S.2 12) (S.2 13) j ++ (g_W (kd K).1 cG h S ++ (ex0 ++ [iC q w]))) _ _ (P.1 j) i' q 11 _ _ _ rfl q1365 (List.mem_append_right _ (List.mem_append_right _ (List.mem_append_right _ List.mem_cons_self))) z3 (by omega) (fun e9 => ⟨z4, by omega, p_F_none ez e9, p_F_el ez⟩)) (rc_mem rfl List.mem_cons_self) (by decide) rfl rfl (Nat.le_of_ble_eq_true rfl) ⟨Nat.le_trans (by decide) hkk.1, Nat.le_trans (by decide) hkk.2⟩ dX1_program_87 (fun v w2 e => ?_)
      obtain ⟨rfl, a', n', hn1, hn2, hsw⟩ := e
      refine y_pop (v := .int 1) (st := []) o dX1_program_90 rfl ?_
      refine y_goto o dX1_program_91 ?_
      refine y_wide (k' := 2) (n' := 52) (by omega) (by omega) ?_
      refine y_const o dX1_program_118 ?_
      refine y_zret o r dX1_program_119 (Or.inr rfl) ⟨by rw [hR], p_add P j n' a' i' q (P.2.2.1 j + 1), ?_, ?_⟩
      · rw [hF]
        exact prog_add_ok hp hj z2 (by omega) (by omega) (by omega) hn2 z4
      · rw [hF]
        exact hsw.trans (prog_add_sw hp hj z2 (by omega) ex0)
  refine y_aload o dX1_program_0 rfl ?_
  refine y_getr o tgX1_10 dX1_program_1 ?_
  refine y_getr o tgX1_16 dX1_program_4 ?_
  refine y_get o tgX1_20 dX1_program_7 ?_
  refine y_if_ne o dX1_program_10 (fun c10 => ?_) (fun c10 => ?_)
  · skip
    exact no (by simp only [f_programR0, if_true, if_false, eq_false c10]) (by simp only [f_program0, if_true, if_false, eq_false c10]) _
  · skip
    refine y_iload o dX1_program_13 rfl ?_
    refine y_callSi o kX1_26 hk (cm_isTask _ h ex _ _ ) (by decide) rfl rfl (Nat.le_of_ble_eq_true rfl) dX1_program_14 ?_
    refine y_if_eq o dX1_program_17 (fun c17 => ?_) (fun c17 => ?_)
    · skip
      exact no (by simp only [f_programR0, if_true, if_false, eq_true c10, eq_true c17]) (by simp only [f_program0, if_true, if_false, eq_true c10, eq_true c17]) _
    · skip
      refine y_iload o dX1_program_20 rfl ?_
      refine y_if_lt o dX1_program_21 (fun c21 => ?_) (fun c21 => ?_)
      · skip
        exact no (by simp only [f_programR0, if_true, if_false, eq_true c10, eq_false c17, eq_true c21]) (by simp only [f_program0, if_true, if_false, eq_true c10, eq_false c17, eq_true c21]) _
      · skip
        refine y_iload o dX1_program_24 rfl ?_
        refine y_aload o dX1_program_25 rfl ?_
        refine y_getr o tgX1_10 dX1_program_26 ?_
        refine y_getr o tgX1_16 dX1_program_29 ?_
        refine y_iload o dX1_program_32 rfl ?_
        refine y_callVi o kX1_30 tr_X5 hk (cm_size _ h ex _ _ (hex) (hp) (f_isTask_in c17)) (by decide) rfl rfl (Nat.le_of_ble_eq_true rfl) dX1_program_33 ?_
        refine y_icmp_gt o dX1_program_36 (fun c36 => ?_) (fun c36 => ?_)
        · skip
          exact no (by simp only [f_programR0, if_true, if_false, eq_true c10, eq_false c17, eq_false c21, eq_true c36]) (by simp only [f_program0, if_true, if_false, eq_true c10, eq_false c17, eq_false c21, eq_true c36]) _
        · skip
          refine y_iload o dX1_program_39 rfl ?_
          refine y_const o dX1_program_40 ?_
          refine y_icmp_ne o dX1_program_42 (fun c42 => ?_) (fun c42 => ?_)
          · skip
            refine y_iload o dX1_program_47 rfl ?_
            refine y_callS (As := [.int w]) (rest := []) o kX1_34 (ci_of _ _ w) (by decide) rfl rfl (Nat.le_of_ble_eq_true rfl) ⟨Nat.le_trans (by decide) hkk.1, Nat.le_trans (by decide) hkk.2⟩ dX1_program_48 (fun v w2 e => ?_)
            obtain ⟨q, rfl, rfl⟩ := e
            refine y_astore (x := q) (st := []) o dX1_program_51 (by decide) (Nat.le_of_ble_eq_true rfl) ?_
            refine y_we (List.append_assoc _ _ _) ?_
            exact j53 _ q c10 c17 c21 c36 c42 (by rw [hex, List.append_assoc])
          · skip
            exact no (by simp only [f_programR0, if_true, if_false, eq_true c10, eq_false c17, eq_false c21, eq_false c36, eq_false (show ¬ i < 32 by rw [c42]; decide)]) (by simp only [f_program0, if_true, if_false, eq_true c10, eq_false c17, eq_false c21, eq_false c36, eq_false (show ¬ i < 32 by rw [c42]; decide)]) _
