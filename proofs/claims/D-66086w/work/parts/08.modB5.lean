/-! the model: its steps and its face -/
set_option maxRecDepth 100000
set_option maxHeartbeats 4000000 in
set_option maxRecDepth 100000 in
theorem mm_slot (dd : ClassId × ClassId × ClassId) (h : Nat → Nat) (ex : va_W) (S : XS) (x : Int32) (ht : vp_in (S.2 0 0) 16) (P : Nat → XS → Prop) (hP : ∀ j T, j < 16 → P j T → ¬ T.1 18 = 0 → stepOk (f_begin T) ∧ vp_in ((f_phase (f_begin T)).2 0 0) 16 ∧ P (j + 1) (f_step T)) (hA : f_thr S x = 0 → ¬ S.1 18 = 0 → P 0 (f_harv (xs S 19 (f_thr S x)) x)) (hB : f_thr S x = 0 → S.1 18 = 0 → P 0 (f_booted (f_harv (xs S 19 (f_thr S x)) x))) : Cx dd yX12_slot cX12_slot 4 (some .int) 5 mG [.ref (h 0), .int x] h ex S (some (.int (f_slotR S x))) (f_slot S x) := by
  refine Cx.intro (by decide) (by simp [Value.category]) (Nat.le_of_ble_eq_true rfl) (fun K o r hk => ?_)
  have o : Y K cX12_slot RX12 4 5 := o
  have loop : ∀ (n j : Nat) (T : XS) (c : Int32), j + n = 16 → P j T → f_loop T n = f_slot S x → f_loopR T c n = f_slotR S x → Vw K 4 (g_W (kd K).1 mG h T ++ ex) 0 0 [.ref (h 0), .int x, .int c, .int (nI j)] 174 [] := by
    intro n
    induction n with
    | zero =>
      intro j T c h1 hPj e1 e2
      have hj : j = 16 := by omega
      subst hj
      refine y_iload o dX12_slot_174 rfl ?_
      refine y_const o dX12_slot_175 ?_
      refine y_icmp_ge o dX12_slot_177 (fun c177 => ?_) (fun c177 => ?_)
      · skip
        refine y_iload o dX12_slot_203 rfl ?_
        exact x_iret o r dX12_slot_204 (by exact e2) (by exact e1)
      · skip
        exact absurd (by decide) c177
    | succ n ih =>
      intro j T c h1 hPj e1 e2
      have e1 : (if T.1 18 = 0 then T else f_loop (f_step T) n) = f_slot S x := e1
      have e2 : (if T.1 18 = 0 then c else f_loopR (f_step T) (if f_stepR T = 0 then c else c + 1) n) = f_slotR S x := e2
      refine y_iload o dX12_slot_174 rfl ?_
      refine y_const o dX12_slot_175 ?_
      refine y_icmp_ge o dX12_slot_177 (fun c177 => ?_) (fun c177 => ?_)
      · skip
        exact absurd c177 (nI_ge (a := j) (b := 16) (by omega) (by decide))
      · skip
        refine y_aload o dX12_slot_180 rfl ?_
        refine y_get o mgX12_93 dX12_slot_181 ?_
        refine y_if_eq o dX12_slot_184 (fun c184 => ?_) (fun c184 => ?_)
        · skip
          refine y_iload o dX12_slot_203 rfl ?_
          exact x_iret o r dX12_slot_204 (by rw [← e2, if_pos c184]) (by rw [← e1, if_pos c184])
        · skip
          refine y_aload o dX12_slot_187 rfl ?_
          refine y_callVi o kX12_182 mr_X12 hk (mm_step _ h ex _ ((hP j T (by omega) hPj c184).1) ((hP j T (by omega) hPj c184).2.1)) (by decide) rfl rfl (Nat.le_of_ble_eq_true rfl) dX12_slot_188 ?_
          refine y_if_eq o dX12_slot_191 (fun c191 => ?_) (fun c191 => ?_)
          · skip
            refine y_iinc1 o dX12_slot_197 rfl (by decide) ?_
            refine y_goto o dX12_slot_200 ?_
            rw [if_neg c184] at e1 e2
            first | rw [if_pos c191] at e2 | rw [if_neg c191] at e2
            exact y_lv (by rw [nI_1]; rfl) (ih (j + 1) _ _ (by omega) (hP j T (by omega) hPj c184).2.2 e1 e2)
          · skip
            refine y_iinc1 o dX12_slot_194 rfl (by decide) ?_
            refine y_iinc1 o dX12_slot_197 rfl (by decide) ?_
            refine y_goto o dX12_slot_200 ?_
            rw [if_neg c184] at e1 e2
            first | rw [if_pos c191] at e2 | rw [if_neg c191] at e2
            exact y_lv (by rw [nI_1]; rfl) (ih (j + 1) _ _ (by omega) (hP j T (by omega) hPj c184).2.2 e1 e2)
  have j170 : ∀ (T : XS), P 0 T → f_loop T 16 = f_slot S x → f_loopR T 0 16 = f_slotR S x → Vw K 4 (g_W (kd K).1 mG h T ++ ex) 0 0 [.ref (h 0), .int x] 170 [] := by
    intro T hP0 e1 e2
    refine y_const o dX12_slot_170 ?_
    refine y_istore o dX12_slot_171 (by decide) (Nat.le_of_ble_eq_true rfl) ?_
    refine y_const o dX12_slot_172 ?_
    refine y_istore o dX12_slot_173 (by decide) (Nat.le_of_ble_eq_true rfl) ?_
    exact loop 16 0 T 0 rfl hP0 e1 e2
  have j78 : ∀ (T : XS), (¬ T.1 18 = 0 → P 0 T) → (T.1 18 = 0 → P 0 (f_booted T)) → vp_in (T.2 0 0) 16 → f_slot1 T = f_slot S x → f_slot1R T = f_slotR S x → Vw K 4 (g_W (kd K).1 mG h T ++ ex) 0 0 [.ref (h 0), .int x] 78 [] := by
    intro T hA hB ht e1 e2
    refine y_aload o dX12_slot_78 rfl ?_
    refine y_get o mgX12_93 dX12_slot_79 ?_
    refine y_if_ne o dX12_slot_82 (fun c82 => ?_) (fun c82 => ?_)
    · skip
      exact j170 _ (hA c82) (by rw [← e1]; simp only [if_true, if_false, f_slot1, eq_false c82]) (by rw [← e2]; simp only [if_true, if_false, f_slot1R, eq_false c82])
    · skip
      refine y_const o dX12_slot_85 ?_
      refine y_aload o dX12_slot_87 rfl ?_
      refine y_getr o mgX12_25 dX12_slot_88 ?_
      refine y_aload o dX12_slot_91 rfl ?_
      refine y_getr o mgX12_16 dX12_slot_92 ?_
      refine y_const o dX12_slot_95 ?_
      refine y_ialdc (j0 := 0) o ma_kept dX12_slot_96 (by unfold vp_in; decide) (by decide) ?_
      refine y_iald o ma_estimate dX12_slot_97 (ht) ?_
      refine y_iadd o dX12_slot_98 ?_
      refine y_istore o dX12_slot_99 (by decide) (Nat.le_of_ble_eq_true rfl) ?_
      refine y_aload o dX12_slot_100 rfl ?_
      refine y_get o mgX12_31 dX12_slot_101 ?_
      refine y_const o dX12_slot_104 ?_
      refine y_icmp_ne o dX12_slot_105 (fun c105 => ?_) (fun c105 => ?_)
      · skip
        refine y_const o dX12_slot_129 ?_
        exact x_iret o r dX12_slot_130 (by rw [← e2]; simp only [if_true, if_false, ix, f_slot1R, f_wants, eq_true c82, eq_false c105]) (by rw [← e1]; simp only [if_true, if_false, ix, f_slot1, f_wants, eq_true c82, eq_false c105])
      · skip
        refine y_aload o dX12_slot_108 rfl ?_
        refine y_get o mgX12_111 dX12_slot_109 ?_
        refine y_iload o dX12_slot_112 rfl ?_
        refine y_const o dX12_slot_113 ?_
        refine y_icmp_le o dX12_slot_116 (fun c116 => ?_) (fun c116 => ?_)
        · skip
          refine y_iload o dX12_slot_125 rfl ?_
          refine y_icmp_ge o dX12_slot_126 (fun c126 => ?_) (fun c126 => ?_)
          · skip
            refine y_aload o dX12_slot_131 rfl ?_
            refine y_dup o dX12_slot_132 rfl ?_
            refine y_get o mgX12_111 dX12_slot_133 ?_
            refine y_const o dX12_slot_136 ?_
            refine y_isub o dX12_slot_138 ?_
            refine y_put o mpX12_111 dX12_slot_139 ?_
            refine y_aload o dX12_slot_142 rfl ?_
            refine y_const o dX12_slot_143 ?_
            refine y_put o mpX12_120 dX12_slot_144 ?_
            refine y_aload o dX12_slot_147 rfl ?_
            refine y_const o dX12_slot_148 ?_
            refine y_putz o mpX12_127 (by first | exact Or.inl rfl | exact Or.inr rfl) dX12_slot_149 ?_
            refine y_aload o dX12_slot_152 rfl ?_
            refine y_aload o dX12_slot_153 rfl ?_
            refine y_getr o mgX12_16 dX12_slot_154 ?_
            refine y_const o dX12_slot_157 ?_
            refine y_ialdc (j0 := 2) o ma_kept dX12_slot_158 (by unfold vp_in; decide) (by decide) ?_
            refine y_if_eq o dX12_slot_159 (fun c159 => ?_) (fun c159 => ?_)
            · skip
              refine y_const o dX12_slot_166 ?_
              refine y_put o mpX12_93 dX12_slot_167 ?_
              have c159 : T.2 0 2 = 0 := c159
              refine y_take 2 rfl ?_
              refine j170 _ (Eq.mp (congrArg (P 0) ?_) (hB c82)) (Eq.trans ?_ e1) (Eq.trans ?_ e2)
              · simp only [if_true, if_false, f_booted, eq_true c82, eq_true c105, eq_true c116, eq_true c126, eq_true c159]
              · simp only [if_true, if_false, ix, f_slot1, f_wants, f_booted, eq_true c82, eq_true c105, eq_true c116, eq_true c126, eq_true c159]
              · simp only [if_true, if_false, ix, f_slot1R, f_wants, f_booted, eq_true c82, eq_true c105, eq_true c116, eq_true c126, eq_true c159]
            · skip
              refine y_const o dX12_slot_162 ?_
              refine y_goto o dX12_slot_163 ?_
              refine y_put o mpX12_93 dX12_slot_167 ?_
              have c159 : ¬ T.2 0 2 = 0 := c159
              refine y_take 2 rfl ?_
              refine j170 _ (Eq.mp (congrArg (P 0) ?_) (hB c82)) (Eq.trans ?_ e1) (Eq.trans ?_ e2)
              · simp only [if_true, if_false, f_booted, eq_true c82, eq_true c105, eq_true c116, eq_true c126, eq_false c159]
              · simp only [if_true, if_false, ix, f_slot1, f_wants, f_booted, eq_true c82, eq_true c105, eq_true c116, eq_true c126, eq_false c159]
              · simp only [if_true, if_false, ix, f_slot1R, f_wants, f_booted, eq_true c82, eq_true c105, eq_true c116, eq_true c126, eq_false c159]
          · skip
            refine y_const o dX12_slot_129 ?_
            exact x_iret o r dX12_slot_130 (by rw [← e2]; simp only [if_true, if_false, ix, f_slot1R, f_wants, eq_true c82, eq_true c105, eq_true c116, eq_false c126]) (by rw [← e1]; simp only [if_true, if_false, ix, f_slot1, f_wants, eq_true c82, eq_true c105, eq_true c116, eq_false c126])
        · skip
          refine y_const o dX12_slot_119 ?_
          refine y_goto o dX12_slot_122 ?_
          refine y_icmp_ge o dX12_slot_126 (fun c126 => ?_) (fun c126 => ?_)
          · skip
            refine y_aload o dX12_slot_131 rfl ?_
            refine y_dup o dX12_slot_132 rfl ?_
            refine y_get o mgX12_111 dX12_slot_133 ?_
            refine y_const o dX12_slot_136 ?_
            refine y_isub o dX12_slot_138 ?_
            refine y_put o mpX12_111 dX12_slot_139 ?_
            refine y_aload o dX12_slot_142 rfl ?_
            refine y_const o dX12_slot_143 ?_
            refine y_put o mpX12_120 dX12_slot_144 ?_
            refine y_aload o dX12_slot_147 rfl ?_
            refine y_const o dX12_slot_148 ?_
            refine y_putz o mpX12_127 (by first | exact Or.inl rfl | exact Or.inr rfl) dX12_slot_149 ?_
            refine y_aload o dX12_slot_152 rfl ?_
            refine y_aload o dX12_slot_153 rfl ?_
            refine y_getr o mgX12_16 dX12_slot_154 ?_
            refine y_const o dX12_slot_157 ?_
            refine y_ialdc (j0 := 2) o ma_kept dX12_slot_158 (by unfold vp_in; decide) (by decide) ?_
            refine y_if_eq o dX12_slot_159 (fun c159 => ?_) (fun c159 => ?_)
            · skip
              refine y_const o dX12_slot_166 ?_
              refine y_put o mpX12_93 dX12_slot_167 ?_
              have c159 : T.2 0 2 = 0 := c159
              refine y_take 2 rfl ?_
              refine j170 _ (Eq.mp (congrArg (P 0) ?_) (hB c82)) (Eq.trans ?_ e1) (Eq.trans ?_ e2)
              · simp only [if_true, if_false, f_booted, eq_true c82, eq_true c105, eq_false c116, eq_true c126, eq_true c159]
              · simp only [if_true, if_false, ix, f_slot1, f_wants, f_booted, eq_true c82, eq_true c105, eq_false c116, eq_true c126, eq_true c159]
              · simp only [if_true, if_false, ix, f_slot1R, f_wants, f_booted, eq_true c82, eq_true c105, eq_false c116, eq_true c126, eq_true c159]
            · skip
              refine y_const o dX12_slot_162 ?_
              refine y_goto o dX12_slot_163 ?_
              refine y_put o mpX12_93 dX12_slot_167 ?_
              have c159 : ¬ T.2 0 2 = 0 := c159
              refine y_take 2 rfl ?_
              refine j170 _ (Eq.mp (congrArg (P 0) ?_) (hB c82)) (Eq.trans ?_ e1) (Eq.trans ?_ e2)
              · simp only [if_true, if_false, f_booted, eq_true c82, eq_true c105, eq_false c116, eq_true c126, eq_false c159]
              · simp only [if_true, if_false, ix, f_slot1, f_wants, f_booted, eq_true c82, eq_true c105, eq_false c116, eq_true c126, eq_false c159]
              · simp only [if_true, if_false, ix, f_slot1R, f_wants, f_booted, eq_true c82, eq_true c105, eq_false c116, eq_true c126, eq_false c159]
          · skip
            refine y_const o dX12_slot_129 ?_
            exact x_iret o r dX12_slot_130 (by rw [← e2]; simp only [if_true, if_false, ix, f_slot1R, f_wants, eq_true c82, eq_true c105, eq_false c116, eq_false c126]) (by rw [← e1]; simp only [if_true, if_false, ix, f_slot1, f_wants, eq_true c82, eq_true c105, eq_false c116, eq_false c126])
  have j31 : ∀ (T : XS), T = xs S 19 (f_thr S x) → Vw K 4 (g_W (kd K).1 mG h T ++ ex) 0 0 [.ref (h 0), .int x] 31 [] := by
    intro T eT
    have k19 : T.1 19 = f_thr S x := by rw [eT]; exact y_xs _ _ _
    have k18 : T.1 18 = S.1 18 := by rw [eT]; rfl
    have k2 : T.2 = S.2 := by rw [eT]; rfl
    rw [← eT] at hA hB
    refine y_aload o dX12_slot_31 rfl ?_
    refine y_get o mgX12_56 dX12_slot_32 ?_
    refine y_if_eq o dX12_slot_35 (fun c35 => ?_) (fun c35 => ?_)
    · skip
      refine y_aload o dX12_slot_40 rfl ?_
      refine y_aload o dX12_slot_41 rfl ?_
      refine y_get o mgX12_111 dX12_slot_42 ?_
      refine y_iload o dX12_slot_45 rfl ?_
      refine y_iadd o dX12_slot_46 ?_
      refine y_const o dX12_slot_47 ?_
      refine y_icmp_le o dX12_slot_50 (fun c50 => ?_) (fun c50 => ?_)
      · skip
        refine y_aload o dX12_slot_59 rfl ?_
        refine y_get o mgX12_111 dX12_slot_60 ?_
        refine y_iload o dX12_slot_63 rfl ?_
        refine y_iadd o dX12_slot_64 ?_
        refine y_put o mpX12_111 dX12_slot_65 ?_
        refine y_aload o dX12_slot_68 rfl ?_
        refine y_dup o dX12_slot_69 rfl ?_
        refine y_get o mgX12_155 dX12_slot_70 ?_
        refine y_const o dX12_slot_73 ?_
        refine y_iadd o dX12_slot_74 ?_
        refine y_put o mpX12_155 dX12_slot_75 ?_
        refine j78 _ (fun q => Eq.mp (congrArg (P 0) ?_) (hA (k19.symm.trans c35) (fun q2 => q (k18.trans q2)))) (fun q => Eq.mp (congrArg (fun z => P 0 (f_booted z)) ?_) (hB (k19.symm.trans c35) (k18.symm.trans q))) (by show vp_in (T.2 0 0) 16; rw [k2]; exact ht) ?_ ?_
        · simp only [if_true, if_false, f_harv, eq_true c35, eq_true c50]; rfl
        · simp only [if_true, if_false, f_harv, eq_true c35, eq_true c50]; rfl
        · simp only [if_true, if_false, f_slot, f_slot0, f_harv, ← eT, eq_true c35, eq_true c50]; rfl
        · simp only [if_true, if_false, f_slotR, f_slotR0, f_harv, ← eT, eq_true c35, eq_true c50]; rfl
      · skip
        refine y_const o dX12_slot_53 ?_
        refine y_goto o dX12_slot_56 ?_
        refine y_put o mpX12_111 dX12_slot_65 ?_
        refine y_aload o dX12_slot_68 rfl ?_
        refine y_dup o dX12_slot_69 rfl ?_
        refine y_get o mgX12_155 dX12_slot_70 ?_
        refine y_const o dX12_slot_73 ?_
        refine y_iadd o dX12_slot_74 ?_
        refine y_put o mpX12_155 dX12_slot_75 ?_
        refine j78 _ (fun q => Eq.mp (congrArg (P 0) ?_) (hA (k19.symm.trans c35) (fun q2 => q (k18.trans q2)))) (fun q => Eq.mp (congrArg (fun z => P 0 (f_booted z)) ?_) (hB (k19.symm.trans c35) (k18.symm.trans q))) (by show vp_in (T.2 0 0) 16; rw [k2]; exact ht) ?_ ?_
        · simp only [if_true, if_false, f_harv, eq_true c35, eq_false c50]; rfl
        · simp only [if_true, if_false, f_harv, eq_true c35, eq_false c50]; rfl
        · simp only [if_true, if_false, f_slot, f_slot0, f_harv, ← eT, eq_true c35, eq_false c50]; rfl
        · simp only [if_true, if_false, f_slotR, f_slotR0, f_harv, ← eT, eq_true c35, eq_false c50]; rfl
    · skip
      refine y_const o dX12_slot_38 ?_
      exact x_iret o r dX12_slot_39 (by simp only [if_true, if_false, f_slotR, f_slotR0, ← eT, eq_false c35]) (by simp only [if_true, if_false, f_slot, f_slot0, ← eT, eq_false c35])
  refine y_aload o dX12_slot_0 rfl ?_
  refine y_aload o dX12_slot_1 rfl ?_
  refine y_get o mgX12_59 dX12_slot_2 ?_
  refine y_if_ne o dX12_slot_5 (fun c5 => ?_) (fun c5 => ?_)
  · skip
    refine y_iload o dX12_slot_12 rfl ?_
    refine y_if_lt o dX12_slot_13 (fun c13 => ?_) (fun c13 => ?_)
    · skip
      refine y_const o dX12_slot_23 ?_
      refine y_goto o dX12_slot_24 ?_
      refine y_put o mpX12_56 dX12_slot_28 ?_
      exact j31 _ (by simp only [if_true, if_false, f_thr, eq_false c5, eq_true c13])
    · skip
      refine y_iload o dX12_slot_16 rfl ?_
      refine y_const o dX12_slot_17 ?_
      refine y_icmp_le o dX12_slot_20 (fun c20 => ?_) (fun c20 => ?_)
      · skip
        refine y_const o dX12_slot_27 ?_
        refine y_put o mpX12_56 dX12_slot_28 ?_
        exact j31 _ (by simp only [if_true, if_false, f_thr, eq_false c5, eq_false c13, eq_true c20])
      · skip
        refine y_const o dX12_slot_23 ?_
        refine y_goto o dX12_slot_24 ?_
        refine y_put o mpX12_56 dX12_slot_28 ?_
        exact j31 _ (by simp only [if_true, if_false, f_thr, eq_false c5, eq_false c13, eq_false c20])
  · skip
    refine y_const o dX12_slot_8 ?_
    refine y_goto o dX12_slot_9 ?_
    refine y_put o mpX12_56 dX12_slot_28 ?_
    exact j31 _ (by simp only [if_true, if_false, f_thr, eq_true c5])
set_option maxHeartbeats 4000000 in
set_option maxRecDepth 100000 in
theorem mm_cut (dd : ClassId × ClassId × ClassId) (h : Nat → Nat) (ex : va_W) (S : XS) (x : Int32)  : Cx dd yX12_cut cX12_cut 2 (some .boolean) 0 mG [.ref (h 0), .int x] h ex S (some (.int (f_cutR x))) (f_cutC S x) := by
  refine Cx.intro (by decide) (by simp [Value.category]) (Nat.le_of_ble_eq_true rfl) (fun K o r hk => ?_)
  have o : Y K cX12_cut RX12 2 0 := o
  refine y_aload o dX12_cut_0 rfl ?_
  refine y_const o dX12_cut_1 ?_
  refine y_put o mpX12_56 dX12_cut_2 ?_
  refine y_iload o dX12_cut_5 rfl ?_
  refine y_if_lt o dX12_cut_6 (fun c6 => ?_) (fun c6 => ?_)
  · skip
    refine y_const o dX12_cut_16 ?_
    exact x_zret o r dX12_cut_17 (by first | exact Or.inl rfl | exact Or.inr rfl) (by simp only [if_true, if_false, ix, f_cutR, eq_true c6] <;> rfl) (by simp only [if_true, if_false, ix, f_cutC, eq_true c6] <;> rfl)
  · skip
    refine y_iload o dX12_cut_9 rfl ?_
    refine y_const o dX12_cut_10 ?_
    refine y_icmp_le o dX12_cut_13 (fun c13 => ?_) (fun c13 => ?_)
    · skip
      refine y_aload o dX12_cut_18 rfl ?_
      refine y_iload o dX12_cut_19 rfl ?_
      refine y_put o mpX12_179 dX12_cut_20 ?_
      refine y_const o dX12_cut_23 ?_
      exact x_zret o r dX12_cut_24 (by first | exact Or.inl rfl | exact Or.inr rfl) (by simp only [if_true, if_false, ix, f_cutR, eq_false c6, eq_true c13] <;> rfl) (by simp only [if_true, if_false, ix, f_cutC, eq_false c6, eq_true c13] <;> rfl)
    · skip
      refine y_const o dX12_cut_16 ?_
      exact x_zret o r dX12_cut_17 (by first | exact Or.inl rfl | exact Or.inr rfl) (by simp only [if_true, if_false, ix, f_cutR, eq_false c6, eq_false c13] <;> rfl) (by simp only [if_true, if_false, ix, f_cutC, eq_false c6, eq_false c13] <;> rfl)
set_option maxHeartbeats 4000000 in
set_option maxRecDepth 100000 in
theorem mm_sense (dd : ClassId × ClassId × ClassId) (h : Nat → Nat) (ex : va_W) (S : XS) (x : Int32) (v : Int32)  : Cx dd yX12_sense cX12_sense 3 (some .boolean) 0 mG [.ref (h 0), .int x, .int v] h ex S (some (.int (f_senseR x))) (f_sense S x v) := by
  refine Cx.intro (by decide) (by simp [Value.category]) (Nat.le_of_ble_eq_true rfl) (fun K o r hk => ?_)
  have o : Y K cX12_sense RX12 3 0 := o
  refine y_aload o dX12_sense_0 rfl ?_
  refine y_const o dX12_sense_1 ?_
  refine y_put o mpX12_56 dX12_sense_2 ?_
  refine y_iload o dX12_sense_5 rfl ?_
  refine y_if_lt o dX12_sense_6 (fun c6 => ?_) (fun c6 => ?_)
  · skip
    refine y_const o dX12_sense_14 ?_
    exact x_zret o r dX12_sense_15 (by first | exact Or.inl rfl | exact Or.inr rfl) (by simp only [if_true, if_false, ix, f_senseR, eq_true c6] <;> rfl) (by simp only [if_true, if_false, ix, f_sense, eq_true c6] <;> rfl)
  · skip
    refine y_iload o dX12_sense_9 rfl ?_
    refine y_const o dX12_sense_10 ?_
    refine y_icmp_le o dX12_sense_11 (fun c11 => ?_) (fun c11 => ?_)
    · skip
      refine y_aload o dX12_sense_16 rfl ?_
      refine y_getr o mgX12_22 dX12_sense_17 ?_
      refine y_iload o dX12_sense_20 rfl ?_
      refine y_iload o dX12_sense_21 rfl ?_
      refine y_iast o ma_sensor dX12_sense_22 (vi_le c6 c11 rfl (by decide)) ?_
      refine y_const o dX12_sense_23 ?_
      exact x_zret o r dX12_sense_24 (by first | exact Or.inl rfl | exact Or.inr rfl) (by simp only [if_true, if_false, ix, f_senseR, eq_false c6, eq_true c11] <;> rfl) (by simp only [if_true, if_false, ix, f_sense, eq_false c6, eq_true c11] <;> rfl)
    · skip
      refine y_const o dX12_sense_14 ?_
      exact x_zret o r dX12_sense_15 (by first | exact Or.inl rfl | exact Or.inr rfl) (by simp only [if_true, if_false, ix, f_senseR, eq_false c6, eq_false c11] <;> rfl) (by simp only [if_true, if_false, ix, f_sense, eq_false c6, eq_false c11] <;> rfl)
set_option maxHeartbeats 4000000 in
set_option maxRecDepth 100000 in
theorem mm_kept (dd : ClassId × ClassId × ClassId) (h : Nat → Nat) (ex : va_W) (S : XS) (x : Int32) (v : Int32)  : Cx dd yX12_kept cX12_kept 3 (some .int) 1 mG [.ref (h 0), .int x, .int v] h ex S (some (.int (f_keptR S x v))) (f_kept S x) := by
  refine Cx.intro (by decide) (by simp [Value.category]) (Nat.le_of_ble_eq_true rfl) (fun K o r hk => ?_)
  have o : Y K cX12_kept RX12 3 1 := o
  refine y_iload o dX12_kept_0 rfl ?_
  refine y_if_lt o dX12_kept_1 (fun c1 => ?_) (fun c1 => ?_)
  · skip
    refine y_aload o dX12_kept_11 rfl ?_
    refine y_const o dX12_kept_12 ?_
    refine y_callVi o kX12_186 mr_X12 hk (mm_raise _ h ex _ _ ) (by decide) rfl rfl (Nat.le_of_ble_eq_true rfl) dX12_kept_13 ?_
    exact x_iret o r dX12_kept_16 (by simp only [if_true, if_false, ix, f_keptR, eq_true c1] <;> rfl) (by simp only [if_true, if_false, ix, f_kept, eq_true c1] <;> rfl)
  · skip
    refine y_iload o dX12_kept_4 rfl ?_
    refine y_const o dX12_kept_5 ?_
    refine y_icmp_lt o dX12_kept_8 (fun c8 => ?_) (fun c8 => ?_)
    · skip
      refine y_aload o dX12_kept_17 rfl ?_
      refine y_const o dX12_kept_18 ?_
      refine y_put o mpX12_56 dX12_kept_19 ?_
      refine y_iload o dX12_kept_22 rfl ?_
      refine y_if_eq o dX12_kept_23 (fun c23 => ?_) (fun c23 => ?_)
      · skip
        refine y_aload o dX12_kept_35 rfl ?_
        refine y_getr o mgX12_16 dX12_kept_36 ?_
        refine y_iload o dX12_kept_39 rfl ?_
        refine y_iald o ma_kept dX12_kept_40 (vi_of c1 c8 rfl (by decide)) ?_
        exact x_iret o r dX12_kept_41 (by simp only [if_true, if_false, ix, f_keptR, eq_false c1, eq_true c8, eq_true c23] <;> rfl) (by simp only [if_true, if_false, ix, f_kept, eq_false c1, eq_true c8, eq_true c23] <;> rfl)
      · skip
        refine y_aload o dX12_kept_26 rfl ?_
        refine y_getr o mgX12_19 dX12_kept_27 ?_
        refine y_iload o dX12_kept_30 rfl ?_
        refine y_iald o ma_wear dX12_kept_31 (vi_of c1 c8 rfl (by decide)) ?_
        refine y_goto o dX12_kept_32 ?_
        exact x_iret o r dX12_kept_41 (by simp only [if_true, if_false, ix, f_keptR, eq_false c1, eq_true c8, eq_false c23] <;> rfl) (by simp only [if_true, if_false, ix, f_kept, eq_false c1, eq_true c8, eq_false c23] <;> rfl)
    · skip
      refine y_aload o dX12_kept_11 rfl ?_
      refine y_const o dX12_kept_12 ?_
      refine y_callVi o kX12_186 mr_X12 hk (mm_raise _ h ex _ _ ) (by decide) rfl rfl (Nat.le_of_ble_eq_true rfl) dX12_kept_13 ?_
      exact x_iret o r dX12_kept_16 (by simp only [if_true, if_false, ix, f_keptR, eq_false c1, eq_false c8] <;> rfl) (by simp only [if_true, if_false, ix, f_kept, eq_false c1, eq_false c8] <;> rfl)
set_option maxHeartbeats 4000000 in
set_option maxRecDepth 100000 in
theorem mm_aired (dd : ClassId × ClassId × ClassId) (h : Nat → Nat) (ex : va_W) (S : XS) (x : Int32) (v : Int32) (ha : vp_in (S.1 13) 1048576) : Cx dd yX12_aired cX12_aired 4 (some .int) 0 mG [.ref (h 0), .int x, .int v] h ex S (some (.int (f_airedR S x v))) (xs S 19 0) := by
  refine Cx.intro (by decide) (by simp [Value.category]) (Nat.le_of_ble_eq_true rfl) (fun K o r hk => ?_)
  have o : Y K cX12_aired RX12 4 0 := o
  refine y_aload o dX12_aired_0 rfl ?_
  refine y_const o dX12_aired_1 ?_
  refine y_put o mpX12_56 dX12_aired_2 ?_
  refine y_iload o dX12_aired_5 rfl ?_
  refine y_if_lt o dX12_aired_6 (fun c6 => ?_) (fun c6 => ?_)
  · skip
    refine y_const o dX12_aired_32 ?_
    exact x_iret o r dX12_aired_33 (by simp only [if_true, if_false, ix, f_airedR, f_airedR0, eq_true c6] <;> rfl) (by rfl)
  · skip
    refine y_iload o dX12_aired_9 rfl ?_
    refine y_const o dX12_aired_10 ?_
    refine y_icmp_ge o dX12_aired_12 (fun c12 => ?_) (fun c12 => ?_)
    · skip
      refine y_const o dX12_aired_32 ?_
      exact x_iret o r dX12_aired_33 (by simp only [if_true, if_false, ix, f_airedR, f_airedR0, eq_false c6, eq_true c12] <;> rfl) (by rfl)
    · skip
      refine y_iload o dX12_aired_15 rfl ?_
      refine y_aload o dX12_aired_16 rfl ?_
      refine y_get o mgX12_130 dX12_aired_17 ?_
      refine y_icmp_ge o dX12_aired_20 (fun c20 => ?_) (fun c20 => ?_)
      · skip
        refine y_const o dX12_aired_32 ?_
        exact x_iret o r dX12_aired_33 (by simp only [if_true, if_false, ix, f_airedR, f_airedR0, eq_false c6, eq_false c12, eq_true c20] <;> rfl) (by rfl)
      · skip
        refine y_iload o dX12_aired_23 rfl ?_
        refine y_if_lt o dX12_aired_24 (fun c24 => ?_) (fun c24 => ?_)
        · skip
          refine y_const o dX12_aired_32 ?_
          exact x_iret o r dX12_aired_33 (by simp only [if_true, if_false, ix, f_airedR, f_airedR0, eq_false c6, eq_false c12, eq_false c20, eq_true c24] <;> rfl) (by rfl)
        · skip
          refine y_iload o dX12_aired_27 rfl ?_
          refine y_const o dX12_aired_28 ?_
          refine y_icmp_le o dX12_aired_29 (fun c29 => ?_) (fun c29 => ?_)
          · skip
            refine y_aload o dX12_aired_34 rfl ?_
            refine y_get o mgX12_130 dX12_aired_35 ?_
            refine y_const o dX12_aired_38 ?_
            refine y_isub o dX12_aired_39 ?_
            refine y_iload o dX12_aired_40 rfl ?_
            refine y_isub o dX12_aired_41 ?_
            refine y_const o dX12_aired_42 ?_
            refine y_irem o dX12_aired_44 (by decide) ?_
            refine y_istore o dX12_aired_45 (by decide) (Nat.le_of_ble_eq_true rfl) ?_
            refine y_iload o dX12_aired_46 rfl ?_
            refine y_if_ne o dX12_aired_47 (fun c47 => ?_) (fun c47 => ?_)
            · skip
              refine y_aload o dX12_aired_59 rfl ?_
              refine y_getr o mgX12_47 dX12_aired_60 ?_
              refine y_iload o dX12_aired_63 rfl ?_
              refine y_iald o ma_airPayload dX12_aired_64 (aired_in ha c6 c20) ?_
              exact x_iret o r dX12_aired_65 (by simp only [if_true, if_false, ix, f_airedR, f_airedR0, eq_false c6, eq_false c12, eq_false c20, eq_false c24, eq_true c29, eq_false c47] <;> rfl) (by rfl)
            · skip
              refine y_aload o dX12_aired_50 rfl ?_
              refine y_getr o mgX12_44 dX12_aired_51 ?_
              refine y_iload o dX12_aired_54 rfl ?_
              refine y_iald o ma_airNumber dX12_aired_55 (aired_in ha c6 c20) ?_
              refine y_goto o dX12_aired_56 ?_
              exact x_iret o r dX12_aired_65 (by simp only [if_true, if_false, ix, f_airedR, f_airedR0, eq_false c6, eq_false c12, eq_false c20, eq_false c24, eq_true c29, eq_true c47] <;> rfl) (by rfl)
          · skip
            refine y_const o dX12_aired_32 ?_
            exact x_iret o r dX12_aired_33 (by simp only [if_true, if_false, ix, f_airedR, f_airedR0, eq_false c6, eq_false c12, eq_false c20, eq_false c24, eq_false c29] <;> rfl) (by rfl)
set_option maxHeartbeats 4000000 in
set_option maxRecDepth 100000 in
theorem mm_heard (dd : ClassId × ClassId × ClassId) (h : Nat → Nat) (ex : va_W) (S : XS) (x : Int32)  : Cx dd yX12_heard cX12_heard 2 (some .int) 1 mG [.ref (h 0), .int x] h ex S (some (.int (f_heardR S x))) (f_heard S x) := by
  refine Cx.intro (by decide) (by simp [Value.category]) (Nat.le_of_ble_eq_true rfl) (fun K o r hk => ?_)
  have o : Y K cX12_heard RX12 2 1 := o
  refine y_iload o dX12_heard_0 rfl ?_
  refine y_if_lt o dX12_heard_1 (fun c1 => ?_) (fun c1 => ?_)
  · skip
    refine y_aload o dX12_heard_17 rfl ?_
    refine y_const o dX12_heard_18 ?_
    refine y_callVi o kX12_186 mr_X12 hk (mm_raise _ h ex _ _ ) (by decide) rfl rfl (Nat.le_of_ble_eq_true rfl) dX12_heard_19 ?_
    exact x_iret o r dX12_heard_22 (by simp only [if_true, if_false, ix, f_heardR, eq_true c1] <;> rfl) (by simp only [if_true, if_false, ix, f_heard, eq_true c1] <;> rfl)
  · skip
    refine y_aload o dX12_heard_4 rfl ?_
    refine y_getr o mgX12_50 dX12_heard_5 ?_
    refine y_iload o dX12_heard_8 rfl ?_
    refine y_const o dX12_heard_9 ?_
    refine y_irem o dX12_heard_11 (by decide) ?_
    refine y_iald o ma_farNumber dX12_heard_12 (jrem_in0 c1 rfl (by decide) (by decide)) ?_
    refine y_iload o dX12_heard_13 rfl ?_
    refine y_icmp_eq o dX12_heard_14 (fun c14 => ?_) (fun c14 => ?_)
    · skip
      refine y_aload o dX12_heard_23 rfl ?_
      refine y_const o dX12_heard_24 ?_
      refine y_put o mpX12_56 dX12_heard_25 ?_
      refine y_aload o dX12_heard_28 rfl ?_
      refine y_getr o mgX12_53 dX12_heard_29 ?_
      refine y_iload o dX12_heard_32 rfl ?_
      refine y_const o dX12_heard_33 ?_
      refine y_irem o dX12_heard_35 (by decide) ?_
      refine y_iald o ma_farPayload dX12_heard_36 (jrem_in0 c1 rfl (by decide) (by decide)) ?_
      exact x_iret o r dX12_heard_37 (by simp only [if_true, if_false, ix, f_heardR, eq_false c1, eq_true c14] <;> rfl) (by simp only [if_true, if_false, ix, f_heard, eq_false c1, eq_true c14] <;> rfl)
    · skip
      refine y_aload o dX12_heard_17 rfl ?_
      refine y_const o dX12_heard_18 ?_
      refine y_callVi o kX12_186 mr_X12 hk (mm_raise _ h ex _ _ ) (by decide) rfl rfl (Nat.le_of_ble_eq_true rfl) dX12_heard_19 ?_
      exact x_iret o r dX12_heard_22 (by simp only [if_true, if_false, ix, f_heardR, eq_false c1, eq_false c14] <;> rfl) (by simp only [if_true, if_false, ix, f_heard, eq_false c1, eq_false c14] <;> rfl)
set_option maxHeartbeats 4000000 in
set_option maxRecDepth 100000 in
theorem mm_state (dd : ClassId × ClassId × ClassId) (h : Nat → Nat) (ex : va_W) (S : XS) (x : Int32)  : Cx dd yX12_state cX12_state 3 (some .int) 0 mG [.ref (h 0), .int x] h ex S (some (.int (f_stateR S x))) (xs S 19 0) := by
  refine Cx.intro (by decide) (by simp [Value.category]) (Nat.le_of_ble_eq_true rfl) (fun K o r hk => ?_)
  have o : Y K cX12_state RX12 3 0 := o
  refine y_aload o dX12_state_0 rfl ?_
  refine y_const o dX12_state_1 ?_
  refine y_put o mpX12_56 dX12_state_2 ?_
  refine y_aload o dX12_state_5 rfl ?_
  refine y_get o mgX12_93 dX12_state_6 ?_
  refine y_const o dX12_state_9 ?_
  refine y_icmp_eq o dX12_state_10 (fun c10 => ?_) (fun c10 => ?_)
  · skip
    refine y_const o dX12_state_21 ?_
    refine y_goto o dX12_state_22 ?_
    refine y_istore o dX12_state_26 (by decide) (Nat.le_of_ble_eq_true rfl) ?_
    refine y_iload o dX12_state_27 rfl ?_
    refine y_top o (fun x28 ex28 => ?_)
    rcases (show x28.toInt < 0 ∨ x28.toInt = 0 ∨ x28.toInt = 1 ∨ x28.toInt = 2 ∨ x28.toInt = 3 ∨ x28.toInt = 4 ∨ x28.toInt = 5 ∨ x28.toInt = 6 ∨ x28.toInt = 7 ∨ x28.toInt = 8 ∨ x28.toInt = 9 ∨ 9 < x28.toInt by omega) with c28 | c28 | c28 | c28 | c28 | c28 | c28 | c28 | c28 | c28 | c28 | c28
    · skip
      refine y_swd o dX12_state_28_d (Or.inl c28) ?_
      rw [ex28] at c28
      refine y_const o dX12_state_162 ?_
      exact x_iret o r dX12_state_163 (by exact (f_state_out (by omega)).symm) (by rfl)
    · skip
      refine y_sw o dX12_state_28_c0 c28 ?_
      have c28 : x28 = 0 := Int32.toInt_inj.mp c28
      rw [ex28] at c28
      refine y_aload o dX12_state_84 rfl ?_
      refine y_get o mgX12_93 dX12_state_85 ?_
      exact x_iret o r dX12_state_88 (by simp (decide := true) only [if_true, if_false, f_stateR, f_stateR0, f_att, c28, eq_true c10]) (by rfl)
    · skip
      refine y_sw o dX12_state_28_c1 c28 ?_
      have c28 : x28 = 1 := Int32.toInt_inj.mp c28
      rw [ex28] at c28
      refine y_aload o dX12_state_89 rfl ?_
      refine y_get o mgX12_111 dX12_state_90 ?_
      exact x_iret o r dX12_state_93 (by simp (decide := true) only [if_true, if_false, f_stateR, f_stateR0, f_att, c28, eq_true c10]) (by rfl)
    · skip
      refine y_sw o dX12_state_28_c2 c28 ?_
      have c28 : x28 = 2 := Int32.toInt_inj.mp c28
      rw [ex28] at c28
      refine y_aload o dX12_state_94 rfl ?_
      refine y_get o mgX12_155 dX12_state_95 ?_
      exact x_iret o r dX12_state_98 (by simp (decide := true) only [if_true, if_false, f_stateR, f_stateR0, f_att, c28, eq_true c10]) (by rfl)
    · skip
      refine y_sw o dX12_state_28_c3 c28 ?_
      have c28 : x28 = 3 := Int32.toInt_inj.mp c28
      rw [ex28] at c28
      refine y_iload o dX12_state_99 rfl ?_
      refine y_if_eq o dX12_state_100 (fun cc => absurd cc (by decide)) (fun cc => ?_)
      refine y_aload o dX12_state_103 rfl ?_
      refine y_get o mgX12_96 dX12_state_104 ?_
      refine y_goto o dX12_state_107 ?_
      exact x_iret o r dX12_state_111 (by simp (decide := true) only [if_true, if_false, f_stateR, f_stateR0, f_att, c28, eq_true c10]) (by rfl)
    · skip
      refine y_sw o dX12_state_28_c4 c28 ?_
      have c28 : x28 = 4 := Int32.toInt_inj.mp c28
      rw [ex28] at c28
      refine y_iload o dX12_state_112 rfl ?_
      refine y_if_eq o dX12_state_113 (fun cc => absurd cc (by decide)) (fun cc => ?_)
      refine y_aload o dX12_state_116 rfl ?_
      refine y_get o mgX12_84 dX12_state_117 ?_
      refine y_goto o dX12_state_120 ?_
      exact x_iret o r dX12_state_124 (by simp (decide := true) only [if_true, if_false, f_stateR, f_stateR0, f_att, c28, eq_true c10]) (by rfl)
    · skip
      refine y_sw o dX12_state_28_c5 c28 ?_
      have c28 : x28 = 5 := Int32.toInt_inj.mp c28
      rw [ex28] at c28
      refine y_aload o dX12_state_125 rfl ?_
      refine y_get o mgX12_93 dX12_state_126 ?_
      refine y_const o dX12_state_129 ?_
      refine y_icmp_ne o dX12_state_130 (fun c130 => ?_) (fun c130 => ?_)
      · skip
        refine y_const o dX12_state_140 ?_
        exact x_iret o r dX12_state_141 (by exact absurd c10 c130) (by rfl)
      · skip
        refine y_aload o dX12_state_133 rfl ?_
        refine y_get o mgX12_102 dX12_state_134 ?_
        refine y_goto o dX12_state_137 ?_
        exact x_iret o r dX12_state_141 (by simp (decide := true) only [if_true, if_false, f_stateR, f_stateR0, f_att, c28, eq_true c10, eq_true c130]) (by rfl)
    · skip
      refine y_sw o dX12_state_28_c6 c28 ?_
      have c28 : x28 = 6 := Int32.toInt_inj.mp c28
      rw [ex28] at c28
      refine y_aload o dX12_state_142 rfl ?_
      refine y_get o mgX12_31 dX12_state_143 ?_
      exact x_iret o r dX12_state_146 (by simp (decide := true) only [if_true, if_false, f_stateR, f_stateR0, f_att, c28, eq_true c10]) (by rfl)
    · skip
      refine y_sw o dX12_state_28_c7 c28 ?_
      have c28 : x28 = 7 := Int32.toInt_inj.mp c28
      rw [ex28] at c28
      refine y_aload o dX12_state_147 rfl ?_
      refine y_get o mgX12_90 dX12_state_148 ?_
      exact x_iret o r dX12_state_151 (by simp (decide := true) only [if_true, if_false, f_stateR, f_stateR0, f_att, c28, eq_true c10]) (by rfl)
    · skip
      refine y_sw o dX12_state_28_c8 c28 ?_
      have c28 : x28 = 8 := Int32.toInt_inj.mp c28
      rw [ex28] at c28
      refine y_aload o dX12_state_152 rfl ?_
      refine y_get o mgX12_158 dX12_state_153 ?_
      exact x_iret o r dX12_state_156 (by simp (decide := true) only [if_true, if_false, f_stateR, f_stateR0, f_att, c28, eq_true c10]) (by rfl)
    · skip
      refine y_sw o dX12_state_28_c9 c28 ?_
      have c28 : x28 = 9 := Int32.toInt_inj.mp c28
      rw [ex28] at c28
      refine y_aload o dX12_state_157 rfl ?_
      refine y_get o mgX12_130 dX12_state_158 ?_
      exact x_iret o r dX12_state_161 (by simp (decide := true) only [if_true, if_false, f_stateR, f_stateR0, f_att, c28, eq_true c10]) (by rfl)
    · skip
      refine y_swd o dX12_state_28_d (Or.inr c28) ?_
      rw [ex28] at c28
      refine y_const o dX12_state_162 ?_
      exact x_iret o r dX12_state_163 (by exact (f_state_out (by omega)).symm) (by rfl)
  · skip
    refine y_aload o dX12_state_13 rfl ?_
    refine y_get o mgX12_93 dX12_state_14 ?_
    refine y_const o dX12_state_17 ?_
    refine y_icmp_ne o dX12_state_18 (fun c18 => ?_) (fun c18 => ?_)
    · skip
      refine y_const o dX12_state_25 ?_
      refine y_istore o dX12_state_26 (by decide) (Nat.le_of_ble_eq_true rfl) ?_
      refine y_iload o dX12_state_27 rfl ?_
      refine y_top o (fun x28 ex28 => ?_)
      rcases (show x28.toInt < 0 ∨ x28.toInt = 0 ∨ x28.toInt = 1 ∨ x28.toInt = 2 ∨ x28.toInt = 3 ∨ x28.toInt = 4 ∨ x28.toInt = 5 ∨ x28.toInt = 6 ∨ x28.toInt = 7 ∨ x28.toInt = 8 ∨ x28.toInt = 9 ∨ 9 < x28.toInt by omega) with c28 | c28 | c28 | c28 | c28 | c28 | c28 | c28 | c28 | c28 | c28 | c28
      · skip
        refine y_swd o dX12_state_28_d (Or.inl c28) ?_
        rw [ex28] at c28
        refine y_const o dX12_state_162 ?_
        exact x_iret o r dX12_state_163 (by exact (f_state_out (by omega)).symm) (by rfl)
      · skip
        refine y_sw o dX12_state_28_c0 c28 ?_
        have c28 : x28 = 0 := Int32.toInt_inj.mp c28
        rw [ex28] at c28
        refine y_aload o dX12_state_84 rfl ?_
        refine y_get o mgX12_93 dX12_state_85 ?_
        exact x_iret o r dX12_state_88 (by simp (decide := true) only [if_true, if_false, f_stateR, f_stateR0, f_att, c28, eq_false c10, eq_false c18]) (by rfl)
      · skip
        refine y_sw o dX12_state_28_c1 c28 ?_
        have c28 : x28 = 1 := Int32.toInt_inj.mp c28
        rw [ex28] at c28
        refine y_aload o dX12_state_89 rfl ?_
        refine y_get o mgX12_111 dX12_state_90 ?_
        exact x_iret o r dX12_state_93 (by simp (decide := true) only [if_true, if_false, f_stateR, f_stateR0, f_att, c28, eq_false c10, eq_false c18]) (by rfl)
      · skip
        refine y_sw o dX12_state_28_c2 c28 ?_
        have c28 : x28 = 2 := Int32.toInt_inj.mp c28
        rw [ex28] at c28
        refine y_aload o dX12_state_94 rfl ?_
        refine y_get o mgX12_155 dX12_state_95 ?_
        exact x_iret o r dX12_state_98 (by simp (decide := true) only [if_true, if_false, f_stateR, f_stateR0, f_att, c28, eq_false c10, eq_false c18]) (by rfl)
      · skip
        refine y_sw o dX12_state_28_c3 c28 ?_
        have c28 : x28 = 3 := Int32.toInt_inj.mp c28
        rw [ex28] at c28
        refine y_iload o dX12_state_99 rfl ?_
        refine y_if_eq o dX12_state_100 (fun cc => ?_) (fun cc => absurd cc (by decide))
        refine y_const o dX12_state_110 ?_
        exact x_iret o r dX12_state_111 (by simp (decide := true) only [if_true, if_false, f_stateR, f_stateR0, f_att, c28, eq_false c10, eq_false c18]) (by rfl)
      · skip
        refine y_sw o dX12_state_28_c4 c28 ?_
        have c28 : x28 = 4 := Int32.toInt_inj.mp c28
        rw [ex28] at c28
        refine y_iload o dX12_state_112 rfl ?_
        refine y_if_eq o dX12_state_113 (fun cc => ?_) (fun cc => absurd cc (by decide))
        refine y_const o dX12_state_123 ?_
        exact x_iret o r dX12_state_124 (by simp (decide := true) only [if_true, if_false, f_stateR, f_stateR0, f_att, c28, eq_false c10, eq_false c18]) (by rfl)
      · skip
        refine y_sw o dX12_state_28_c5 c28 ?_
        have c28 : x28 = 5 := Int32.toInt_inj.mp c28
        rw [ex28] at c28
        refine y_aload o dX12_state_125 rfl ?_
        refine y_get o mgX12_93 dX12_state_126 ?_
        refine y_const o dX12_state_129 ?_
        refine y_icmp_ne o dX12_state_130 (fun c130 => ?_) (fun c130 => ?_)
        · skip
          refine y_const o dX12_state_140 ?_
          exact x_iret o r dX12_state_141 (by simp (decide := true) only [if_true, if_false, f_stateR, f_stateR0, f_att, c28, eq_false c10, eq_false c18, eq_false c130]) (by rfl)
        · skip
          refine y_aload o dX12_state_133 rfl ?_
          refine y_get o mgX12_102 dX12_state_134 ?_
          refine y_goto o dX12_state_137 ?_
          exact x_iret o r dX12_state_141 (by exact absurd c130 c10) (by rfl)
      · skip
        refine y_sw o dX12_state_28_c6 c28 ?_
        have c28 : x28 = 6 := Int32.toInt_inj.mp c28
        rw [ex28] at c28
        refine y_aload o dX12_state_142 rfl ?_
        refine y_get o mgX12_31 dX12_state_143 ?_
        exact x_iret o r dX12_state_146 (by simp (decide := true) only [if_true, if_false, f_stateR, f_stateR0, f_att, c28, eq_false c10, eq_false c18]) (by rfl)
      · skip
        refine y_sw o dX12_state_28_c7 c28 ?_
        have c28 : x28 = 7 := Int32.toInt_inj.mp c28
        rw [ex28] at c28
        refine y_aload o dX12_state_147 rfl ?_
        refine y_get o mgX12_90 dX12_state_148 ?_
        exact x_iret o r dX12_state_151 (by simp (decide := true) only [if_true, if_false, f_stateR, f_stateR0, f_att, c28, eq_false c10, eq_false c18]) (by rfl)
      · skip
        refine y_sw o dX12_state_28_c8 c28 ?_
        have c28 : x28 = 8 := Int32.toInt_inj.mp c28
        rw [ex28] at c28
        refine y_aload o dX12_state_152 rfl ?_
        refine y_get o mgX12_158 dX12_state_153 ?_
        exact x_iret o r dX12_state_156 (by simp (decide := true) only [if_true, if_false, f_stateR, f_stateR0, f_att, c28, eq_false c10, eq_false c18]) (by rfl)
      · skip
        refine y_sw o dX12_state_28_c9 c28 ?_
        have c28 : x28 = 9 := Int32.toInt_inj.mp c28
        rw [ex28] at c28
        refine y_aload o dX12_state_157 rfl ?_
        refine y_get o mgX12_130 dX12_state_158 ?_
        exact x_iret o r dX12_state_161 (by simp (decide := true) only [if_true, if_false, f_stateR, f_stateR0, f_att, c28, eq_false c10, eq_false c18]) (by rfl)
      · skip
        refine y_swd o dX12_state_28_d (Or.inr c28) ?_
        rw [ex28] at c28
        refine y_const o dX12_state_162 ?_
        exact x_iret o r dX12_state_163 (by exact (f_state_out (by omega)).symm) (by rfl)
    · skip
      refine y_const o dX12_state_21 ?_
      refine y_goto o dX12_state_22 ?_
      refine y_istore o dX12_state_26 (by decide) (Nat.le_of_ble_eq_true rfl) ?_
      refine y_iload o dX12_state_27 rfl ?_
      refine y_top o (fun x28 ex28 => ?_)
      rcases (show x28.toInt < 0 ∨ x28.toInt = 0 ∨ x28.toInt = 1 ∨ x28.toInt = 2 ∨ x28.toInt = 3 ∨ x28.toInt = 4 ∨ x28.toInt = 5 ∨ x28.toInt = 6 ∨ x28.toInt = 7 ∨ x28.toInt = 8 ∨ x28.toInt = 9 ∨ 9 < x28.toInt by omega) with c28 | c28 | c28 | c28 | c28 | c28 | c28 | c28 | c28 | c28 | c28 | c28
      · skip
        refine y_swd o dX12_state_28_d (Or.inl c28) ?_
        rw [ex28] at c28
        refine y_const o dX12_state_162 ?_
        exact x_iret o r dX12_state_163 (by exact (f_state_out (by omega)).symm) (by rfl)
      · skip
        refine y_sw o dX12_state_28_c0 c28 ?_
        have c28 : x28 = 0 := Int32.toInt_inj.mp c28
        rw [ex28] at c28
        refine y_aload o dX12_state_84 rfl ?_
        refine y_get o mgX12_93 dX12_state_85 ?_
        exact x_iret o r dX12_state_88 (by simp (decide := true) only [if_true, if_false, f_stateR, f_stateR0, f_att, c28, eq_false c10, eq_true c18]) (by rfl)
      · skip
        refine y_sw o dX12_state_28_c1 c28 ?_
        have c28 : x28 = 1 := Int32.toInt_inj.mp c28
        rw [ex28] at c28
        refine y_aload o dX12_state_89 rfl ?_
        refine y_get o mgX12_111 dX12_state_90 ?_
        exact x_iret o r dX12_state_93 (by simp (decide := true) only [if_true, if_false, f_stateR, f_stateR0, f_att, c28, eq_false c10, eq_true c18]) (by rfl)
      · skip
        refine y_sw o dX12_state_28_c2 c28 ?_
        have c28 : x28 = 2 := Int32.toInt_inj.mp c28
        rw [ex28] at c28
        refine y_aload o dX12_state_94 rfl ?_
        refine y_get o mgX12_155 dX12_state_95 ?_
        exact x_iret o r dX12_state_98 (by simp (decide := true) only [if_true, if_false, f_stateR, f_stateR0, f_att, c28, eq_false c10, eq_true c18]) (by rfl)
      · skip
        refine y_sw o dX12_state_28_c3 c28 ?_
        have c28 : x28 = 3 := Int32.toInt_inj.mp c28
        rw [ex28] at c28
        refine y_iload o dX12_state_99 rfl ?_
        refine y_if_eq o dX12_state_100 (fun cc => absurd cc (by decide)) (fun cc => ?_)
        refine y_aload o dX12_state_103 rfl ?_
        refine y_get o mgX12_96 dX12_state_104 ?_
        refine y_goto o dX12_state_107 ?_
        exact x_iret o r dX12_state_111 (by simp (decide := true) only [if_true, if_false, f_stateR, f_stateR0, f_att, c28, eq_false c10, eq_true c18]) (by rfl)
      · skip
        refine y_sw o dX12_state_28_c4 c28 ?_
        have c28 : x28 = 4 := Int32.toInt_inj.mp c28
        rw [ex28] at c28
        refine y_iload o dX12_state_112 rfl ?_
        refine y_if_eq o dX12_state_113 (fun cc => absurd cc (by decide)) (fun cc => ?_)
        refine y_aload o dX12_state_116 rfl ?_
        refine y_get o mgX12_84 dX12_state_117 ?_
        refine y_goto o dX12_state_120 ?_
        exact x_iret o r dX12_state_124 (by simp (decide := true) only [if_true, if_false, f_stateR, f_stateR0, f_att, c28, eq_false c10, eq_true c18]) (by rfl)
      · skip
        refine y_sw o dX12_state_28_c5 c28 ?_
        have c28 : x28 = 5 := Int32.toInt_inj.mp c28
        rw [ex28] at c28
        refine y_aload o dX12_state_125 rfl ?_
        refine y_get o mgX12_93 dX12_state_126 ?_
        refine y_const o dX12_state_129 ?_
        refine y_icmp_ne o dX12_state_130 (fun c130 => ?_) (fun c130 => ?_)
        · skip
          refine y_const o dX12_state_140 ?_
          exact x_iret o r dX12_state_141 (by simp (decide := true) only [if_true, if_false, f_stateR, f_stateR0, f_att, c28, eq_false c10, eq_true c18, eq_false c130]) (by rfl)
        · skip
          refine y_aload o dX12_state_133 rfl ?_
          refine y_get o mgX12_102 dX12_state_134 ?_
          refine y_goto o dX12_state_137 ?_
          exact x_iret o r dX12_state_141 (by exact absurd c130 c10) (by rfl)
      · skip
        refine y_sw o dX12_state_28_c6 c28 ?_
        have c28 : x28 = 6 := Int32.toInt_inj.mp c28
        rw [ex28] at c28
        refine y_aload o dX12_state_142 rfl ?_
        refine y_get o mgX12_31 dX12_state_143 ?_
        exact x_iret o r dX12_state_146 (by simp (decide := true) only [if_true, if_false, f_stateR, f_stateR0, f_att, c28, eq_false c10, eq_true c18]) (by rfl)
      · skip
        refine y_sw o dX12_state_28_c7 c28 ?_
        have c28 : x28 = 7 := Int32.toInt_inj.mp c28
        rw [ex28] at c28
        refine y_aload o dX12_state_147 rfl ?_
        refine y_get o mgX12_90 dX12_state_148 ?_
        exact x_iret o r dX12_state_151 (by simp (decide := true) only [if_true, if_false, f_stateR, f_stateR0, f_att, c28, eq_false c10, eq_true c18]) (by rfl)
      · skip
        refine y_sw o dX12_state_28_c8 c28 ?_
        have c28 : x28 = 8 := Int32.toInt_inj.mp c28
        rw [ex28] at c28
        refine y_aload o dX12_state_152 rfl ?_
        refine y_get o mgX12_158 dX12_state_153 ?_
        exact x_iret o r dX12_state_156 (by simp (decide := true) only [if_true, if_false, f_stateR, f_stateR0, f_att, c28, eq_false c10, eq_true c18]) (by rfl)
      · skip
        refine y_sw o dX12_state_28_c9 c28 ?_
        have c28 : x28 = 9 := Int32.toInt_inj.mp c28
        rw [ex28] at c28
        refine y_aload o dX12_state_157 rfl ?_
        refine y_get o mgX12_130 dX12_state_158 ?_
        exact x_iret o r dX12_state_161 (by simp (decide := true) only [if_true, if_false, f_stateR, f_stateR0, f_att, c28, eq_false c10, eq_true c18]) (by rfl)
      · skip
        refine y_swd o dX12_state_28_d (Or.inr c28) ?_
        rw [ex28] at c28
        refine y_const o dX12_state_162 ?_
        exact x_iret o r dX12_state_163 (by exact (f_state_out (by omega)).symm) (by rfl)
set_option maxHeartbeats 4000000 in
set_option maxRecDepth 100000 in
theorem mm_task (dd : ClassId × ClassId × ClassId) (h : Nat → Nat) (ex : va_W) (S : XS) (t : Int32) (v : Int32)  : Cx dd yX12_task cX12_task 3 (some .int) 1 mG [.ref (h 0), .int t, .int v] h ex S (some (.int (f_taskR S t v))) (xs S 19 0) := by
  refine Cx.intro (by decide) (by simp [Value.category]) (Nat.le_of_ble_eq_true rfl) (fun K o r hk => ?_)
  have o : Y K cX12_task RX12 3 1 := o
  refine y_aload o dX12_task_0 rfl ?_
  refine y_const o dX12_task_1 ?_
  refine y_put o mpX12_56 dX12_task_2 ?_
  refine y_iload o dX12_task_5 rfl ?_
  refine y_callSi o kX12_63 hk (mm_isTask _ h ex _ _ ) (by decide) rfl rfl (Nat.le_of_ble_eq_true rfl) dX12_task_6 ?_
  refine y_if_eq o dX12_task_9 (fun c9 => ?_) (fun c9 => ?_)
  · skip
    refine y_const o dX12_task_21 ?_
    exact x_iret o r dX12_task_22 (by simp only [if_true, if_false, ix, f_taskR, eq_true c9] <;> rfl) (by rfl)
  · skip
    refine y_iload o dX12_task_12 rfl ?_
    refine y_if_lt o dX12_task_13 (fun c13 => ?_) (fun c13 => ?_)
    · skip
      refine y_const o dX12_task_21 ?_
      exact x_iret o r dX12_task_22 (by simp only [if_true, if_false, ix, f_taskR, eq_false c9, eq_true c13] <;> rfl) (by rfl)
    · skip
      refine y_iload o dX12_task_16 rfl ?_
      refine y_const o dX12_task_17 ?_
      refine y_icmp_le o dX12_task_18 (fun c18 => ?_) (fun c18 => ?_)
      · skip
        refine y_iload o dX12_task_23 rfl ?_
        refine y_if_ne o dX12_task_24 (fun c24 => ?_) (fun c24 => ?_)
        · skip
          refine y_iload o dX12_task_36 rfl ?_
          refine y_const o dX12_task_37 ?_
          refine y_icmp_ne o dX12_task_38 (fun c38 => ?_) (fun c38 => ?_)
          · skip
            refine y_aload o dX12_task_50 rfl ?_
            refine y_getr o mgX12_13 dX12_task_51 ?_
            refine y_iload o dX12_task_54 rfl ?_
            refine y_iald o ma_size dX12_task_55 (f_isTask_in c9) ?_
            exact x_iret o r dX12_task_56 (by simp only [if_true, if_false, ix, f_taskR, eq_false c9, eq_false c13, eq_true c18, eq_false c24, eq_false c38] <;> rfl) (by rfl)
          · skip
            refine y_aload o dX12_task_41 rfl ?_
            refine y_getr o mgX12_28 dX12_task_42 ?_
            refine y_iload o dX12_task_45 rfl ?_
            refine y_iald o ma_failures dX12_task_46 (f_isTask_in c9) ?_
            refine y_goto o dX12_task_47 ?_
            exact x_iret o r dX12_task_56 (by simp only [if_true, if_false, ix, f_taskR, eq_false c9, eq_false c13, eq_true c18, eq_false c24, eq_true c38] <;> rfl) (by rfl)
        · skip
          refine y_aload o dX12_task_27 rfl ?_
          refine y_getr o mgX12_25 dX12_task_28 ?_
          refine y_iload o dX12_task_31 rfl ?_
          refine y_iald o ma_estimate dX12_task_32 (f_isTask_in c9) ?_
          refine y_goto o dX12_task_33 ?_
          exact x_iret o r dX12_task_56 (by simp only [if_true, if_false, ix, f_taskR, eq_false c9, eq_false c13, eq_true c18, eq_true c24] <;> rfl) (by rfl)
      · skip
        refine y_const o dX12_task_21 ?_
        exact x_iret o r dX12_task_22 (by simp only [if_true, if_false, ix, f_taskR, eq_false c9, eq_false c13, eq_false c18] <;> rfl) (by rfl)
set_option maxHeartbeats 4000000 in
set_option maxRecDepth 100000 in
theorem mm_register (dd : ClassId × ClassId × ClassId) (h : Nat → Nat) (ex : va_W) (S : XS) (x : Int32)  : Cx dd yX12_register cX12_register 2 (some .int) 0 mG [.ref (h 0), .int x] h ex S (some (.int (f_registerR S x))) (xs S 19 0) := by
  refine Cx.intro (by decide) (by simp [Value.category]) (Nat.le_of_ble_eq_true rfl) (fun K o r hk => ?_)
  have o : Y K cX12_register RX12 2 0 := o
  refine y_aload o dX12_register_0 rfl ?_
  refine y_const o dX12_register_1 ?_
  refine y_put o mpX12_56 dX12_register_2 ?_
  refine y_aload o dX12_register_5 rfl ?_
  refine y_get o mgX12_93 dX12_register_6 ?_
  refine y_const o dX12_register_9 ?_
  refine y_icmp_eq o dX12_register_10 (fun c10 => ?_) (fun c10 => ?_)
  · skip
    refine y_iload o dX12_register_21 rfl ?_
    refine y_if_lt o dX12_register_22 (fun c22 => ?_) (fun c22 => ?_)
    · skip
      refine y_const o dX12_register_40 ?_
      exact x_iret o r dX12_register_41 (by simp only [if_true, if_false, ix, f_registerR, f_registerR0, eq_true c10, eq_true c22] <;> rfl) (by rfl)
    · skip
      refine y_iload o dX12_register_25 rfl ?_
      refine y_const o dX12_register_26 ?_
      refine y_icmp_ge o dX12_register_28 (fun c28 => ?_) (fun c28 => ?_)
      · skip
        refine y_const o dX12_register_40 ?_
        exact x_iret o r dX12_register_41 (by simp only [if_true, if_false, ix, f_registerR, f_registerR0, eq_true c10, eq_false c22, eq_true c28] <;> rfl) (by rfl)
      · skip
        refine y_aload o dX12_register_31 rfl ?_
        refine y_getr o mgX12_35 dX12_register_32 ?_
        refine y_iload o dX12_register_35 rfl ?_
        refine y_iald o ma_register dX12_register_36 (vi_ge c22 c28 rfl (by decide)) ?_
        refine y_goto o dX12_register_37 ?_
        exact x_iret o r dX12_register_41 (by simp only [if_true, if_false, ix, f_registerR, f_registerR0, eq_true c10, eq_false c22, eq_false c28] <;> rfl) (by rfl)
  · skip
    refine y_aload o dX12_register_13 rfl ?_
    refine y_get o mgX12_93 dX12_register_14 ?_
    refine y_const o dX12_register_17 ?_
    refine y_icmp_ne o dX12_register_18 (fun c18 => ?_) (fun c18 => ?_)
    · skip
      refine y_const o dX12_register_40 ?_
      exact x_iret o r dX12_register_41 (by simp only [if_true, if_false, ix, f_registerR, f_registerR0, eq_false c10, eq_false c18] <;> rfl) (by rfl)
    · skip
      refine y_iload o dX12_register_21 rfl ?_
      refine y_if_lt o dX12_register_22 (fun c22 => ?_) (fun c22 => ?_)
      · skip
        refine y_const o dX12_register_40 ?_
        exact x_iret o r dX12_register_41 (by simp only [if_true, if_false, ix, f_registerR, f_registerR0, eq_false c10, eq_true c18, eq_true c22] <;> rfl) (by rfl)
      · skip
        refine y_iload o dX12_register_25 rfl ?_
        refine y_const o dX12_register_26 ?_
        refine y_icmp_ge o dX12_register_28 (fun c28 => ?_) (fun c28 => ?_)
        · skip
          refine y_const o dX12_register_40 ?_
          exact x_iret o r dX12_register_41 (by simp only [if_true, if_false, ix, f_registerR, f_registerR0, eq_false c10, eq_true c18, eq_false c22, eq_true c28] <;> rfl) (by rfl)
        · skip
          refine y_aload o dX12_register_31 rfl ?_
          refine y_getr o mgX12_35 dX12_register_32 ?_
          refine y_iload o dX12_register_35 rfl ?_
          refine y_iald o ma_register dX12_register_36 (vi_ge c22 c28 rfl (by decide)) ?_
          refine y_goto o dX12_register_37 ?_
          exact x_iret o r dX12_register_41 (by simp only [if_true, if_false, ix, f_registerR, f_registerR0, eq_false c10, eq_true c18, eq_false c22, eq_false c28] <;> rfl) (by rfl)
