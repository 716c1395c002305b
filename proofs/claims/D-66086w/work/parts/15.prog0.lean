/-! the component and its program -/
set_option maxRecDepth 100000
theorem Cx.introE {dd : ClassId × ClassId × ClassId} {y : MethodName} {cc : ByteArray} {nL : Nat} {ret : Option FieldType} {d : Nat} {G : List GC} {As : List Value} {h : Nat → Nat} {ex : va_W} {S S' : XS} {v0 : Option Value} (hy : plainName y.cls = true) (hc : ∀ v ∈ As, v.category = 1) (hn : As.length ≤ nL)
    (body : ∀ K : YK, kd K = dd → Y K cc y.cls nL d → YX K ret G h ex v0 S' → 0 ≤ (kR K).cells ∧ 0 ≤ (kR K).slots → Vw K nL (g_W (kd K).1 G h S ++ ex) 0 0 As 0 []) : Cx dd y cc nL ret d G As h ex S v0 S' := by
  refine Cw.intro hy hc hn (fun K e o r hk => ?_)
  have hb := body K e o
  subst e
  exact hb r hk
/-- where the program's cells lie: an array's length, its address, a list's count of changes, an instruction's address -/
abbrev PA : Type := (Nat → Nat) × (Nat → Nat) × (Nat → Int32) × (Nat → Nat → Nat)
def p_I (cd : Nat → Int32) (P : PA) (t i : Nat) : Nat × va_E := (P.2.2.2 t i, .inr (11, [.int (f_op (cd (32 * t + i))), .int (f_a (cd (32 * t + i))), .int (f_b (cd (32 * t + i))), .int (f_c (cd (32 * t + i)))]))
def p_F (P : PA) (sz : Nat → Int32) (t : Nat) : Nat → Option Nat := fun i => if i < ix (sz t) then some (P.2.2.2 t i) else none
def p_A (dO : ClassId) (P : PA) (sz : Nat → Int32) (t : Nat) : Nat × va_E := (P.2.1 t, rA dO (P.1 t) (p_F P sz t))
def p_L (h : Nat → Nat) (P : PA) (sz : Nat → Int32) (t : Nat) : Nat × va_E := lC (h (23 + t)) (P.2.2.1 t) (P.2.1 t) (sz t)
def p_T (dO : ClassId) (h : Nat → Nat) (P : PA) (cd sz : Nat → Int32) (t : Nat) : va_W := p_L h P sz t :: p_A dO P sz t :: (List.range (ix (sz t))).map (p_I cd P t)
def p_OF (h : Nat → Nat) : Nat → Option Nat := fun i => if i < 16 then some (h (23 + i)) else none
def p_O (dO : ClassId) (h : Nat → Nat) : va_W := [lC (h 21) 16 (h 22) 16, (h 22, rA dO 16 (p_OF h))]
/-- the program's cells: code cd (32 places a task), sizes sz -/
def pW (dO : ClassId) (h : Nat → Nat) (P : PA) (cd sz : Nat → Int32) : va_W := p_O dO h ++ (List.range 16).flatMap (p_T dO h P cd sz)
def pOK (P : PA) (sz : Nat → Int32) : Prop := ∀ t, t < 16 → ∃ z, z ≤ 32 ∧ sz t = nI z ∧ z ≤ P.1 t ∧ 2 ≤ P.1 t ∧ P.1 t ≤ 48
section PM
variable {dO : ClassId} {h : Nat → Nat} {P : PA} {cd sz : Nat → Int32} {ex ex0 : va_W}
theorem p_mT (hex : ex = pW dO h P cd sz ++ ex0) {t : Nat} (ht : t < 16) {x : Nat × va_E} (hx : x ∈ p_T dO h P cd sz t) : x ∈ ex := by
  rw [hex]
  exact List.mem_append_left _ (List.mem_append_right _ (List.mem_flatMap.mpr ⟨t, List.mem_range.mpr ht, hx⟩))
theorem p_mO (hex : ex = pW dO h P cd sz ++ ex0) : lC (h 21) 16 (h 22) 16 ∈ ex := by
  rw [hex]
  exact List.mem_append_left _ (List.mem_append_left _ List.mem_cons_self)
theorem p_mO2 (hex : ex = pW dO h P cd sz ++ ex0) : ((h 22, rA dO 16 (p_OF h)) : Nat × va_E) ∈ ex := by
  rw [hex]
  exact List.mem_append_left _ (List.mem_append_left _ (List.mem_cons_of_mem _ List.mem_cons_self))
theorem p_mL (hex : ex = pW dO h P cd sz ++ ex0) {t : Nat} (ht : t < 16) : lC (h (23 + t)) (P.2.2.1 t) (P.2.1 t) (sz t) ∈ ex := p_mT hex ht List.mem_cons_self
theorem p_mA (hex : ex = pW dO h P cd sz ++ ex0) {t : Nat} (ht : t < 16) : ((P.2.1 t, rA dO (P.1 t) (p_F P sz t)) : Nat × va_E) ∈ ex := p_mT hex ht (List.mem_cons_of_mem _ List.mem_cons_self)
theorem p_mI (hex : ex = pW dO h P cd sz ++ ex0) {t i : Nat} (ht : t < 16) (hi : i < ix (sz t)) : p_I cd P t i ∈ ex := p_mT hex ht (List.mem_cons_of_mem _ (List.mem_cons_of_mem _ (List.mem_map.mpr ⟨i, List.mem_range.mpr hi, rfl⟩)))
theorem p_hI {S : XS} (hex : ex = pW dO h P cd sz ++ ex0) (hp : pOK P sz) (ht : vp_in (S.2 0 0) 16) (hi : vp_in (S.1 9) (ix (sz (ix (S.2 0 0))))) (hcd : S.2 12 = cd) : ((P.2.2.2 (ix (S.2 0 0)) (ix (S.1 9)), .inr (11, [.int (f_op (f_word S)), .int (f_a (f_word S)), .int (f_b (f_word S)), .int (f_c (f_word S))])) : Nat × va_E) ∈ ex := by
  obtain ⟨j, hj, ej⟩ := vp_in_of ht (by decide)
  obtain ⟨z, z1, z2, -⟩ := hp j hj
  have e1 : ix (S.2 0 0) = j := by rw [ej]; exact nI_clamp (by omega)
  have ez : ix (sz j) = z := by rw [z2]; exact nI_clamp (by omega)
  rw [e1, ez] at hi
  obtain ⟨i, hi', ei⟩ := vp_in_of hi (by omega)
  have e2 : ix (S.1 9) = i := by rw [ei]; exact nI_clamp (by omega)
  have e3 : f_word S = cd (32 * j + i) := by
    unfold f_word
    rw [hcd, ej, ei, show (32 : Int32) = nI 32 from rfl, pk_mul, nI_add, show ix (nI (32 * j + i)) = 32 * j + i from nI_clamp (by omega)]
  rw [e1, e2, e3]
  exact p_mI hex hj (by omega)
end PM
theorem w_op {w : Int32} (h : wOk w) : vp_in (f_op w) 18 := by
  obtain ⟨sz, n, h⟩ := h
  obtain ⟨j, h1, h2⟩ := f_op_nn w
  rw [h2]
  refine vp_in_nI ?_ (by decide)
  rcases Nat.lt_or_ge j 18 with q | q
  · exact q
  · exact absurd (f_rightW_out (by rw [h2, nI_toInt (by omega)]; omega)) h
theorem g_act_out {S : XS} {o a b c : Int32} (h : o.toInt < 0 ∨ 16 < o.toInt) : g_act S o a b c = g_bound S a := by
  have k : ∀ v : Int32, 0 ≤ v.toInt → v.toInt ≤ 16 → (o = v) = False := fun v a b => eq_false (fun e => by rw [e] at h; omega)
  unfold g_act
  simp only [k 0 (by decide) (by decide), k 1 (by decide) (by decide), k 2 (by decide) (by decide), k 3 (by decide) (by decide), k 4 (by decide) (by decide), k 5 (by decide) (by decide), k 6 (by decide) (by decide), k 7 (by decide) (by decide), k 8 (by decide) (by decide), k 9 (by decide) (by decide), k 10 (by decide) (by decide), k 11 (by decide) (by decide), k 12 (by decide) (by decide), k 13 (by decide) (by decide), k 14 (by decide) (by decide), k 15 (by decide) (by decide), k 16 (by decide) (by decide), if_false]
def stage4 (x : Int32) : Prop := x = 6 ∨ x = 7 ∨ x = 8 ∨ x = 9
def failOkC (V : XS) : Prop := stage4 (V.1 17) ∧ vp_in (V.1 15) 16
/-- what a step asks of the state behind 'begin' -/
def stepOkC (cd sz : Nat → Int32) (U : XS) : Prop := stage4 (U.1 17) ∧ (U.1 17 = 6 → repOk U) ∧ (U.1 17 = 7 → airOk U) ∧ (U.1 17 = 8 → runOk U ∧ vp_in (U.2 0 0) 16 ∧ vp_in (U.1 9) (ix (U.2 13 (ix (U.2 0 0))))) ∧ (U.1 17 = 9 → comOkC U) ∧ vp_in (U.1 15) 16 ∧ U.2 12 = cd ∧ U.2 13 = sz
theorem act_at6 {S : XS} (e : S.1 17 = 6) : g_actS S = g_rep S := by simp (decide := true) only [g_actS, e, if_true]
theorem act_at7 {S : XS} (e : S.1 17 = 7) : g_actS S = g_air S := by simp (decide := true) only [g_actS, e, if_true, if_false]
theorem act_at8 {S : XS} (e : S.1 17 = 8) : g_actS S = g_run S := by simp (decide := true) only [g_actS, e, if_true, if_false]
theorem act_at9 {S : XS} (e : S.1 17 = 9) : g_actS S = g_com S := by simp (decide := true) only [g_actS, e, if_true, if_false]

theorem tgX5_14 : fG cG RX5 14 4 0 (.inr (.inl 21)) := ⟨_, _, _, _, "ThriftNode$Program", rfl, rfl, rfl, by decide, in_X5, Or.inl q532, Or.inl rfl⟩
theorem tgX10_22 : fG cG RX10 22 1 2 (.inr (.inl 4)) := ⟨_, _, _, _, "ThriftNode$Node", rfl, rfl, rfl, by decide, in_X2, Or.inr ⟨_, q642⟩, Or.inl rfl⟩
theorem tgX10_9 : fG cG RX10 9 8 1 (.inl 9) := ⟨_, _, _, _, "ThriftNode$Run", rfl, rfl, rfl, by decide, in_X10, Or.inl q610, Or.inl rfl⟩
theorem tr_X5 : rG cG 4 RX5 := ⟨_, _, _, rfl, rfl⟩
theorem tgX10_15 : fG cG RX10 15 8 2 (.inl 10) := ⟨_, _, _, _, "ThriftNode$Run", rfl, rfl, rfl, by decide, in_X10, Or.inl q612, Or.inl rfl⟩
theorem tgX10_105 : fG cG RX10 105 1 14 (.inl 1) := ⟨_, _, _, _, "ThriftNode$Node", rfl, rfl, rfl, by decide, in_X2, Or.inr ⟨_, q670⟩, Or.inl rfl⟩
theorem tgX10_60 : fG cG RX10 60 1 11 (.inr (.inl 9)) := ⟨_, _, _, _, "ThriftNode$Node", rfl, rfl, rfl, by decide, in_X2, Or.inr ⟨_, q662⟩, Or.inl rfl⟩
theorem tgX10_99 : fG cG RX10 99 1 5 (.inr (.inl 15)) := ⟨_, _, _, _, "ThriftNode$Node", rfl, rfl, rfl, by decide, in_X2, Or.inr ⟨_, q650⟩, Or.inl rfl⟩
theorem ta_sensors : aG cG 15 5 4 := ⟨rfl, by decide +kernel⟩
theorem tgX2_155 : fG cG RX2 155 1 16 (.inl 3) := ⟨_, _, _, _, "ThriftNode$Node", rfl, rfl, rfl, by decide, in_X2, Or.inl q676, Or.inl rfl⟩
theorem tpX2_155 : fP cG RX2 155 1 16 3 (.inl 3) .int := ⟨by decide +kernel, Or.inl rfl, _, _, _, _, "ThriftNode$Node", tyX2, rfl, rfl, rfl, by decide, in_X2, Or.inl q676, Or.inl rfl, tyX2_ok, nmX2, rfl, rfl⟩
theorem tgX2_158 : fG cG RX2 158 1 14 (.inl 1) := ⟨_, _, _, _, "ThriftNode$Node", rfl, rfl, rfl, by decide, in_X2, Or.inl q671, Or.inl rfl⟩
theorem tpX2_158 : fP cG RX2 158 1 14 1 (.inl 1) .int := ⟨by decide +kernel, Or.inl rfl, _, _, _, _, "ThriftNode$Node", tyX2, rfl, rfl, rfl, by decide, in_X2, Or.inl q671, Or.inl rfl, tyX2_ok, nmX2, rfl, rfl⟩
theorem kX5_24 : kV RX5 24 RJ2 yJ2_get cJ2_get 2 (some (.object "java/lang/Object")) 1 := ⟨lw_V q742 q743 q744 q45 q745, by decide +kernel, by decide⟩
theorem kX5_28 : kV RX5 28 RJ2 yJ2_size cJ2_size 1 (some .int) 0 := ⟨lw_V q756 q757 q758 q45 q759, by decide +kernel, by decide⟩
theorem kX10_38 : kV RX10 38 RX5 yX5_at cX5_at 3 (some (.object "ThriftNode$Instruction")) 2 := ⟨lw_V q932 q814 q815 q42 q816, by decide +kernel, by decide⟩
theorem kX10_44 : kV RX10 44 RX10 yX10_instruction cX10_instruction 1 (some (.object "ThriftNode$Instruction")) 0 := ⟨lw_V q928 q930 qs9 q65 q931, by decide +kernel, by decide⟩
theorem kX10_48 : kV RX10 48 RX13 yX13_cost cX13_cost 1 (some .int) 0 := ⟨lw_V q933 q934 q935 q70 q936, by decide +kernel, by decide⟩
theorem kX10_108 : kV RX10 108 RX10 yX10_abandon cX10_abandon 1 none 0 := ⟨lw_V q1034 q1036 qs17 q65 q1037, by decide +kernel, by decide⟩
theorem kX10_67 : kV RX10 67 RX11 yX11_begin cX11_begin 3 none 1 := ⟨lw_V q997 q998 q999 q66 q1000, by decide +kernel, by decide⟩
theorem kX10_89 : kV RX10 89 RX10 yX10_put cX10_put 3 none 2 := ⟨lw_V q1013 q1015 qs13 q65 q1016, by decide +kernel, by decide⟩
theorem kX10_93 : kV RX10 93 RX10 yX10_push cX10_push 7 none 2 := ⟨lw_V q1022 q1024 qs14 q65 q1025, by decide +kernel, by decide⟩
theorem kX10_96 : kV RX10 96 RX10 yX10_pop cX10_pop 7 none 2 := ⟨lw_V q1026 q1028 qs15 q65 q1029, by decide +kernel, by decide⟩
theorem kX10_102 : kV RX10 102 RX10 yX10_send cX10_send 6 none 1 := ⟨lw_V q1030 q1032 qs16 q65 q1033, by decide +kernel, by decide⟩
theorem kX2_146 : kV RX2 146 RX2 yX2_fail cX2_fail 1 none 0 := ⟨lw_V q939 q941 qs10 q39 q942, by decide +kernel, by decide⟩
theorem uX2_142_X8 : kU RX2 142 RX8 ⟨"ThriftNode$Stage", "cost", "()I"⟩ yX8_cost cX8_cost 1 (some .int) 0 := ⟨q924, q63, q923, q913, q915, q922, Or.inl q914, by decide +kernel, by decide⟩
theorem kX2_149 : kV RX2 149 RX2 yX2_isTrying cX2_isTrying 1 (some .boolean) 0 := ⟨lw_V q956 q957 q958 q39 q959, by decide +kernel, by decide⟩
theorem uX2_152_X8 : kU RX2 152 RX8 ⟨"ThriftNode$Stage", "act", "()V"⟩ yX8_act cX8_act 2 none 0 := ⟨q992, q63, q991, q960, q962, q990, Or.inl q961, by decide +kernel, by decide⟩
theorem uX2_142_X9 : kU RX2 142 RX9 ⟨"ThriftNode$Stage", "cost", "()I"⟩ yX9_cost cX9_cost 1 (some .int) 0 := ⟨q918, q64, q917, q913, q915, q916, Or.inl q914, by decide +kernel, by decide⟩
theorem uX2_152_X9 : kU RX2 152 RX9 ⟨"ThriftNode$Stage", "act", "()V"⟩ yX9_act cX9_act 2 none 0 := ⟨q965, q64, q964, q960, q962, q963, Or.inl q961, by decide +kernel, by decide⟩
theorem uX2_142_X10 : kU RX2 142 RX10 ⟨"ThriftNode$Stage", "cost", "()I"⟩ yX10_cost cX10_cost 1 (some .int) 0 := ⟨q927, q65, q926, q913, q915, q925, Or.inl q914, by decide +kernel, by decide⟩
theorem uX2_152_X10 : kU RX2 152 RX10 ⟨"ThriftNode$Stage", "act", "()V"⟩ yX10_act cX10_act 3 none 0 := ⟨q996, q65, q995, q960, q962, q994, Or.inl q961, by decide +kernel, by decide⟩
theorem uX2_142_X11 : kU RX2 142 RX11 ⟨"ThriftNode$Stage", "cost", "()I"⟩ yX11_cost cX11_cost 1 (some .int) 0 := ⟨q921, q66, q920, q913, q915, q919, Or.inl q914, by decide +kernel, by decide⟩
theorem uX2_152_X11 : kU RX2 152 RX11 ⟨"ThriftNode$Stage", "act", "()V"⟩ yX11_act cX11_act 3 none 0 := ⟨q976, q66, q975, q960, q962, q974, Or.inl q961, by decide +kernel, by decide⟩
theorem kX2_138 : kV RX2 138 RX9 yX9_isIdle cX9_isIdle 1 (some .boolean) 0 := ⟨lw_V q897 q898 q899 q64 q900, by decide +kernel, by decide⟩
theorem kX2_141 : kV RX2 141 RX2 yX2_begin cX2_begin 1 none 0 := ⟨lw_V q901 q903 qs7 q39 q904, by decide +kernel, by decide⟩
theorem kX2_164 : kV RX2 164 RX2 yX2_step cX2_step 2 (some .boolean) 0 := ⟨lw_V q893 q895 qs6 q39 q896, by decide +kernel, by decide⟩
theorem kX2_161 : kV RX2 161 RX2 yX2_boots cX2_boots 1 (some .boolean) 0 := ⟨lw_V q889 q891 qs5 q39 q892, by decide +kernel, by decide⟩
theorem iFX13_7 : fM RX13 7 11 0 := ⟨_, _, _, "ThriftNode$Instruction", rfl, by decide, in_X13, Or.inl q772, Or.inl rfl⟩
theorem iFX10_57 : fM RX10 57 11 0 := ⟨_, _, _, "ThriftNode$Instruction", rfl, by decide, in_X13, Or.inr ⟨_, q774⟩, Or.inl rfl⟩
theorem iFX10_64 : fM RX10 64 11 1 := ⟨_, _, _, "ThriftNode$Instruction", rfl, by decide, in_X13, Or.inr ⟨_, q777⟩, Or.inl rfl⟩
theorem iFX10_73 : fM RX10 73 11 2 := ⟨_, _, _, "ThriftNode$Instruction", rfl, by decide, in_X13, Or.inr ⟨_, q780⟩, Or.inl rfl⟩
theorem iFX10_76 : fM RX10 76 11 3 := ⟨_, _, _, "ThriftNode$Instruction", rfl, by decide, in_X13, Or.inr ⟨_, q783⟩, Or.inl rfl⟩
