/-! exceptions: the throwing methods of the component -/
set_option maxRecDepth 100000
theorem tgX1_84 : fG cG RX1 84 1 0 (.inr (.inl 2)) := ⟨_, _, _, _, "ThriftNode$Node", rfl, rfl, rfl, by decide, in_X2, Or.inr ⟨_, q635⟩, Or.inl rfl⟩
theorem tgX1_88 : fG cG RX1 88 2 1 (.inr (.inl 11)) := ⟨_, _, _, _, "ThriftNode$Kept", rfl, rfl, rfl, by decide, in_X3, Or.inr ⟨_, q103⟩, Or.inl rfl⟩
theorem tgX1_91 : fG cG RX1 91 2 0 (.inr (.inl 10)) := ⟨_, _, _, _, "ThriftNode$Kept", rfl, rfl, rfl, by decide, in_X3, Or.inr ⟨_, q101⟩, Or.inl rfl⟩
theorem tgX1_112 : fG cG RX1 112 5 2 (.inr (.inl 20)) := ⟨_, _, _, _, "ThriftNode$Air", rfl, rfl, rfl, by decide, in_X6, Or.inr ⟨_, q552⟩, Or.inl rfl⟩
theorem kX1_68 : kV RX1 68 RX2 yX2_slot cX2_slot 3 (some .int) 1 := ⟨lw_V q884 q885 q886 q39 q887, by decide +kernel, by decide⟩
theorem kX1_109 : kV RX1 109 RX6 yX6_keeps cX6_keeps 2 (some .boolean) 1 := ⟨lw_V q1087 q1088 q1089 q61 q1090, by decide +kernel, by decide⟩
theorem e_htr {l : Launch} {e : Env} (h : l.admits e) (hl : l.stackTraces = false) : e.platform.stackTraces = false := by
  rw [h.platform]; exact hl
theorem e_names : ∀ n ∈ (["java/lang/RuntimeException", "java/lang/Exception"] : List String), Bundle.fit n = true := by decide +kernel
set_option maxHeartbeats 4000000 in
theorem tc_slot (dd : ClassId × ClassId × ClassId) (h : Nat → Nat) (ex : va_W) (S : XS) (x : Int32) (hN : ¬ S.1 14 = 0 → ¬ x < 0 → x ≤ 500 → Cx dd yX2_slot cX2_slot 3 (some .int) 7 cG [.ref (h 1), .int x] h ex S (some (.int (g_slotR S x))) (g_slot S x)) : CwT dd yX1_slot cX1_slot 2 (some .int) 8 1 6 [.ref (h 0), .int x] (g_W dd.1 cG h S ++ ex) (fun v w => (¬ S.1 14 = 0 ∧ ¬ x < 0 ∧ x ≤ 500) ∧ v = some (.int (g_slotR S x)) ∧ w = g_W dd.1 cG h (g_slot S x) ++ ex) (fun C => (S.1 14 = 0 ∧ C = e_ISE) ∨ (¬ S.1 14 = 0 ∧ (x < 0 ∨ ¬ x ≤ 500) ∧ C = e_IAE)) := by
  refine CwT.intro (by decide) (by simp [Value.category]) (Nat.le_of_ble_eq_true rfl) (fun K e o r hk hl ha hV hP hA hx => ?_)
  subst e
  have o : Y K cX1_slot RX1 2 8 := o
  have hd : 8 ≤ (kR K).frames ∧ 64 * 8 ≤ (kR K).locals := o.2.2.2.2.2.2.2.2.2.1
  have w1 := hV.1.words (ka K)
  have w2 := hV.2.1.words (ka K)
  have bad : ¬ S.1 14 = 0 → (x < 0 ∨ ¬ x ≤ 500) → Vw K 2 (g_W (kd K).1 cG h S ++ ex) 0 0 [.ref (h 0), .int x] 32 [] := fun c1 c2 =>
    y_throw o (C := e_IAE) (names := ["java/lang/RuntimeException", "java/lang/Exception"]) (e_htr ha hl) (by decide +kernel) e_names (e_wIAE o.2.2.2.2.1 o.2.2.2.2.2.2.1 w1.2 w2.2 w1.1 w2.1) q879 q157 q49 hP (e_stat hP hA) dX1_slot_32 dX1_slot_35 dX1_slot_36 dX1_slot_39 (by rw [hx]; simp) ⟨hk.1, hk.2, by simp only [List.length_cons, List.length_nil]; omega, by simp only [List.length_cons, List.length_nil]; omega⟩ (fun t ht => t_throw o r ⟨by decide, by decide⟩ (Or.inr ⟨c1, c2, rfl⟩) ht)
  refine y_aload o dX1_slot_0 rfl ?_
  refine y_getr o tgX1_10 dX1_slot_1 ?_
  refine y_getr o tgX1_16 dX1_slot_4 ?_
  refine y_get o tgX1_20 dX1_slot_7 ?_
  refine y_if_ne o dX1_slot_10 (fun c10 => ?_) (fun c10 => ?_)
  · have c10 : ¬ S.1 14 = 0 := c10
    refine y_iload o dX1_slot_21 rfl ?_
    refine y_if_lt o dX1_slot_22 (fun c22 => ?_) (fun c22 => ?_)
    · exact bad c10 (Or.inl c22)
    · refine y_iload o dX1_slot_25 rfl ?_
      refine y_const o dX1_slot_26 ?_
      refine y_icmp_le o dX1_slot_29 (fun c29 => ?_) (fun c29 => ?_)
      · refine y_aload o dX1_slot_40 rfl ?_
        refine y_getr o tgX1_10 dX1_slot_41 ?_
        refine y_iload o dX1_slot_44 rfl ?_
        refine y_callVi o kX1_68 tr_X2 ⟨Nat.zero_le _, Nat.zero_le _⟩ (hN c10 c22 c29) (by decide) rfl rfl (Nat.le_of_ble_eq_true rfl) dX1_slot_45 ?_
        refine y_wide (k' := 1) (n' := 6) (by omega) (by omega) ?_
        exact t_iret o r dX1_slot_48 ⟨⟨c10, c22, c29⟩, rfl, rfl⟩
      · exact bad c10 (Or.inr c29)
  · have c10 : S.1 14 = 0 := c10
    exact y_throw o (C := e_ISE) (names := ["java/lang/RuntimeException", "java/lang/Exception"]) (e_htr ha hl) (by decide +kernel) e_names (e_wISE o.2.2.2.2.1 o.2.2.2.2.2.2.1 w1.2 w2.2 w1.1 w2.1) q858 q859 q71 hP (e_stat hP hA) dX1_slot_13 dX1_slot_16 dX1_slot_17 dX1_slot_20 (by rw [hx]; simp) ⟨hk.1, hk.2, by simp only [List.length_cons, List.length_nil]; omega, by simp only [List.length_cons, List.length_nil]; omega⟩ (fun t ht => t_throw o r ⟨by decide, by decide⟩ (Or.inl ⟨c10, rfl⟩) ht)
set_option maxHeartbeats 4000000 in
theorem tc_kept (dd : ClassId × ClassId × ClassId) (h : Nat → Nat) (ex : va_W) (S : XS) (x w : Int32) : CwT dd yX1_kept cX1_kept 3 (some .int) 8 1 6 [.ref (h 0), .int x, .int w] (g_W dd.1 cG h S ++ ex) (fun v ws => (¬ x < 0 ∧ x < 164) ∧ v = some (.int (f_keptR S x w)) ∧ ws = g_W dd.1 cG h S ++ ex) (fun C => (x < 0 ∨ ¬ x < 164) ∧ C = e_IOB) := by
  refine CwT.intro (by decide) (by simp [Value.category]) (Nat.le_of_ble_eq_true rfl) (fun K e o r hk hl ha hV hP hA hx => ?_)
  subst e
  have o : Y K cX1_kept RX1 3 8 := o
  have hd : 8 ≤ (kR K).frames ∧ 64 * 8 ≤ (kR K).locals := o.2.2.2.2.2.2.2.2.2.1
  have w1 := hV.1.words (ka K)
  have w2 := hV.2.1.words (ka K)
  have bad : (x < 0 ∨ ¬ x < 164) → Vw K 3 (g_W (kd K).1 cG h S ++ ex) 0 0 [.ref (h 0), .int x, .int w] 11 [] := fun c2 =>
    y_throw o (C := e_IOB) (names := ["java/lang/RuntimeException", "java/lang/Exception"]) (e_htr ha hl) (by decide +kernel) e_names (e_wIOB o.2.2.2.2.1 o.2.2.2.2.2.2.1 w1.2 w2.2 w1.1 w2.1) q1065 q1066 q72 hP (e_stat hP hA) dX1_kept_11 dX1_kept_14 dX1_kept_15 dX1_kept_18 (by rw [hx]; simp) ⟨hk.1, hk.2, by simp only [List.length_cons, List.length_nil]; omega, by simp only [List.length_cons, List.length_nil]; omega⟩ (fun t ht => t_throw o r ⟨by decide, by decide⟩ ⟨c2, rfl⟩ ht)
  refine y_iload o dX1_kept_0 rfl ?_
  refine y_if_lt o dX1_kept_1 (fun c1 => bad (Or.inl c1)) (fun c1 => ?_)
  refine y_iload o dX1_kept_4 rfl ?_
  refine y_const o dX1_kept_5 ?_
  refine y_icmp_lt o dX1_kept_8 (fun c8 => ?_) (fun c8 => bad (Or.inr c8))
  have hi : vp_in x 164 := vi_of c1 c8 rfl (by decide)
  refine y_iload o dX1_kept_19 rfl ?_
  refine y_if_eq o dX1_kept_20 (fun c20 => ?_) (fun c20 => ?_)
  · refine y_aload o dX1_kept_38 rfl ?_
    refine y_getr o tgX1_10 dX1_kept_39 ?_
    refine y_getr o tgX1_84 dX1_kept_42 ?_
    refine y_getr o tgX1_91 dX1_kept_45 ?_
    refine y_iload o dX1_kept_48 rfl ?_
    refine y_iald o ta_words dX1_kept_49 hi ?_
    refine y_wide (k' := 1) (n' := 6) (by omega) (by omega) ?_
    exact t_iret o r dX1_kept_50 ⟨⟨c1, c8⟩, by unfold f_keptR; rw [if_neg c1, if_pos c8, if_pos c20], rfl⟩
  · refine y_aload o dX1_kept_23 rfl ?_
    refine y_getr o tgX1_10 dX1_kept_24 ?_
    refine y_getr o tgX1_84 dX1_kept_27 ?_
    refine y_getr o tgX1_88 dX1_kept_30 ?_
    refine y_iload o dX1_kept_33 rfl ?_
    refine y_iald o ta_wear dX1_kept_34 hi ?_
    refine y_goto o dX1_kept_35 ?_
    refine y_wide (k' := 1) (n' := 6) (by omega) (by omega) ?_
    exact t_iret o r dX1_kept_50 ⟨⟨c1, c8⟩, by unfold f_keptR; rw [if_neg c1, if_pos c8, if_neg c20], rfl⟩
set_option maxHeartbeats 4000000 in
theorem tc_heard (dd : ClassId × ClassId × ClassId) (h : Nat → Nat) (ex : va_W) (S : XS) (x : Int32) : CwT dd yX1_heard cX1_heard 2 (some .int) 8 1 6 [.ref (h 0), .int x] (g_W dd.1 cG h S ++ ex) (fun v ws => ¬ g_keeps S x = 0 ∧ v = some (.int (S.2 10 (ix (jrem x 64)))) ∧ ws = g_W dd.1 cG h S ++ ex) (fun C => g_keeps S x = 0 ∧ C = e_IOB) := by
  refine CwT.intro (by decide) (by simp [Value.category]) (Nat.le_of_ble_eq_true rfl) (fun K e o r hk hl ha hV hP hA hx => ?_)
  subst e
  have o : Y K cX1_heard RX1 2 8 := o
  have hd : 8 ≤ (kR K).frames ∧ 64 * 8 ≤ (kR K).locals := o.2.2.2.2.2.2.2.2.2.1
  have w1 := hV.1.words (ka K)
  have w2 := hV.2.1.words (ka K)
  refine y_aload o dX1_heard_0 rfl ?_
  refine y_getr o tgX1_10 dX1_heard_1 ?_
  refine y_getr o tgX1_94 dX1_heard_4 ?_
  refine y_iload o dX1_heard_7 rfl ?_
  refine y_callVi o kX1_109 tr_X6 ⟨Nat.zero_le _, Nat.zero_le _⟩ (cm_keeps _ h ex _ x) (by decide) rfl rfl (Nat.le_of_ble_eq_true rfl) dX1_heard_8 ?_
  refine y_if_ne o dX1_heard_11 (fun c11 => ?_) (fun c11 => ?_)
  · have c0 : ¬ x < 0 := fun z => c11 (by unfold g_keeps; rw [if_pos z])
    refine y_aload o dX1_heard_22 rfl ?_
    refine y_getr o tgX1_10 dX1_heard_23 ?_
    refine y_getr o tgX1_94 dX1_heard_26 ?_
    refine y_getr o tgX1_112 dX1_heard_29 ?_
    refine y_iload o dX1_heard_32 rfl ?_
    refine y_const o dX1_heard_33 ?_
    refine y_irem o dX1_heard_35 (by decide) ?_
    refine y_iald o ta_akept dX1_heard_36 (jrem_in0 c0 rfl (by decide) (by decide)) ?_
    refine y_wide (k' := 1) (n' := 6) (by omega) (by omega) ?_
    exact t_iret o r dX1_heard_37 ⟨c11, rfl, rfl⟩
  · have c11 : g_keeps S x = 0 := c11
    exact y_throw o (C := e_IOB) (names := ["java/lang/RuntimeException", "java/lang/Exception"]) (e_htr ha hl) (by decide +kernel) e_names (e_wIOB o.2.2.2.2.1 o.2.2.2.2.2.2.1 w1.2 w2.2 w1.1 w2.1) q1065 q1066 q72 hP (e_stat hP hA) dX1_heard_14 dX1_heard_17 dX1_heard_18 dX1_heard_21 (by rw [hx]; simp) ⟨hk.1, hk.2, by simp only [List.length_cons, List.length_nil]; omega, by simp only [List.length_cons, List.length_nil]; omega⟩ (fun t ht => t_throw o r ⟨by decide, by decide⟩ ⟨c11, rfl⟩ ht)
