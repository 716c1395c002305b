/-! ArrayList's methods, by contract -/
set_option maxRecDepth 100000
theorem kJ2_118 : kS RJ2 118 yJ17_checkIndex cJ17_checkIndex 2 (some .int) 2 := ⟨lw_S q746 q747 q68 q748, by decide +kernel, by decide⟩
theorem kJ2_123 : kV RJ2 123 RJ2 yJ2_elementData cJ2_elementData 2 (some (.object "java/lang/Object")) 1 := ⟨lw_V q752 q753 q754 q45 q755, by decide +kernel, by decide⟩
theorem kJ2_131 : kV RJ2 131 RJ2 yJ2_add_2 cJ2_add_2 4 none 3 := ⟨lw_V q485 q487 qs1 q45 q488, by decide +kernel, by decide⟩
theorem kJ2_129 : kV RJ2 129 RJ2 yJ2_grow cJ2_grow 1 (some (.array (.object "java/lang/Object"))) 0 := ⟨lw_V q489 q491 qs2 q45 q492, by decide +kernel, by decide⟩
theorem kJ2_69 : kV RJ2 69 RJ2 yJ2_grow_2 cJ2_grow_2 4 (some (.array (.object "java/lang/Object"))) 1 := ⟨lw_V q493 q495 qs3 q45 q496, by decide +kernel, by decide⟩
theorem kJ2_73 : kS RJ2 73 yJ11_newLength cJ11_newLength 4 (some .int) 3 := ⟨lw_S q499 q251 q54 q252, by decide +kernel, by decide⟩
theorem kJ2_66 : kS RJ2 66 yJ13_copyOf_2 cJ13_copyOf_2 2 (some (.array (.object "java/lang/Object"))) 2 := ⟨lw_S q500 q501 q56 q502, by decide +kernel, by decide⟩
theorem kJ17_105 : kS RJ17 105 yJ14_checkIndex cJ14_checkIndex 3 (some .int) 3 := ⟨lw_S q749 q750 q58 q751, by decide +kernel, by decide⟩
theorem kJ13_300 : kS RJ13 300 yJ13_copyOf_3 cJ13_copyOf_3 4 (some (.array (.object "java/lang/Object"))) 3 := ⟨lw_S q526 q527 q56 q528, by decide +kernel, by decide⟩
theorem kJ2_1 : kI RJ2 1 yJ1_init cJ1_init 1 0 := ⟨q147, q44, q146, rfl, Or.inl q145, by decide +kernel, by decide⟩
theorem kJ1_1 : kI RJ1 1 yJ0_init cJ0_init 1 0 := ⟨q150, q43, q149, rfl, Or.inl q148, by decide +kernel, by decide⟩
theorem jF9 : fM RJ2 9 12 1 := ⟨_, _, _, "java/util/ArrayList", rfl, by decide, in_J2, Or.inl q469, Or.inl rfl⟩
theorem jF48 : fM RJ2 48 12 2 := ⟨_, _, _, "java/util/ArrayList", rfl, by decide, in_J2, Or.inl q470, Or.inl rfl⟩
theorem jF63 : fM RJ2 63 12 0 := ⟨_, _, _, "java/util/ArrayList", rfl, by decide, in_J2, Or.inl q472, Or.inr q473⟩
theorem jP9 : fMp RJ2 9 12 1 (.array (.object "java/lang/Object")) := ⟨_, _, _, "java/util/ArrayList", tyJ2, rfl, by decide, in_J2, Or.inl q469, Or.inl rfl, tyJ2_ok, nmJ2, rfl, rfl⟩
theorem jP48 : fMp RJ2 48 12 2 .int := ⟨_, _, _, "java/util/ArrayList", tyJ2, rfl, by decide, in_J2, Or.inl q470, Or.inl rfl, tyJ2_ok, nmJ2, rfl, rfl⟩
theorem jP63 : fMp RJ2 63 12 0 .int := ⟨_, _, _, "java/util/ArrayList", tyJ2, rfl, by decide, in_J2, Or.inl q472, Or.inr q473, tyJ2_ok, nmJ2, rfl, rfl⟩
theorem jP1 : fMp RJ1 7 12 0 .int := ⟨_, _, _, "java/util/AbstractList", tyJ2, rfl, by decide, in_J2, Or.inl q471, Or.inl rfl, tyJ2_ok, nmJ2, rfl, rfl⟩
/-- an exact contract over any world: the answer v0, the world ws' -/
abbrev Ce (dd : ClassId × ClassId × ClassId) (y : MethodName) (cc : ByteArray) (nL : Nat) (ret : Option FieldType) (d mc ms : Nat) (As : List Value) (ws : va_W) (v0 : Option Value) (ws' : va_W) : Prop := Cw dd y cc nL ret d mc ms As ws (fun v w => v = v0 ∧ w = ws')
section YE
variable {K : YK} {cc : ByteArray} {own : String} {nL d : Nat} {ws ws' : va_W} {k n : Nat} {lv : List Value} {pc pc' tgt : Nat} {st : List Value} {mc ms : Nat} {y : MethodName} {bytes : ByteArray} {nL' d' idx na : Nat} {ret : Option FieldType} {As rest : List Value} {b : Nat} {C : String} {x : Value}
theorem y_callVe (o : Y K cc own nL d) (kf : kV own idx C y bytes nL' ret na) (M : Ce (kd K) y bytes nL' ret d' mc ms (.ref b :: As) ws (some x) ws') (hrc : y_rc ws C b) (hd : d' + 1 ≤ d) (hna : As.length = na) (hst : st = As.reverse ++ .ref b :: rest) (hW : (rest.map fun v => v.category).sum ≤ 8) (hf : k + mc ≤ (kR K).cells ∧ n + ms ≤ (kR K).slots) (h : dk cc pc (.invokevirtual idx) 3 pc')
    (kk : Vw K nL ws' (k + mc) (n + ms) lv pc' (x :: rest)) : Vw K nL ws k n lv pc st := y_callV o kf M hrc hd hna hst hW hf h (fun v w e => by obtain ⟨rfl, rfl⟩ := e; exact kk)
theorem y_callSe (o : Y K cc own nL d) (kf : kS own idx y bytes nL' ret na) (M : Ce (kd K) y bytes nL' ret d' mc ms As ws (some x) ws') (hd : d' + 1 ≤ d) (hna : As.length = na) (hst : st = As.reverse ++ rest) (hW : (rest.map fun v => v.category).sum ≤ 8) (hf : k + mc ≤ (kR K).cells ∧ n + ms ≤ (kR K).slots) (h : dk cc pc (.invokestatic idx) 3 pc')
    (kk : Vw K nL ws' (k + mc) (n + ms) lv pc' (x :: rest)) : Vw K nL ws k n lv pc st := y_callS o kf M hd hna hst hW hf h (fun v w e => by obtain ⟨rfl, rfl⟩ := e; exact kk)
theorem y_callIe (o : Y K cc own nL d) (kf : kI own idx y bytes nL' na) (M : Ce (kd K) y bytes nL' none d' mc ms (.ref b :: As) ws none ws') (hd : d' + 1 ≤ d) (hna : As.length = na) (hst : st = As.reverse ++ .ref b :: rest) (hW : (rest.map fun v => v.category).sum ≤ 8) (hf : k + mc ≤ (kR K).cells ∧ n + ms ≤ (kR K).slots) (h : dk cc pc (.invokespecial idx) 3 pc')
    (kk : Vw K nL ws' (k + mc) (n + ms) lv pc' rest) : Vw K nL ws k n lv pc st := y_callI o kf M hd hna hst hW hf h (fun v w e => by obtain ⟨rfl, rfl⟩ := e; exact kk)
theorem rc_mem {ci : Nat} {fs : List Value} {T : u_T} {N : Nat} (hc : y_cl[ci]? = some (C, T, N)) (hm : ((b, .inr (ci, fs)) : Nat × va_E) ∈ ws) : y_rc ws C b := by
  obtain ⟨q, hq⟩ := List.getElem?_of_mem hm
  exact ⟨q, ci, fs, T, N, hc, hq⟩
/-- the class object of Object[] -/
theorem y_ldcM (o : Y K cc own nL d) (hlk : Cond.classLink own idx "[Ljava/lang/Object;" ∈ lw_all) (dd : dk cc pc (.ldc idx) 2 pc') {mi : Nat} (hM : va_Mi "[Ljava/lang/Object;" mi (ks K)) (kk : Vw K nL ws k n lv pc' (.ref mi :: st)) : Vw K nL ws k n lv pc st := by
  intro H locs ls hP hD hS hl
  obtain ⟨h1, h3⟩ := dd; subst h3
  exact va_ldcM o.1 o.2.1 o.2.2.2.1 (o.2.2.2.2.1 _ hlk) hM h1 (kk H locs ls hP hD hS hl)
theorem y_getC (o : Y K cc own nL d) (hlk : Cond.methodLink own idx ⟨"java/lang/Object", "getClass", "()Ljava/lang/Class;"⟩ ∈ lw_all) (hd1 : 1 ≤ d) (hW : (st.map fun v => v.category).sum ≤ 8) {a n' : Nat} {f : Nat → Option Nat} (hm : ((a, rA (kd K).2.2 n' f) : Nat × va_E) ∈ ws) (dd : dk cc pc (.invokevirtual idx) 3 pc') {mi : Nat} (hM : va_Mi "[Ljava/lang/Object;" mi (ks K)) (kk : Vw K nL ws k n lv pc' (.ref mi :: st)) : Vw K nL ws k n lv pc (.ref a :: st) := by
  intro H locs ls hP hD hS hl
  obtain ⟨h1, h3⟩ := dd; subst h3
  obtain ⟨q, he⟩ := List.getElem?_of_mem hm
  have hr := o.2.2.2.2.2.2.2.2.2.1
  have hts := o.2.2.2.2.1
  have hcell : H[a]? = some (vp_cell (kd K).2.2 (n', .inr (.inr (.inr (.inr f))))) := hP q _ he
  have hnm := va_nmO (o.2.2.2.2.2.1.2 2 ((kd K).2.2, .object "java/lang/Object") rfl).2 (nm := "[Ljava/lang/Object;") (by decide +kernel)
  exact va_getC (C := "[Ljava/lang/Object;") o.1 o.2.1 (o.2.2.1.trans hl.1.symm) o.2.2.2.1 (hts _ hlk) (va_Nw.use rfl (o.2.2.2.2.2.2.1.1 _ q1349 rfl)) (hts _ q1348) (hts _ q504) (hts _ q525) hM ⟨_, hcell, rfl, hnm⟩ (Nat.le_trans hd1 hr.1) (by have := hr.2; omega) h1 (kk H locs ls hP hD hS hl)
/-- System.arraycopy between two arrays of objects -/
theorem y_copy (o : Y K cc own nL d) (hlk : Cond.methodLink own idx arraycopyName ∈ lw_all) (hd1 : 1 ≤ d) (hW : (st.map fun v => v.category).sum ≤ 8) {a0 n0 a1 n1 : Nat} {f g : Nat → Option Nat} (hm : ((a0, rA (kd K).2.2 n0 f) : Nat × va_E) ∈ ws) (q1 : Nat) (he1 : ws[q1]? = some (a1, rA (kd K).2.2 n1 g)) {m : Nat} (hm1 : m ≤ n0) (hm2 : m ≤ n1) (hmb : m < 2 ^ 31) (hel : ∀ i y, i < m → f i = some y → ∃ fs, ((y, .inr (11, fs)) : Nat × va_E) ∈ ws) (dd : dk cc pc (.invokestatic idx) 3 pc') (hw : ws.set q1 (a1, rA (kd K).2.2 n1 (va_cpy f g 0 0 m)) = ws') (kk : Vw K nL ws' k n lv pc' st) : Vw K nL ws k n lv pc (.int (nI m) :: .int 0 :: .ref a1 :: .int 0 :: .ref a0 :: st) := by
  intro H locs ls hP hD hS hl
  obtain ⟨h1, h3⟩ := dd; subst h3
  subst hw
  obtain ⟨q, he⟩ := List.getElem?_of_mem hm
  have hr := o.2.2.2.2.2.2.2.2.2.1
  have hts := o.2.2.2.2.1
  have em : (nI m).toNatClampNeg = m := nI_clamp hmb
  have e0 : (0 : Int32).toNatClampNeg = 0 := by decide
  have hloc : (st.map fun v => v.category).sum + (nativeFrameWords "java/lang/System" "arraycopy" 5 + 11) ≤ (kR K).locals := by
    have h6 := hr.2
    have h7 : nativeFrameWords "java/lang/System" "arraycopy" 5 ≤ 20 := by decide
    omega
  refine va_copyM (sp := 0) (dp := 0) (n := nI m) o.1 o.2.1 (o.2.2.1.trans hl.1.symm) o.2.2.2.1 (hts _ hlk) (hts _ q276) (hts _ q275) (hts _ q57) o.2.2.2.2.2.1 hP hD hS q q1 2 2 he he1 rfl rfl (by decide) (by decide) (nI_pos hmb) (by rw [em, e0]; omega) (by rw [em, e0]; omega) (fun i hi y hy => ?_) (Nat.le_trans hd1 hr.1) hloc h1 (fun H1 locs1 hP1 hD1 hS1 => ?_)
  · rw [em] at hi
    rw [e0, Nat.zero_add] at hy
    obtain ⟨fs, hf⟩ := hel i y hi hy
    obtain ⟨q2, he2⟩ := List.getElem?_of_mem hf
    exact va_rAny (r := (RX13, TX13, 4)) o.2.2.2.2.2.1 hP he2 rfl (y_asg o q1365)
  · rw [em, e0] at hP1 hD1
    exact kk H1 locs1 ls hP1 hD1 hS1 hl
end YE
theorem al_ck14 (dd : ClassId × ClassId × ClassId) (ws : va_W) (i c : Int32) (h0 : ¬ i < 0) (h1 : i < c) : Ce dd yJ14_checkIndex cJ14_checkIndex 3 (some .int) 0 0 0 [.int i, .int c, .null] ws (some (.int i)) ws := by
  refine Cw.intro (by decide) (by simp [Value.category]) (Nat.le_of_ble_eq_true rfl) (fun K e o r hk => ?_)
  have o : Y K cJ14_checkIndex RJ14 3 0 := o
  refine y_iload o dJ14_checkIndex_0 rfl ?_
  refine y_if_lt o dJ14_checkIndex_1 (fun c => absurd c h0) (fun _ => ?_)
  refine y_iload o dJ14_checkIndex_4 rfl ?_
  refine y_iload o dJ14_checkIndex_5 rfl ?_
  refine y_icmp_lt o dJ14_checkIndex_6 (fun _ => ?_) (fun c => absurd h1 c)
  refine y_iload o dJ14_checkIndex_16 rfl ?_
  exact y_iret o r dJ14_checkIndex_17 ⟨rfl, rfl⟩
theorem al_ck (dd : ClassId × ClassId × ClassId) (ws : va_W) (i c : Int32) (h0 : ¬ i < 0) (h1 : i < c) : Ce dd yJ17_checkIndex cJ17_checkIndex 2 (some .int) 1 0 0 [.int i, .int c] ws (some (.int i)) ws := by
  refine Cw.intro (by decide) (by simp [Value.category]) (Nat.le_of_ble_eq_true rfl) (fun K e o r hk => ?_)
  have o : Y K cJ17_checkIndex RJ17 2 1 := o
  refine y_iload o dJ17_checkIndex_0 rfl ?_
  refine y_iload o dJ17_checkIndex_1 rfl ?_
  refine y_null o dJ17_checkIndex_2 ?_
  refine y_callSe o kJ17_105 (al_ck14 _ ws i c h0 h1) (by decide) rfl rfl (Nat.le_of_ble_eq_true rfl) hk dJ17_checkIndex_3 ?_
  exact y_iret o r dJ17_checkIndex_6 ⟨rfl, rfl⟩
/-- a list's cells in the world: at b, of c elements, over the array a of n places, that holds f -/
abbrev lC (b : Nat) (m : Int32) (a : Nat) (c : Int32) : Nat × va_E := (b, .inr (12, [.int m, .ref a, .int c]))
theorem al_size (dd : ClassId × ClassId × ClassId) (ws : va_W) (b a : Nat) (m c : Int32) (hb : lC b m a c ∈ ws) : Ce dd yJ2_size cJ2_size 1 (some .int) 0 0 0 [.ref b] ws (some (.int c)) ws := by
  refine Cw.intro (by decide) (by simp [Value.category]) (Nat.le_of_ble_eq_true rfl) (fun K e o r hk => ?_)
  have o : Y K cJ2_size RJ2 1 0 := o
  refine y_aload o dJ2_size_0 rfl ?_
  refine y_getM o jF48 hb rfl dJ2_size_1 ?_
  exact y_iret o r dJ2_size_4 ⟨rfl, rfl⟩
theorem al_elem (dd : ClassId × ClassId × ClassId) (ws : va_W) (b a n x : Nat) (m c i : Int32) (f : Nat → Option Nat) (hb : lC b m a c ∈ ws) (ha : (a, rA dd.2.2 n f) ∈ ws) (hi : vp_in i n) (hx : f i.toNatClampNeg = some x) : Ce dd yJ2_elementData cJ2_elementData 2 (some (.object "java/lang/Object")) 0 0 0 [.ref b, .int i] ws (some (.ref x)) ws := by
  refine Cw.intro (by decide) (by simp [Value.category]) (Nat.le_of_ble_eq_true rfl) (fun K e o r hk => ?_)
  subst e
  have o : Y K cJ2_elementData RJ2 2 0 := o
  refine y_aload o dJ2_elementData_0 rfl ?_
  refine y_getM o jF9 hb rfl dJ2_elementData_1 ?_
  refine y_iload o dJ2_elementData_4 rfl ?_
  refine y_aald o ha dJ2_elementData_5 hi ?_
  refine y_rf hx ?_
  exact y_aret o r (Or.inl ⟨_, rfl⟩) dJ2_elementData_6 (Or.inr ⟨_, rfl⟩) ⟨rfl, rfl⟩
theorem al_get (dd : ClassId × ClassId × ClassId) (ws : va_W) (b a n x : Nat) (m c i : Int32) (f : Nat → Option Nat) (hb : lC b m a c ∈ ws) (ha : (a, rA dd.2.2 n f) ∈ ws) (hi : vp_in i n) (hic : i < c) (hx : f i.toNatClampNeg = some x) : Ce dd yJ2_get cJ2_get 2 (some (.object "java/lang/Object")) 2 0 0 [.ref b, .int i] ws (some (.ref x)) ws := by
  refine Cw.intro (by decide) (by simp [Value.category]) (Nat.le_of_ble_eq_true rfl) (fun K e o r hk => ?_)
  subst e
  have o : Y K cJ2_get RJ2 2 2 := o
  have h0 : ¬ i < 0 := fun z => hi (Or.inl z)
  refine y_iload o dJ2_get_0 rfl ?_
  refine y_aload o dJ2_get_1 rfl ?_
  refine y_getM o jF48 hb rfl dJ2_get_2 ?_
  refine y_callSe o kJ2_118 (al_ck _ ws i c h0 hic) (by decide) rfl rfl (Nat.le_of_ble_eq_true rfl) hk dJ2_get_5 ?_
  refine y_pop o dJ2_get_8 rfl ?_
  refine y_aload o dJ2_get_9 rfl ?_
  refine y_iload o dJ2_get_10 rfl ?_
  refine y_callVe o kJ2_123 (al_elem _ ws b a n x m c i f hb ha hi hx) (rc_mem rfl hb) (by decide) rfl rfl (Nat.le_of_ble_eq_true rfl) hk dJ2_get_11 ?_
  exact y_aret o r (Or.inl ⟨_, rfl⟩) dJ2_get_14 (Or.inr ⟨_, rfl⟩) ⟨rfl, rfl⟩
/-- set: the array's place is written -/
theorem al_set (dd : ClassId × ClassId × ClassId) (ex : va_W) (b a n x y : Nat) (m c i : Int32) (f : Nat → Option Nat) (fs : List Value) (hi : vp_in i n) (hic : i < c) (hx : f i.toNatClampNeg = some x) (hy : ((y, .inr (11, fs)) : Nat × va_E) ∈ ex) : Ce dd yJ2_set cJ2_set 4 (some (.object "java/lang/Object")) 2 0 0 [.ref b, .int i, .ref y] (lC b m a c :: (a, rA dd.2.2 n f) :: ex) (some (.ref x)) (lC b m a c :: (a, rA dd.2.2 n (va_up f i.toNatClampNeg (some y))) :: ex) := by
  refine Cw.intro (by decide) (by simp [Value.category]) (Nat.le_of_ble_eq_true rfl) (fun K e o r hk => ?_)
  subst e
  have o : Y K cJ2_set RJ2 4 2 := o
  have h0 : ¬ i < 0 := fun z => hi (Or.inl z)
  have hb : lC b m a c ∈ (lC b m a c :: (a, rA (kd K).2.2 n f) :: ex) := List.mem_cons_self
  have ha : (a, rA (kd K).2.2 n f) ∈ (lC b m a c :: (a, rA (kd K).2.2 n f) :: ex) := List.mem_cons_of_mem _ List.mem_cons_self
  refine y_iload o dJ2_set_0 rfl ?_
  refine y_aload o dJ2_set_1 rfl ?_
  refine y_getM o jF48 hb rfl dJ2_set_2 ?_
  refine y_callSe o kJ2_118 (al_ck _ _ i c h0 hic) (by decide) rfl rfl (Nat.le_of_ble_eq_true rfl) hk dJ2_set_5 ?_
  refine y_pop o dJ2_set_8 rfl ?_
  refine y_aload o dJ2_set_9 rfl ?_
  refine y_iload o dJ2_set_10 rfl ?_
  refine y_callVe o kJ2_123 (al_elem _ _ b a n x m c i f hb ha hi hx) (rc_mem rfl hb) (by decide) rfl rfl (Nat.le_of_ble_eq_true rfl) hk dJ2_set_11 ?_
  refine y_astore o dJ2_set_14 (by decide) (Nat.le_of_ble_eq_true rfl) ?_
  refine y_aload o dJ2_set_15 rfl ?_
  refine y_getM o jF9 hb rfl dJ2_set_16 ?_
  refine y_iload o dJ2_set_19 rfl ?_
  refine y_aload o dJ2_set_20 rfl ?_
  refine y_aast o 1 rfl (List.mem_cons_of_mem _ (List.mem_cons_of_mem _ hy)) rfl q1365 dJ2_set_21 hi rfl ?_
  refine y_aload o dJ2_set_22 rfl ?_
  exact y_aret o r (Or.inl ⟨_, rfl⟩) dJ2_set_23 (Or.inr ⟨_, rfl⟩) ⟨rfl, rfl⟩
theorem al_newLen (dd : ClassId × ClassId × ClassId) (ws : va_W) (x g p z : Int32) (hz : x + (if g < p then p else g) = z) (h0 : ¬ z ≤ 0) (h1 : z ≤ 2147483639) : Ce dd yJ11_newLength cJ11_newLength 4 (some .int) 1 0 0 [.int x, .int g, .int p] ws (some (.int z)) ws := by
  refine Cw.intro (by decide) (by simp [Value.category]) (Nat.le_of_ble_eq_true rfl) (fun K e o r hk => ?_)
  have o : Y K cJ11_newLength RJ11 4 1 := o
  refine y_iload o dJ11_newLength_0 rfl ?_
  refine y_iload o dJ11_newLength_1 rfl ?_
  refine y_iload o dJ11_newLength_2 rfl ?_
  refine y_mmax o q253 q254 q55 q255 (by decide) hk (Nat.le_of_ble_eq_true rfl) dJ11_newLength_3 ?_
  refine y_iadd o dJ11_newLength_6 ?_
  rw [hz]
  refine y_istore o dJ11_newLength_7 (by decide) (Nat.le_of_ble_eq_true rfl) ?_
  refine y_const o dJ11_newLength_8 ?_
  refine y_iload o dJ11_newLength_9 rfl ?_
  refine y_icmp_ge o dJ11_newLength_10 (fun c => absurd c h0) (fun _ => ?_)
  refine y_iload o dJ11_newLength_13 rfl ?_
  refine y_ldc o q256 dJ11_newLength_14 ?_
  refine y_icmp_gt o dJ11_newLength_16 (fun c => absurd h1 (by rw [Int32.le_iff_toInt_le]; rw [Int32.lt_iff_toInt_lt] at c; omega)) (fun _ => ?_)
  refine y_iload o dJ11_newLength_19 rfl ?_
  exact y_iret o r dJ11_newLength_20 ⟨rfl, rfl⟩
/-! growth -/
def eSt (E : State → Prop) : Prop := ∀ u U : State, u.vm.Alike U.vm → E u → E U
def CwE (E : State → Prop) (dd : ClassId × ClassId × ClassId) (y : MethodName) (cc : ByteArray) (nL : Nat) (ret : Option FieldType) (d mc ms : Nat) (As : List Value) (ws : va_W) (post : Option Value → va_W → Prop) : Prop :=
  ∀ (l : Launch) (D : va_G) (sz : Nat), Met l y (ws_ y cc nL ret) (y_rm d mc ms) (va_Pc As (fun U => y_Pc dd D sz ws U ∧ E U)) (y_Qc D (va_A ws sz) post) mc ms (va_A ws sz)
theorem CwE.intro {E : State → Prop} {dd : ClassId × ClassId × ClassId} {y : MethodName} {cc : ByteArray} {nL : Nat} {ret : Option FieldType} {d mc ms : Nat} {As : List Value} {ws : va_W} {post : Option Value → va_W → Prop} (hy : plainName y.cls = true) (hc : ∀ v ∈ As, v.category = 1) (hn : As.length ≤ nL)
    (body : ∀ K : YK, kd K = dd → Y K cc y.cls nL d → YR K ret mc ms post → mc ≤ (kR K).cells ∧ ms ≤ (kR K).slots → E (ks K) → Vw K nL ws 0 0 As 0 []) : CwE E dd y cc nL ret d mc ms As ws post := by
  intro l D sz
  refine Met.ofW (cc := cc) (maxL := nL) (ret := ret) hy rfl ?_
  intro p e s m args below meth c s₁ B hml hv
  obtain ⟨rfl, ⟨hsz, hP, hK, hD0, hN, hZ⟩, hE⟩ := hv
  subst hsz
  have hts := atoms_spec (ws := ws_ y cc nL ret) B.pre
  have hts : ∀ w ∈ lw_all, w.before As.toArray s = true := fun w h => hts w (List.mem_cons_of_mem _ h)
  have hown : s.vm.findClass y.cls = some m.cls := findClass_of_methodNamed B.named
  have hl := lv_entry As (n := nL) (by rw [y_sl_len As hc]; exact hn)
  rw [lg_entry_eq]
  generalize (lg_sl As ++ List.replicate (nL - (lg_sl As).length) Slot.unset).toArray = ls at hl ⊢
  have hl' : y_ls ls nL As := ⟨hl.1, hl.2.1, hc, fun k v hk => by have := hl.2.2 _ (y_args_get As 0 hc k v hk); simpa using this⟩
  have hb := body (p, l, e, (headSpec (ws_ y cc nL ret) (y_rm d mc ms)).room, s, m, As.toArray, below, meth, c, MQ below (y_Qc D (va_A ws s.heap.size) post) As.toArray s mc ms (va_A ws s.heap.size), va_A ws s.heap.size, D, dd) rfl
    ⟨B.exec, B.bytes, hml, hown, hts, hK, hN, fun q hq => Or.inr hq, B.notSynchronized, ⟨Nat.le_refl _, Nat.le_refl _⟩, hZ⟩ ⟨B.returns, rfl⟩ ⟨Nat.le_refl _, Nat.le_refl _⟩ hE
  exact hb s.heap [] ls hP hD0.self va_S.rf hl'
theorem y_blindE {E : State → Prop} (hE : eSt E) {dd : ClassId × ClassId × ClassId} {D : va_G} {sz : Nat} {ws : va_W} {As : List Value} : FrameBlind (va_Pc As (fun U => y_Pc dd D sz ws U ∧ E U)) := fun a U g mk q => by
  obtain ⟨q0, q1, q2⟩ := q
  exact ⟨q0, (y_blind (As := As) a U g mk ⟨q0, q1⟩).2, hE U _ (Vm.Alike.refl U.vm) q2⟩
section YEE
variable {K : YK} {cc : ByteArray} {own : String} {nL d : Nat} {ws ws' : va_W} {k n : Nat} {lv : List Value} {pc pc' tgt : Nat} {st : List Value} {mc ms : Nat} {y : MethodName} {bytes : ByteArray} {nL' d' idx na : Nat} {ret : Option FieldType} {As rest : List Value} {post : Option Value → va_W → Prop}
theorem y_callSE {E : State → Prop} (hE : eSt E) (hEs : E (ks K)) (o : Y K cc own nL d) (kf : kS own idx y bytes nL' ret na) (M : CwE E (kd K) y bytes nL' ret d' mc ms As ws post) (hd : d' + 1 ≤ d) (hna : As.length = na) (hst : st = As.reverse ++ rest) (hW : (rest.map fun v => v.category).sum ≤ 8) (hf : k + mc ≤ (kR K).cells ∧ n + ms ≤ (kR K).slots) (h : dk cc pc (.invokestatic idx) 3 pc')
    (kk : ∀ (v : Option Value) (w : va_W), post v w → Vw K nL w (k + mc) (n + ms) lv pc' (v.toList ++ rest)) : Vw K nL ws k n lv pc st := by
  intro H locs ls hP hD hS hl
  obtain ⟨h1, h3⟩ := h; subst h3; subst hst
  exact y_cont (lv := lv) o hD hS hl (va_runS ⟨o.1, o.2.1, o.2.2.1, o.2.2.2.1, o.2.2.2.2.1⟩ (M (kL K) (kD K) H.size) (va_cwS na o.2.2.2.2.1 kf.1 rfl rfl rfl kf.2.1 (y_rm_ok hd o.2.2.2.2.2.2.2.2.2.1 kf.2.2)) ⟨y_blindE hE, fun U hU hW => ⟨rfl, y_pre o hP hD hS U hU hW, hE _ _ hW.alike hEs⟩⟩ rfl hna hl.1 rfl (lv_room hW) h1 hf) kk
end YEE
theorem set_last {α : Type} (ws : List α) (x y : α) : (ws ++ [x]).set ws.length y = ws ++ [y] := by simp
theorem get_last {α : Type} (ws : List α) (x : α) : (ws ++ [x])[ws.length]? = some x := by simp
theorem al_copy3 (dd : ClassId × ClassId × ClassId) (ws : va_W) (a n N mi : Nat) (f : Nat → Option Nat) (ha : (a, rA dd.2.2 n f) ∈ ws) (hnN : n ≤ N) (hN : N ≤ 48) (hel : ∀ i y, i < n → f i = some y → ∃ fs, ((y, .inr (11, fs)) : Nat × va_E) ∈ ws) : CwE (va_Mi "[Ljava/lang/Object;" mi) dd yJ13_copyOf_3 cJ13_copyOf_3 4 (some (.array (.object "java/lang/Object"))) 1 1 48 [.ref a, .int (nI N), .ref mi] ws (fun v w => ∃ q, v = some (.ref q) ∧ w = ws ++ [(q, rA dd.2.2 N (va_cpy f (fun _ => none) 0 0 n))]) := by
  refine CwE.intro (by decide) (by simp [Value.category]) (Nat.le_of_ble_eq_true rfl) (fun K e o r hk hM => ?_)
  subst e
  have o : Y K cJ13_copyOf_3 RJ13 4 1 := o
  refine y_aload o dJ13_copyOf_3_0 rfl ?_
  refine y_ldcM o q529 dJ13_copyOf_3_1 hM ?_
  refine y_acmp_ne (rx := some mi) (ry := some mi) o dJ13_copyOf_3_3 (fun c => absurd rfl c) (fun _ => ?_)
  refine y_iload o dJ13_copyOf_3_6 rfl ?_
  refine y_newq (N := N) o q530 (nI_pos (by omega)) (nI_clamp (by omega)) (by omega) (Nat.le_trans (by decide) hk.1) (Nat.le_trans (by omega) hk.2) dJ13_copyOf_3_7 (fun q => ?_)
  refine y_wide (k' := 1) (n' := 48) (by omega) (by omega) ?_
  refine y_goto o dJ13_copyOf_3_10 ?_
  refine y_astore o dJ13_copyOf_3_24 (by decide) (Nat.le_of_ble_eq_true rfl) ?_
  refine y_aload o dJ13_copyOf_3_25 rfl ?_
  refine y_const o dJ13_copyOf_3_26 ?_
  refine y_aload o dJ13_copyOf_3_27 rfl ?_
  refine y_const o dJ13_copyOf_3_28 ?_
  refine y_aload o dJ13_copyOf_3_29 rfl ?_
  refine y_alen o (List.mem_append_left _ ha) dJ13_copyOf_3_30 ?_
  refine y_iload o dJ13_copyOf_3_31 rfl ?_
  refine y_mmin o q271 q272 q55 q273 (by decide) hk (Nat.le_of_ble_eq_true rfl) dJ13_copyOf_3_32 ?_
  rw [if_neg (nI_nlt hnN (by omega))]
  refine y_copy o q274 (by decide) (Nat.le_of_ble_eq_true rfl) (List.mem_append_left _ ha) ws.length (get_last _ _) (Nat.le_refl n) hnN (by omega) (fun i y hi hy => ?_) dJ13_copyOf_3_35 (set_last _ _ _) ?_
  · obtain ⟨fs, h⟩ := hel i y hi hy
    exact ⟨fs, List.mem_append_left _ h⟩
  refine y_aload o dJ13_copyOf_3_38 rfl ?_
  exact y_aret o r (Or.inr ⟨_, rfl⟩) dJ13_copyOf_3_39 (Or.inr ⟨_, rfl⟩) ⟨q, rfl, rfl⟩
theorem al_copy2 (dd : ClassId × ClassId × ClassId) (ws : va_W) (a n N : Nat) (f : Nat → Option Nat) (ha : (a, rA dd.2.2 n f) ∈ ws) (hnN : n ≤ N) (hN : N ≤ 48) (hel : ∀ i y, i < n → f i = some y → ∃ fs, ((y, .inr (11, fs)) : Nat × va_E) ∈ ws) : Cw dd yJ13_copyOf_2 cJ13_copyOf_2 2 (some (.array (.object "java/lang/Object"))) 2 1 48 [.ref a, .int (nI N)] ws (fun v w => ∃ q, v = some (.ref q) ∧ w = ws ++ [(q, rA dd.2.2 N (va_cpy f (fun _ => none) 0 0 n))]) := by
  refine Cw.intro (by decide) (by simp [Value.category]) (Nat.le_of_ble_eq_true rfl) (fun K e o r hk => ?_)
  subst e
  have o : Y K cJ13_copyOf_2 RJ13 2 2 := o
  obtain ⟨mi, hM⟩ := o.2.2.2.2.2.2.1.2.2
  refine y_aload o dJ13_copyOf_2_0 rfl ?_
  refine y_iload o dJ13_copyOf_2_1 rfl ?_
  refine y_aload o dJ13_copyOf_2_2 rfl ?_
  refine y_getC o q503 (by decide) (Nat.le_of_ble_eq_true rfl) ha dJ13_copyOf_2_3 hM ?_
  refine y_callSE (As := [.ref a, .int (nI N), .ref mi]) (rest := []) (fun u U h1 h2 => h2.moved h1) hM o kJ13_300 (al_copy3 _ ws a n N mi f ha hnN hN hel) (by decide) rfl rfl (Nat.le_of_ble_eq_true rfl) (by simpa using hk) dJ13_copyOf_2_6 (fun v w e => ?_)
  obtain ⟨q, rfl, rfl⟩ := e
  refine y_wide (k' := 1) (n' := 48) (by omega) (by omega) ?_
  exact y_aret o r (Or.inr ⟨_, rfl⟩) dJ13_copyOf_2_9 (Or.inr ⟨_, rfl⟩) ⟨q, rfl, rfl⟩
theorem grow_eq : ∀ n : Fin 32, 2 ≤ n.val → nI n.val + (if nI n.val + 1 - nI n.val < nI n.val >>> ((1 : Int32) &&& 31) then nI n.val >>> ((1 : Int32) &&& 31) else nI n.val + 1 - nI n.val) = nI (n.val + n.val / 2) := by decide +kernel
theorem al_grow2 (dd : ClassId × ClassId × ClassId) (ex : va_W) (b a n : Nat) (m : Int32) (f : Nat → Option Nat) (h2 : 2 ≤ n) (h31 : n ≤ 31) (hel : ∀ i y, i < n → f i = some y → ∃ fs, ((y, .inr (11, fs)) : Nat × va_E) ∈ ex) : Cw dd yJ2_grow_2 cJ2_grow_2 4 (some (.array (.object "java/lang/Object"))) 3 1 48 [.ref b, .int (nI n + 1)] (lC b m a (nI n) :: (a, rA dd.2.2 n f) :: ex) (fun v w => ∃ q, v = some (.ref q) ∧ w = lC b m q (nI n) :: (a, rA dd.2.2 n f) :: (ex ++ [(q, rA dd.2.2 (n + n / 2) (va_cpy f (fun _ => none) 0 0 n))])) := by
  refine Cw.intro (by decide) (by simp [Value.category]) (Nat.le_of_ble_eq_true rfl) (fun K e o r hk => ?_)
  subst e
  have o : Y K cJ2_grow_2 RJ2 4 3 := o
  have hb : lC b m a (nI n) ∈ (lC b m a (nI n) :: (a, rA (kd K).2.2 n f) :: ex) := List.mem_cons_self
  have ha : (a, rA (kd K).2.2 n f) ∈ (lC b m a (nI n) :: (a, rA (kd K).2.2 n f) :: ex) := List.mem_cons_of_mem _ List.mem_cons_self
  refine y_aload o dJ2_grow_2_0 rfl ?_
  refine y_getM o jF9 hb rfl dJ2_grow_2_1 ?_
  refine y_alen o ha dJ2_grow_2_4 ?_
  refine y_istore o dJ2_grow_2_5 (by decide) (Nat.le_of_ble_eq_true rfl) ?_
  refine y_iload o dJ2_grow_2_6 rfl ?_
  refine y_if_gt o dJ2_grow_2_7 (fun _ => ?_) (fun c => absurd (nI_lt (a := 0) (b := n) (by omega) (by omega)) c)
  refine y_iload o dJ2_grow_2_20 rfl ?_
  refine y_iload o dJ2_grow_2_21 rfl ?_
  refine y_iload o dJ2_grow_2_22 rfl ?_
  refine y_isub o dJ2_grow_2_23 ?_
  refine y_iload o dJ2_grow_2_24 rfl ?_
  refine y_const o dJ2_grow_2_25 ?_
  refine y_ishr o dJ2_grow_2_26 ?_
  refine y_callSe o kJ2_73 (al_newLen _ _ _ _ _ (nI (n + n / 2)) (grow_eq ⟨n, by omega⟩ h2) (nI_nle (by omega) (by omega)) (nI_le (b := 2147483639) (by omega) (by decide))) (by decide) rfl rfl (Nat.le_of_ble_eq_true rfl) ⟨Nat.zero_le _, Nat.zero_le _⟩ dJ2_grow_2_27 ?_
  refine y_istore o dJ2_grow_2_30 (by decide) (Nat.le_of_ble_eq_true rfl) ?_
  refine y_aload o dJ2_grow_2_31 rfl ?_
  refine y_aload o dJ2_grow_2_32 rfl ?_
  refine y_getM o jF9 hb rfl dJ2_grow_2_33 ?_
  refine y_iload o dJ2_grow_2_36 rfl ?_
  refine y_callS (As := [.ref a, .int (nI (n + n / 2))]) (rest := [.ref b]) o kJ2_66 (al_copy2 _ _ a n (n + n / 2) f ha (by omega) (by omega) (fun i y hi hy => ?_)) (by decide) rfl rfl (Nat.le_of_ble_eq_true rfl) (by simpa using hk) dJ2_grow_2_37 (fun v w e => ?_)
  · obtain ⟨fs, h⟩ := hel i y hi hy
    exact ⟨fs, List.mem_cons_of_mem _ (List.mem_cons_of_mem _ h)⟩
  obtain ⟨q, rfl, rfl⟩ := e
  refine y_wide (k' := 1) (n' := 48) (by omega) (by omega) ?_
  refine y_dupx1 (v := .ref q) (w := .ref b) (st := []) o dJ2_grow_2_40 rfl rfl ?_
  refine y_putM (fs := [.int m, .ref a, .int (nI n)]) o jP9 0 rfl (Nat.le_of_ble_eq_true rfl) rfl rfl dJ2_grow_2_41 rfl ?_
  exact y_aret o r (Or.inr ⟨_, rfl⟩) dJ2_grow_2_44 (Or.inr ⟨_, rfl⟩) ⟨q, rfl, rfl⟩
theorem al_grow (dd : ClassId × ClassId × ClassId) (ex : va_W) (b a n : Nat) (m : Int32) (f : Nat → Option Nat) (h2 : 2 ≤ n) (h31 : n ≤ 31) (hel : ∀ i y, i < n → f i = some y → ∃ fs, ((y, .inr (11, fs)) : Nat × va_E) ∈ ex) : Cw dd yJ2_grow cJ2_grow 1 (some (.array (.object "java/lang/Object"))) 4 1 48 [.ref b] (lC b m a (nI n) :: (a, rA dd.2.2 n f) :: ex) (fun v w => ∃ q, v = some (.ref q) ∧ w = lC b m q (nI n) :: (a, rA dd.2.2 n f) :: (ex ++ [(q, rA dd.2.2 (n + n / 2) (va_cpy f (fun _ => none) 0 0 n))])) := by
  refine Cw.intro (by decide) (by simp [Value.category]) (Nat.le_of_ble_eq_true rfl) (fun K e o r hk => ?_)
  subst e
  have o : Y K cJ2_grow RJ2 1 4 := o
  have hb : lC b m a (nI n) ∈ (lC b m a (nI n) :: (a, rA (kd K).2.2 n f) :: ex) := List.mem_cons_self
  refine y_aload o dJ2_grow_0 rfl ?_
  refine y_aload o dJ2_grow_1 rfl ?_
  refine y_getM o jF48 hb rfl dJ2_grow_2 ?_
  refine y_const o dJ2_grow_5 ?_
  refine y_iadd o dJ2_grow_6 ?_
  refine y_callV (As := [.int (nI n + 1)]) (rest := []) o kJ2_69 (al_grow2 _ ex b a n m f h2 h31 hel) (rc_mem rfl hb) (by decide) rfl rfl (Nat.le_of_ble_eq_true rfl) (by simpa using hk) dJ2_grow_7 (fun v w e => ?_)
  obtain ⟨q, rfl, rfl⟩ := e
  refine y_wide (k' := 1) (n' := 48) (by omega) (by omega) ?_
  exact y_aret o r (Or.inr ⟨_, rfl⟩) dJ2_grow_10 (Or.inr ⟨_, rfl⟩) ⟨q, rfl, rfl⟩
theorem cpy_self {f : Nat → Option Nat} {n : Nat} (h : ∀ k, n ≤ k → f k = none) : va_cpy f (fun _ => none) 0 0 n = f := by
  funext k
  by_cases c : k < n
  · rw [pk_cpy_in (by omega) (by omega)]
    congr 1
    omega
  · rw [pk_cpy_out (Or.inr (by omega)), h k (by omega)]
/-- what add leaves: the list one longer, over its array or a larger one -/
def l_post (ex : va_W) (dO : ClassId) (b n c x : Nat) (m : Int32) (f : Nat → Option Nat) (w : va_W) : Prop := ∃ a' n', (n' = n ∨ (n' = n + n / 2 ∧ c = n)) ∧ c + 1 ≤ n' ∧ sw (lC b m a' (nI (c + 1)) :: (a', rA dO n' (va_up f c (some x))) :: ex) w
theorem al_add2 (dd : ClassId × ClassId × ClassId) (ex : va_W) (b a n c x ci : Nat) (m : Int32) (f : Nat → Option Nat) (fs : List Value) {C : String} {T : u_T} {N : Nat} (hcl : y_cl[ci]? = some (C, T, N)) (hcast : Cond.castable C "java/lang/Object" ∈ lw_tbl) (hx : ((x, .inr (ci, fs)) : Nat × va_E) ∈ ex) (hcn : c ≤ n) (hn : n ≤ 1000) (hg : c = n → 2 ≤ n ∧ n ≤ 31 ∧ (∀ k, n ≤ k → f k = none) ∧ ∀ i y, i < n → f i = some y → ∃ fs, ((y, .inr (11, fs)) : Nat × va_E) ∈ ex) : Cw dd yJ2_add_2 cJ2_add_2 4 none 5 1 48 [.ref b, .ref x, .ref a, .int (nI c)] (lC b m a (nI c) :: (a, rA dd.2.2 n f) :: ex) (fun v w => v = none ∧ l_post ex dd.2.2 b n c x m f w) := by
  refine Cw.intro (by decide) (by simp [Value.category]) (Nat.le_of_ble_eq_true rfl) (fun K e o r hk => ?_)
  subst e
  have o : Y K cJ2_add_2 RJ2 4 5 := o
  have hb : lC b m a (nI c) ∈ (lC b m a (nI c) :: (a, rA (kd K).2.2 n f) :: ex) := List.mem_cons_self
  have ha : (a, rA (kd K).2.2 n f) ∈ (lC b m a (nI c) :: (a, rA (kd K).2.2 n f) :: ex) := List.mem_cons_of_mem _ List.mem_cons_self
  have ec : (nI c).toNatClampNeg = c := nI_clamp (by omega)
  have fin : ∀ (a' n' : Nat) (f' : Nat → Option Nat) (ex' : va_W), (n' = n ∨ (n' = n + n / 2 ∧ c = n)) → c + 1 ≤ n' → n' ≤ 2000 → f' = f → ((x, .inr (ci, fs)) : Nat × va_E) ∈ ex' → (∀ f2 e2, sw ((b, e2) :: (a', f2) :: ex) ((b, e2) :: (a', f2) :: ex')) → Vw K 4 (lC b m a' (nI c) :: (a', rA (kd K).2.2 n' f') :: ex') 1 48 [.ref b, .ref x, .ref a', .int (nI c)] 11 [] := by
    intro a' n' f' ex' h1 h2 h3 h4 h5 h6
    subst h4
    refine y_aload o dJ2_add_2_11 rfl ?_
    refine y_iload o dJ2_add_2_12 rfl ?_
    refine y_aload o dJ2_add_2_13 rfl ?_
    refine y_aast o 1 rfl (List.mem_cons_of_mem _ (List.mem_cons_of_mem _ h5)) hcl hcast dJ2_add_2_14 (vp_in_nI (by omega) (by omega)) rfl ?_
    refine y_aload o dJ2_add_2_15 rfl ?_
    refine y_iload o dJ2_add_2_16 rfl ?_
    refine y_const o dJ2_add_2_17 ?_
    refine y_iadd o dJ2_add_2_18 ?_
    refine y_putM (fs := [.int m, .ref a', .int (nI c)]) o jP48 0 rfl (Nat.le_of_ble_eq_true rfl) rfl rfl dJ2_add_2_19 rfl ?_
    refine y_vret o r dJ2_add_2_22 ⟨rfl, a', n', h1, h2, ?_⟩
    rw [ec, ← nI_1]
    exact h6 _ _
  refine y_iload o dJ2_add_2_0 rfl ?_
  refine y_aload o dJ2_add_2_1 rfl ?_
  refine y_alen o ha dJ2_add_2_2 ?_
  refine y_icmp_ne o dJ2_add_2_3 (fun c3 => ?_) (fun c3 => ?_)
  · rw [nI_eq (by omega) (by omega)] at c3
    refine y_wide (k' := 1) (n' := 48) (by omega) (by omega) ?_
    exact fin a n f ex (Or.inl rfl) (by omega) (by omega) rfl hx (fun _ _ => sw.of (List.Perm.refl _))
  · rw [nI_eq (by omega) (by omega)] at c3
    obtain ⟨g1, g2, g3, g4⟩ := hg c3
    subst c3
    refine y_aload o dJ2_add_2_6 rfl ?_
    refine y_callV (As := []) (rest := []) o kJ2_129 (al_grow _ ex b a c m f g1 g2 g4) (rc_mem rfl hb) (by decide) rfl rfl (Nat.le_of_ble_eq_true rfl) (by simpa using hk) dJ2_add_2_7 (fun v w e => ?_)
    obtain ⟨q, rfl, rfl⟩ := e
    refine y_wide (k' := 1) (n' := 48) (by omega) (by omega) ?_
    refine y_astore (x := q) (st := []) o dJ2_add_2_10 (by decide) (Nat.le_of_ble_eq_true rfl) ?_
    refine y_ws (ws' := lC b m q (nI c) :: (q, rA (kd K).2.2 (c + c / 2) (va_cpy f (fun _ => none) 0 0 c)) :: ex) ⟨lC b m q (nI c) :: (a, rA (kd K).2.2 c f) :: (q, rA (kd K).2.2 (c + c / 2) (va_cpy f (fun _ => none) 0 0 c)) :: ex, ?_, ?_⟩ ?_
    · refine List.Perm.cons _ (List.Perm.cons _ ?_)
      exact List.perm_append_comm
    · exact List.Sublist.cons₂ _ (List.Sublist.cons _ (List.Sublist.refl _))
    exact fin q (c + c / 2) _ ex (Or.inr ⟨rfl, rfl⟩) (by omega) (by omega) (cpy_self g3) hx (fun _ _ => sw.of (List.Perm.refl _))
theorem al_add (dd : ClassId × ClassId × ClassId) (ex : va_W) (b a n c x ci : Nat) (m : Int32) (f : Nat → Option Nat) (fs : List Value) {C : String} {T : u_T} {N : Nat} (hcl : y_cl[ci]? = some (C, T, N)) (hcast : Cond.castable C "java/lang/Object" ∈ lw_tbl) (hx : ((x, .inr (ci, fs)) : Nat × va_E) ∈ ex) (hcn : c ≤ n) (hn : n ≤ 1000) (hg : c = n → 2 ≤ n ∧ n ≤ 31 ∧ (∀ k, n ≤ k → f k = none) ∧ ∀ i y, i < n → f i = some y → ∃ fs, ((y, .inr (11, fs)) : Nat × va_E) ∈ ex) : Cw dd yJ2_add cJ2_add 2 (some .boolean) 6 1 48 [.ref b, .ref x] (lC b m a (nI c) :: (a, rA dd.2.2 n f) :: ex) (fun v w => v = some (.int 1) ∧ l_post ex dd.2.2 b n c x (m + 1) f w) := by
  refine Cw.intro (by decide) (by simp [Value.category]) (Nat.le_of_ble_eq_true rfl) (fun K e o r hk => ?_)
  subst e
  have o : Y K cJ2_add RJ2 2 6 := o
  have hb : ∀ m, lC b m a (nI c) ∈ (lC b m a (nI c) :: (a, rA (kd K).2.2 n f) :: ex) := fun m => List.mem_cons_self
  refine y_aload o dJ2_add_0 rfl ?_
  refine y_dup o dJ2_add_1 rfl ?_
  refine y_getM o jF63 (hb m) rfl dJ2_add_2 ?_
  refine y_const o dJ2_add_5 ?_
  refine y_iadd o dJ2_add_6 ?_
  refine y_putM (fs := [.int m, .ref a, .int (nI c)]) (ws' := lC b (m + 1) a (nI c) :: (a, rA (kd K).2.2 n f) :: ex) o jP63 0 rfl (Nat.le_of_ble_eq_true rfl) rfl rfl dJ2_add_7 rfl ?_
  refine y_aload o dJ2_add_10 rfl ?_
  refine y_aload o dJ2_add_11 rfl ?_
  refine y_aload o dJ2_add_12 rfl ?_
  refine y_getM o jF9 (hb (m + 1)) rfl dJ2_add_13 ?_
  refine y_aload o dJ2_add_16 rfl ?_
  refine y_getM o jF48 (hb (m + 1)) rfl dJ2_add_17 ?_
  refine y_callV (As := [.ref x, .ref a, .int (nI c)]) (rest := []) o kJ2_131 (al_add2 _ ex b a n c x ci (m + 1) f fs hcl hcast hx hcn hn hg) (rc_mem rfl (hb (m + 1))) (by decide) rfl rfl (Nat.le_of_ble_eq_true rfl) (by simpa using hk) dJ2_add_20 (fun v w e => ?_)
  obtain ⟨rfl, hw⟩ := e
  refine y_wide (k' := 1) (n' := 48) (by omega) (by omega) ?_
  refine y_const (st := []) o dJ2_add_23 ?_
  exact y_zret o r dJ2_add_24 (Or.inr rfl) ⟨rfl, hw⟩
