/-! exceptions, third part: contracts of methods that may throw -/
set_option maxRecDepth 100000
abbrev e_tN : String := "java/lang/Throwable"
abbrev e_ISE : String := "java/lang/IllegalStateException"
abbrev e_IAE : String := "java/lang/IllegalArgumentException"
abbrev e_IOB : String := "java/lang/IndexOutOfBoundsException"
def e_rv (v : Value) : Prop := v = .null ∨ ∃ a, v = .ref a
/-- a static field of references, laid, outside A -/
def e_Z (O f d : String) (A : Nat → Prop) (U : State) (H : Heap) : Prop := ∃ (c : ClassId) (k : Class) (i : Nat) (fd : Field) (a : Nat) (cell : Cell) (v : Value), (U.vm.findClass O = some c ∧ U.fieldFound? O f d = some (c, k, i, fd)) ∧ (fd.isStatic = true ∧ k.statics = some a ∧ k.staticTypes[fd.slot]? = some fd.type) ∧ H[a]? = some cell ∧ cell.vm.isStatics = true ∧ cell.cls = c ∧ fd.slot < cell.slots.size ∧ cell.slots[fd.slot]? = some v ∧ e_rv v ∧ ¬ A a
theorem e_Z.moved {O f d : String} {A : Nat → Prop} {u U : State} {H : Heap} (hvm : u.vm.Alike U.vm) (h : e_Z O f d A u H) : e_Z O f d A U H := by
  obtain ⟨c, k, i, fd, a, cell, v, ⟨h1, h2⟩, ⟨h3, h4, h5⟩, h6⟩ := h
  obtain ⟨k', hi', he⟩ := State.fieldFound?_setVm hvm h2
  exact ⟨c, k', i, fd, a, cell, v, ⟨by rw [hvm.findClass]; exact h1, hi'⟩, ⟨h3, by rw [he]; exact h4, by rw [he]; exact h5⟩, h6⟩
theorem e_Z.kept {O f d : String} {A A' : Nat → Prop} {U : State} {H0 H : Heap} {locs : List Loc} (h : e_Z O f d A U H0) (hS : va_S A H0 H locs) (hn : ∀ q, A' q → A q) : e_Z O f d A' U H := by
  obtain ⟨c, k, i, fd, a, cell, v, h1, h2, h3, h4, h5, h6, h7, h8, h9⟩ := h
  exact ⟨c, k, i, fd, a, cell, v, h1, h2, by rw [hS.2.1 a (Array.getElem?_eq_some_iff.mp h3).1 h9]; exact h3, h4, h5, h6, h7, h8, fun q => h9 (hn a q)⟩
theorem e_Z.words {O f d : String} {A : Nat → Prop} {U : State} (h : e_Z O f d A U U.heap) (args : Array Value) : (Cond.laysStatic O f d).before args U = true ∧ (Cond.isRef (.static O f d)).before args U = true := by
  obtain ⟨c, k, i, fd, a, cell, v, ⟨h1, h2⟩, ⟨h3, h4, h5⟩, h6, h7, h8, h9, h10, h11, h12⟩ := h
  refine ⟨by simp [Cond.before, Cond.holds, Cond.value, h1, h2, h3, h4, h5, h6, h7, h8, h9], ?_⟩
  have e : (Term.static O f d).eval args U none [] U = some v := by
    simp [Term.eval, State.fieldNamed?, h2, h3, h4, h6, h7, h10]
  rcases h11 with rfl | ⟨b, rfl⟩ <;> simp [Cond.before, Cond.holds, Cond.value, e]
/-- what throwing asks of the state beside the tables: two statics of Throwable; two classes apart -/
def yV (A : Nat → Prop) (U : State) (H : Heap) : Prop := e_Z e_tN "UNASSIGNED_STACK" "[Ljava/lang/StackTraceElement;" A U H ∧ e_Z e_tN "SUPPRESSED_SENTINEL" "Ljava/util/List;" A U H ∧ va_Nw (.not (.castable e_IAE e_ISE)) U
/-- the end of a method that may throw: it returned, or it threw an object of one of the classes 'thr' and left the world ws as it was -/
def e_Qc (D : va_G) (A : Nat → Prop) (ws : va_W) (post : Option Value → va_W → Prop) (thr : String → Prop) : Array Value → State → Outcome → State → Prop := fun _ st oc t =>
  ((∃ (v : Option Value) (w : va_W), oc = .returned v ∧ post v w ∧ va_P D y_cl w t.heap ∧ va_D A w) ∨ (∃ (a : Nat) (ce : Cell) (C : String), oc = .threw a ∧ thr C ∧ va_P D y_cl ws t.heap ∧ t.heap[a]? = some ce ∧ st.vm.findClass C = some ce.cls ∧ ce.vm = .none ∧ st.heap.size ≤ a)) ∧ va_F A st t
def MetT (l : Launch) (y : MethodName) (ws : List Cond) (rm : Room) (Pc : Array Value → State → Prop) (Qc : Array Value → State → Outcome → State → Prop) (mc ms : Nat) (free : Addr → Prop) : Prop :=
  MetFree l y (headSpec ws rm) Pc (fun _ _ _ _ _ => True) (fun a st o t => Qc a st o t ∧ ∃ L, (st.WarmedH t.vm ∧ st.sameButNew ({ t with vm := st.vm } : State) L mc ms) ∧ ∀ q ∈ L, free q.base)
def MQT (below : List Frame) (Qc : Array Value → State → Outcome → State → Prop) (a : Array Value) (s : State) (mc ms : Nat) (free : Addr → Prop) : State → Prop := fun t =>
  ∃ o, t.status = .running ∧ Ended t below o ∧ Qc a s o t ∧ ∃ L, (s.WarmedH t.vm ∧ s.sameButNew ({ t with vm := s.vm } : State) L mc ms) ∧ ∀ q ∈ L, free q.base
/-- a contract of a method that may throw -/
def CwT (dd : ClassId × ClassId × ClassId) (y : MethodName) (cc : ByteArray) (nL : Nat) (ret : Option FieldType) (d mc ms : Nat) (As : List Value) (ws : va_W) (post : Option Value → va_W → Prop) (thr : String → Prop) : Prop :=
  ∀ (l : Launch) (D : va_G) (sz : Nat), l.stackTraces = false → MetT l y (ws_ y cc nL ret) (y_rm d mc ms) (va_Pc As (fun U => y_Pc dd D sz ws U ∧ yV (va_A ws sz) U U.heap)) (e_Qc D (va_A ws sz) ws post thr) mc ms (va_A ws sz)
def YT (K : YK) (ret : Option FieldType) (mc ms : Nat) (ws : va_W) (post : Option Value → va_W → Prop) (thr : String → Prop) : Prop := (kM K).sig.returnType = ret ∧ kQ K = MQT (kb K) (e_Qc (kD K) (kA K) ws post thr) (ka K) (ks K) mc ms (kA K)
theorem CwT.intro {dd : ClassId × ClassId × ClassId} {y : MethodName} {cc : ByteArray} {nL : Nat} {ret : Option FieldType} {d mc ms : Nat} {As : List Value} {ws : va_W} {post : Option Value → va_W → Prop} {thr : String → Prop} (hy : plainName y.cls = true) (hc : ∀ v ∈ As, v.category = 1) (hn : As.length ≤ nL)
    (body : ∀ K : YK, kd K = dd → Y K cc y.cls nL d → YT K ret mc ms ws post thr → mc ≤ (kR K).cells ∧ ms ≤ (kR K).slots → (kL K).stackTraces = false → (kL K).admits (kE K) → yV (kA K) (ks K) (ks K).heap → va_P (kD K) y_cl ws (ks K).heap → kA K = va_A ws (ks K).heap.size → (kc K).exceptionTable.toList = [] → Vw K nL ws 0 0 As 0 []) : CwT dd y cc nL ret d mc ms As ws post thr := by
  intro l D sz hl0
  refine MetFree.of_bodyS (code := cc) (maxLocals := nL) (ret := ret) hy ?_ ?_
  · intro args s m h hn
    obtain ⟨meth, c, h1, h2, h3, h4, h5, h6, -, -⟩ := Cond.code_spec hn (atoms_spec (ws := ws_ y cc nL ret) h _ List.mem_cons_self)
    exact ⟨meth, c, h1, h2, h3, h4, h5, h6⟩
  · intro p e s m args below meth c s₁ B hml hv _
    obtain ⟨rfl, ⟨hsz, hP, hK, hD0, hN, hZ⟩, hV⟩ := hv
    subst hsz
    have hts0 := atoms_spec (ws := ws_ y cc nL ret) B.pre
    have hts : ∀ w ∈ lw_all, w.before As.toArray s = true := fun w h => hts0 w (List.mem_cons_of_mem _ h)
    have hown : s.vm.findClass y.cls = some m.cls := findClass_of_methodNamed B.named
    have hl := lv_entry As (n := nL) (by rw [y_sl_len As hc]; exact hn)
    rw [lg_entry_eq]
    generalize (lg_sl As ++ List.replicate (nL - (lg_sl As).length) Slot.unset).toArray = ls at hl ⊢
    have hl' : y_ls ls nL As := ⟨hl.1, hl.2.1, hc, fun k v hk => by have := hl.2.2 _ (y_args_get As 0 hc k v hk); simpa using this⟩
    have X := Stand.of_body B
    have hb := body (p, l, e, (headSpec (ws_ y cc nL ret) (y_rm d mc ms)).room, s, m, As.toArray, below, meth, c, MQT below (e_Qc D (va_A ws s.heap.size) ws post thr) As.toArray s mc ms (va_A ws s.heap.size), va_A ws s.heap.size, D, dd) rfl
      ⟨B.exec, B.bytes, hml, hown, hts, hK, hN, fun q hq => Or.inr hq, B.notSynchronized, ⟨Nat.le_refl _, Nat.le_refl _⟩, hZ⟩ ⟨B.returns, rfl⟩ ⟨Nat.le_refl _, Nat.le_refl _⟩ hl0 X.admits hV hP rfl (by
        have h0 := B.noHandlers (hts0 _ List.mem_cons_self)
        exact List.isEmpty_iff.mp (by simpa using h0))
    have hh0 : s₁.heap = s.heap := by rw [B.state]; rfl
    obtain ⟨t, a1, oc, b1, b2, b3⟩ := hb s.heap [] ls hP hD0.self va_S.rf hl' s₁ hh0 X
    exact ⟨t, oc, a1, b1, b2, b3⟩
section ET
variable {K : YK} {cc : ByteArray} {own : String} {nL d : Nat} {ws ws0 : va_W} {lv : List Value} {pc pc' p1 p2 p3 p4 : Nat} {mc ms : Nat} {post : Option Value → va_W → Prop} {thr : String → Prop}
theorem t_iret (o : Y K cc own nL d) (r : YT K (some .int) mc ms ws0 post thr) (h : dk cc pc .ireturn 1 pc') {v : Int32} (hp : post (some (.int v)) ws) : Vw K nL ws mc ms lv pc [.int v] := by
  intro H locs ls hP hD hS hl T hT X
  obtain ⟨t, a1, oc, b1, b2, b3, L, b4, b5⟩ := W.iret (Qc := e_Qc (kD K) (kA K) ws0 post thr) (free := kA K) o.1 o.2.1 r.1 (fun t ht _ => (⟨Or.inl ⟨some (.int v), ws, rfl, hp, by rw [ht]; exact hP, hD⟩, hS.F ht⟩ : e_Qc (kD K) (kA K) ws0 post thr (ka K) (ks K) (.returned (some (.int v))) t)) hS.2.2 h.1 (ls := ls) (hlocks := o.2.2.2.2.2.2.2.2.1) T hT X
  refine ⟨t, a1, ?_⟩
  rw [r.2]
  exact ⟨oc, b1, b2, b3, L, b4.2, b5⟩
theorem e_stat (hP : va_P (kD K) y_cl ws (ks K).heap) (hA : kA K = va_A ws (ks K).heap.size) : ∀ q, kA K q → ∀ cell, (ks K).heap[q]? = some cell → cell.vm.isStatics = false := by
  intro q hq cell hc
  rw [hA] at hq
  rcases hq with ⟨j, e, h⟩ | h
  · have h1 := hP j _ h
    rcases e with e | e
    · have h1 : (ks K).heap[q]? = some (vp_cell e.1 e.2) := h1
      cases hc.symm.trans h1
      obtain ⟨e1, e2, e3⟩ := e
      rcases e3 with e3 | e3 | e3 | e3 | e3 <;> rfl
    · obtain ⟨r, r1, c0, o1, o2, o3, o4⟩ := h1
      have o1 : (ks K).heap[q]? = some c0 := o1
      cases hc.symm.trans o1
      rw [o3]; rfl
  · exact absurd (Array.getElem?_eq_some_iff.mp hc).1 (by omega)
theorem t_throw (o : Y K cc own nL d) (r : YT K (some .int) mc ms ws post thr) (hm : 1 ≤ mc ∧ 6 ≤ ms) {C : String} {t : State} (hC : thr C) (h : eThrew K C ws t) : kQ K t := by
  obtain ⟨a, ce, L, h1, h2, h3, h4, h5, h6, h7, h8, h9, h10⟩ := h
  rw [r.2]
  refine ⟨.threw a, h1, h2, ⟨Or.inr ⟨a, ce, C, rfl, hC, h6, h7, h8, h9, h10⟩, h4.2.1, fun q hq hn => ?_⟩, L, ⟨h3, h4.mono hm.1 hm.2⟩, h5⟩
  obtain ⟨c, hc⟩ : ∃ c, (ks K).heap[q]? = some c := ⟨_, Array.getElem?_eq_getElem hq⟩
  obtain ⟨c', g1, g2, g3, g4⟩ := h4.2.2.2.2.2 q c hc
  have e : c'.slots = c.slots := Array.ext_getElem? (fun i => g4 i (fun z => hn (h5 _ z)))
  have g1 : t.heap[q]? = some c' := g1
  rw [g1, hc, g2, e]
end ET
