section
-- ===== PART A: goes FIRST, ahead of the names: the tables' words, and 'selects' of the private methods out of them =====
/-- a private method of a class that the tables say can be made, by its rows of tables_1 -/
def lw_okq (q : MethodName × Nat) : Prop := (q.1.cls ≠ "java/lang/invoke/MethodHandle" ∧ q.1.cls ≠ "java/lang/invoke/VarHandle") ∧ Cond.instantiable q.1.cls q.2 ∈ tables_1 ∧ Cond.privateMethod q.1 ∈ tables_1 ∧ Cond.instanceMethod q.1 ∈ tables_1
theorem lw_p0 : lw_okq (⟨"CommitDesk", "work", "(I)LCommitDesk$Work;"⟩, 5) := ⟨⟨by decide +kernel, by decide +kernel⟩, List.mem_of_getElem? (i := 13) (by decide +kernel), List.mem_of_getElem? (i := 83) (by decide +kernel), List.mem_of_getElem? (i := 84) (by decide +kernel)⟩
theorem lw_p1 : lw_okq (⟨"java/lang/Throwable", "fillInStackTrace", "(I)Ljava/lang/Throwable;"⟩, 6) := ⟨⟨by decide +kernel, by decide +kernel⟩, List.mem_of_getElem? (i := 129) (by decide +kernel), List.mem_of_getElem? (i := 127) (by decide +kernel), List.mem_of_getElem? (i := 128) (by decide +kernel)⟩
theorem lw_p2 : lw_okq (⟨"CommitDesk", "open", "(I)LCommitDesk$Work;"⟩, 5) := ⟨⟨by decide +kernel, by decide +kernel⟩, List.mem_of_getElem? (i := 13) (by decide +kernel), List.mem_of_getElem? (i := 200) (by decide +kernel), List.mem_of_getElem? (i := 201) (by decide +kernel)⟩
theorem lw_p3 : lw_okq (⟨"CommitDesk$Work", "find", "(II)I"⟩, 8) := ⟨⟨by decide +kernel, by decide +kernel⟩, List.mem_of_getElem? (i := 22) (by decide +kernel), List.mem_of_getElem? (i := 208) (by decide +kernel), List.mem_of_getElem? (i := 209) (by decide +kernel)⟩
theorem lw_p4 : lw_okq (⟨"CommitDesk", "isFresh", "(LCommitDesk$Work;)Z"⟩, 5) := ⟨⟨by decide +kernel, by decide +kernel⟩, List.mem_of_getElem? (i := 13) (by decide +kernel), List.mem_of_getElem? (i := 216) (by decide +kernel), List.mem_of_getElem? (i := 217) (by decide +kernel)⟩
theorem lw_p5 : lw_okq (⟨"CommitDesk", "put", "(IJ)V"⟩, 5) := ⟨⟨by decide +kernel, by decide +kernel⟩, List.mem_of_getElem? (i := 13) (by decide +kernel), List.mem_of_getElem? (i := 306) (by decide +kernel), List.mem_of_getElem? (i := 307) (by decide +kernel)⟩
theorem lw_p6 : lw_okq (⟨"CommitDeskModel", "fails", "(ZI)Z"⟩, 11) := ⟨⟨by decide +kernel, by decide +kernel⟩, List.mem_of_getElem? (i := 363) (by decide +kernel), List.mem_of_getElem? (i := 419) (by decide +kernel), List.mem_of_getElem? (i := 420) (by decide +kernel)⟩
theorem lw_p7 : lw_okq (⟨"CommitDeskModel", "last", "(II)I"⟩, 11) := ⟨⟨by decide +kernel, by decide +kernel⟩, List.mem_of_getElem? (i := 363) (by decide +kernel), List.mem_of_getElem? (i := 423) (by decide +kernel), List.mem_of_getElem? (i := 424) (by decide +kernel)⟩
theorem lw_p8 : lw_okq (⟨"CommitDeskModel", "isStale", "(I)Z"⟩, 11) := ⟨⟨by decide +kernel, by decide +kernel⟩, List.mem_of_getElem? (i := 363) (by decide +kernel), List.mem_of_getElem? (i := 435) (by decide +kernel), List.mem_of_getElem? (i := 436) (by decide +kernel)⟩
theorem lw_p9 : lw_okq (⟨"CommitDeskModel", "copy", "(II)V"⟩, 11) := ⟨⟨by decide +kernel, by decide +kernel⟩, List.mem_of_getElem? (i := 363) (by decide +kernel), List.mem_of_getElem? (i := 447) (by decide +kernel), List.mem_of_getElem? (i := 448) (by decide +kernel)⟩
theorem lw_p10 : lw_okq (⟨"CommitDeskModel", "change", "(IJ)V"⟩, 11) := ⟨⟨by decide +kernel, by decide +kernel⟩, List.mem_of_getElem? (i := 363) (by decide +kernel), List.mem_of_getElem? (i := 463) (by decide +kernel), List.mem_of_getElem? (i := 464) (by decide +kernel)⟩
def lw_privs_1 : List (MethodName × Nat) := [(⟨"CommitDesk", "work", "(I)LCommitDesk$Work;"⟩, 5), (⟨"java/lang/Throwable", "fillInStackTrace", "(I)Ljava/lang/Throwable;"⟩, 6), (⟨"CommitDesk", "open", "(I)LCommitDesk$Work;"⟩, 5), (⟨"CommitDesk$Work", "find", "(II)I"⟩, 8), (⟨"CommitDesk", "isFresh", "(LCommitDesk$Work;)Z"⟩, 5), (⟨"CommitDesk", "put", "(IJ)V"⟩, 5), (⟨"CommitDeskModel", "fails", "(ZI)Z"⟩, 11), (⟨"CommitDeskModel", "last", "(II)I"⟩, 11), (⟨"CommitDeskModel", "isStale", "(I)Z"⟩, 11), (⟨"CommitDeskModel", "copy", "(II)V"⟩, 11), (⟨"CommitDeskModel", "change", "(IJ)V"⟩, 11)]
theorem lw_r1 : ∀ q ∈ lw_privs_1, lw_okq q := List.forall_mem_cons.mpr ⟨lw_p0, List.forall_mem_cons.mpr ⟨lw_p1, List.forall_mem_cons.mpr ⟨lw_p2, List.forall_mem_cons.mpr ⟨lw_p3, List.forall_mem_cons.mpr ⟨lw_p4, List.forall_mem_cons.mpr ⟨lw_p5, List.forall_mem_cons.mpr ⟨lw_p6, List.forall_mem_cons.mpr ⟨lw_p7, List.forall_mem_cons.mpr ⟨lw_p8, List.forall_mem_cons.mpr ⟨lw_p9, List.forall_mem_cons.mpr ⟨lw_p10, fun _ h => absurd h List.not_mem_nil⟩⟩⟩⟩⟩⟩⟩⟩⟩⟩⟩
def lw_privs : List (MethodName × Nat) := lw_privs_1
def lw_tbl : List Cond := k2_sels lw_privs ++ tables_1
theorem lw_privs_ok : ∀ q ∈ lw_privs, lw_okq q := lw_r1
end
section
/-! The words that hold at every state of a run; the environment; contracts of methods that return or throw; calls of them. -/
def cd_notLS : Cond → Bool
  | .laysStatic .. => false
  | _ => true
def cd_TB : List Cond := lw_tbl.filter cd_notLS
def cd_stay : Cond → Bool
  | .methodLinkNest .. => true
  | .arrayOver (.object _) => true
  | w => goodWord w || (w.onTables && w.keepsFace)
theorem cd_stays {w : Cond} (h : cd_stay w = true) {A A' : Array Value} {s U : State} (hW : s.WarmedH U.vm) (hb : w.before A s = true) : w.before A' U = true := by
  have key : (goodWord w || (w.onTables && w.keepsFace)) = true → w.before A' U = true := by
    intro h
    rw [Bool.or_eq_true] at h
    rcases h with h | h
    · exact word_at hW (good_of_word h) hb
    · rw [Bool.and_eq_true] at h
      exact va_tabs (u := s.setVm U.vm) h.1 rfl (Cond.before_shiftedFace (State.Shifted.of_warmed hW) _ h.2 hb)
  cases w with
  | methodLinkNest a i x hh => exact va_Nw.use rfl (va_Nw.warmM hW (va_Nw.of rfl hb))
  | arrayOver ty =>
    cases ty with
    | object C => exact va_AO.use (va_AO.moved hW.alike (va_AO.of hb))
    | _ => exact key h
  | _ => exact key h
set_option maxRecDepth 100000 in
theorem cd_TB_stay : cd_TB.all cd_stay = true := by decide +kernel
theorem cd_TB_warm {A A' : Array Value} {s U : State} (hW : s.WarmedH U.vm) (h : ∀ w ∈ cd_TB, w.before A s = true) : ∀ w ∈ cd_TB, w.before A' U = true :=
  fun w hw => cd_stays (List.all_eq_true.mp cd_TB_stay w hw) hW (h w hw)
theorem cd_in {w : Cond} (k : Nat) (h : lw_tbl[k]? = some w) (hw : cd_notLS w = true) : w ∈ cd_TB := List.mem_filter.mpr ⟨List.mem_of_getElem? h, hw⟩
-- the statics of Throwable that a new exception reads
def cd_Z1 (n d : String) (z : Nat) (cell : Cell) (U : State) : Prop := ∃ (c : ClassId) (k : Class) (i : Nat) (f : Field) (v : Value), U.vm.findClass "java/lang/Throwable" = some c ∧ U.fieldFound? "java/lang/Throwable" n d = some (c, k, i, f) ∧ f.isStatic = true ∧ k.statics = some z ∧ cell.cls = c ∧ k.staticTypes[f.slot]? = some f.type ∧ cell.slots[f.slot]? = some v ∧ (v = .null ∨ ∃ a, v = .ref a)
def cd_ZZ (z : Nat) (U : State) (H : Heap) : Prop := ∃ cell : Cell, H[z]? = some cell ∧ cell.vm.isStatics = true ∧ cd_Z1 "UNASSIGNED_STACK" "[Ljava/lang/StackTraceElement;" z cell U ∧ cd_Z1 "SUPPRESSED_SENTINEL" "Ljava/util/List;" z cell U
theorem cd_Z1.moved {n d : String} {z : Nat} {cell : Cell} {u U : State} (hvm : u.vm.Alike U.vm) (h : cd_Z1 n d z cell u) : cd_Z1 n d z cell U := by
  obtain ⟨c, k, i, f, v, h0, h1, h2, h3, h4, h5, h6⟩ := h
  obtain ⟨k', hi', he⟩ := State.fieldFound?_setVm hvm h1
  exact ⟨c, k', i, f, v, by rw [hvm.findClass]; exact h0, hi', h2, by rw [he]; exact h3, h4, by rw [he]; exact h5, h6⟩
theorem cd_ZZ.moved {z : Nat} {u U : State} {H H1 : Heap} (hvm : u.vm.Alike U.vm) (hz : H1[z]? = H[z]?) (h : cd_ZZ z u H) : cd_ZZ z U H1 := by
  obtain ⟨cell, h1, h2, h3, h4⟩ := h
  exact ⟨cell, by rw [hz]; exact h1, h2, h3.moved hvm, h4.moved hvm⟩
theorem cd_Z1.lays {n d : String} {z : Nat} {cell : Cell} {U : State} {args : Array Value} (hc : U.heap[z]? = some cell) (hs : cell.vm.isStatics = true) (h : cd_Z1 n d z cell U) : (Cond.laysStatic "java/lang/Throwable" n d).before args U = true := by
  obtain ⟨c, k, i, f, v, h0, h1, h2, h3, h4, h5, h6, h7⟩ := h
  exact Cond.laysStatic_of h0 h1 h2 h3 hc hs h4 (Array.getElem?_eq_some_iff.mp h6).1 h5
theorem cd_Z1.isRef {n d : String} {z : Nat} {cell : Cell} {U : State} {args : Array Value} (hc : U.heap[z]? = some cell) (hs : cell.vm.isStatics = true) (h : cd_Z1 n d z cell U) : (Cond.isRef (.static "java/lang/Throwable" n d)).before args U = true := by
  obtain ⟨c, k, i, f, v, h0, h1, h2, h3, h4, h5, h6, h7⟩ := h
  have he : (Term.static "java/lang/Throwable" n d).eval args U none [] U = some v := by
    simp [Term.eval, State.fieldNamed?, h1, h2, h3, hc, hs, h6]
  simp only [Cond.before, Cond.holds, Cond.value, he]
  rcases h7 with e | ⟨x, e⟩ <;> simp [e]
theorem cd_Z1.of {n d : String} {args : Array Value} {U : State} (hl : (Cond.laysStatic "java/lang/Throwable" n d).before args U = true) (hr : (Cond.isRef (.static "java/lang/Throwable" n d)).before args U = true) :
    ∃ (z : Nat) (cell : Cell) (c : ClassId) (k : Class), U.vm.findClass "java/lang/Throwable" = some c ∧ U.vm.classes[c]? = some k ∧ k.statics = some z ∧ U.heap[z]? = some cell ∧ cell.vm.isStatics = true ∧ cd_Z1 n d z cell U := by
  obtain ⟨c, k, i, f, a, cell, hc, hf, hst, hsta, hcell, hiss, hcls, hlt, hty⟩ := Cond.laysStatic_spec hl
  have hv : cell.slots[f.slot]? = some cell.slots[f.slot] := Array.getElem?_eq_getElem hlt
  have he : (Term.static "java/lang/Throwable" n d).eval args U none [] U = some cell.slots[f.slot] := by
    simp [Term.eval, State.fieldNamed?, hf, hst, hsta, hcell, hiss, hv]
  refine ⟨a, cell, c, k, hc, (State.fieldFound?_spec hf).1, hsta, hcell, hiss, c, k, i, f, _, hc, hf, hst, hsta, hcls, hty, hv, ?_⟩
  simp only [Cond.before, Cond.holds, Cond.value, he] at hr
  cases hx : cell.slots[f.slot] <;> simp [hx] at hr ⊢
theorem cd_ZZ.of {args : Array Value} {U : State} (h1 : (Cond.laysStatic "java/lang/Throwable" "UNASSIGNED_STACK" "[Ljava/lang/StackTraceElement;").before args U = true) (h2 : (Cond.isRef (.static "java/lang/Throwable" "UNASSIGNED_STACK" "[Ljava/lang/StackTraceElement;")).before args U = true)
    (h3 : (Cond.laysStatic "java/lang/Throwable" "SUPPRESSED_SENTINEL" "Ljava/util/List;").before args U = true) (h4 : (Cond.isRef (.static "java/lang/Throwable" "SUPPRESSED_SENTINEL" "Ljava/util/List;")).before args U = true) : ∃ z, cd_ZZ z U U.heap := by
  obtain ⟨z, cell, c, k, a1, a2, a3, a4, a5, a6⟩ := cd_Z1.of h1 h2
  obtain ⟨z', cell', c', k', b1, b2, b3, b4, b5, b6⟩ := cd_Z1.of h3 h4
  cases a1.symm.trans b1
  cases a2.symm.trans b2
  cases a3.symm.trans b3
  cases a4.symm.trans b4
  exact ⟨z, cell, a4, a5, a6, b6⟩
-- classes, their fields by slot
def R_W : String := "CommitDesk$Work"
def F_W : u_T := fun k => match k with
  | 0 => ("CommitDesk$Work", "cell", "[I", true)
  | 1 => ("CommitDesk$Work", "from", "[I", true)
  | 2 => ("CommitDesk$Work", "value", "[J", true)
  | 3 => ("CommitDesk$Work", "version", "[I", true)
  | 4 => ("CommitDesk$Work", "open", "Z", false)
  | 5 => ("CommitDesk$Work", "parts", "I", false)
  | 6 => ("CommitDesk$Work", "read", "I", false)
  | _ => ("CommitDesk$Work", "many", "I", false)
def t_W : Nat → FieldType := fun k => match k with
  | 0 => .array .int
  | 1 => .array .int
  | 2 => .array .long
  | 3 => .array .int
  | 4 => .boolean
  | _ => .int
def R_D : String := "CommitDesk"
def F_D : u_T := fun k => match k with
  | 0 => ("CommitDesk", "cells", "[J", true)
  | 1 => ("CommitDesk", "versions", "[I", true)
  | 2 => ("CommitDesk", "works", "[LCommitDesk$Work;", true)
  | 3 => ("CommitDesk", "done", "I", false)
  | _ => ("CommitDesk", "stale", "I", false)
def t_D : Nat → FieldType := fun k => match k with
  | 0 => .array .long
  | 1 => .array .int
  | 2 => .array (.object "CommitDesk$Work")
  | _ => .int
def R_M : String := "CommitDeskModel"
def F_M : u_T := fun k => match k with
  | 0 => ("CommitDeskModel", "err", "I", false)
  | 1 => ("CommitDeskModel", "cells", "[J", true)
  | 2 => ("CommitDeskModel", "wrote", "[J", true)
  | 3 => ("CommitDeskModel", "changes", "[I", true)
  | 4 => ("CommitDeskModel", "parts", "[I", true)
  | 5 => ("CommitDeskModel", "seen", "[I", true)
  | 6 => ("CommitDeskModel", "has", "[Z", true)
  | 7 => ("CommitDeskModel", "read", "[Z", true)
  | 8 => ("CommitDeskModel", "open", "[Z", true)
  | 9 => ("CommitDeskModel", "done", "I", false)
  | _ => ("CommitDeskModel", "stale", "I", false)
def t_M : Nat → FieldType := fun k => match k with
  | 0 => .int
  | 1 => .array .long
  | 2 => .array .long
  | 3 => .array .int
  | 4 => .array .int
  | 5 => .array .int
  | 6 => .array .boolean
  | 7 => .array .boolean
  | 8 => .array .boolean
  | _ => .int
def F_X : u_T := fun _ => ("", "", "", false)
abbrev cd_cls : List vw_C := [(R_W, F_W, 8), (R_D, F_D, 5), (R_M, F_M, 11), ("java/lang/IllegalArgumentException", F_X, 0), ("java/lang/IllegalStateException", F_X, 0), ("java/lang/IndexOutOfBoundsException", F_X, 0), ("java/lang/UnsupportedOperationException", F_X, 0)]
theorem n_W : ∀ a, a < 8 → ∀ b, b < 8 → a ≠ b → (F_W a).2.1 ≠ (F_W b).2.1 := by decide +kernel
theorem t_W_ok : ∀ k, k < 8 → parseFieldDescriptor (F_W k).2.2.1 = some (t_W k) := by decide +kernel
theorem n_D : ∀ a, a < 5 → ∀ b, b < 5 → a ≠ b → (F_D a).2.1 ≠ (F_D b).2.1 := by decide +kernel
theorem t_D_ok : ∀ k, k < 5 → parseFieldDescriptor (F_D k).2.2.1 = some (t_D k) := by decide +kernel
theorem n_M : ∀ a, a < 11 → ∀ b, b < 11 → a ≠ b → (F_M a).2.1 ≠ (F_M b).2.1 := by decide +kernel
theorem t_M_ok : ∀ k, k < 11 → parseFieldDescriptor (F_M k).2.2.1 = some (t_M k) := by decide +kernel
set_option maxRecDepth 100000 in
theorem in_W : ∀ w ∈ u_ws R_W F_W 8, w ∈ cd_TB := by decide +kernel
set_option maxRecDepth 100000 in
theorem in_D : ∀ w ∈ u_ws R_D F_D 5, w ∈ cd_TB := by decide +kernel
set_option maxRecDepth 100000 in
theorem in_M : ∀ w ∈ u_ws R_M F_M 11, w ∈ cd_TB := by decide +kernel
-- what is fixed for a run: the classes' numbers and slots, the array classes (int, long, boolean, Work), where Throwable's statics lie
abbrev cd_G : Type := va_G × ClassId × ClassId × ClassId × ClassId × Nat
abbrev cd_cI (G : cd_G) : ClassId := G.2.1
abbrev cd_cL (G : cd_G) : ClassId := G.2.2.1
abbrev cd_cZ (G : cd_G) : ClassId := G.2.2.2.1
abbrev cd_cW (G : cd_G) : ClassId := G.2.2.2.2.1
abbrev cd_z (G : cd_G) : Nat := G.2.2.2.2.2
abbrev cd_tys (G : cd_G) : List (ClassId × FieldType) := [(cd_cI G, .int), (cd_cL G, .long), (cd_cZ G, .boolean), (cd_cW G, .object "CommitDesk$Work")]
-- exceptions that pass a catch clause of another class
def cd_ncs : List (String × String) := [("java/lang/IllegalStateException", "java/lang/IllegalArgumentException"), ("java/lang/IndexOutOfBoundsException", "java/lang/IllegalArgumentException"), ("java/lang/UnsupportedOperationException", "java/lang/IllegalArgumentException"), ("java/lang/IllegalStateException", "java/lang/IndexOutOfBoundsException"), ("java/lang/UnsupportedOperationException", "java/lang/IndexOutOfBoundsException"), ("java/lang/UnsupportedOperationException", "java/lang/IllegalStateException")]
def cd_NC (U : State) : Prop := ∀ q ∈ cd_ncs, va_Nc q.1 q.2 U
def cd_E (G : cd_G) (U : State) (H : Heap) : Prop := va_K G.1 cd_cls (cd_tys G) U ∧ cd_ZZ (cd_z G) U H ∧ cd_NC U
theorem cd_E.moved {G : cd_G} {u U : State} {H H1 : Heap} (hvm : u.vm.Alike U.vm) (hz : H1[cd_z G]? = H[cd_z G]?) (h : cd_E G u H) : cd_E G U H1 := ⟨va_K.moved hvm h.1, h.2.1.moved hvm hz, fun q hq => (h.2.2 q hq).moved hvm⟩
-- contracts
def cd_XE (first t : State) (L : List Loc) (k n : Nat) : Prop := first.WarmedH t.vm ∧ first.sameButNew ({ t with vm := first.vm } : State) L k n
def cd_FR (A : Nat → Prop) (H0 H : Heap) : Prop := H0.size ≤ H.size ∧ ∀ q : Nat, q < H0.size → ¬ A q → H[q]? = H0[q]?
def cd_Q (A : Nat → Prop) (Post : Outcome → Heap → Prop) (mc ms : Nat) (st : State) (o : Outcome) (t : State) : Prop :=
  Post o t.heap ∧ cd_FR A st.heap t.heap ∧ ∃ L : List Loc, cd_XE st t L mc ms ∧ ∀ q ∈ L, A q.base ∨ st.heap.size ≤ q.base
/-- the contract: from every state with the words of the tables, room rm, the environment G and Pre of its heap, the method ends, by return or throw, with Post of outcome and heap; no cell outside A that was there has changed -/
def cd_Con (l : Launch) (y : MethodName) (cw : Cond) (rm : Room) (av : List Value) (G : cd_G) (Pre : Heap → Prop) (Post : Outcome → Heap → Prop) (A : Nat → Prop) : Prop :=
  MetFree l y (headSpec (cw :: cd_TB) rm) (fun a U => a = av.toArray ∧ cd_E G U U.heap ∧ Pre U.heap) (fun _ _ _ _ _ => True) (fun _ st o t => cd_Q A Post rm.cells rm.slots st o t)
def cd_CQ (below : List Frame) (s : State) (A : Nat → Prop) (Post : Outcome → Heap → Prop) (mc ms : Nat) : State → Prop := fun t => ∃ o, t.status = .running ∧ Ended t below o ∧ cd_Q A Post mc ms s o t
def cd_xA (A : Nat → Prop) (s : State) : Nat → Prop := fun q => A q ∨ s.heap.size ≤ q
/-- what holds at every instruction of a method's body -/
def cd_Ct (G : cd_G) (p : Program) (s : State) (m : MethodId) (args : Array Value) (c : Code) (cc : ByteArray) (own : String) (nL : Nat) (A : Nat → Prop) : Prop :=
  p.tables.exec = Jvm.exec ∧ c.code = cc ∧ s.vm.findClass own = some m.cls ∧ c.maxLocals = nL ∧ (∀ w ∈ cd_TB, w.before args s = true) ∧ cd_E G s s.heap ∧ ¬ A (cd_z G)
/-- 'cw' says the code of y, with the exception table hh -/
def cd_cw (cw : Cond) (y : MethodName) (bytes : ByteArray) (maxL : Nat) (ret : Option FieldType) (hh : List (Nat × Nat × Nat × Nat)) : Prop := (cw = .code y bytes maxL ret ∧ hh = []) ∨ cw = .codeWith y bytes maxL ret hh
theorem cd_cw.spec {cw : Cond} {y : MethodName} {bytes : ByteArray} {maxL : Nat} {ret : Option FieldType} {hh : List (Nat × Nat × Nat × Nat)} (h : cd_cw cw y bytes maxL ret hh) {a : Array Value} {U : State} (hb : cw.before a U = true) :
    ∃ m meth c, U.methodNamed? y = some m ∧ U.vm.method? m = some meth ∧ meth.code = some c ∧ c.code = bytes ∧ c.maxLocals = maxL ∧ c.exceptionTable.toList.map (fun h => (h.startPc, h.endPc, h.handlerPc, h.catchType)) = hh ∧ meth.sig.returnType = ret ∧ meth.locks = false ∧ parseMethodDescriptor y.desc = some meth.sig := by
  rcases h with ⟨rfl, rfl⟩ | rfl
  · obtain ⟨m, hn⟩ := Cond.code_named hb
    obtain ⟨meth, c, h1, h2, h3, h4, h5, h6, h7, h8⟩ := Cond.code_spec hn hb
    refine ⟨m, meth, c, hn, h1, h2, h3, h4, ?_, h5, h6, h8⟩
    rw [Array.isEmpty_iff] at h7
    rw [h7]; rfl
  · exact Cond.codeWith_spec hb
end
section
/-! Calls of contracts that return or throw; a method's body; its ends. -/
section CdBack
variable {l : Launch} {R : Room} {p : Program} {e : Env} {below : List Frame} {s : State} {sargs : Array Value} {y : MethodName} {len Wt : Nat}
/-- a call comes back, or comes to a throw in the caller's frame -/
theorem cd_back {cw : Cond} {bytes : ByteArray} {maxL : Nat} {ret : Option FieldType} {hh : List (Nat × Nat × Nat × Nat)} {rm : Room} {av : List Value} {G : cd_G} {Pre : Heap → Prop} {Post : Outcome → Heap → Prop} {A1 : Nat → Prop} {m : MethodId} {meth : Method} {c : Code} {U : State} {Ls : List Loc} {c0 s0 : Nat}
    (hM : cd_Con l y cw rm av G Pre Post A1) (hcw : cd_cw cw y bytes maxL ret hh) (hcT : cw ∈ cd_TB) (hiT : Cond.initialized y.cls ∈ cd_TB) (hts : ∀ w ∈ cd_TB, w.before sargs s = true)
    (hframes : rm.frames + 1 ≤ R.frames) (hlocals : Wt + (maxL + 11) + rm.locals ≤ R.locals) (h4 : c0 + rm.cells ≤ R.cells) (h5 : s0 + rm.slots ≤ R.slots)
    (X : Stand p l e R s m sargs below meth c U Ls c0 s0) (hE : cd_E G U U.heap) (hP : Pre U.heap)
    {g : JFrame} {ig : Instr} {mk : MethodId} (hg : g.method = m) (hsize : g.locals.size = c.maxLocals) (hdg : decode c.code g.pc = .ok (ig, len)) (hW : 2 * g.monitorRoom + (g.stack.map fun v => v.category).sum ≤ Wt) (hn : U.methodNamed? y = some mk) :
    ∃ (o : Outcome) (T' : State) (L : List Loc), Stand p l e R s m sargs below meth c T' (Ls ++ L) (c0 + rm.cells) (s0 + rm.slots) ∧ (∀ q ∈ L, A1 q.base ∨ U.heap.size ≤ q.base) ∧ Post o T'.heap ∧ cd_FR A1 U.heap T'.heap ∧
      (∀ v, o = .returned v → Steps p.tables e below (doInvoke e (U.setTop g) [] mk av.toArray).1 (T'.setTop { g with pc := g.pc + len, stack := v.toList ++ g.stack })) ∧
      (∀ a, o = .threw a → Steps p.tables e below (doInvoke e (U.setTop g) [] mk av.toArray).1 ((T'.setTop g).pushFrame (.throwing a))) := by
  have hwU : ∀ w ∈ cd_TB, ∀ a', w.before a' U = true := fun w hw a' => cd_TB_warm X.warmed hts w hw
  obtain ⟨m9, methY, cY, hn9, hmY, hcY, -, hlY, -⟩ := hcw.spec (hwU cw hcT #[])
  cases hn.symm.trans hn9
  obtain ⟨kY, hkY, -⟩ := className_of_methodNamed hn
  have hinitY : kY.init = .initialized := Cond.initialized_spec (findClass_of_methodNamed hn) hkY (hwU _ hiT #[])
  have h : At U g.method c below := by rw [hg]; exact X.here
  have hpre : (headSpec (cw :: cd_TB) rm).pre.before av.toArray U = true := atoms_intro fun w hw => by
    rcases List.mem_cons.mp hw with rfl | hw
    · exact hwU _ hcT _
    · exact hwU _ hw _
  have happ : (headSpec (cw :: cd_TB) rm).appliesLoose y e.platform (U.calling g mk av.toArray) = true :=
    Spec.appliesLoose_calling (g := g) h hdg hn hkY hinitY
      (X.room_calling (g := g) (R' := (headSpec (cw :: cd_TB) rm).room) hsize hmY hcY hframes (by rw [hlY]; show _ + (_ + _) + rm.locals ≤ _; omega) h4 h5) hpre
  obtain ⟨mid, hmid⟩ := h.above
  have hfr : (U.setTop g).frames = (.java g :: mid) ++ below := by rw [State.frames_setTop' g h.top, hmid]; rfl
  obtain ⟨o, s₂, hsteps, -, hend, hq⟩ := Steps.callFree hM p X.admits X.cas X.clock (acts := []) hfr happ ⟨rfl, cd_E.moved (u := U) (H := U.heap) (Vm.Alike.refl U.vm) rfl hE, hP⟩ trivial
  have hq' : cd_Q A1 Post rm.cells rm.slots (U.calling g mk av.toArray) o s₂ := hq
  rw [State.frames_setTop' g h.top] at hend
  obtain ⟨hpost, hFR, L, ⟨hW₂, e2, q2, q3, q4, q5, q6⟩, hL⟩ := hq'
  have e3 : s₂ = ({ (U.calling g mk av.toArray).setFrames s₂.frames with heap := s₂.heap, slotsUsed := s₂.slotsUsed } : State).setVm s₂.vm := by
    have : s₂ = ({ s₂ with vm := (U.calling g mk av.toArray).vm } : State).setVm s₂.vm := rfl
    rw [e2] at this
    exact this
  have hW' : U.WarmedH s₂.vm := hW₂
  obtain ⟨g₀, hg0⟩ := Option.isSome_iff_exists.mp h.top
  obtain ⟨r, hr⟩ := State.topJava?_eq_some.mp hg0
  have hsame : U.sameButNew ({ U with heap := s₂.heap, slotsUsed := s₂.slotsUsed } : State) L rm.cells rm.slots := by
    refine ⟨?_, q2, q3, q4, q5, q6⟩
    obtain ⟨t, ht, -⟩ := State.frames_cons hr
    show ({ U with heap := s₂.heap, slotsUsed := s₂.slotsUsed } : State) = { U.setFrames U.frames with heap := s₂.heap, slotsUsed := s₂.slotsUsed }
    rw [State.setFrames_self ht]
  have hr' : (({ U with heap := s₂.heap, slotsUsed := s₂.slotsUsed } : State).setVm s₂.vm).frames = .java g₀ :: r := hr
  refine ⟨o, (({ U with heap := s₂.heap, slotsUsed := s₂.slotsUsed } : State).setVm s₂.vm), L,
    ⟨X.admits, X.cas, X.clock, X.frames, X.room, X.hears, X.method, X.code, (X.here.setHeapUsed s₂.heap s₂.slotsUsed).setVm hW'.alike, X.tail, State.WarmedH.trans X.warmed hW', X.limits, X.bytes, X.same.trans (hsame.setVm s.vm)⟩,
    hL, hpost, hFR, fun v ho => ?_, fun a ho => ?_⟩
  · subst ho
    obtain ⟨c₂, i₂, len₂, hc₂, hd₂, hf₂⟩ := hend
    have hcc : c₂ = c := by
      have h1 : s₂.code? g.method = U.code? g.method := by
        rw [State.code?_eq, State.code?_eq, hW'.alike.method?]
      exact Option.some.inj (hc₂.symm.trans (h1.trans h.code))
    subst hcc
    have hlen : len₂ = len := by rw [hdg] at hd₂; cases hd₂; rfl
    subst hlen
    have hs₂ : s₂ = (({ U with heap := s₂.heap, slotsUsed := s₂.slotsUsed } : State).setVm s₂.vm).setTop { g with pc := g.pc + len₂, stack := v.toList ++ g.stack } := by
      refine e3.trans ?_
      rw [hf₂, State.calling_eq h.top, State.setFrames_setFrames, State.setTop_of_frames _ hr', hr]
      rfl
    rw [← hs₂]
    exact hsteps
  · subst ho
    have hf₂ : s₂.frames = .throwing a :: .java g :: U.frames.tail := hend
    have hs₂ : s₂ = ((({ U with heap := s₂.heap, slotsUsed := s₂.slotsUsed } : State).setVm s₂.vm).setTop g).pushFrame (.throwing a) := by
      refine e3.trans ?_
      rw [hf₂, State.calling_eq h.top, State.setFrames_setFrames, State.pushFrame, State.frames_setTop _ hr', State.setTop_of_frames _ hr', State.setFrames_setFrames, hr]
      rfl
    rw [← hs₂]
    exact hsteps
end CdBack
section CdRows
variable {p : Program} {l : Launch} {e : Env} {R : Room} {s : State} {m : MethodId} {args : Array Value} {below : List Frame} {meth : Method} {c : Code} {H : Heap} {locs : List Loc} {cells slots : Nat} {Q : State → Prop}
variable {G : cd_G} {cc : ByteArray} {own : String} {nL : Nat} {A A1 : Nat → Prop} {pc : Nat} {ls : Array Slot} {rest : List Value}
theorem cd_mono {Q' : State → Prop} {g : JFrame} (h : ∀ t, Q t → Q' t) (k : W p l e R s m args below meth c H locs cells slots Q g) : W p l e R s m args below meth c H locs cells slots Q' g := fun T hT X => by
  obtain ⟨t, a, b⟩ := k T hT X
  exact ⟨t, a, h t b⟩
/-- the exception a is on its way in the frame g -/
def cd_WT (p : Program) (l : Launch) (e : Env) (R : Room) (s : State) (m : MethodId) (args : Array Value) (below : List Frame) (meth : Method) (c : Code) (H : Heap) (locs : List Loc) (cells slots : Nat) (Q : State → Prop) (g : JFrame) (a : Addr) : Prop :=
  ∀ T : State, T.heap = H → Stand p l e R s m args below meth c T locs cells slots → ∃ t, Steps p.tables e below ((T.setTop g).pushFrame (.throwing a)) t ∧ Q t
theorem cd_E_at (ct : cd_Ct G p s m args c cc own nL A) (hS : va_S (cd_xA A s) s.heap H locs) : H[cd_z G]? = s.heap[cd_z G]? := by
  obtain ⟨-, -, -, -, -, ⟨-, ⟨cell, hc, -⟩, -⟩, hz⟩ := ct
  have hlt : cd_z G < s.heap.size := (Array.getElem?_eq_some_iff.mp hc).1
  refine hS.2.1 _ hlt ?_
  rintro (h | h)
  · exact hz h
  · omega
theorem cd_S_call (hS : va_S (cd_xA A s) s.heap H locs) {H1 : Heap} {L : List Loc} (hF : cd_FR A1 H H1) (hL : ∀ q ∈ L, A1 q.base ∨ H.size ≤ q.base) (hA1 : ∀ q, q < H.size → A1 q → cd_xA A s q) : va_S (cd_xA A s) s.heap H1 (locs ++ L) := by
  refine ⟨Nat.le_trans hS.1 hF.1, fun q h1 h2 => ?_, fun q hq => ?_⟩
  · have hq : q < H.size := Nat.lt_of_lt_of_le h1 hS.1
    rw [hF.2 q hq (fun z => h2 (hA1 q hq z))]
    exact hS.2.1 q h1 h2
  · rcases List.mem_append.mp hq with h | h
    · exact hS.2.2 q h
    · by_cases hlt : q.base < H.size
      · rcases hL q h with z | z
        · exact hA1 _ hlt z
        · exact absurd hlt (Nat.not_lt.mpr z)
      · exact Or.inr (Nat.le_trans hS.1 (Nat.not_lt.mp hlt))
/-- what a call needs of the tables -/
def cd_okB (y : MethodName) (cw : Cond) (bytes : ByteArray) (maxL : Nat) (ret : Option FieldType) (hh : List (Nat × Nat × Nat × Nat)) (n : Nat) : Prop :=
  cd_cw cw y bytes maxL ret hh ∧ cw ∈ cd_TB ∧ Cond.initialized y.cls ∈ cd_TB ∧ (y.cls ≠ "java/lang/invoke/MethodHandle" ∧ y.cls ≠ "java/lang/invoke/VarHandle") ∧ (parseMethodDescriptor y.desc).map (fun d => d.parameters.length) = some n
theorem cd_okB.len {y : MethodName} {cw : Cond} {bytes : ByteArray} {maxL : Nat} {ret : Option FieldType} {hh : List (Nat × Nat × Nat × Nat)} {n : Nat} (h : cd_okB y cw bytes maxL ret hh n) : ∀ sig, parseMethodDescriptor y.desc = some sig → n = sig.parameters.length := by
  intro sig hs
  have h2 := h.2.2.2.2
  rw [hs] at h2
  exact (Option.some.inj h2).symm
variable {y : MethodName} {cw : Cond} {bytes : ByteArray} {maxL : Nat} {ret : Option FieldType} {hh : List (Nat × Nat × Nat × Nat)} {n index : Nat} {rm : Room} {Pre : Heap → Prop} {Post : Outcome → Heap → Prop} {As st0 : List Value} {b : Nat} {C : String}
theorem cd_callV (ct : cd_Ct G p s m args c cc own nL A) (hS : va_S (cd_xA A s) s.heap H locs) (hM : cd_Con l y cw rm (.ref b :: As) G Pre Post A1)
    (ok : cd_okB y cw bytes maxL ret hh n ∧ Cond.methodLink own index y ∈ cd_TB ∧ Cond.instanceMethod y ∈ cd_TB ∧ Cond.selects C y y ∈ cd_TB)
    (hrm : (rm.frames + 1 ≤ R.frames ∧ 8 + (maxL + 11) + rm.locals ≤ R.locals) ∧ cells + rm.cells ≤ R.cells ∧ slots + rm.slots ≤ R.slots)
    (hrecv : ∃ cell : Cell, H[b]? = some cell ∧ cell.vm.isStatics = false ∧ s.vm.findClass C = some cell.cls) (hP : Pre H) (hsz : ls.size = nL) (hn : As.length = n) (hst : st0 = As.reverse ++ .ref b :: rest) (hW : (rest.map fun v => v.category).sum ≤ 8)
    (hdg : decode cc pc = .ok (.invokevirtual index, 3)) (hA1 : ∀ q, q < H.size → A1 q → cd_xA A s q)
    (kr : ∀ (v : Option Value) (H1 : Heap) (locs1 : List Loc), Post (.returned v) H1 → cd_FR A1 H H1 → va_S (cd_xA A s) s.heap H1 locs1 → W p l e R s m args below meth c H1 locs1 (cells + rm.cells) (slots + rm.slots) Q (F0 m (pc + 3) ls (v.toList ++ rest)))
    (kt : ∀ (a : Addr) (H1 : Heap) (locs1 : List Loc), Post (.threw a) H1 → cd_FR A1 H H1 → va_S (cd_xA A s) s.heap H1 locs1 → cd_WT p l e R s m args below meth c H1 locs1 (cells + rm.cells) (slots + rm.slots) Q (F0 m pc ls rest) a) :
    W p l e R s m args below meth c H locs cells slots Q (F0 m pc ls st0) := by
  intro T hT X
  have hz := cd_E_at ct hS
  obtain ⟨hx, hb, ho, hml, hts, hE, -⟩ := ct
  obtain ⟨okb, ok1, ok2, ok3⟩ := ok
  obtain ⟨cellB, hcB, hoB, hclB⟩ := hrecv
  obtain ⟨mk, methM, hnamed, hmethM, hstM, habM⟩ := Cond.instanceMethod_spec (hts _ ok2)
  obtain ⟨m9, methM', cM, hn9, hmethM', -, -, -, -, -, -, hsigM⟩ := okb.1.spec (hts _ okb.2.1)
  cases hnamed.symm.trans hn9
  cases hmethM.symm.trans hmethM'
  obtain ⟨c2, r2, m2, q1, q2, q3, q4, kP, hkP, hkPi⟩ := Cond.selects_spec (hts _ ok3)
  cases hclB.symm.trans q1
  cases (State.methodFound?_of_named hnamed okb.2.2.2.1).symm.trans q2
  cases hnamed.symm.trans q3
  have hselP : selectMethod e.platform s.vm cellB.cls mk = .method mk := by rw [Launch.admits_selectMethod X.admits]; exact q4
  obtain ⟨vm₁, X₁, hstep₁⟩ := X.invokevirtual hx ho (hts _ ok1) hnamed hmethM hstM hkP hkPi okb.2.2.2.1 (a := b) (cell := cellB) (by rw [hT]; exact hcB)
    (fun z h => by rw [h] at hoB; cases hoB) hselP hmethM habM hkP hkPi (g := F0 m pc ls st0) rfl (argsL := As) (rest := rest) (by rw [hn]; exact okb.len _ hsigM) hst (by rw [hb]; exact hdg)
  subst hT
  obtain ⟨o, T', L, X', hL, hpost, hF, k1, k2⟩ := cd_back (Wt := 8) hM okb.1 okb.2.1 okb.2.2.1 hts hrm.1.1 hrm.1.2 hrm.2.1 hrm.2.2 X₁ (cd_E.moved X₁.warmed.alike hz hE) hP (g := F0 m pc ls rest) rfl (hsz.trans hml.symm) (by rw [hb]; exact hdg) (lv_room hW) (X₁.named hnamed)
  have hS' := cd_S_call hS hF hL hA1
  cases o with
  | returned v =>
    obtain ⟨t, a1, b1⟩ := kr v T'.heap _ hpost hF hS' T' rfl X'
    exact ⟨t, hstep₁ _ fun acts => by rw [doInvoke_state]; exact (k1 v rfl).trans a1, b1⟩
  | threw a =>
    obtain ⟨t, a1, b1⟩ := kt a T'.heap _ hpost hF hS' T' rfl X'
    exact ⟨t, hstep₁ _ fun acts => by rw [doInvoke_state]; exact (k2 a rfl).trans a1, b1⟩
theorem cd_callS (ct : cd_Ct G p s m args c cc own nL A) (hS : va_S (cd_xA A s) s.heap H locs) (hM : cd_Con l y cw rm As G Pre Post A1)
    (ok : cd_okB y cw bytes maxL ret hh n ∧ Cond.methodLink own index y ∈ cd_TB ∧ Cond.static y ∈ cd_TB)
    (hrm : (rm.frames + 1 ≤ R.frames ∧ 8 + (maxL + 11) + rm.locals ≤ R.locals) ∧ cells + rm.cells ≤ R.cells ∧ slots + rm.slots ≤ R.slots)
    (hP : Pre H) (hsz : ls.size = nL) (hn : As.length = n) (hst : st0 = As.reverse ++ rest) (hW : (rest.map fun v => v.category).sum ≤ 8)
    (hdg : decode cc pc = .ok (.invokestatic index, 3)) (hA1 : ∀ q, q < H.size → A1 q → cd_xA A s q)
    (kr : ∀ (v : Option Value) (H1 : Heap) (locs1 : List Loc), Post (.returned v) H1 → cd_FR A1 H H1 → va_S (cd_xA A s) s.heap H1 locs1 → W p l e R s m args below meth c H1 locs1 (cells + rm.cells) (slots + rm.slots) Q (F0 m (pc + 3) ls (v.toList ++ rest)))
    (kt : ∀ (a : Addr) (H1 : Heap) (locs1 : List Loc), Post (.threw a) H1 → cd_FR A1 H H1 → va_S (cd_xA A s) s.heap H1 locs1 → cd_WT p l e R s m args below meth c H1 locs1 (cells + rm.cells) (slots + rm.slots) Q (F0 m pc ls rest) a) :
    W p l e R s m args below meth c H locs cells slots Q (F0 m pc ls st0) := by
  intro T hT X
  have hz := cd_E_at ct hS
  obtain ⟨hx, hb, ho, hml, hts, hE, -⟩ := ct
  obtain ⟨okb, ok1, ok2⟩ := ok
  obtain ⟨mk, methM, cM, hnamed, hmethM, -, -, -, -, -, -, hsigM⟩ := okb.1.spec (hts _ okb.2.1)
  have hstatic : methM.isStatic = true := Cond.static_spec hnamed hmethM (hts _ ok2)
  obtain ⟨kP, hkP, -⟩ := className_of_methodNamed hnamed
  have hinitP : kP.init = .initialized := Cond.initialized_spec (findClass_of_methodNamed hnamed) hkP (hts _ okb.2.2.1)
  obtain ⟨vm₁, X₁, hstep₁⟩ := X.invokestatic hx ho (hts _ ok1) hnamed hmethM hstatic hkP hinitP okb.2.2.2.1 (g := F0 m pc ls st0) rfl (argsL := As) (rest := rest) (by rw [hn]; exact okb.len _ hsigM) hst (by rw [hb]; exact hdg)
  subst hT
  obtain ⟨o, T', L, X', hL, hpost, hF, k1, k2⟩ := cd_back (Wt := 8) hM okb.1 okb.2.1 okb.2.2.1 hts hrm.1.1 hrm.1.2 hrm.2.1 hrm.2.2 X₁ (cd_E.moved X₁.warmed.alike hz hE) hP (g := F0 m pc ls rest) rfl (hsz.trans hml.symm) (by rw [hb]; exact hdg) (lv_room hW) (X₁.named hnamed)
  have hS' := cd_S_call hS hF hL hA1
  cases o with
  | returned v =>
    obtain ⟨t, a1, b1⟩ := kr v T'.heap _ hpost hF hS' T' rfl X'
    exact ⟨t, hstep₁ _ fun acts => by rw [doInvoke_state]; exact (k1 v rfl).trans a1, b1⟩
  | threw a =>
    obtain ⟨t, a1, b1⟩ := kt a T'.heap _ hpost hF hS' T' rfl X'
    exact ⟨t, hstep₁ _ fun acts => by rw [doInvoke_state]; exact (k2 a rfl).trans a1, b1⟩
/-- a constructor, its link plain or a nest mate's -/
theorem cd_callI (ct : cd_Ct G p s m args c cc own nL A) (hS : va_S (cd_xA A s) s.heap H locs) (hM : cd_Con l y (.code y bytes maxL none) rm (.ref b :: As) G Pre Post A1)
    (ok : cd_okB y (.code y bytes maxL none) bytes maxL none [] n ∧ (Cond.methodLink own index y ∈ cd_TB ∨ ∃ host, Cond.methodLinkNest own index y host ∈ cd_TB) ∧ Cond.instanceMethod y ∈ cd_TB ∧ y.name = "<init>")
    (hrm : (rm.frames + 1 ≤ R.frames ∧ 8 + (maxL + 11) + rm.locals ≤ R.locals) ∧ cells + rm.cells ≤ R.cells ∧ slots + rm.slots ≤ R.slots)
    (hP : Pre H) (hsz : ls.size = nL) (hn : As.length = n) (hst : st0 = As.reverse ++ .ref b :: rest) (hW : (rest.map fun v => v.category).sum ≤ 8)
    (hdg : decode cc pc = .ok (.invokespecial index, 3)) (hA1 : ∀ q, q < H.size → A1 q → cd_xA A s q)
    (kr : ∀ (v : Option Value) (H1 : Heap) (locs1 : List Loc), Post (.returned v) H1 → cd_FR A1 H H1 → va_S (cd_xA A s) s.heap H1 locs1 → W p l e R s m args below meth c H1 locs1 (cells + rm.cells) (slots + rm.slots) Q (F0 m (pc + 3) ls (v.toList ++ rest)))
    (kt : ∀ (a : Addr) (H1 : Heap) (locs1 : List Loc), Post (.threw a) H1 → cd_FR A1 H H1 → va_S (cd_xA A s) s.heap H1 locs1 → cd_WT p l e R s m args below meth c H1 locs1 (cells + rm.cells) (slots + rm.slots) Q (F0 m pc ls rest) a) :
    W p l e R s m args below meth c H locs cells slots Q (F0 m pc ls st0) := by
  intro T hT X
  have hz := cd_E_at ct hS
  obtain ⟨hx, hb, ho, hml, hts, hE, -⟩ := ct
  obtain ⟨okb, ok1, ok2, hy1⟩ := ok
  have hpl : e.platform.magicAccessors = ({} : Platform).magicAccessors := by rw [X.admits.platform]
  obtain ⟨mk, vm₁, hnamed, hW₁, hstep₁⟩ : ∃ (mk : MethodId) (vm₁ : Vm), s.methodNamed? y = some mk ∧ s.WarmedH vm₁ ∧ ∀ target, (∀ acts, Steps p.tables e below (doInvoke e ((T.setVm vm₁).setTop (F0 m pc ls rest)) acts mk (.ref b :: As).toArray).1 target) → Steps p.tables e below (T.setTop (F0 m pc ls st0)) target := by
    rcases ok1 with ok1 | ⟨host, ok1⟩
    · obtain ⟨mk, methM, cM, kP, vm₁, h1, -, -, -, -, -, -, -, h2, h3⟩ := Steps.initColdArgs (e := e) X.here hx X.warmed hpl ho hy1 okb.2.2.2.1 (hts _ ok1) (hts _ ok2) (hts _ okb.2.1) (f := F0 m pc ls st0) rfl (fun sig h => by rw [hn]; exact okb.len _ h) hst (by rw [hb]; exact hdg)
      exact ⟨mk, vm₁, h1, h2, h3⟩
    · obtain ⟨mk, methM, cM, kP, vm₁, h1, -, -, -, -, -, -, -, h2, h3⟩ := Steps.initColdArgsNest (e := e) X.here hx X.warmed hpl ho hy1 okb.2.2.2.1 (hts _ ok1) (hts _ ok2) (hts _ okb.2.1) (f := F0 m pc ls st0) rfl (fun sig h => by rw [hn]; exact okb.len _ h) hst (by rw [hb]; exact hdg)
      exact ⟨mk, vm₁, h1, h2, h3⟩
  have X₁ := X.noted hW₁
  subst hT
  obtain ⟨o, T', L, X', hL, hpost, hF, k1, k2⟩ := cd_back (Wt := 8) hM okb.1 okb.2.1 okb.2.2.1 hts hrm.1.1 hrm.1.2 hrm.2.1 hrm.2.2 X₁ (cd_E.moved X₁.warmed.alike hz hE) hP (g := F0 m pc ls rest) rfl (hsz.trans hml.symm) (by rw [hb]; exact hdg) (lv_room hW) (X₁.named hnamed)
  have hS' := cd_S_call hS hF hL hA1
  cases o with
  | returned v =>
    obtain ⟨t, a1, b1⟩ := kr v T'.heap _ hpost hF hS' T' rfl X'
    exact ⟨t, hstep₁ _ fun acts => by rw [doInvoke_state]; exact (k1 v rfl).trans a1, b1⟩
  | threw a =>
    obtain ⟨t, a1, b1⟩ := kt a T'.heap _ hpost hF hS' T' rfl X'
    exact ⟨t, hstep₁ _ fun acts => by rw [doInvoke_state]; exact (k2 a rfl).trans a1, b1⟩
end CdRows
end
section
/-! A method's body out of its contract; its ends; throw, pass, catch; fields and arrays with their frame. -/
def cd_look : List (Nat × Value) → Nat → Option Value
  | [], _ => none
  | q :: l, i => if q.1 = i then some q.2 else cd_look l i
theorem cd_look_mem {l : List (Nat × Value)} {i : Nat} {v : Value} (h : cd_look l i = some v) : (i, v) ∈ l := by
  induction l with
  | nil => cases h
  | cons q l ih =>
    unfold cd_look at h
    split at h
    · rename_i hq
      cases h
      subst hq
      exact List.mem_cons_self
    · exact List.mem_cons_of_mem _ (ih h)
/-- a local by its number -/
theorem lk {ls : Array Slot} {nL : Nat} {l : List (Nat × Value)} (h : lv_has ls nL l) {i : Nat} {v : Value} (hk : cd_look l i = some v) : ls[i]? = some (.val v) := h.2.2 (i, v) (cd_look_mem hk)
/-- other listed values, each by its number -/
theorem lre {ls : Array Slot} {nL : Nat} {l : List (Nat × Value)} (h : lv_has ls nL l) (l' : List (Nat × Value)) (hk : l'.map (fun q => cd_look l q.1) = l'.map (fun q => some q.2)) : lv_has ls nL l' := by
  refine ⟨h.1, h.2.1, fun q hq => ?_⟩
  obtain ⟨i, hi⟩ := List.getElem?_of_mem hq
  have h1 : (l'.map (fun q => cd_look l q.1))[i]? = some (cd_look l q.1) := by rw [List.getElem?_map, hi]; rfl
  rw [hk, List.getElem?_map, hi] at h1
  exact lk h (Option.some.inj h1).symm
theorem cd_ofW {l : Launch} {y : MethodName} {cw : Cond} {bytes : ByteArray} {maxL : Nat} {ret : Option FieldType} {hh : List (Nat × Nat × Nat × Nat)} {rm : Room} {av : List Value} {G : cd_G} {Pre : Heap → Prop} {Post : Outcome → Heap → Prop} {A : Nat → Prop}
    (hy : plainName y.cls = true) (hcw : cd_cw cw y bytes maxL ret hh) (hlen : (lg_sl av).length ≤ maxL) (hz : ¬ A (cd_z G))
    (body : ∀ p e s m below meth c, cd_Ct G p s m av.toArray c bytes y.cls maxL A → meth.locks = false → meth.sig.returnType = ret → c.exceptionTable.toList.map (fun h => (h.startPc, h.endPc, h.handlerPc, h.catchType)) = hh → meth.name = y.name → Pre s.heap → ∀ ls, lv_has ls maxL (lv_args 0 av) →
      W p l e rm s m av.toArray below meth c s.heap [] 0 0 (cd_CQ below s A Post rm.cells rm.slots) (F0 m 0 ls [])) : cd_Con l y cw rm av G Pre Post A := by
  refine MetFree.of_bodyS (code := bytes) (maxLocals := maxL) (ret := ret) hy ?_ ?_
  · intro args s m h hn
    obtain ⟨m9, meth, c, hn9, h1, h2, h3, h4, -, h5, h6, -⟩ := hcw.spec (atoms_spec (ws := cw :: cd_TB) h _ List.mem_cons_self)
    cases hn.symm.trans hn9
    exact ⟨meth, c, h1, h2, h3, h4, h5, h6⟩
  · intro p e s m args below meth c s₁ B hml hP _
    obtain ⟨rfl, hE, hPre⟩ := hP
    have hts : ∀ w ∈ cw :: cd_TB, w.before av.toArray s = true := atoms_spec (ws := cw :: cd_TB) B.pre
    have hh0 : s₁.heap = s.heap := by rw [B.state]; rfl
    have hown : s.vm.findClass y.cls = some m.cls := findClass_of_methodNamed B.named
    have hl := lv_entry av hlen
    obtain ⟨m9, meth9, c9, hn9, q1, q2, -, -, q3, -, -, -⟩ := hcw.spec (hts _ List.mem_cons_self)
    cases B.named.symm.trans hn9
    cases B.method.symm.trans q1
    cases (Stand.of_body B).code.symm.trans q2
    have K := body p e s m below meth c ⟨B.exec, B.bytes, hown, hml, fun w hw => hts w (List.mem_cons_of_mem _ hw), hE, hz⟩ B.notSynchronized B.returns q3 (name_of_methodNamed B.named B.method).1 hPre _ hl
    rw [← lg_entry_eq] at K
    obtain ⟨t, a1, o, b1, b2, b3⟩ := K s₁ hh0 (Stand.of_body B)
    exact ⟨t, o, a1, b1, b2, b3⟩
section CdEnds
variable {p : Program} {l : Launch} {e : Env} {R : Room} {s : State} {m : MethodId} {args : Array Value} {below : List Frame} {meth : Method} {c : Code} {H : Heap} {locs : List Loc} {cells slots : Nat} {Q : State → Prop}
variable {G : cd_G} {cc : ByteArray} {own : String} {nL : Nat} {A A1 : Nat → Prop} {pc : Nat} {ls : Array Slot} {rest : List Value} {Post : Outcome → Heap → Prop} {mc ms : Nat}
theorem cd_FR_of (hS : va_S (cd_xA A s) s.heap H locs) : cd_FR A s.heap H := ⟨hS.1, fun q h1 h2 => hS.2.1 q h1 (by rintro (h | h); exact h2 h; exact absurd h1 (Nat.not_lt.mpr h))⟩
theorem cd_MQ {o0 : Outcome} (hq : Post o0 H) (hS : va_S (cd_xA A s) s.heap H locs) {t : State} (h : MQ below (fun _ _ o t => o = o0 ∧ t.heap = H) args s mc ms (cd_xA A s) t) : cd_CQ below s A Post mc ms t := by
  obtain ⟨o, h1, h2, ⟨rfl, h3⟩, L, ⟨-, h4, h5⟩, h6⟩ := h
  exact ⟨o, h1, h2, by rw [h3]; exact hq, by rw [h3]; exact cd_FR_of hS, L, ⟨h4, h5⟩, h6⟩
theorem cd_vret (ct : cd_Ct G p s m args c cc own nL A) (hlk : meth.locks = false) (hr : meth.sig.returnType = none) (hS : va_S (cd_xA A s) s.heap H locs) (hc : cells ≤ mc ∧ slots ≤ ms) (hq : Post (.returned none) H) (hdg : decode cc pc = .ok (.return_, 1)) :
    W p l e R s m args below meth c H locs cells slots (cd_CQ below s A Post mc ms) (F0 m pc ls []) :=
  W.widen hc.1 hc.2 (cd_mono (fun _ h => cd_MQ hq hS h) (W.vret (Qc := fun _ _ o t => o = .returned none ∧ t.heap = H) (free := cd_xA A s) ct.1 ct.2.1 hr (fun t ht _ => ⟨rfl, ht⟩) hS.2.2 hdg))
theorem cd_iret (ct : cd_Ct G p s m args c cc own nL A) (hlk : meth.locks = false) (hr : meth.sig.returnType = some .int) (hS : va_S (cd_xA A s) s.heap H locs) (hc : cells ≤ mc ∧ slots ≤ ms) {v : Int32} (hq : Post (.returned (some (.int v))) H) (hdg : decode cc pc = .ok (.ireturn, 1)) :
    W p l e R s m args below meth c H locs cells slots (cd_CQ below s A Post mc ms) (F0 m pc ls [.int v]) :=
  W.widen hc.1 hc.2 (cd_mono (fun _ h => cd_MQ hq hS h) (W.iret (Qc := fun _ _ o t => o = .returned (some (.int v)) ∧ t.heap = H) (free := cd_xA A s) ct.1 ct.2.1 hr (fun t ht _ => ⟨rfl, ht⟩) hS.2.2 hdg))
theorem cd_zret (ct : cd_Ct G p s m args c cc own nL A) (hlk : meth.locks = false) (hr : meth.sig.returnType = some .boolean) (hS : va_S (cd_xA A s) s.heap H locs) (hc : cells ≤ mc ∧ slots ≤ ms) {v : Int32} (hn : narrow .boolean (.int v) = .int v) (hq : Post (.returned (some (.int v))) H) (hdg : decode cc pc = .ok (.ireturn, 1)) :
    W p l e R s m args below meth c H locs cells slots (cd_CQ below s A Post mc ms) (F0 m pc ls [.int v]) :=
  W.widen hc.1 hc.2 (cd_mono (fun _ h => cd_MQ hq hS h) (W.zret (Qc := fun _ _ o t => o = .returned (some (.int v)) ∧ t.heap = H) (free := cd_xA A s) ct.1 ct.2.1 hr hn (fun t ht _ => ⟨rfl, ht⟩) hS.2.2 hdg))
theorem cd_lret (ct : cd_Ct G p s m args c cc own nL A) (hlk : meth.locks = false) (hr : meth.sig.returnType = some .long) (hS : va_S (cd_xA A s) s.heap H locs) (hc : cells ≤ mc ∧ slots ≤ ms) {v : Int64} (hq : Post (.returned (some (.long v))) H) (hdg : decode cc pc = .ok (.lreturn, 1)) :
    W p l e R s m args below meth c H locs cells slots (cd_CQ below s A Post mc ms) (F0 m pc ls [.long v]) :=
  W.widen hc.1 hc.2 (cd_mono (fun _ h => cd_MQ hq hS h) (W.lret (Qc := fun _ _ o t => o = .returned (some (.long v)) ∧ t.heap = H) (free := cd_xA A s) ct.1 ct.2.1 hr (fun t ht _ => ⟨rfl, ht⟩) hS.2.2 hdg))
theorem cd_aret (ct : cd_Ct G p s m args c cc own nL A) (hlk : meth.locks = false) {C : String} (hr : meth.sig.returnType = some (.object C)) (hS : va_S (cd_xA A s) s.heap H locs) (hc : cells ≤ mc ∧ slots ≤ ms) {v : Nat} (hq : Post (.returned (some (.ref v))) H) (hdg : decode cc pc = .ok (.areturn, 1)) :
    W p l e R s m args below meth c H locs cells slots (cd_CQ below s A Post mc ms) (F0 m pc ls [.ref v]) :=
  W.widen hc.1 hc.2 (cd_mono (fun _ h => cd_MQ hq hS h) (W.aret (Qc := fun _ _ o t => o = .returned (some (.ref v)) ∧ t.heap = H) (free := cd_xA A s) ct.1 ct.2.1 hr (Or.inl ⟨_, rfl⟩) (Or.inr ⟨_, rfl⟩) (fun t ht _ => ⟨rfl, ht⟩) hS.2.2 hdg))
/-- nothing catches: the method ends by the exception -/
theorem cd_out (hlk : meth.locks = false) (hxt : c.exceptionTable.toList.map (fun h => (h.startPc, h.endPc, h.handlerPc, h.catchType)) = []) (hS : va_S (cd_xA A s) s.heap H locs) (hc : cells ≤ mc ∧ slots ≤ ms) {a : Addr} (hq : Post (.threw a) H) :
    cd_WT p l e R s m args below meth c H locs cells slots (cd_CQ below s A Post mc ms) (F0 m pc ls rest) a := by
  intro T hT X0
  have X := stand_widen X0 hc.1 hc.2
  have hem : c.exceptionTable.toList = [] := List.map_eq_nil_iff.mp hxt
  obtain ⟨k1, k2, k3, k4, k5⟩ := X.leaveThrown a (g := F0 m pc ls rest) rfl rfl rfl (fun x hx => by rw [hem] at hx; cases hx) hlk
  exact ⟨_, k1, _, k2, k3, by show Post _ T.heap; rw [hT]; exact hq, by show cd_FR A s.heap T.heap; rw [hT]; exact cd_FR_of hS, locs, ⟨k4, k5⟩, hS.2.2⟩
end CdEnds
end
section
/-! throw new X(); catch. -/
def cd_X : Nat → String
  | 3 => "java/lang/IllegalArgumentException"
  | 4 => "java/lang/IllegalStateException"
  | 5 => "java/lang/IndexOutOfBoundsException"
  | _ => "java/lang/UnsupportedOperationException"
/-- the words for 'new X(); throw' -/
def cd_okX (own : String) (ix ic k : Nat) : Prop :=
  (∀ w ∈ Bundle.ownAtoms0 own ic (cd_X k) ["java/lang/RuntimeException", "java/lang/Exception"], w ∈ cd_TB ∨ w ∈ [Cond.laysStatic "java/lang/Throwable" "UNASSIGNED_STACK" "[Ljava/lang/StackTraceElement;", .laysStatic "java/lang/Throwable" "SUPPRESSED_SENTINEL" "Ljava/util/List;", .isRef (.static "java/lang/Throwable" "UNASSIGNED_STACK" "[Ljava/lang/StackTraceElement;"), .isRef (.static "java/lang/Throwable" "SUPPRESSED_SENTINEL" "Ljava/util/List;")]) ∧
  Cond.classLink own ix (cd_X k) ∈ cd_TB ∧ Cond.instantiable (cd_X k) 6 ∈ cd_TB ∧ Cond.initialized (cd_X k) ∈ cd_TB ∧ Bundle.fit (cd_X k) = true ∧ (cd_cls[k]?).map (fun q => (q.1, q.2.2)) = some (cd_X k, 0)
set_option maxRecDepth 200000 in
theorem x_24 : cd_okX "CommitDesk" 24 26 3 := by refine ⟨?_, ?_, ?_, ?_, ?_, ?_⟩ <;> decide +kernel
set_option maxRecDepth 200000 in
theorem x_45 : cd_okX "CommitDesk" 45 47 4 := by refine ⟨?_, ?_, ?_, ?_, ?_, ?_⟩ <;> decide +kernel
set_option maxRecDepth 200000 in
theorem x_27 : cd_okX "CommitDesk" 27 29 5 := by refine ⟨?_, ?_, ?_, ?_, ?_, ?_⟩ <;> decide +kernel
set_option maxRecDepth 200000 in
theorem x_30 : cd_okX "CommitDesk" 30 32 6 := by refine ⟨?_, ?_, ?_, ?_, ?_, ?_⟩ <;> decide +kernel
/-- every old cell is as it was, where no old cell was written -/
theorem cd_sameOld {s t : State} {locs : List Loc} {k n : Nat} (h : s.sameButNew t locs k n) (hl : ∀ q ∈ locs, s.heap.size ≤ q.base) : cd_FR (fun _ => False) s.heap t.heap := by
  refine ⟨h.2.1, fun q hq _ => ?_⟩
  have hc : s.heap[q]? = some s.heap[q] := Array.getElem?_eq_getElem hq
  obtain ⟨c', h1, h2, h3, h4⟩ := h.2.2.2.2.2 q _ hc
  rw [h1, hc]
  have hs : c'.slots = s.heap[q].slots := by
    apply Array.ext_getElem?
    intro i
    exact h4 i (fun hm => absurd hq (Nat.not_lt.mpr (hl _ hm)))
  rw [h2, hs]
section CdThrow
variable {p : Program} {l : Launch} {e : Env} {R : Room} {s : State} {m : MethodId} {args : Array Value} {below : List Frame} {meth : Method} {c : Code} {H : Heap} {locs : List Loc} {cells slots : Nat} {Q : State → Prop}
variable {G : cd_G} {cc : ByteArray} {own : String} {nL : Nat} {A A1 : Nat → Prop} {pc : Nat} {ls : Array Slot} {rest : List Value} {Post : Outcome → Heap → Prop} {mc ms : Nat}
theorem cd_throw (ct : cd_Ct G p s m args c cc own nL A) (hlk : meth.locks = false) (hfl : l.flags = flags0) (hxt : c.exceptionTable.toList.map (fun h => (h.startPc, h.endPc, h.handlerPc, h.catchType)) = []) (hS : va_S (cd_xA A s) s.heap H locs) {ix ic k : Nat} (ok : cd_okX own ix ic k)
    (hR : 6 ≤ R.frames ∧ 81 ≤ R.locals ∧ cells + 1 ≤ R.cells ∧ slots + 6 ≤ R.slots) (hc : cells + 1 ≤ mc ∧ slots + 6 ≤ ms) (hsz : ls.size = nL) (hlocs : ∀ q ∈ locs, s.heap.size ≤ q.base)
    (hd0 : decode cc pc = .ok (.new ix, 3)) (hd3 : decode cc (pc + 3) = .ok (.dup, 1)) (hd4 : decode cc (pc + 4) = .ok (.invokespecial ic, 3)) (hd7 : decode cc (pc + 7) = .ok (.athrow, 1))
    (hq : ∀ (a : Nat) (H1 : Heap), s.heap.size ≤ a → va_P G.1 cd_cls [(a, .inr (k, []))] H1 → cd_FR (fun _ => False) s.heap H1 → Post (.threw a) H1) :
    W p l e R s m args below meth c H locs cells slots (cd_CQ below s A Post mc ms) (F0 m pc ls []) := by
  have hz := cd_E_at ct hS
  obtain ⟨hx, hb, ho, hml, hts, hE, -⟩ := ct
  obtain ⟨ok1, ok2, ok3, ok4, ok5, ok6⟩ := ok
  have hall : ∀ w ∈ Bundle.ownAtoms0 own ic (cd_X k) ["java/lang/RuntimeException", "java/lang/Exception"], w.before args s = true := fun w hw => by
    rcases ok1 w hw with h | h
    · exact hts w h
    · obtain ⟨-, ⟨cell, z1, z2, z3, z4⟩, -⟩ := hE
      simp only [List.mem_cons, List.not_mem_nil, or_false] at h
      rcases h with rfl | rfl | rfl | rfl
      · exact z3.lays z1 z2
      · exact z4.lays z1 z2
      · exact z3.isRef z1 z2
      · exact z4.isRef z1 z2
  refine W.newc hx hb ho (hts _ ok2) (hts _ ok3) (hts _ ok4) rfl hd0 hR.2.2.1 hR.2.2.2 fun cC kC h1 h2 h3 h4 => ?_
  refine lv_dup hx hb hd3 rfl ?_
  intro T hT X0
  have X := stand_widen X0 hc.1 hc.2
  have htr : e.platform.stackTraces = false := Launch.traces_off hfl X.admits
  obtain ⟨U, u1, u2, u3, u4, u5, ce, u6, u7⟩ := X.ctorThrow0 hx htr (names := ["java/lang/RuntimeException", "java/lang/Exception"]) ho ok5 (by decide +kernel) hall (fun q hq' cell hcell => absurd (Array.getElem?_eq_some_iff.mp hcell).1 (Nat.not_lt.mpr (hlocs q hq')))
    (a := H.size) h1 h2 (by rw [hT]; exact Array.getElem?_push_size) hS.1 (g := F0 m (pc + 4) ls [.ref H.size, .ref H.size]) rfl (hsz.trans hml.symm) rfl rfl (rest := []) rfl (by rw [hb]; exact hd4) (by rw [hb]; exact hd7)
    (fun x hx => by rw [List.map_eq_nil_iff.mp hxt] at hx; cases hx) (show 2 + 3 < R.frames by omega) (by show 2 * 0 + 1 + (13 * (2 + 1) + 41) ≤ R.locals; omega) hlk
  have hFR := cd_sameOld u5 hlocs
  have hFR : cd_FR (fun _ => False) s.heap U.heap := hFR
  refine ⟨U, u1, _, u2, u3, ?_, ⟨hFR.1, fun q h1 _ => hFR.2 q h1 (fun h => h)⟩, locs, ⟨u4, u5⟩, fun q h => Or.inr (hlocs q h)⟩
  refine hq H.size U.heap hS.1 ?_ hFR
  obtain ⟨r, hr1, hr2, hr3⟩ : ∃ r : vw_C, cd_cls[k]? = some r ∧ r.1 = cd_X k ∧ r.2.2 = 0 := by
    cases hk : cd_cls[k]? with
    | none => rw [hk] at ok6; cases ok6
    | some r =>
      rw [hk] at ok6
      have h9 := Option.some.inj ok6
      exact ⟨r, rfl, congrArg Prod.fst h9, congrArg Prod.snd h9⟩
  intro j q hj
  have hj0 : j < 1 := (List.getElem?_eq_some_iff.mp hj).1
  rw [show j = 0 by omega] at hj
  cases hj
  have hcl := (hE.1.1 k r hr1).2.1
  rw [hr2] at hcl
  have h7 := u7.cls
  exact ⟨r, hr1, ce, u6, Option.some.inj (h7.symm.trans hcl), u7.vm, fun j hj => by rw [hr3] at hj; omega⟩
end CdThrow
/-! the search for a handler, where the classes of the clauses may be unresolved yet -/
section CdCatch
variable {e : Env} {s : State} {f : JFrame} {a : Addr}
theorem cd_go_link {x : ExceptionTableEntry} {t : List ExceptionTableEntry} {c : ClassId} {cell : Cell} {U : State} (hx : covers x f.pc = true) (h0 : x.catchType ≠ 0) (hl : U.vm.ClassLinks e.platform f.method.cls x.catchType c) (hcell : U.heap[a]? = some cell) (hobj : ∀ k, cell.vm ≠ .statics k)
    (hk : ∃ k, U.vm.classes[cell.cls]? = some k) (hc : ∃ k, U.vm.classes[c]? = some k) (Q : Handler → Pre) (E : CtlPost) (d : Bool) (acts : List Action) :
    wp (findHandler.go f a (x :: t)) Q E e d acts U ↔ if U.vm.assignable cell.cls c = true then Q (.found x.handlerPc) d acts (U.setVm (U.vm.noted f.method.cls x.catchType (.cls c))) else wp (findHandler.go f a t) Q E e d acts (U.setVm (U.vm.noted f.method.cls x.catchType (.cls c))) := by
  simp only [covers] at hx
  obtain ⟨ha, ht⟩ := (resolveClass_links e.toSetting hl).op (op := VmOp.resolveClass f.method.cls x.catchType) rfl
  have hal : U.vm.Alike (U.vm.noted f.method.cls x.catchType (.cls c)) := (Vm.Alike.refl U.vm).noted _ _ _
  obtain ⟨k1, hk1⟩ := hk
  obtain ⟨k2, hk2⟩ := hc
  obtain ⟨k1', hk1', -⟩ := hal.2.2 _ _ hk1
  obtain ⟨k2', hk2', -⟩ := hal.2.2 _ _ hk2
  cases hfit : U.vm.assignable cell.cls c <;>
    (have hfit' := hal.assignable cell.cls c
     rw [hfit] at hfit'
     simp [findHandler.go, hx, h0, ha, ht, hcell, hobj, hk1', hk2', hfit', VmOp.dirties, VmOp.acts])
/-- the clause that takes an exception of the class X at pc: r is where it begins -/
def cd_hits (own X : String) (pc : Nat) : List (Nat × Nat × Nat × Nat) → Nat → Prop
  | [], _ => False
  | q :: t, r => (q.1 ≤ pc ∧ pc < q.2.1 ∧ q.2.2.2 ≠ 0) ∧ ∃ Y : String, Cond.classLink own q.2.2.2 Y ∈ cd_TB ∧ ((Cond.castable X Y ∈ cd_TB ∧ q.2.2.1 = r) ∨ ((X, Y) ∈ cd_ncs ∧ cd_hits own X pc t r))
theorem cd_search {own X : String} {args : Array Value} (hpl : e.platform.magicAccessors = ({} : Platform).magicAccessors) (hts : ∀ w ∈ cd_TB, w.before args s = true) (hNC : cd_NC s) (hown : s.vm.findClass own = some f.method.cls) {cX : ClassId} (hX : s.vm.findClass X = some cX) :
    ∀ (t : List ExceptionTableEntry) (r : Nat) (U : State), s.WarmedH U.vm → (∃ cell, U.heap[a]? = some cell ∧ cell.cls = cX ∧ ∀ k, cell.vm ≠ .statics k) → cd_hits own X f.pc (t.map (fun h => (h.startPc, h.endPc, h.handlerPc, h.catchType))) r →
      ∃ vm', s.WarmedH vm' ∧ ∀ (Q : Handler → Pre) (E : CtlPost) (d : Bool) (acts : List Action), wp (findHandler.go f a t) Q E e d acts U ↔ Q (.found r) d acts (U.setVm vm')
  | [], r, U, _, _, h => h.elim
  | x :: t, r, U, hW, hc, h => by
    obtain ⟨⟨h1, h2, h3⟩, Y, hY, hd⟩ := h
    obtain ⟨cell, hcell, hcls, hobj⟩ := hc
    obtain ⟨c', hc', hcl⟩ := Cond.classLink_spec (pl := e.platform) hown (hts _ hY) hpl
    obtain ⟨dk, _, _, kt, hdk, _, _, _, _, hkt, _, hopen⟩ := hcl.here
    have hcl₀ := hW.classLinks hcl
    have hW' : s.WarmedH (U.vm.noted f.method.cls x.catchType (.cls c')) := hW.noted hdk hopen (State.rightAt_cls hcl)
    obtain ⟨kX, hkX⟩ := Vm.classAt_of_findClass hX
    obtain ⟨kX', hkX', -⟩ := hW.alike.2.2 _ _ hkX
    obtain ⟨kt', hkt', -⟩ := hW.alike.2.2 _ _ hkt
    have key := cd_go_link (t := t) (e := e) (x := x) (U := U) (by simp only [covers, Bool.and_eq_true, decide_eq_true_eq]; exact ⟨h1, h2⟩) h3 hcl₀ hcell hobj ⟨kX', by rw [hcls]; exact hkX'⟩ ⟨kt', hkt'⟩
    rcases hd with ⟨hcast, hr⟩ | ⟨hnc, hrest⟩
    · obtain ⟨a1, a2, b1, b2, b3⟩ := Cond.castable_spec (hts _ hcast)
      cases b1.symm.trans hX
      cases b2.symm.trans hc'
      refine ⟨_, hW', fun Q E d acts => ?_⟩
      rw [key, if_pos (by rw [hcls, hW.alike.assignable]; exact b3)]
      rw [show x.handlerPc = r from hr]
    · obtain ⟨a1, a2, b1, b2, b3⟩ := hNC _ hnc
      cases b1.symm.trans hX
      cases b2.symm.trans hc'
      obtain ⟨vm', w1, w2⟩ := cd_search hpl hts hNC hown hX t r (U.setVm (U.vm.noted f.method.cls x.catchType (.cls c'))) hW' ⟨cell, hcell, hcls, hobj⟩ hrest
      refine ⟨vm', w1, fun Q E d acts => ?_⟩
      rw [key, if_neg (by rw [hcls, hW.alike.assignable, b3]; decide), w2]
      rfl
end CdCatch
section CdCaught
variable {p : Program} {l : Launch} {e : Env} {R : Room} {s : State} {m : MethodId} {args : Array Value} {below : List Frame} {meth : Method} {c : Code} {H : Heap} {locs : List Loc} {cells slots : Nat} {Q : State → Prop}
variable {G : cd_G} {cc : ByteArray} {own : String} {nL : Nat} {A A1 : Nat → Prop} {pc : Nat} {ls : Array Slot} {rest : List Value}
/-- the exception, of the class k of cd_cls, is caught by the clause that begins at r -/
theorem cd_catch (ct : cd_Ct G p s m args c cc own nL A) {hh : List (Nat × Nat × Nat × Nat)} (hxt : c.exceptionTable.toList.map (fun h => (h.startPc, h.endPc, h.handlerPc, h.catchType)) = hh) {a k r : Nat} (hP : va_P G.1 cd_cls [(a, .inr (k, []))] H) (hk : (cd_cls[k]?).map (fun q => q.1) = some (cd_X k)) (hh' : cd_hits own (cd_X k) pc hh r)
    (kk : W p l e R s m args below meth c H locs cells slots Q (F0 m r ls [.ref a])) : cd_WT p l e R s m args below meth c H locs cells slots Q (F0 m pc ls rest) a := by
  intro T hT X
  obtain ⟨hx, hb, ho, hml, hts, hE, -⟩ := ct
  have hpl : e.platform.magicAccessors = ({} : Platform).magicAccessors := by rw [X.admits.platform]
  obtain ⟨q, q1, ce, q2, q3, q4, -⟩ := hP 0 _ rfl
  have hq : q.1 = cd_X k := by rw [show cd_cls[k]? = some q from q1] at hk; exact Option.some.inj hk
  have hX : s.vm.findClass (cd_X k) = some (G.1.1 k) := by rw [← hq]; exact (hE.1.1 k q q1).2.1
  obtain ⟨vm', w1, w2⟩ := cd_search (e := e) (f := F0 m pc ls rest) (a := a) hpl hts hE.2.2 ho hX c.exceptionTable.toList r ((T.setTop (F0 m pc ls rest)).pushFrame (.throwing a)) (by rw [Stand.throwing_vm]; exact X.warmed)
    ⟨ce, by rw [Stand.throwing_heap, hT]; exact q2, q3, fun k h => by rw [q4] at h; cases h⟩ (by rw [hxt]; exact hh')
  have X' := X.noted w1
  obtain ⟨t, a1, b1⟩ := kk (T.setVm vm') hT X'
  refine ⟨t, ?_, b1⟩
  have h : At T m c below := X.here
  obtain ⟨hgo, hw⟩ := (show At T (F0 m pc ls rest).method c below from h).throwing a
  refine Steps.head hgo hw ?_
  obtain ⟨g₀, hg⟩ := Option.isSome_iff_exists.mp h.top
  obtain ⟨rr, hr⟩ := State.topJava?_eq_some.mp hg
  rw [stepThread_throwing (frames_entered h.top _)]
  have hmeth : ((T.setTop (F0 m pc ls rest)).pushFrame (.throwing a)).vm.method? (F0 m pc ls rest).method = some meth := by rw [Stand.throwing_vm]; exact X.method'
  have hstep : (stepThrowing e ((T.setTop (F0 m pc ls rest)).pushFrame (.throwing a)) a (.java (F0 m pc ls rest) :: T.frames.tail)).1 = (((T.setTop (F0 m pc ls rest)).pushFrame (.throwing a)).setVm vm').setFrames (.java { (F0 m pc ls rest) with pc := r, stack := [.ref a] } :: T.frames.tail) := by
    have hfind : ∀ (Q : Handler → Pre) (E : CtlPost) (d : Bool) (acts : List Action), wp (findHandler (F0 m pc ls rest) a) Q E e d acts ((T.setTop (F0 m pc ls rest)).pushFrame (.throwing a)) ↔ Q (.found r) d acts (((T.setTop (F0 m pc ls rest)).pushFrame (.throwing a)).setVm vm') := fun Q E d acts => by
      rw [Jvm.W.findHandler_eq hmeth X.code, w2]
    generalize (T.setTop (F0 m pc ls rest)).pushFrame (.throwing a) = S0 at hfind ⊢
    simp only [stepThrowing, searchFrame, vmDo]
    generalize hr : Sem.go _ e false [] _ = res
    obtain ⟨as, rfl, ha⟩ := Sem.eq_ok_of hr (a := Handler.found r) (s' := S0.setVm vm') (acts' := []) (by simp [hfind])
    rfl
  rw [hstep]
  have hr' : (T.setVm vm').frames = .java g₀ :: rr := hr
  rw [State.setTop_of_frames _ hr'] at a1
  have e1 : (((T.setTop (F0 m pc ls rest)).pushFrame (.throwing a)).setVm vm').setFrames (.java { (F0 m pc ls rest) with pc := r, stack := [.ref a] } :: T.frames.tail) = (T.setVm vm').setFrames (.java { (F0 m pc ls rest) with pc := r, stack := [.ref a] } :: rr) := by
    show (((T.setTop (F0 m pc ls rest)).pushFrame (.throwing a)).setFrames _).setVm vm' = (T.setFrames _).setVm vm'
    rw [State.pushFrame, State.setFrames_setFrames, State.setTop_of_frames _ hr, State.setFrames_setFrames, hr]
    rfl
  rw [e1]
  exact a1
end CdCaught
end
section
/-! Fields and arrays: the rows say what changed and that nothing else did. -/
def cd_bi (b : Bool) : Int32 := if b then 1 else 0
theorem cd_bi_0 (b : Bool) : cd_bi b = 0 ↔ b = false := by cases b <;> decide
theorem cd_bi_n (b : Bool) : narrow .boolean (.int (cd_bi b)) = .int (cd_bi b) := by cases b <;> rfl
theorem cd_bi_inj {a b : Bool} (h : cd_bi a = cd_bi b) : a = b := by cases a <;> cases b <;> first | rfl | (exact absurd h (by decide))
theorem cd_cons {ws : va_W} (lo : Nat) (h : ws.map (fun q => q.1) = (List.range ws.length).map (fun i => lo + i)) : va_D (fun q => lo ≤ q ∧ q < lo + ws.length) ws := by
  have key : ∀ (k : Nat) (q : Nat × va_E), ws[k]? = some q → q.1 = lo + k ∧ k < ws.length := by
    intro k q hk
    have hl := (List.getElem?_eq_some_iff.mp hk).1
    have h1 : (ws.map (fun q => q.1))[k]? = some q.1 := by rw [List.getElem?_map, hk]; rfl
    rw [h, List.getElem?_map, List.getElem?_range hl] at h1
    exact ⟨(Option.some.inj h1).symm, hl⟩
  refine ⟨fun i j p q hi hj e => ?_, fun k q hk => ?_⟩
  · have := (key i p hi).1
    have := (key j q hj).1
    omega
  · have := key k q hk
    omega
section CdHeap
variable {p : Program} {l : Launch} {e : Env} {R : Room} {s : State} {m : MethodId} {args : Array Value} {below : List Frame} {meth : Method} {c : Code} {H : Heap} {locs : List Loc} {cells slots : Nat} {Q : State → Prop}
variable {G : cd_G} {cc : ByteArray} {own : String} {nL : Nat} {A : Nat → Prop} {pc : Nat} {ls : Array Slot} {rest : List Value} {ws : va_W} {a index : Nat}
theorem cd_get {C : String} {T : u_T} {N ci : Nat} (hin : ∀ w ∈ u_ws C T N, w ∈ cd_TB) (hc : cd_cls[ci]? = some (C, T, N)) (ct : cd_Ct G p s m args c cc own nL A) (hP : va_P G.1 cd_cls ws H) (q0 k : Nat) (hk : k < N) {fs : List Value} (he : ws[q0]? = some (a, .inr (ci, fs))) (hlink : Cond.fieldLink own index (T k).1 (T k).2.1 (T k).2.2.1 ∈ cd_TB) {v : Value} (hv : fs[k]? = some v) (hdg : decode cc pc = .ok (.getfield index, 3))
    (kk : W p l e R s m args below meth c H locs cells slots Q (F0 m (pc + 3) ls (v :: rest))) : W p l e R s m args below meth c H locs cells slots Q (F0 m pc ls (.ref a :: rest)) :=
  va_get ct.1 ct.2.1 ct.2.2.2.2.1 hin ct.2.2.1 ct.2.2.2.2.2.1.1 hP q0 he hc k hk (ct.2.2.2.2.1 _ hlink) (fun _ h => h) hv hdg kk
theorem cd_getW (ct : cd_Ct G p s m args c cc own nL A) (hP : va_P G.1 cd_cls ws H) (q0 k : Nat) (hk : k < 8) {fs : List Value} (he : ws[q0]? = some (a, .inr (0, fs))) (hlink : Cond.fieldLink own index (F_W k).1 (F_W k).2.1 (F_W k).2.2.1 ∈ cd_TB) {v : Value} (hv : fs[k]? = some v) (hdg : decode cc pc = .ok (.getfield index, 3))
    (kk : W p l e R s m args below meth c H locs cells slots Q (F0 m (pc + 3) ls (v :: rest))) : W p l e R s m args below meth c H locs cells slots Q (F0 m pc ls (.ref a :: rest)) := cd_get in_W rfl ct hP q0 k hk he hlink hv hdg kk
theorem cd_getD (ct : cd_Ct G p s m args c cc own nL A) (hP : va_P G.1 cd_cls ws H) (q0 k : Nat) (hk : k < 5) {fs : List Value} (he : ws[q0]? = some (a, .inr (1, fs))) (hlink : Cond.fieldLink own index (F_D k).1 (F_D k).2.1 (F_D k).2.2.1 ∈ cd_TB) {v : Value} (hv : fs[k]? = some v) (hdg : decode cc pc = .ok (.getfield index, 3))
    (kk : W p l e R s m args below meth c H locs cells slots Q (F0 m (pc + 3) ls (v :: rest))) : W p l e R s m args below meth c H locs cells slots Q (F0 m pc ls (.ref a :: rest)) := cd_get in_D rfl ct hP q0 k hk he hlink hv hdg kk
theorem cd_getM (ct : cd_Ct G p s m args c cc own nL A) (hP : va_P G.1 cd_cls ws H) (q0 k : Nat) (hk : k < 11) {fs : List Value} (he : ws[q0]? = some (a, .inr (2, fs))) (hlink : Cond.fieldLink own index (F_M k).1 (F_M k).2.1 (F_M k).2.2.1 ∈ cd_TB) {v : Value} (hv : fs[k]? = some v) (hdg : decode cc pc = .ok (.getfield index, 3))
    (kk : W p l e R s m args below meth c H locs cells slots Q (F0 m (pc + 3) ls (v :: rest))) : W p l e R s m args below meth c H locs cells slots Q (F0 m pc ls (.ref a :: rest)) := cd_get in_M rfl ct hP q0 k hk he hlink hv hdg kk
theorem cd_put {C : String} {T : u_T} {N ci : Nat} (hin : ∀ w ∈ u_ws C T N, w ∈ cd_TB) (hc : cd_cls[ci]? = some (C, T, N)) (ty0 : Nat → FieldType) (hty : ∀ k, k < N → parseFieldDescriptor (T k).2.2.1 = some (ty0 k)) (hnm : ∀ a, a < N → ∀ b, b < N → a ≠ b → (T a).2.1 ≠ (T b).2.1) (ct : cd_Ct G p s m args c cc own nL A) (hP : va_P G.1 cd_cls ws H) (hD : va_D (cd_xA A s) ws) (hS0 : va_S (cd_xA A s) s.heap H locs) (q0 k : Nat) (hk : k < N) {fs : List Value} (he : ws[q0]? = some (a, .inr (ci, fs))) (hlink : Cond.fieldLink own index (T k).1 (T k).2.1 (T k).2.2.1 ∈ cd_TB)
    (hfin : (T k).2.2.2 = false ∨ ((T k).2.2.2 = true ∧ meth.name = "<init>" ∧ (T k).1 = own)) {v : Value} (hn : narrow (ty0 k) v = v) (hfit : fits (ty0 k) v = true) (hl : k < fs.length)
    (hdg : decode cc pc = .ok (.putfield index, 3)) (kk : ∀ (H1 : Heap) (locs1 : List Loc), va_P G.1 cd_cls (ws.set q0 (a, .inr (ci, fs.set k v))) H1 → H1.size = H.size → (∀ q, q ≠ a → H1[q]? = H[q]?) → va_S (cd_xA A s) s.heap H1 locs1 → W p l e R s m args below meth c H1 locs1 cells slots Q (F0 m (pc + 3) ls rest)) : W p l e R s m args below meth c H locs cells slots Q (F0 m pc ls (v :: .ref a :: rest)) := by
  have hts := ct.2.2.2.2.1
  have hK := ct.2.2.2.2.2.1.1
  have hap := va_apart (own := own) hts hin ty0 hty hnm hK hc
  obtain ⟨r, h1, cell, q1, q2, q3, q4⟩ := hP q0 _ he
  have hr : r = (C, T, N) := Option.some.inj (h1.symm.trans hc)
  subst hr
  obtain ⟨hS, hfc, kC, hkC, hkind⟩ := hK.1 ci _ hc
  obtain ⟨cf, kf, fi, f, hi, hsl⟩ := hS k hk
  have hlay := hts _ (hin _ (u_in_lay hk))
  have hst := (u_facts hfc hkC (u_lays hts hin hk) hi).1
  rcases hfin with hfin | ⟨hfin, hin2, hdecl⟩
  · unfold u_lay at hlay
    rw [if_neg (by rw [hfin]; decide)] at hlay
    have h6 := u_store hfc hkC hkind hlay hi (hty k hk) hn hfit
    refine W.putK ct.1 ct.2.1 (f := f) ⟨ct.2.2.1, hts _ hlink, ⟨_, _, _, hi⟩, hst⟩ (by rw [q2]; exact h6) q1 q3 (by rw [hsl]; exact k2_hasslot (q4 k hk)) rfl rfl hdg fun H' e1 e2 e3 => ?_
    rw [hsl] at e1 ⊢
    exact kk H' _ (hP.set hD he ⟨_, hc, t_OB.to (V := updV (vp_V fs) k v) ⟨_, e1, q2, q3, t_set q4 hap hk v⟩ (fun j _ => vp_updV_set hl v j)⟩ e3) e2 e3 (hS0.put e2 e3 (hD.2 q0 _ he))
  · unfold u_lay at hlay
    rw [if_pos hfin] at hlay
    have hcf : m.cls = cf := by
      obtain ⟨_, _, c', _, _, _, -, -, hf', -, -, -, hown2, -⟩ := Cond.laysFinal_spec hlay
      have e1 : c' = cf := by have := hi.symm.trans hf'; simp at this; exact this.1.symm
      rw [hdecl] at hown2
      rw [← e1]; exact Option.some.inj (ct.2.2.1.symm.trans hown2)
    have h6 := u_fits hfc hkC hkind (Or.inr hlay) hi (hty k hk) hn hfit
    refine W.putFinK ct.1 ct.2.1 ct.2.2.1 (hts _ hlink) hi hst hcf hin2 (by rw [q2]; exact h6) q1 q3 (by rw [hsl]; exact k2_hasslot (q4 k hk)) rfl rfl hdg fun H' e1 e2 e3 => ?_
    rw [hsl] at e1 ⊢
    exact kk H' _ (hP.set hD he ⟨_, hc, t_OB.to (V := updV (vp_V fs) k v) ⟨_, e1, q2, q3, t_set q4 hap hk v⟩ (fun j _ => vp_updV_set hl v j)⟩ e3) e2 e3 (hS0.put e2 e3 (hD.2 q0 _ he))
theorem cd_in_nI {j n : Nat} (h : j < n ∧ n < 2 ^ 31) {i : Int32} (hi : i = nI j) : vp_in i n := by rw [hi]; exact vp_in_nI h.1 h.2
theorem cd_cl_nI {j n : Nat} (h : j < n ∧ n < 2 ^ 31) {i : Int32} (hi : i = nI j) : i.toNatClampNeg = j := by rw [hi]; exact nI_clamp (by omega)
theorem cd_iald (ct : cd_Ct G p s m args c cc own nL A) (hP : va_P G.1 cd_cls ws H) (q0 : Nat) {n : Nat} {f : Nat → Int32} (ha : ws[q0]? = some (a, .inl (cd_cI G, n, .inl f))) (j : Nat) (hj : j < n ∧ n < 2 ^ 31) {i : Int32} (hi : i = nI j) (hdg : decode cc pc = .ok (.iaload, 1))
    (kk : W p l e R s m args below meth c H locs cells slots Q (F0 m (pc + 1) ls (.int (f j) :: rest))) : W p l e R s m args below meth c H locs cells slots Q (F0 m pc ls (.int i :: .ref a :: rest)) := by
  refine va_iald ct.1 ct.2.1 ct.2.2.2.2.2.1.1 hP q0 0 ha rfl (cd_in_nI hj hi) hdg ?_
  rw [cd_cl_nI hj hi]; exact kk
theorem cd_lald (ct : cd_Ct G p s m args c cc own nL A) (hP : va_P G.1 cd_cls ws H) (q0 : Nat) {n : Nat} {f : Nat → Int64} (ha : ws[q0]? = some (a, .inl (cd_cL G, n, .inr (.inl f)))) (j : Nat) (hj : j < n ∧ n < 2 ^ 31) {i : Int32} (hi : i = nI j) (hdg : decode cc pc = .ok (.laload, 1))
    (kk : W p l e R s m args below meth c H locs cells slots Q (F0 m (pc + 1) ls (.long (f j) :: rest))) : W p l e R s m args below meth c H locs cells slots Q (F0 m pc ls (.int i :: .ref a :: rest)) := by
  refine va_lald ct.1 ct.2.1 ct.2.2.2.2.2.1.1 hP q0 1 ha rfl (cd_in_nI hj hi) hdg ?_
  rw [cd_cl_nI hj hi]; exact kk
theorem cd_zald (ct : cd_Ct G p s m args c cc own nL A) (hP : va_P G.1 cd_cls ws H) (q0 : Nat) {n : Nat} {f : Nat → Bool} (ha : ws[q0]? = some (a, .inl (cd_cZ G, n, .inl (fun j => cd_bi (f j))))) (j : Nat) (hj : j < n ∧ n < 2 ^ 31) {i : Int32} (hi : i = nI j) (hdg : decode cc pc = .ok (.baload, 1))
    (kk : W p l e R s m args below meth c H locs cells slots Q (F0 m (pc + 1) ls (.int (cd_bi (f j)) :: rest))) : W p l e R s m args below meth c H locs cells slots Q (F0 m pc ls (.int i :: .ref a :: rest)) := by
  refine va_zald ct.1 ct.2.1 ct.2.2.2.2.2.1.1 hP q0 2 ha rfl (cd_in_nI hj hi) hdg ?_
  rw [cd_cl_nI hj hi]; exact kk
theorem cd_aald (ct : cd_Ct G p s m args c cc own nL A) (hP : va_P G.1 cd_cls ws H) (q0 : Nat) {n : Nat} {f : Nat → Option Nat} (ha : ws[q0]? = some (a, .inl (cd_cW G, n, .inr (.inr (.inr (.inr f)))))) (j : Nat) (hj : j < n ∧ n < 2 ^ 31) {i : Int32} (hi : i = nI j) {b : Nat} (hb : f j = some b) (hdg : decode cc pc = .ok (.aaload, 1))
    (kk : W p l e R s m args below meth c H locs cells slots Q (F0 m (pc + 1) ls (.ref b :: rest))) : W p l e R s m args below meth c H locs cells slots Q (F0 m pc ls (.int i :: .ref a :: rest)) := by
  refine va_aldq ct.1 ct.2.1 ct.2.2.2.2.2.1.1 hP q0 3 ha rfl (cd_in_nI hj hi) hdg ?_
  rw [cd_cl_nI hj hi, hb]; exact kk
theorem cd_iast (ct : cd_Ct G p s m args c cc own nL A) (hP : va_P G.1 cd_cls ws H) (hD : va_D (cd_xA A s) ws) (hS : va_S (cd_xA A s) s.heap H locs) (q0 : Nat) {n : Nat} {f : Nat → Int32} (ha : ws[q0]? = some (a, .inl (cd_cI G, n, .inl f))) (j : Nat) (hj : j < n ∧ n < 2 ^ 31) {i x : Int32} (hi : i = nI j) (hdg : decode cc pc = .ok (.iastore, 1))
    (kk : ∀ (H1 : Heap) (locs1 : List Loc), va_P G.1 cd_cls (ws.set q0 (a, .inl (cd_cI G, n, .inl (upd f j x)))) H1 → H1.size = H.size → (∀ q, q ≠ a → H1[q]? = H[q]?) → va_S (cd_xA A s) s.heap H1 locs1 → W p l e R s m args below meth c H1 locs1 cells slots Q (F0 m (pc + 1) ls rest)) : W p l e R s m args below meth c H locs cells slots Q (F0 m pc ls (.int x :: .int i :: .ref a :: rest)) := by
  refine W.iast ct.1 ct.2.1 (hP q0 _ ha) ((ct.2.2.2.2.2.1.1.2 0 _ rfl).1 n (fun j => .int (f j))) (fun q => by cases q) (by show ¬ (i < 0 ∨ (arrV _ _ _).slots.size ≤ _); rw [arrV_size]; exact cd_in_nI hj hi) rfl rfl hdg fun H1 e z oq => ?_
  refine kk H1 _ (hP.set hD ha ?_ oq) z oq (hS.put z oq (hD.2 q0 _ ha))
  show H1[a]? = some (vp_cell _ _)
  rw [e, cd_cl_nI hj hi, vp_cell_i, vp_cell_i, arrV_store]
  congr 2
  funext q
  by_cases hq : q = j
  · subst hq
    simp [updV, upd]
  · simp [updV, upd, hq]
theorem cd_last (ct : cd_Ct G p s m args c cc own nL A) (hP : va_P G.1 cd_cls ws H) (hD : va_D (cd_xA A s) ws) (hS : va_S (cd_xA A s) s.heap H locs) (q0 : Nat) {n : Nat} {f : Nat → Int64} (ha : ws[q0]? = some (a, .inl (cd_cL G, n, .inr (.inl f)))) (j : Nat) (hj : j < n ∧ n < 2 ^ 31) {i : Int32} {x : Int64} (hi : i = nI j) (hdg : decode cc pc = .ok (.lastore, 1))
    (kk : ∀ (H1 : Heap) (locs1 : List Loc), va_P G.1 cd_cls (ws.set q0 (a, .inl (cd_cL G, n, .inr (.inl (vp_updL f j x))))) H1 → H1.size = H.size → (∀ q, q ≠ a → H1[q]? = H[q]?) → va_S (cd_xA A s) s.heap H1 locs1 → W p l e R s m args below meth c H1 locs1 cells slots Q (F0 m (pc + 1) ls rest)) : W p l e R s m args below meth c H locs cells slots Q (F0 m pc ls (.long x :: .int i :: .ref a :: rest)) := by
  refine W.last ct.1 ct.2.1 (hP q0 _ ha) ((ct.2.2.2.2.2.1.1.2 1 _ rfl).1 n (fun j => .long (f j))) (fun q => by cases q) (by show ¬ (i < 0 ∨ (arrV _ _ _).slots.size ≤ _); rw [arrV_size]; exact cd_in_nI hj hi) rfl rfl hdg fun H1 e z oq => ?_
  refine kk H1 _ (hP.set hD ha ?_ oq) z oq (hS.put z oq (hD.2 q0 _ ha))
  show H1[a]? = some (vp_cell _ _)
  rw [e, cd_cl_nI hj hi, vp_cell_l, vp_cell_l, arrV_store]
  congr 2
  funext q
  by_cases hq : q = j
  · subst hq
    simp [updV, vp_updL]
  · simp [updV, vp_updL, hq]
theorem cd_zast (ct : cd_Ct G p s m args c cc own nL A) (hP : va_P G.1 cd_cls ws H) (hD : va_D (cd_xA A s) ws) (hS : va_S (cd_xA A s) s.heap H locs) (q0 : Nat) {n : Nat} {f : Nat → Bool} (ha : ws[q0]? = some (a, .inl (cd_cZ G, n, .inl (fun j => cd_bi (f j))))) (j : Nat) (hj : j < n ∧ n < 2 ^ 31) {i x : Int32} (hi : i = nI j) (b : Bool) (hx : x = cd_bi b) (hdg : decode cc pc = .ok (.bastore, 1))
    (kk : ∀ (H1 : Heap) (locs1 : List Loc), va_P G.1 cd_cls (ws.set q0 (a, .inl (cd_cZ G, n, .inl (fun k => cd_bi (va_up f j b k))))) H1 → H1.size = H.size → (∀ q, q ≠ a → H1[q]? = H[q]?) → va_S (cd_xA A s) s.heap H1 locs1 → W p l e R s m args below meth c H1 locs1 cells slots Q (F0 m (pc + 1) ls rest)) : W p l e R s m args below meth c H locs cells slots Q (F0 m pc ls (.int x :: .int i :: .ref a :: rest)) := by
  refine W.zast ct.1 ct.2.1 (hP q0 _ ha) ((ct.2.2.2.2.2.1.1.2 2 _ rfl).1 n (fun j => .int (cd_bi (f j)))) (fun q => by cases q) (by show ¬ (i < 0 ∨ (arrV _ _ _).slots.size ≤ _); rw [arrV_size]; exact cd_in_nI hj hi) rfl rfl hdg fun H1 e z oq => ?_
  refine kk H1 _ (hP.set hD ha ?_ oq) z oq (hS.put z oq (hD.2 q0 _ ha))
  show H1[a]? = some (vp_cell _ _)
  rw [e, cd_cl_nI hj hi, hx, cd_bi_n, vp_cell_i, vp_cell_i, arrV_store]
  congr 2
  funext q
  by_cases hq : q = j
  · subst hq
    simp [updV, va_up]
  · simp [updV, va_up, hq]
theorem cd_aast (ct : cd_Ct G p s m args c cc own nL A) (hP : va_P G.1 cd_cls ws H) (hD : va_D (cd_xA A s) ws) (hS : va_S (cd_xA A s) s.heap H locs) (q0 : Nat) {n : Nat} {f : Nat → Option Nat} (ha : ws[q0]? = some (a, .inl (cd_cW G, n, .inr (.inr (.inr (.inr f)))))) (j : Nat) (hj : j < n ∧ n < 2 ^ 31) {i : Int32} {v : Nat} {vs : List Value} (hv : va_at G.1 cd_cls (v, .inr (0, vs)) H) (hi : i = nI j) (hdg : decode cc pc = .ok (.aastore, 1))
    (kk : ∀ (H1 : Heap) (locs1 : List Loc), va_P G.1 cd_cls (ws.set q0 (a, .inl (cd_cW G, n, .inr (.inr (.inr (.inr (va_up f j (some v)))))))) H1 → H1.size = H.size → (∀ q, q ≠ a → H1[q]? = H[q]?) → va_S (cd_xA A s) s.heap H1 locs1 → W p l e R s m args below meth c H1 locs1 cells slots Q (F0 m (pc + 1) ls rest)) : W p l e R s m args below meth c H locs cells slots Q (F0 m pc ls (.ref v :: .int i :: .ref a :: rest)) := by
  have hlt : i.toNatClampNeg < n := Nat.not_le.mp fun q => cd_in_nI hj hi (Or.inr q)
  have h0 : ¬ i < 0 := fun q => cd_in_nI hj hi (Or.inl q)
  have hK := ct.2.2.2.2.2.1.1
  obtain ⟨r', hr', cellV, g1, g2, g3, -⟩ := hv
  have hcls := (hK.1 0 (R_W, F_W, 8) rfl).2
  obtain ⟨kA, comp, k1, k2, k3, -⟩ := (hK.2 3 (cd_cW G, .object "CommitDesk$Work") rfl).2
  have hcomp : comp = G.1.1 0 := Option.some.inj (k3.symm.trans hcls.1)
  subst hcomp
  obtain ⟨kC, hkC, -⟩ := hcls.2
  refine W.aast ct.1 ct.2.1 (hP q0 _ ha) (fun q h => by cases h) (fun h => by cases h) k1 k2 rfl hkC ⟨h0, by show _ < (arrV _ _ _).slots.size; rw [arrV_size]; exact hlt⟩ g1 (fun q h => by rw [g3] at h; cases h) (by rw [g2]; exact hkC) (by rw [g2]; exact va_assign hcls) rfl rfl hdg fun H1 e z oq => ?_
  refine kk H1 _ (hP.set hD ha ?_ oq) z oq (hS.put z oq (hD.2 q0 _ ha))
  show H1[a]? = some (vp_cell _ _)
  rw [e, cd_cl_nI hj hi, vp_cell_q, vp_cell_q, arrV_store]
  congr 2
  funext q
  by_cases hq : q = j
  · subst hq
    simp [updV, va_up, va_rf]
  · simp [updV, va_up, hq]
theorem cd_newa (ct : cd_Ct G p s m args c cc own nL A) {atype : ArrayType} {ty : FieldType} (hty : newarray.typeOf atype = ty) (harr : Cond.arrayClass ty ∈ cd_TB) (t0 : Nat) {cA : ClassId} (ht : (cd_tys G)[t0]? = some (cA, ty)) (hprim : ∀ C, ty ≠ .object C) (hS : va_S (cd_xA A s) s.heap H locs) {h : Nat} (hh : H.size = h)
    {n : Int32} {N' : Nat} {a0 : vp_A} (ha : ∀ cA : ClassId, vp_cell cA a0 = arrV cA N' (fun _ => defaultValue ty)) (hn : ¬ n < 0) (hN : n.toNatClampNeg = N') (hbytes : N' * componentBytes ty ≤ 536870912) (hcells : cells + 1 ≤ R.cells) (hslots : slots + N' ≤ R.slots) (hdg : decode cc pc = .ok (.newarray atype, 2))
    (kk : ∀ (H1 : Heap), va_P G.1 cd_cls [(h, .inl (cA, a0))] H1 → H1.size = h + 1 → (∀ q, q < h → H1[q]? = H[q]?) → va_S (cd_xA A s) s.heap H1 locs →
      W p l e R s m args below meth c H1 locs (cells + 1) (slots + N') Q (F0 m (pc + 2) ls (.ref h :: rest))) : W p l e R s m args below meth c H locs cells slots Q (F0 m pc ls (.int n :: rest)) := by
  subst hty
  refine va_newaK ct.1 ct.2.1 (ct.2.2.2.2.1 _ harr) rfl hdg rfl hn hN hbytes hcells hslots hh fun H1 cA' e1 z1 o1 hAr hNm => ?_
  have hcA : cA' = cA := by
    have h1 := (ct.2.2.2.2.2.1.1.2 t0 _ ht).2
    have h2 : s.vm.findClass ("[" ++ (newarray.typeOf atype).toString) = some cA := by
      revert h1 hprim
      cases newarray.typeOf atype <;> intro hprim h1 <;> first | exact h1 | exact absurd rfl (hprim _)
    exact Option.some.inj (hNm.symm.trans h2)
  subst hcA
  refine kk H1 (fun k x hx => ?_) z1 o1 ⟨Nat.le_trans hS.1 (by omega), fun x h1 h2 => (o1 x (Nat.lt_of_lt_of_le h1 (hh ▸ hS.1))).trans (hS.2.1 x h1 h2), hS.2.2⟩
  have hz : k < 1 := (List.getElem?_eq_some_iff.mp hx).1
  rw [show k = 0 by omega] at hx
  cases hx
  show H1[h]? = some (vp_cell _ _)
  rw [ha]
  exact e1
theorem cd_new {C : String} {T : u_T} {N ci : Nat} (hin : ∀ w ∈ u_ws C T N, w ∈ cd_TB) (hc : cd_cls[ci]? = some (C, T, N)) (ty : Nat → FieldType) (hty : ∀ k, k < N → parseFieldDescriptor (T k).2.2.1 = some (ty k)) (ct : cd_Ct G p s m args c cc own nL A) (ok : Cond.classLink own index C ∈ cd_TB ∧ Cond.instantiable C N ∈ cd_TB ∧ Cond.initialized C ∈ cd_TB)
    (hS : va_S (cd_xA A s) s.heap H locs) {h : Nat} (hh : H.size = h) {fs : List Value} (hfs : ∀ j, j < N → defaultValue (ty j) = vp_V fs j) (hcells : cells + 1 ≤ R.cells) (hslots : slots + N ≤ R.slots) (hdg : decode cc pc = .ok (.new index, 3))
    (kk : ∀ (H1 : Heap), va_P G.1 cd_cls [(h, .inr (ci, fs))] H1 → H1.size = h + 1 → (∀ q, q < h → H1[q]? = H[q]?) → va_S (cd_xA A s) s.heap H1 locs →
      W p l e R s m args below meth c H1 locs (cells + 1) (slots + N) Q (F0 m (pc + 3) ls (.ref h :: rest))) : W p l e R s m args below meth c H locs cells slots Q (F0 m pc ls rest) := by
  subst hh
  have hA : ∀ q, s.heap.size ≤ q → cd_xA A s q := fun q h => Or.inr h
  have hP0 : va_P G.1 cd_cls [] H := fun k q h => by cases h
  have hKn := ct.2.2.2.2.2.1.1.1 ci _ hc
  refine W.newcK ct.1 ct.2.1 ct.2.2.1 (ct.2.2.2.2.1 _ ok.1) (ct.2.2.2.2.1 _ ok.2.1) (ct.2.2.2.2.1 _ ok.2.2) rfl hdg hcells hslots hKn.2.1 rfl fun H1 kC hkC e1 z1 o1 => ?_
  refine kk H1 (fun k x hx => ?_) z1 o1 ⟨Nat.le_trans hS.1 (by omega), fun x h1 h2 => (o1 x (Nat.lt_of_lt_of_le h1 hS.1)).trans (hS.2.1 x h1 h2), hS.2.2⟩
  have hz : k < 1 := (List.getElem?_eq_some_iff.mp hx).1
  rw [show k = 0 by omega] at hx
  cases hx
  exact ⟨_, hc, (u_born ty ct.2.2.2.2.1 hin hKn hkC e1 hty).to hfs⟩
end CdHeap
end
section
/-! Names: methods, their code, the words of the tables that their instructions use. Printed by prog/names.py. -/
abbrev b_D_init : ByteArray := prog_1_method_1_code
def y_D_init : MethodName := ⟨"CommitDesk", "<init>", "()V"⟩
abbrev cw_D_init : Cond := .code y_D_init b_D_init 2 none
theorem tw_1 : (Cond.initialized "CommitDesk") ∈ cd_TB := cd_in 12 (by decide +kernel) rfl
theorem tw_16 : (Cond.code ({ cls := "CommitDesk", name := "<init>", desc := "()V" } : MethodName) prog_1_method_1_code (2 : Nat) (Option.none : Option FieldType)) ∈ cd_TB := cd_in 27 (by decide +kernel) rfl
theorem ok_D_init : cd_okB y_D_init cw_D_init b_D_init 2 none [] 0 := ⟨Or.inl ⟨rfl, rfl⟩, tw_16, tw_1, ⟨by decide, by decide⟩, by decide +kernel⟩
abbrev b_W_init : ByteArray := prog_2_method_1_code
def y_W_init : MethodName := ⟨"CommitDesk$Work", "<init>", "()V"⟩
abbrev cw_W_init : Cond := .code y_W_init b_W_init 1 none
theorem tw_2 : (Cond.initialized "CommitDesk$Work") ∈ cd_TB := cd_in 13 (by decide +kernel) rfl
theorem tw_25 : (Cond.code ({ cls := "CommitDesk$Work", name := "<init>", desc := "()V" } : MethodName) prog_2_method_1_code (1 : Nat) (Option.none : Option FieldType)) ∈ cd_TB := cd_in 36 (by decide +kernel) rfl
theorem ok_W_init : cd_okB y_W_init cw_W_init b_W_init 1 none [] 0 := ⟨Or.inl ⟨rfl, rfl⟩, tw_25, tw_2, ⟨by decide, by decide⟩, by decide +kernel⟩
abbrev b_L_begin : ByteArray := method_3_code
def y_L_begin : MethodName := ⟨"CommitDeskLaw", "begin", "(LCommitDesk;I)I"⟩
abbrev cw_L_begin : Cond := .codeWith y_L_begin b_L_begin 3 (some FieldType.int) [(0, 5, 8, 13), (0, 5, 11, 15)]
theorem tw_0 : (Cond.initialized "CommitDeskLaw") ∈ cd_TB := cd_in 11 (by decide +kernel) rfl
theorem tw_75 : (Cond.codeWith ({ cls := "CommitDeskLaw", name := "begin", desc := "(LCommitDesk;I)I" } : MethodName) method_3_code (3 : Nat) (Option.some FieldType.int) [((0 : Nat), (5 : Nat), (8 : Nat), (13 : Nat)), ((0 : Nat), (5 : Nat), (11 : Nat), (15 : Nat))]) ∈ cd_TB := cd_in 86 (by decide +kernel) rfl
theorem ok_L_begin : cd_okB y_L_begin cw_L_begin b_L_begin 3 (some FieldType.int) [(0, 5, 8, 13), (0, 5, 11, 15)] 2 := ⟨Or.inr rfl, tw_75, tw_0, ⟨by decide, by decide⟩, by decide +kernel⟩
abbrev b_D_begin : ByteArray := prog_1_method_7_code
def y_D_begin : MethodName := ⟨"CommitDesk", "begin", "(I)V"⟩
abbrev cw_D_begin : Cond := .code y_D_begin b_D_begin 3 none
theorem tw_81 : (Cond.code ({ cls := "CommitDesk", name := "begin", desc := "(I)V" } : MethodName) prog_1_method_7_code (3 : Nat) (Option.none : Option FieldType)) ∈ cd_TB := cd_in 92 (by decide +kernel) rfl
theorem ok_D_begin : cd_okB y_D_begin cw_D_begin b_D_begin 3 none [] 1 := ⟨Or.inl ⟨rfl, rfl⟩, tw_81, tw_1, ⟨by decide, by decide⟩, by decide +kernel⟩
abbrev b_D_work : ByteArray := prog_1_method_5_code
def y_D_work : MethodName := ⟨"CommitDesk", "work", "(I)LCommitDesk$Work;"⟩
abbrev cw_D_work : Cond := .code y_D_work b_D_work 2 (some (FieldType.object "CommitDesk$Work"))
theorem tw_85 : (Cond.code ({ cls := "CommitDesk", name := "work", desc := "(I)LCommitDesk$Work;" } : MethodName) prog_1_method_5_code (2 : Nat) (Option.some (FieldType.object "CommitDesk$Work"))) ∈ cd_TB := cd_in 96 (by decide +kernel) rfl
theorem ok_D_work : cd_okB y_D_work cw_D_work b_D_work 2 (some (FieldType.object "CommitDesk$Work")) [] 1 := ⟨Or.inl ⟨rfl, rfl⟩, tw_85, tw_1, ⟨by decide, by decide⟩, by decide +kernel⟩
abbrev b_D_good : ByteArray := prog_1_method_2_code
def y_D_good : MethodName := ⟨"CommitDesk", "good", "(Z)V"⟩
abbrev cw_D_good : Cond := .code y_D_good b_D_good 1 none
theorem tw_88 : (Cond.code ({ cls := "CommitDesk", name := "good", desc := "(Z)V" } : MethodName) prog_1_method_2_code (1 : Nat) (Option.none : Option FieldType)) ∈ cd_TB := cd_in 99 (by decide +kernel) rfl
theorem ok_D_good : cd_okB y_D_good cw_D_good b_D_good 1 none [] 1 := ⟨Or.inl ⟨rfl, rfl⟩, tw_88, tw_1, ⟨by decide, by decide⟩, by decide +kernel⟩
abbrev b_W_begin : ByteArray := prog_2_method_2_code
def y_W_begin : MethodName := ⟨"CommitDesk$Work", "begin", "()V"⟩
abbrev cw_W_begin : Cond := .code y_W_begin b_W_begin 1 none
theorem tw_171 : (Cond.code ({ cls := "CommitDesk$Work", name := "begin", desc := "()V" } : MethodName) prog_2_method_2_code (1 : Nat) (Option.none : Option FieldType)) ∈ cd_TB := cd_in 182 (by decide +kernel) rfl
theorem ok_W_begin : cd_okB y_W_begin cw_W_begin b_W_begin 1 none [] 0 := ⟨Or.inl ⟨rfl, rfl⟩, tw_171, tw_2, ⟨by decide, by decide⟩, by decide +kernel⟩
abbrev b_L_read : ByteArray := method_4_code
def y_L_read : MethodName := ⟨"CommitDeskLaw", "read", "(LCommitDesk;II[J)I"⟩
abbrev cw_L_read : Cond := .codeWith y_L_read b_L_read 5 (some FieldType.int) [(0, 9, 12, 13), (0, 9, 16, 21), (0, 9, 20, 15), (0, 9, 24, 23)]
theorem tw_174 : (Cond.codeWith ({ cls := "CommitDeskLaw", name := "read", desc := "(LCommitDesk;II[J)I" } : MethodName) method_4_code (5 : Nat) (Option.some FieldType.int) [((0 : Nat), (9 : Nat), (12 : Nat), (13 : Nat)), ((0 : Nat), (9 : Nat), (16 : Nat), (21 : Nat)), ((0 : Nat), (9 : Nat), (20 : Nat), (15 : Nat)), ((0 : Nat), (9 : Nat), (24 : Nat), (23 : Nat))]) ∈ cd_TB := cd_in 185 (by decide +kernel) rfl
theorem ok_L_read : cd_okB y_L_read cw_L_read b_L_read 5 (some FieldType.int) [(0, 9, 12, 13), (0, 9, 16, 21), (0, 9, 20, 15), (0, 9, 24, 23)] 4 := ⟨Or.inr rfl, tw_174, tw_0, ⟨by decide, by decide⟩, by decide +kernel⟩
abbrev b_D_read : ByteArray := prog_1_method_8_code
def y_D_read : MethodName := ⟨"CommitDesk", "read", "(II)J"⟩
abbrev cw_D_read : Cond := .code y_D_read b_D_read 5 (some FieldType.long)
theorem tw_180 : (Cond.code ({ cls := "CommitDesk", name := "read", desc := "(II)J" } : MethodName) prog_1_method_8_code (5 : Nat) (Option.some FieldType.long)) ∈ cd_TB := cd_in 191 (by decide +kernel) rfl
theorem ok_D_read : cd_okB y_D_read cw_D_read b_D_read 5 (some FieldType.long) [] 2 := ⟨Or.inl ⟨rfl, rfl⟩, tw_180, tw_1, ⟨by decide, by decide⟩, by decide +kernel⟩
abbrev b_D_there : ByteArray := prog_1_method_3_code
def y_D_there : MethodName := ⟨"CommitDesk", "there", "(I)V"⟩
abbrev cw_D_there : Cond := .code y_D_there b_D_there 1 none
theorem tw_183 : (Cond.code ({ cls := "CommitDesk", name := "there", desc := "(I)V" } : MethodName) prog_1_method_3_code (1 : Nat) (Option.none : Option FieldType)) ∈ cd_TB := cd_in 194 (by decide +kernel) rfl
theorem ok_D_there : cd_okB y_D_there cw_D_there b_D_there 1 none [] 1 := ⟨Or.inl ⟨rfl, rfl⟩, tw_183, tw_1, ⟨by decide, by decide⟩, by decide +kernel⟩
abbrev b_D_open : ByteArray := prog_1_method_6_code
def y_D_open : MethodName := ⟨"CommitDesk", "open", "(I)LCommitDesk$Work;"⟩
abbrev cw_D_open : Cond := .code y_D_open b_D_open 3 (some (FieldType.object "CommitDesk$Work"))
theorem tw_202 : (Cond.code ({ cls := "CommitDesk", name := "open", desc := "(I)LCommitDesk$Work;" } : MethodName) prog_1_method_6_code (3 : Nat) (Option.some (FieldType.object "CommitDesk$Work"))) ∈ cd_TB := cd_in 213 (by decide +kernel) rfl
theorem ok_D_open : cd_okB y_D_open cw_D_open b_D_open 3 (some (FieldType.object "CommitDesk$Work")) [] 1 := ⟨Or.inl ⟨rfl, rfl⟩, tw_202, tw_1, ⟨by decide, by decide⟩, by decide +kernel⟩
abbrev b_W_last : ByteArray := prog_2_method_4_code
def y_W_last : MethodName := ⟨"CommitDesk$Work", "last", "(I)I"⟩
abbrev cw_W_last : Cond := .code y_W_last b_W_last 2 (some FieldType.int)
theorem tw_206 : (Cond.code ({ cls := "CommitDesk$Work", name := "last", desc := "(I)I" } : MethodName) prog_2_method_4_code (2 : Nat) (Option.some FieldType.int)) ∈ cd_TB := cd_in 217 (by decide +kernel) rfl
theorem ok_W_last : cd_okB y_W_last cw_W_last b_W_last 2 (some FieldType.int) [] 1 := ⟨Or.inl ⟨rfl, rfl⟩, tw_206, tw_2, ⟨by decide, by decide⟩, by decide +kernel⟩
abbrev b_W_find : ByteArray := prog_2_method_3_code
def y_W_find : MethodName := ⟨"CommitDesk$Work", "find", "(II)I"⟩
abbrev cw_W_find : Cond := .code y_W_find b_W_find 4 (some FieldType.int)
theorem tw_210 : (Cond.code ({ cls := "CommitDesk$Work", name := "find", desc := "(II)I" } : MethodName) prog_2_method_3_code (4 : Nat) (Option.some FieldType.int)) ∈ cd_TB := cd_in 221 (by decide +kernel) rfl
theorem ok_W_find : cd_okB y_W_find cw_W_find b_W_find 4 (some FieldType.int) [] 2 := ⟨Or.inl ⟨rfl, rfl⟩, tw_210, tw_2, ⟨by decide, by decide⟩, by decide +kernel⟩
abbrev b_W_at : ByteArray := prog_2_method_5_code
def y_W_at : MethodName := ⟨"CommitDesk$Work", "at", "(I)J"⟩
abbrev cw_W_at : Cond := .code y_W_at b_W_at 2 (some FieldType.long)
theorem tw_214 : (Cond.code ({ cls := "CommitDesk$Work", name := "at", desc := "(I)J" } : MethodName) prog_2_method_5_code (2 : Nat) (Option.some FieldType.long)) ∈ cd_TB := cd_in 225 (by decide +kernel) rfl
theorem ok_W_at : cd_okB y_W_at cw_W_at b_W_at 2 (some FieldType.long) [] 1 := ⟨Or.inl ⟨rfl, rfl⟩, tw_214, tw_2, ⟨by decide, by decide⟩, by decide +kernel⟩
abbrev b_D_isFresh : ByteArray := prog_1_method_9_code
def y_D_isFresh : MethodName := ⟨"CommitDesk", "isFresh", "(LCommitDesk$Work;)Z"⟩
abbrev cw_D_isFresh : Cond := .code y_D_isFresh b_D_isFresh 2 (some FieldType.boolean)
theorem tw_218 : (Cond.code ({ cls := "CommitDesk", name := "isFresh", desc := "(LCommitDesk$Work;)Z" } : MethodName) prog_1_method_9_code (2 : Nat) (Option.some FieldType.boolean)) ∈ cd_TB := cd_in 229 (by decide +kernel) rfl
theorem ok_D_isFresh : cd_okB y_D_isFresh cw_D_isFresh b_D_isFresh 2 (some FieldType.boolean) [] 1 := ⟨Or.inl ⟨rfl, rfl⟩, tw_218, tw_1, ⟨by decide, by decide⟩, by decide +kernel⟩
abbrev b_W_stale : ByteArray := prog_2_method_10_code
def y_W_stale : MethodName := ⟨"CommitDesk$Work", "stale", "([I)Z"⟩
abbrev cw_W_stale : Cond := .code y_W_stale b_W_stale 3 (some FieldType.boolean)
theorem tw_222 : (Cond.code ({ cls := "CommitDesk$Work", name := "stale", desc := "([I)Z" } : MethodName) prog_2_method_10_code (3 : Nat) (Option.some FieldType.boolean)) ∈ cd_TB := cd_in 233 (by decide +kernel) rfl
theorem ok_W_stale : cd_okB y_W_stale cw_W_stale b_W_stale 3 (some FieldType.boolean) [] 1 := ⟨Or.inl ⟨rfl, rfl⟩, tw_222, tw_2, ⟨by decide, by decide⟩, by decide +kernel⟩
abbrev b_D_can : ByteArray := prog_1_method_4_code
def y_D_can : MethodName := ⟨"CommitDesk", "can", "(Z)V"⟩
abbrev cw_D_can : Cond := .code y_D_can b_D_can 1 none
theorem tw_225 : (Cond.code ({ cls := "CommitDesk", name := "can", desc := "(Z)V" } : MethodName) prog_1_method_4_code (1 : Nat) (Option.none : Option FieldType)) ∈ cd_TB := cd_in 236 (by decide +kernel) rfl
theorem ok_D_can : cd_okB y_D_can cw_D_can b_D_can 1 none [] 1 := ⟨Or.inl ⟨rfl, rfl⟩, tw_225, tw_1, ⟨by decide, by decide⟩, by decide +kernel⟩
abbrev b_W_look : ByteArray := prog_2_method_9_code
def y_W_look : MethodName := ⟨"CommitDesk$Work", "look", "(II)V"⟩
abbrev cw_W_look : Cond := .code y_W_look b_W_look 3 none
theorem tw_244 : (Cond.code ({ cls := "CommitDesk$Work", name := "look", desc := "(II)V" } : MethodName) prog_2_method_9_code (3 : Nat) (Option.none : Option FieldType)) ∈ cd_TB := cd_in 255 (by decide +kernel) rfl
theorem ok_W_look : cd_okB y_W_look cw_W_look b_W_look 3 none [] 2 := ⟨Or.inl ⟨rfl, rfl⟩, tw_244, tw_2, ⟨by decide, by decide⟩, by decide +kernel⟩
abbrev b_L_write : ByteArray := method_5_code
def y_L_write : MethodName := ⟨"CommitDeskLaw", "write", "(LCommitDesk;IIJ)I"⟩
abbrev cw_L_write : Cond := .codeWith y_L_write b_L_write 6 (some FieldType.int) [(0, 7, 10, 13), (0, 7, 14, 21), (0, 7, 18, 15)]
theorem tw_247 : (Cond.codeWith ({ cls := "CommitDeskLaw", name := "write", desc := "(LCommitDesk;IIJ)I" } : MethodName) method_5_code (6 : Nat) (Option.some FieldType.int) [((0 : Nat), (7 : Nat), (10 : Nat), (13 : Nat)), ((0 : Nat), (7 : Nat), (14 : Nat), (21 : Nat)), ((0 : Nat), (7 : Nat), (18 : Nat), (15 : Nat))]) ∈ cd_TB := cd_in 258 (by decide +kernel) rfl
theorem ok_L_write : cd_okB y_L_write cw_L_write b_L_write 6 (some FieldType.int) [(0, 7, 10, 13), (0, 7, 14, 21), (0, 7, 18, 15)] 4 := ⟨Or.inr rfl, tw_247, tw_0, ⟨by decide, by decide⟩, by decide +kernel⟩
abbrev b_D_write : ByteArray := prog_1_method_10_code
def y_D_write : MethodName := ⟨"CommitDesk", "write", "(IIJ)V"⟩
abbrev cw_D_write : Cond := .code y_D_write b_D_write 5 none
theorem tw_251 : (Cond.code ({ cls := "CommitDesk", name := "write", desc := "(IIJ)V" } : MethodName) prog_1_method_10_code (5 : Nat) (Option.none : Option FieldType)) ∈ cd_TB := cd_in 262 (by decide +kernel) rfl
theorem ok_D_write : cd_okB y_D_write cw_D_write b_D_write 5 none [] 3 := ⟨Or.inl ⟨rfl, rfl⟩, tw_251, tw_1, ⟨by decide, by decide⟩, by decide +kernel⟩
abbrev b_W_write : ByteArray := prog_2_method_8_code
def y_W_write : MethodName := ⟨"CommitDesk$Work", "write", "(IJ)V"⟩
abbrev cw_W_write : Cond := .code y_W_write b_W_write 5 none
theorem tw_255 : (Cond.code ({ cls := "CommitDesk$Work", name := "write", desc := "(IJ)V" } : MethodName) prog_2_method_8_code (5 : Nat) (Option.none : Option FieldType)) ∈ cd_TB := cd_in 266 (by decide +kernel) rfl
theorem ok_W_write : cd_okB y_W_write cw_W_write b_W_write 5 none [] 2 := ⟨Or.inl ⟨rfl, rfl⟩, tw_255, tw_2, ⟨by decide, by decide⟩, by decide +kernel⟩
abbrev b_L_save : ByteArray := method_6_code
def y_L_save : MethodName := ⟨"CommitDeskLaw", "save", "(LCommitDesk;I[J)I"⟩
abbrev cw_L_save : Cond := .codeWith y_L_save b_L_save 4 (some FieldType.int) [(0, 9, 12, 13), (0, 9, 15, 15), (0, 9, 18, 23)]
theorem tw_258 : (Cond.codeWith ({ cls := "CommitDeskLaw", name := "save", desc := "(LCommitDesk;I[J)I" } : MethodName) method_6_code (4 : Nat) (Option.some FieldType.int) [((0 : Nat), (9 : Nat), (12 : Nat), (13 : Nat)), ((0 : Nat), (9 : Nat), (15 : Nat), (15 : Nat)), ((0 : Nat), (9 : Nat), (18 : Nat), (23 : Nat))]) ∈ cd_TB := cd_in 269 (by decide +kernel) rfl
theorem ok_L_save : cd_okB y_L_save cw_L_save b_L_save 4 (some FieldType.int) [(0, 9, 12, 13), (0, 9, 15, 15), (0, 9, 18, 23)] 3 := ⟨Or.inr rfl, tw_258, tw_0, ⟨by decide, by decide⟩, by decide +kernel⟩
abbrev b_D_save : ByteArray := prog_1_method_11_code
def y_D_save : MethodName := ⟨"CommitDesk", "save", "(I)I"⟩
abbrev cw_D_save : Cond := .code y_D_save b_D_save 3 (some FieldType.int)
theorem tw_262 : (Cond.code ({ cls := "CommitDesk", name := "save", desc := "(I)I" } : MethodName) prog_1_method_11_code (3 : Nat) (Option.some FieldType.int)) ∈ cd_TB := cd_in 273 (by decide +kernel) rfl
theorem ok_D_save : cd_okB y_D_save cw_D_save b_D_save 3 (some FieldType.int) [] 1 := ⟨Or.inl ⟨rfl, rfl⟩, tw_262, tw_1, ⟨by decide, by decide⟩, by decide +kernel⟩
abbrev b_W_save : ByteArray := prog_2_method_11_code
def y_W_save : MethodName := ⟨"CommitDesk$Work", "save", "()V"⟩
abbrev cw_W_save : Cond := .code y_W_save b_W_save 1 none
theorem tw_266 : (Cond.code ({ cls := "CommitDesk$Work", name := "save", desc := "()V" } : MethodName) prog_2_method_11_code (1 : Nat) (Option.none : Option FieldType)) ∈ cd_TB := cd_in 277 (by decide +kernel) rfl
theorem ok_W_save : cd_okB y_W_save cw_W_save b_W_save 1 none [] 0 := ⟨Or.inl ⟨rfl, rfl⟩, tw_266, tw_2, ⟨by decide, by decide⟩, by decide +kernel⟩
abbrev b_L_back : ByteArray := method_7_code
def y_L_back : MethodName := ⟨"CommitDeskLaw", "back", "(LCommitDesk;I)I"⟩
abbrev cw_L_back : Cond := .codeWith y_L_back b_L_back 3 (some FieldType.int) [(0, 5, 8, 13), (0, 5, 11, 15), (0, 5, 14, 23)]
theorem tw_269 : (Cond.codeWith ({ cls := "CommitDeskLaw", name := "back", desc := "(LCommitDesk;I)I" } : MethodName) method_7_code (3 : Nat) (Option.some FieldType.int) [((0 : Nat), (5 : Nat), (8 : Nat), (13 : Nat)), ((0 : Nat), (5 : Nat), (11 : Nat), (15 : Nat)), ((0 : Nat), (5 : Nat), (14 : Nat), (23 : Nat))]) ∈ cd_TB := cd_in 280 (by decide +kernel) rfl
theorem ok_L_back : cd_okB y_L_back cw_L_back b_L_back 3 (some FieldType.int) [(0, 5, 8, 13), (0, 5, 11, 15), (0, 5, 14, 23)] 2 := ⟨Or.inr rfl, tw_269, tw_0, ⟨by decide, by decide⟩, by decide +kernel⟩
abbrev b_D_back : ByteArray := prog_1_method_12_code
def y_D_back : MethodName := ⟨"CommitDesk", "back", "(I)V"⟩
abbrev cw_D_back : Cond := .code y_D_back b_D_back 3 none
theorem tw_273 : (Cond.code ({ cls := "CommitDesk", name := "back", desc := "(I)V" } : MethodName) prog_1_method_12_code (3 : Nat) (Option.none : Option FieldType)) ∈ cd_TB := cd_in 284 (by decide +kernel) rfl
theorem ok_D_back : cd_okB y_D_back cw_D_back b_D_back 3 none [] 1 := ⟨Or.inl ⟨rfl, rfl⟩, tw_273, tw_1, ⟨by decide, by decide⟩, by decide +kernel⟩
abbrev b_W_back : ByteArray := prog_2_method_12_code
def y_W_back : MethodName := ⟨"CommitDesk$Work", "back", "()V"⟩
abbrev cw_W_back : Cond := .code y_W_back b_W_back 1 none
theorem tw_277 : (Cond.code ({ cls := "CommitDesk$Work", name := "back", desc := "()V" } : MethodName) prog_2_method_12_code (1 : Nat) (Option.none : Option FieldType)) ∈ cd_TB := cd_in 288 (by decide +kernel) rfl
theorem ok_W_back : cd_okB y_W_back cw_W_back b_W_back 1 none [] 0 := ⟨Or.inl ⟨rfl, rfl⟩, tw_277, tw_2, ⟨by decide, by decide⟩, by decide +kernel⟩
abbrev b_L_keep : ByteArray := method_8_code
def y_L_keep : MethodName := ⟨"CommitDeskLaw", "keep", "(LCommitDesk;I)I"⟩
abbrev cw_L_keep : Cond := .codeWith y_L_keep b_L_keep 3 (some FieldType.int) [(0, 5, 8, 13), (0, 5, 11, 15), (0, 5, 14, 23)]
theorem tw_280 : (Cond.codeWith ({ cls := "CommitDeskLaw", name := "keep", desc := "(LCommitDesk;I)I" } : MethodName) method_8_code (3 : Nat) (Option.some FieldType.int) [((0 : Nat), (5 : Nat), (8 : Nat), (13 : Nat)), ((0 : Nat), (5 : Nat), (11 : Nat), (15 : Nat)), ((0 : Nat), (5 : Nat), (14 : Nat), (23 : Nat))]) ∈ cd_TB := cd_in 291 (by decide +kernel) rfl
theorem ok_L_keep : cd_okB y_L_keep cw_L_keep b_L_keep 3 (some FieldType.int) [(0, 5, 8, 13), (0, 5, 11, 15), (0, 5, 14, 23)] 2 := ⟨Or.inr rfl, tw_280, tw_0, ⟨by decide, by decide⟩, by decide +kernel⟩
abbrev b_D_keep : ByteArray := prog_1_method_13_code
def y_D_keep : MethodName := ⟨"CommitDesk", "keep", "(I)V"⟩
abbrev cw_D_keep : Cond := .code y_D_keep b_D_keep 3 none
theorem tw_284 : (Cond.code ({ cls := "CommitDesk", name := "keep", desc := "(I)V" } : MethodName) prog_1_method_13_code (3 : Nat) (Option.none : Option FieldType)) ∈ cd_TB := cd_in 295 (by decide +kernel) rfl
theorem ok_D_keep : cd_okB y_D_keep cw_D_keep b_D_keep 3 none [] 1 := ⟨Or.inl ⟨rfl, rfl⟩, tw_284, tw_1, ⟨by decide, by decide⟩, by decide +kernel⟩
abbrev b_W_keep : ByteArray := prog_2_method_13_code
def y_W_keep : MethodName := ⟨"CommitDesk$Work", "keep", "()V"⟩
abbrev cw_W_keep : Cond := .code y_W_keep b_W_keep 4 none
theorem tw_288 : (Cond.code ({ cls := "CommitDesk$Work", name := "keep", desc := "()V" } : MethodName) prog_2_method_13_code (4 : Nat) (Option.none : Option FieldType)) ∈ cd_TB := cd_in 299 (by decide +kernel) rfl
theorem ok_W_keep : cd_okB y_W_keep cw_W_keep b_W_keep 4 none [] 0 := ⟨Or.inl ⟨rfl, rfl⟩, tw_288, tw_2, ⟨by decide, by decide⟩, by decide +kernel⟩
abbrev b_L_done : ByteArray := method_9_code
def y_L_done : MethodName := ⟨"CommitDeskLaw", "done", "(LCommitDesk;I[J)I"⟩
abbrev cw_L_done : Cond := .codeWith y_L_done b_L_done 4 (some FieldType.int) [(0, 16, 19, 13), (0, 16, 22, 15)]
theorem tw_292 : (Cond.codeWith ({ cls := "CommitDeskLaw", name := "done", desc := "(LCommitDesk;I[J)I" } : MethodName) method_9_code (4 : Nat) (Option.some FieldType.int) [((0 : Nat), (16 : Nat), (19 : Nat), (13 : Nat)), ((0 : Nat), (16 : Nat), (22 : Nat), (15 : Nat))]) ∈ cd_TB := cd_in 303 (by decide +kernel) rfl
theorem ok_L_done : cd_okB y_L_done cw_L_done b_L_done 4 (some FieldType.int) [(0, 16, 19, 13), (0, 16, 22, 15)] 3 := ⟨Or.inr rfl, tw_292, tw_0, ⟨by decide, by decide⟩, by decide +kernel⟩
abbrev b_D_done : ByteArray := prog_1_method_14_code
def y_D_done : MethodName := ⟨"CommitDesk", "done", "(I)Z"⟩
abbrev cw_D_done : Cond := .code y_D_done b_D_done 4 (some FieldType.boolean)
theorem tw_296 : (Cond.code ({ cls := "CommitDesk", name := "done", desc := "(I)Z" } : MethodName) prog_1_method_14_code (4 : Nat) (Option.some FieldType.boolean)) ∈ cd_TB := cd_in 307 (by decide +kernel) rfl
theorem ok_D_done : cd_okB y_D_done cw_D_done b_D_done 4 (some FieldType.boolean) [] 1 := ⟨Or.inl ⟨rfl, rfl⟩, tw_296, tw_1, ⟨by decide, by decide⟩, by decide +kernel⟩
abbrev b_W_many : ByteArray := prog_2_method_7_code
def y_W_many : MethodName := ⟨"CommitDesk$Work", "many", "()I"⟩
abbrev cw_W_many : Cond := .code y_W_many b_W_many 1 (some FieldType.int)
theorem tw_300 : (Cond.code ({ cls := "CommitDesk$Work", name := "many", desc := "()I" } : MethodName) prog_2_method_7_code (1 : Nat) (Option.some FieldType.int)) ∈ cd_TB := cd_in 311 (by decide +kernel) rfl
theorem ok_W_many : cd_okB y_W_many cw_W_many b_W_many 1 (some FieldType.int) [] 0 := ⟨Or.inl ⟨rfl, rfl⟩, tw_300, tw_2, ⟨by decide, by decide⟩, by decide +kernel⟩
abbrev b_W_cellAt : ByteArray := prog_2_method_6_code
def y_W_cellAt : MethodName := ⟨"CommitDesk$Work", "cellAt", "(I)I"⟩
abbrev cw_W_cellAt : Cond := .code y_W_cellAt b_W_cellAt 2 (some FieldType.int)
theorem tw_304 : (Cond.code ({ cls := "CommitDesk$Work", name := "cellAt", desc := "(I)I" } : MethodName) prog_2_method_6_code (2 : Nat) (Option.some FieldType.int)) ∈ cd_TB := cd_in 315 (by decide +kernel) rfl
theorem ok_W_cellAt : cd_okB y_W_cellAt cw_W_cellAt b_W_cellAt 2 (some FieldType.int) [] 1 := ⟨Or.inl ⟨rfl, rfl⟩, tw_304, tw_2, ⟨by decide, by decide⟩, by decide +kernel⟩
abbrev b_D_put : ByteArray := prog_1_method_16_code
def y_D_put : MethodName := ⟨"CommitDesk", "put", "(IJ)V"⟩
abbrev cw_D_put : Cond := .code y_D_put b_D_put 4 none
theorem tw_308 : (Cond.code ({ cls := "CommitDesk", name := "put", desc := "(IJ)V" } : MethodName) prog_1_method_16_code (4 : Nat) (Option.none : Option FieldType)) ∈ cd_TB := cd_in 319 (by decide +kernel) rfl
theorem ok_D_put : cd_okB y_D_put cw_D_put b_D_put 4 none [] 2 := ⟨Or.inl ⟨rfl, rfl⟩, tw_308, tw_1, ⟨by decide, by decide⟩, by decide +kernel⟩
abbrev b_L_leave : ByteArray := method_10_code
def y_L_leave : MethodName := ⟨"CommitDeskLaw", "leave", "(LCommitDesk;I)I"⟩
abbrev cw_L_leave : Cond := .codeWith y_L_leave b_L_leave 3 (some FieldType.int) [(0, 5, 8, 13), (0, 5, 11, 15)]
theorem tw_311 : (Cond.codeWith ({ cls := "CommitDeskLaw", name := "leave", desc := "(LCommitDesk;I)I" } : MethodName) method_10_code (3 : Nat) (Option.some FieldType.int) [((0 : Nat), (5 : Nat), (8 : Nat), (13 : Nat)), ((0 : Nat), (5 : Nat), (11 : Nat), (15 : Nat))]) ∈ cd_TB := cd_in 322 (by decide +kernel) rfl
theorem ok_L_leave : cd_okB y_L_leave cw_L_leave b_L_leave 3 (some FieldType.int) [(0, 5, 8, 13), (0, 5, 11, 15)] 2 := ⟨Or.inr rfl, tw_311, tw_0, ⟨by decide, by decide⟩, by decide +kernel⟩
abbrev b_D_leave : ByteArray := prog_1_method_15_code
def y_D_leave : MethodName := ⟨"CommitDesk", "leave", "(I)V"⟩
abbrev cw_D_leave : Cond := .code y_D_leave b_D_leave 2 none
theorem tw_315 : (Cond.code ({ cls := "CommitDesk", name := "leave", desc := "(I)V" } : MethodName) prog_1_method_15_code (2 : Nat) (Option.none : Option FieldType)) ∈ cd_TB := cd_in 326 (by decide +kernel) rfl
theorem ok_D_leave : cd_okB y_D_leave cw_D_leave b_D_leave 2 none [] 1 := ⟨Or.inl ⟨rfl, rfl⟩, tw_315, tw_1, ⟨by decide, by decide⟩, by decide +kernel⟩
abbrev b_L_set : ByteArray := method_11_code
def y_L_set : MethodName := ⟨"CommitDeskLaw", "set", "(LCommitDesk;IJ)I"⟩
abbrev cw_L_set : Cond := .codeWith y_L_set b_L_set 5 (some FieldType.int) [(0, 6, 9, 21)]
theorem tw_318 : (Cond.codeWith ({ cls := "CommitDeskLaw", name := "set", desc := "(LCommitDesk;IJ)I" } : MethodName) method_11_code (5 : Nat) (Option.some FieldType.int) [((0 : Nat), (6 : Nat), (9 : Nat), (21 : Nat))]) ∈ cd_TB := cd_in 329 (by decide +kernel) rfl
theorem ok_L_set : cd_okB y_L_set cw_L_set b_L_set 5 (some FieldType.int) [(0, 6, 9, 21)] 3 := ⟨Or.inr rfl, tw_318, tw_0, ⟨by decide, by decide⟩, by decide +kernel⟩
abbrev b_D_set : ByteArray := prog_1_method_17_code
def y_D_set : MethodName := ⟨"CommitDesk", "set", "(IJ)V"⟩
abbrev cw_D_set : Cond := .code y_D_set b_D_set 4 none
theorem tw_322 : (Cond.code ({ cls := "CommitDesk", name := "set", desc := "(IJ)V" } : MethodName) prog_1_method_17_code (4 : Nat) (Option.none : Option FieldType)) ∈ cd_TB := cd_in 333 (by decide +kernel) rfl
theorem ok_D_set : cd_okB y_D_set cw_D_set b_D_set 4 none [] 2 := ⟨Or.inl ⟨rfl, rfl⟩, tw_322, tw_1, ⟨by decide, by decide⟩, by decide +kernel⟩
abbrev b_L_cell : ByteArray := method_12_code
def y_L_cell : MethodName := ⟨"CommitDeskLaw", "cell", "(LCommitDesk;I[J)I"⟩
abbrev cw_L_cell : Cond := .codeWith y_L_cell b_L_cell 4 (some FieldType.int) [(0, 8, 11, 21)]
theorem tw_325 : (Cond.codeWith ({ cls := "CommitDeskLaw", name := "cell", desc := "(LCommitDesk;I[J)I" } : MethodName) method_12_code (4 : Nat) (Option.some FieldType.int) [((0 : Nat), (8 : Nat), (11 : Nat), (21 : Nat))]) ∈ cd_TB := cd_in 336 (by decide +kernel) rfl
theorem ok_L_cell : cd_okB y_L_cell cw_L_cell b_L_cell 4 (some FieldType.int) [(0, 8, 11, 21)] 3 := ⟨Or.inr rfl, tw_325, tw_0, ⟨by decide, by decide⟩, by decide +kernel⟩
abbrev b_D_cell : ByteArray := prog_1_method_18_code
def y_D_cell : MethodName := ⟨"CommitDesk", "cell", "(I)J"⟩
abbrev cw_D_cell : Cond := .code y_D_cell b_D_cell 2 (some FieldType.long)
theorem tw_329 : (Cond.code ({ cls := "CommitDesk", name := "cell", desc := "(I)J" } : MethodName) prog_1_method_18_code (2 : Nat) (Option.some FieldType.long)) ∈ cd_TB := cd_in 340 (by decide +kernel) rfl
theorem ok_D_cell : cd_okB y_D_cell cw_D_cell b_D_cell 2 (some FieldType.long) [] 1 := ⟨Or.inl ⟨rfl, rfl⟩, tw_329, tw_1, ⟨by decide, by decide⟩, by decide +kernel⟩
abbrev b_L_changed : ByteArray := method_13_code
def y_L_changed : MethodName := ⟨"CommitDeskLaw", "changed", "(LCommitDesk;I[J)I"⟩
abbrev cw_L_changed : Cond := .codeWith y_L_changed b_L_changed 4 (some FieldType.int) [(0, 9, 12, 21)]
theorem tw_332 : (Cond.codeWith ({ cls := "CommitDeskLaw", name := "changed", desc := "(LCommitDesk;I[J)I" } : MethodName) method_13_code (4 : Nat) (Option.some FieldType.int) [((0 : Nat), (9 : Nat), (12 : Nat), (21 : Nat))]) ∈ cd_TB := cd_in 343 (by decide +kernel) rfl
theorem ok_L_changed : cd_okB y_L_changed cw_L_changed b_L_changed 4 (some FieldType.int) [(0, 9, 12, 21)] 3 := ⟨Or.inr rfl, tw_332, tw_0, ⟨by decide, by decide⟩, by decide +kernel⟩
abbrev b_D_changed : ByteArray := prog_1_method_19_code
def y_D_changed : MethodName := ⟨"CommitDesk", "changed", "(I)I"⟩
abbrev cw_D_changed : Cond := .code y_D_changed b_D_changed 2 (some FieldType.int)
theorem tw_336 : (Cond.code ({ cls := "CommitDesk", name := "changed", desc := "(I)I" } : MethodName) prog_1_method_19_code (2 : Nat) (Option.some FieldType.int)) ∈ cd_TB := cd_in 347 (by decide +kernel) rfl
theorem ok_D_changed : cd_okB y_D_changed cw_D_changed b_D_changed 2 (some FieldType.int) [] 1 := ⟨Or.inl ⟨rfl, rfl⟩, tw_336, tw_1, ⟨by decide, by decide⟩, by decide +kernel⟩
abbrev b_L_count : ByteArray := method_14_code
def y_L_count : MethodName := ⟨"CommitDeskLaw", "count", "(LCommitDesk;II[J)I"⟩
abbrev cw_L_count : Cond := .codeWith y_L_count b_L_count 5 (some FieldType.int) [(0, 10, 13, 13), (0, 10, 17, 15)]
theorem tw_339 : (Cond.codeWith ({ cls := "CommitDeskLaw", name := "count", desc := "(LCommitDesk;II[J)I" } : MethodName) method_14_code (5 : Nat) (Option.some FieldType.int) [((0 : Nat), (10 : Nat), (13 : Nat), (13 : Nat)), ((0 : Nat), (10 : Nat), (17 : Nat), (15 : Nat))]) ∈ cd_TB := cd_in 350 (by decide +kernel) rfl
theorem ok_L_count : cd_okB y_L_count cw_L_count b_L_count 5 (some FieldType.int) [(0, 10, 13, 13), (0, 10, 17, 15)] 4 := ⟨Or.inr rfl, tw_339, tw_0, ⟨by decide, by decide⟩, by decide +kernel⟩
abbrev b_D_count : ByteArray := prog_1_method_20_code
def y_D_count : MethodName := ⟨"CommitDesk", "count", "(II)I"⟩
abbrev cw_D_count : Cond := .code y_D_count b_D_count 4 (some FieldType.int)
theorem tw_343 : (Cond.code ({ cls := "CommitDesk", name := "count", desc := "(II)I" } : MethodName) prog_1_method_20_code (4 : Nat) (Option.some FieldType.int)) ∈ cd_TB := cd_in 354 (by decide +kernel) rfl
theorem ok_D_count : cd_okB y_D_count cw_D_count b_D_count 4 (some FieldType.int) [] 2 := ⟨Or.inl ⟨rfl, rfl⟩, tw_343, tw_1, ⟨by decide, by decide⟩, by decide +kernel⟩
abbrev b_I_bitCount : ByteArray := prog_9_method_49_code
def y_I_bitCount : MethodName := ⟨"java/lang/Integer", "bitCount", "(I)I"⟩
abbrev cw_I_bitCount : Cond := .code y_I_bitCount b_I_bitCount 1 (some FieldType.int)
theorem tw_11 : (Cond.initialized "java/lang/Integer") ∈ cd_TB := cd_in 22 (by decide +kernel) rfl
theorem tw_346 : (Cond.code ({ cls := "java/lang/Integer", name := "bitCount", desc := "(I)I" } : MethodName) prog_9_method_49_code (1 : Nat) (Option.some FieldType.int)) ∈ cd_TB := cd_in 357 (by decide +kernel) rfl
theorem ok_I_bitCount : cd_okB y_I_bitCount cw_I_bitCount b_I_bitCount 1 (some FieldType.int) [] 1 := ⟨Or.inl ⟨rfl, rfl⟩, tw_346, tw_11, ⟨by decide, by decide⟩, by decide +kernel⟩
abbrev b_W_written : ByteArray := prog_2_method_14_code
def y_W_written : MethodName := ⟨"CommitDesk$Work", "written", "()I"⟩
abbrev cw_W_written : Cond := .code y_W_written b_W_written 3 (some FieldType.int)
theorem tw_353 : (Cond.code ({ cls := "CommitDesk$Work", name := "written", desc := "()I" } : MethodName) prog_2_method_14_code (3 : Nat) (Option.some FieldType.int)) ∈ cd_TB := cd_in 364 (by decide +kernel) rfl
theorem ok_W_written : cd_okB y_W_written cw_W_written b_W_written 3 (some FieldType.int) [] 0 := ⟨Or.inl ⟨rfl, rfl⟩, tw_353, tw_2, ⟨by decide, by decide⟩, by decide +kernel⟩
abbrev b_L_all : ByteArray := method_15_code
def y_L_all : MethodName := ⟨"CommitDeskLaw", "all", "(LCommitDesk;I[J)I"⟩
abbrev cw_L_all : Cond := .codeWith y_L_all b_L_all 4 (some FieldType.int) [(0, 9, 12, 13)]
theorem tw_357 : (Cond.codeWith ({ cls := "CommitDeskLaw", name := "all", desc := "(LCommitDesk;I[J)I" } : MethodName) method_15_code (4 : Nat) (Option.some FieldType.int) [((0 : Nat), (9 : Nat), (12 : Nat), (13 : Nat))]) ∈ cd_TB := cd_in 368 (by decide +kernel) rfl
theorem ok_L_all : cd_okB y_L_all cw_L_all b_L_all 4 (some FieldType.int) [(0, 9, 12, 13)] 3 := ⟨Or.inr rfl, tw_357, tw_0, ⟨by decide, by decide⟩, by decide +kernel⟩
abbrev b_D_all : ByteArray := prog_1_method_21_code
def y_D_all : MethodName := ⟨"CommitDesk", "all", "(I)I"⟩
abbrev cw_D_all : Cond := .code y_D_all b_D_all 4 (some FieldType.int)
theorem tw_361 : (Cond.code ({ cls := "CommitDesk", name := "all", desc := "(I)I" } : MethodName) prog_1_method_21_code (4 : Nat) (Option.some FieldType.int)) ∈ cd_TB := cd_in 372 (by decide +kernel) rfl
theorem ok_D_all : cd_okB y_D_all cw_D_all b_D_all 4 (some FieldType.int) [] 1 := ⟨Or.inl ⟨rfl, rfl⟩, tw_361, tw_1, ⟨by decide, by decide⟩, by decide +kernel⟩
abbrev b_M_init : ByteArray := prog_4_method_1_code
def y_M_init : MethodName := ⟨"CommitDeskModel", "<init>", "()V"⟩
abbrev cw_M_init : Cond := .code y_M_init b_M_init 1 none
theorem tw_3 : (Cond.initialized "CommitDeskModel") ∈ cd_TB := cd_in 14 (by decide +kernel) rfl
theorem tw_366 : (Cond.code ({ cls := "CommitDeskModel", name := "<init>", desc := "()V" } : MethodName) prog_4_method_1_code (1 : Nat) (Option.none : Option FieldType)) ∈ cd_TB := cd_in 377 (by decide +kernel) rfl
theorem ok_M_init : cd_okB y_M_init cw_M_init b_M_init 1 none [] 0 := ⟨Or.inl ⟨rfl, rfl⟩, tw_366, tw_3, ⟨by decide, by decide⟩, by decide +kernel⟩
abbrev b_M_thrown : ByteArray := prog_4_method_2_code
def y_M_thrown : MethodName := ⟨"CommitDeskModel", "thrown", "()I"⟩
abbrev cw_M_thrown : Cond := .code y_M_thrown b_M_thrown 1 (some FieldType.int)
theorem tw_406 : (Cond.code ({ cls := "CommitDeskModel", name := "thrown", desc := "()I" } : MethodName) prog_4_method_2_code (1 : Nat) (Option.some FieldType.int)) ∈ cd_TB := cd_in 417 (by decide +kernel) rfl
theorem ok_M_thrown : cd_okB y_M_thrown cw_M_thrown b_M_thrown 1 (some FieldType.int) [] 0 := ⟨Or.inl ⟨rfl, rfl⟩, tw_406, tw_3, ⟨by decide, by decide⟩, by decide +kernel⟩
abbrev b_M_begin : ByteArray := prog_4_method_10_code
def y_M_begin : MethodName := ⟨"CommitDeskModel", "begin", "(I)V"⟩
abbrev cw_M_begin : Cond := .code y_M_begin b_M_begin 3 none
theorem tw_410 : (Cond.code ({ cls := "CommitDeskModel", name := "begin", desc := "(I)V" } : MethodName) prog_4_method_10_code (3 : Nat) (Option.none : Option FieldType)) ∈ cd_TB := cd_in 421 (by decide +kernel) rfl
theorem ok_M_begin : cd_okB y_M_begin cw_M_begin b_M_begin 3 none [] 1 := ⟨Or.inl ⟨rfl, rfl⟩, tw_410, tw_3, ⟨by decide, by decide⟩, by decide +kernel⟩
abbrev b_M_isOne : ByteArray := prog_4_method_5_code
def y_M_isOne : MethodName := ⟨"CommitDeskModel", "isOne", "(I)Z"⟩
abbrev cw_M_isOne : Cond := .code y_M_isOne b_M_isOne 1 (some FieldType.boolean)
theorem tw_413 : (Cond.code ({ cls := "CommitDeskModel", name := "isOne", desc := "(I)Z" } : MethodName) prog_4_method_5_code (1 : Nat) (Option.some FieldType.boolean)) ∈ cd_TB := cd_in 424 (by decide +kernel) rfl
theorem ok_M_isOne : cd_okB y_M_isOne cw_M_isOne b_M_isOne 1 (some FieldType.boolean) [] 1 := ⟨Or.inl ⟨rfl, rfl⟩, tw_413, tw_3, ⟨by decide, by decide⟩, by decide +kernel⟩
abbrev b_M_in : ByteArray := prog_4_method_3_code
def y_M_in : MethodName := ⟨"CommitDeskModel", "in", "(JJJ)Z"⟩
abbrev cw_M_in : Cond := .code y_M_in b_M_in 6 (some FieldType.boolean)
theorem tw_417 : (Cond.code ({ cls := "CommitDeskModel", name := "in", desc := "(JJJ)Z" } : MethodName) prog_4_method_3_code (6 : Nat) (Option.some FieldType.boolean)) ∈ cd_TB := cd_in 428 (by decide +kernel) rfl
theorem ok_M_in : cd_okB y_M_in cw_M_in b_M_in 6 (some FieldType.boolean) [] 3 := ⟨Or.inl ⟨rfl, rfl⟩, tw_417, tw_3, ⟨by decide, by decide⟩, by decide +kernel⟩
abbrev b_M_fails : ByteArray := prog_4_method_4_code
def y_M_fails : MethodName := ⟨"CommitDeskModel", "fails", "(ZI)Z"⟩
abbrev cw_M_fails : Cond := .code y_M_fails b_M_fails 3 (some FieldType.boolean)
theorem tw_421 : (Cond.code ({ cls := "CommitDeskModel", name := "fails", desc := "(ZI)Z" } : MethodName) prog_4_method_4_code (3 : Nat) (Option.some FieldType.boolean)) ∈ cd_TB := cd_in 432 (by decide +kernel) rfl
theorem ok_M_fails : cd_okB y_M_fails cw_M_fails b_M_fails 3 (some FieldType.boolean) [] 2 := ⟨Or.inl ⟨rfl, rfl⟩, tw_421, tw_3, ⟨by decide, by decide⟩, by decide +kernel⟩
abbrev b_M_last : ByteArray := prog_4_method_7_code
def y_M_last : MethodName := ⟨"CommitDeskModel", "last", "(II)I"⟩
abbrev cw_M_last : Cond := .code y_M_last b_M_last 3 (some FieldType.int)
theorem tw_425 : (Cond.code ({ cls := "CommitDeskModel", name := "last", desc := "(II)I" } : MethodName) prog_4_method_7_code (3 : Nat) (Option.some FieldType.int)) ∈ cd_TB := cd_in 436 (by decide +kernel) rfl
theorem ok_M_last : cd_okB y_M_last cw_M_last b_M_last 3 (some FieldType.int) [] 2 := ⟨Or.inl ⟨rfl, rfl⟩, tw_425, tw_3, ⟨by decide, by decide⟩, by decide +kernel⟩
abbrev b_M_read : ByteArray := prog_4_method_11_code
def y_M_read : MethodName := ⟨"CommitDeskModel", "read", "(II)J"⟩
abbrev cw_M_read : Cond := .code y_M_read b_M_read 3 (some FieldType.long)
theorem tw_429 : (Cond.code ({ cls := "CommitDeskModel", name := "read", desc := "(II)J" } : MethodName) prog_4_method_11_code (3 : Nat) (Option.some FieldType.long)) ∈ cd_TB := cd_in 440 (by decide +kernel) rfl
theorem ok_M_read : cd_okB y_M_read cw_M_read b_M_read 3 (some FieldType.long) [] 2 := ⟨Or.inl ⟨rfl, rfl⟩, tw_429, tw_3, ⟨by decide, by decide⟩, by decide +kernel⟩
abbrev b_M_isCell : ByteArray := prog_4_method_6_code
def y_M_isCell : MethodName := ⟨"CommitDeskModel", "isCell", "(I)Z"⟩
abbrev cw_M_isCell : Cond := .code y_M_isCell b_M_isCell 1 (some FieldType.boolean)
theorem tw_432 : (Cond.code ({ cls := "CommitDeskModel", name := "isCell", desc := "(I)Z" } : MethodName) prog_4_method_6_code (1 : Nat) (Option.some FieldType.boolean)) ∈ cd_TB := cd_in 443 (by decide +kernel) rfl
theorem ok_M_isCell : cd_okB y_M_isCell cw_M_isCell b_M_isCell 1 (some FieldType.boolean) [] 1 := ⟨Or.inl ⟨rfl, rfl⟩, tw_432, tw_3, ⟨by decide, by decide⟩, by decide +kernel⟩
abbrev b_M_isStale : ByteArray := prog_4_method_8_code
def y_M_isStale : MethodName := ⟨"CommitDeskModel", "isStale", "(I)Z"⟩
abbrev cw_M_isStale : Cond := .code y_M_isStale b_M_isStale 3 (some FieldType.boolean)
theorem tw_437 : (Cond.code ({ cls := "CommitDeskModel", name := "isStale", desc := "(I)Z" } : MethodName) prog_4_method_8_code (3 : Nat) (Option.some FieldType.boolean)) ∈ cd_TB := cd_in 448 (by decide +kernel) rfl
theorem ok_M_isStale : cd_okB y_M_isStale cw_M_isStale b_M_isStale 3 (some FieldType.boolean) [] 1 := ⟨Or.inl ⟨rfl, rfl⟩, tw_437, tw_3, ⟨by decide, by decide⟩, by decide +kernel⟩
abbrev b_M_write : ByteArray := prog_4_method_12_code
def y_M_write : MethodName := ⟨"CommitDeskModel", "write", "(IIJ)V"⟩
abbrev cw_M_write : Cond := .code y_M_write b_M_write 5 none
theorem tw_441 : (Cond.code ({ cls := "CommitDeskModel", name := "write", desc := "(IIJ)V" } : MethodName) prog_4_method_12_code (5 : Nat) (Option.none : Option FieldType)) ∈ cd_TB := cd_in 452 (by decide +kernel) rfl
theorem ok_M_write : cd_okB y_M_write cw_M_write b_M_write 5 none [] 3 := ⟨Or.inl ⟨rfl, rfl⟩, tw_441, tw_3, ⟨by decide, by decide⟩, by decide +kernel⟩
abbrev b_M_save : ByteArray := prog_4_method_14_code
def y_M_save : MethodName := ⟨"CommitDeskModel", "save", "(I)I"⟩
abbrev cw_M_save : Cond := .code y_M_save b_M_save 2 (some FieldType.int)
theorem tw_445 : (Cond.code ({ cls := "CommitDeskModel", name := "save", desc := "(I)I" } : MethodName) prog_4_method_14_code (2 : Nat) (Option.some FieldType.int)) ∈ cd_TB := cd_in 456 (by decide +kernel) rfl
theorem ok_M_save : cd_okB y_M_save cw_M_save b_M_save 2 (some FieldType.int) [] 1 := ⟨Or.inl ⟨rfl, rfl⟩, tw_445, tw_3, ⟨by decide, by decide⟩, by decide +kernel⟩
abbrev b_M_copy : ByteArray := prog_4_method_13_code
def y_M_copy : MethodName := ⟨"CommitDeskModel", "copy", "(II)V"⟩
abbrev cw_M_copy : Cond := .code y_M_copy b_M_copy 4 none
theorem tw_449 : (Cond.code ({ cls := "CommitDeskModel", name := "copy", desc := "(II)V" } : MethodName) prog_4_method_13_code (4 : Nat) (Option.none : Option FieldType)) ∈ cd_TB := cd_in 460 (by decide +kernel) rfl
theorem ok_M_copy : cd_okB y_M_copy cw_M_copy b_M_copy 4 none [] 2 := ⟨Or.inl ⟨rfl, rfl⟩, tw_449, tw_3, ⟨by decide, by decide⟩, by decide +kernel⟩
abbrev b_M_back : ByteArray := prog_4_method_15_code
def y_M_back : MethodName := ⟨"CommitDeskModel", "back", "(I)V"⟩
abbrev cw_M_back : Cond := .code y_M_back b_M_back 2 none
theorem tw_453 : (Cond.code ({ cls := "CommitDeskModel", name := "back", desc := "(I)V" } : MethodName) prog_4_method_15_code (2 : Nat) (Option.none : Option FieldType)) ∈ cd_TB := cd_in 464 (by decide +kernel) rfl
theorem ok_M_back : cd_okB y_M_back cw_M_back b_M_back 2 none [] 1 := ⟨Or.inl ⟨rfl, rfl⟩, tw_453, tw_3, ⟨by decide, by decide⟩, by decide +kernel⟩
abbrev b_M_keep : ByteArray := prog_4_method_16_code
def y_M_keep : MethodName := ⟨"CommitDeskModel", "keep", "(I)V"⟩
abbrev cw_M_keep : Cond := .code y_M_keep b_M_keep 2 none
theorem tw_457 : (Cond.code ({ cls := "CommitDeskModel", name := "keep", desc := "(I)V" } : MethodName) prog_4_method_16_code (2 : Nat) (Option.none : Option FieldType)) ∈ cd_TB := cd_in 468 (by decide +kernel) rfl
theorem ok_M_keep : cd_okB y_M_keep cw_M_keep b_M_keep 2 none [] 1 := ⟨Or.inl ⟨rfl, rfl⟩, tw_457, tw_3, ⟨by decide, by decide⟩, by decide +kernel⟩
abbrev b_M_done : ByteArray := prog_4_method_17_code
def y_M_done : MethodName := ⟨"CommitDeskModel", "done", "(I)Z"⟩
abbrev cw_M_done : Cond := .code y_M_done b_M_done 3 (some FieldType.boolean)
theorem tw_461 : (Cond.code ({ cls := "CommitDeskModel", name := "done", desc := "(I)Z" } : MethodName) prog_4_method_17_code (3 : Nat) (Option.some FieldType.boolean)) ∈ cd_TB := cd_in 472 (by decide +kernel) rfl
theorem ok_M_done : cd_okB y_M_done cw_M_done b_M_done 3 (some FieldType.boolean) [] 1 := ⟨Or.inl ⟨rfl, rfl⟩, tw_461, tw_3, ⟨by decide, by decide⟩, by decide +kernel⟩
abbrev b_M_change : ByteArray := prog_4_method_9_code
def y_M_change : MethodName := ⟨"CommitDeskModel", "change", "(IJ)V"⟩
abbrev cw_M_change : Cond := .code y_M_change b_M_change 4 none
theorem tw_465 : (Cond.code ({ cls := "CommitDeskModel", name := "change", desc := "(IJ)V" } : MethodName) prog_4_method_9_code (4 : Nat) (Option.none : Option FieldType)) ∈ cd_TB := cd_in 476 (by decide +kernel) rfl
theorem ok_M_change : cd_okB y_M_change cw_M_change b_M_change 4 none [] 2 := ⟨Or.inl ⟨rfl, rfl⟩, tw_465, tw_3, ⟨by decide, by decide⟩, by decide +kernel⟩
abbrev b_M_leave : ByteArray := prog_4_method_18_code
def y_M_leave : MethodName := ⟨"CommitDeskModel", "leave", "(I)V"⟩
abbrev cw_M_leave : Cond := .code y_M_leave b_M_leave 2 none
theorem tw_469 : (Cond.code ({ cls := "CommitDeskModel", name := "leave", desc := "(I)V" } : MethodName) prog_4_method_18_code (2 : Nat) (Option.none : Option FieldType)) ∈ cd_TB := cd_in 480 (by decide +kernel) rfl
theorem ok_M_leave : cd_okB y_M_leave cw_M_leave b_M_leave 2 none [] 1 := ⟨Or.inl ⟨rfl, rfl⟩, tw_469, tw_3, ⟨by decide, by decide⟩, by decide +kernel⟩
abbrev b_M_set : ByteArray := prog_4_method_19_code
def y_M_set : MethodName := ⟨"CommitDeskModel", "set", "(IJ)V"⟩
abbrev cw_M_set : Cond := .code y_M_set b_M_set 4 none
theorem tw_473 : (Cond.code ({ cls := "CommitDeskModel", name := "set", desc := "(IJ)V" } : MethodName) prog_4_method_19_code (4 : Nat) (Option.none : Option FieldType)) ∈ cd_TB := cd_in 484 (by decide +kernel) rfl
theorem ok_M_set : cd_okB y_M_set cw_M_set b_M_set 4 none [] 2 := ⟨Or.inl ⟨rfl, rfl⟩, tw_473, tw_3, ⟨by decide, by decide⟩, by decide +kernel⟩
abbrev b_M_cell : ByteArray := prog_4_method_20_code
def y_M_cell : MethodName := ⟨"CommitDeskModel", "cell", "(I)J"⟩
abbrev cw_M_cell : Cond := .code y_M_cell b_M_cell 2 (some FieldType.long)
theorem tw_477 : (Cond.code ({ cls := "CommitDeskModel", name := "cell", desc := "(I)J" } : MethodName) prog_4_method_20_code (2 : Nat) (Option.some FieldType.long)) ∈ cd_TB := cd_in 488 (by decide +kernel) rfl
theorem ok_M_cell : cd_okB y_M_cell cw_M_cell b_M_cell 2 (some FieldType.long) [] 1 := ⟨Or.inl ⟨rfl, rfl⟩, tw_477, tw_3, ⟨by decide, by decide⟩, by decide +kernel⟩
abbrev b_M_changed : ByteArray := prog_4_method_21_code
def y_M_changed : MethodName := ⟨"CommitDeskModel", "changed", "(I)I"⟩
abbrev cw_M_changed : Cond := .code y_M_changed b_M_changed 2 (some FieldType.int)
theorem tw_481 : (Cond.code ({ cls := "CommitDeskModel", name := "changed", desc := "(I)I" } : MethodName) prog_4_method_21_code (2 : Nat) (Option.some FieldType.int)) ∈ cd_TB := cd_in 492 (by decide +kernel) rfl
theorem ok_M_changed : cd_okB y_M_changed cw_M_changed b_M_changed 2 (some FieldType.int) [] 1 := ⟨Or.inl ⟨rfl, rfl⟩, tw_481, tw_3, ⟨by decide, by decide⟩, by decide +kernel⟩
abbrev b_M_count : ByteArray := prog_4_method_22_code
def y_M_count : MethodName := ⟨"CommitDeskModel", "count", "(II)I"⟩
abbrev cw_M_count : Cond := .code y_M_count b_M_count 5 (some FieldType.int)
theorem tw_485 : (Cond.code ({ cls := "CommitDeskModel", name := "count", desc := "(II)I" } : MethodName) prog_4_method_22_code (5 : Nat) (Option.some FieldType.int)) ∈ cd_TB := cd_in 496 (by decide +kernel) rfl
theorem ok_M_count : cd_okB y_M_count cw_M_count b_M_count 5 (some FieldType.int) [] 2 := ⟨Or.inl ⟨rfl, rfl⟩, tw_485, tw_3, ⟨by decide, by decide⟩, by decide +kernel⟩
abbrev b_M_all : ByteArray := prog_4_method_23_code
def y_M_all : MethodName := ⟨"CommitDeskModel", "all", "(I)I"⟩
abbrev cw_M_all : Cond := .code y_M_all b_M_all 4 (some FieldType.int)
theorem tw_490 : (Cond.code ({ cls := "CommitDeskModel", name := "all", desc := "(I)I" } : MethodName) prog_4_method_23_code (4 : Nat) (Option.some FieldType.int)) ∈ cd_TB := cd_in 501 (by decide +kernel) rfl
theorem ok_M_all : cd_okB y_M_all cw_M_all b_M_all 4 (some FieldType.int) [] 1 := ⟨Or.inl ⟨rfl, rfl⟩, tw_490, tw_3, ⟨by decide, by decide⟩, by decide +kernel⟩
theorem tw_12 : (Cond.classLink "CommitDeskLaw" (8 : Nat) "CommitDesk") ∈ cd_TB := cd_in 23 (by decide +kernel) rfl
theorem cl_L_8 : Cond.classLink "CommitDeskLaw" 8 "CommitDesk" ∈ cd_TB := tw_12
theorem tw_14 : (Cond.methodLink "CommitDeskLaw" (64 : Nat) ({ cls := "CommitDesk", name := "<init>", desc := "()V" } : MethodName)) ∈ cd_TB := cd_in 25 (by decide +kernel) rfl
theorem tw_15 : (Cond.instanceMethod ({ cls := "CommitDesk", name := "<init>", desc := "()V" } : MethodName)) ∈ cd_TB := cd_in 26 (by decide +kernel) rfl
theorem ci_L_64 : cd_okB y_D_init (.code y_D_init b_D_init 2 none) b_D_init 2 none [] 0 ∧ (Cond.methodLink "CommitDeskLaw" 64 y_D_init ∈ cd_TB ∨ ∃ host, Cond.methodLinkNest "CommitDeskLaw" 64 y_D_init host ∈ cd_TB) ∧ Cond.instanceMethod y_D_init ∈ cd_TB ∧ y_D_init.name = "<init>" := ⟨ok_D_init, Or.inl tw_14, tw_15, rfl⟩
theorem tw_17 : (Cond.methodLink "CommitDesk" (1 : Nat) ({ cls := "java/lang/Object", name := "<init>", desc := "()V" } : MethodName)) ∈ cd_TB := cd_in 28 (by decide +kernel) rfl
theorem ob_D_1 : Cond.methodLink "CommitDesk" 1 Lib.objectInit ∈ cd_TB := tw_17
theorem tw_20 : (Cond.classLink "CommitDesk" (17 : Nat) "CommitDesk$Work") ∈ cd_TB := cd_in 31 (by decide +kernel) rfl
theorem cl_D_17 : Cond.classLink "CommitDesk" 17 "CommitDesk$Work" ∈ cd_TB := tw_20
theorem tw_23 : (Cond.methodLinkNest "CommitDesk" (23 : Nat) ({ cls := "CommitDesk$Work", name := "<init>", desc := "()V" } : MethodName) "CommitDesk") ∈ cd_TB := cd_in 34 (by decide +kernel) rfl
theorem tw_24 : (Cond.instanceMethod ({ cls := "CommitDesk$Work", name := "<init>", desc := "()V" } : MethodName)) ∈ cd_TB := cd_in 35 (by decide +kernel) rfl
theorem ci_D_23 : cd_okB y_W_init (.code y_W_init b_W_init 1 none) b_W_init 1 none [] 0 ∧ (Cond.methodLink "CommitDesk" 23 y_W_init ∈ cd_TB ∨ ∃ host, Cond.methodLinkNest "CommitDesk" 23 y_W_init host ∈ cd_TB) ∧ Cond.instanceMethod y_W_init ∈ cd_TB ∧ y_W_init.name = "<init>" := ⟨ok_W_init, Or.inr ⟨"CommitDesk", tw_23⟩, tw_24, rfl⟩
theorem tw_26 : (Cond.methodLink "CommitDesk$Work" (3 : Nat) ({ cls := "java/lang/Object", name := "<init>", desc := "()V" } : MethodName)) ∈ cd_TB := cd_in 37 (by decide +kernel) rfl
theorem ob_W_3 : Cond.methodLink "CommitDesk$Work" 3 Lib.objectInit ∈ cd_TB := tw_26
theorem tw_27 : (Cond.fieldLink "CommitDesk$Work" (9 : Nat) "CommitDesk$Work" "cell" "[I") ∈ cd_TB := cd_in 38 (by decide +kernel) rfl
theorem fl_W_9 : Cond.fieldLink "CommitDesk$Work" 9 "CommitDesk$Work" "cell" "[I" ∈ cd_TB := tw_27
theorem tw_28 : (Cond.fieldLink "CommitDesk$Work" (15 : Nat) "CommitDesk$Work" "from" "[I") ∈ cd_TB := cd_in 39 (by decide +kernel) rfl
theorem fl_W_15 : Cond.fieldLink "CommitDesk$Work" 15 "CommitDesk$Work" "from" "[I" ∈ cd_TB := tw_28
theorem tw_29 : (Cond.fieldLink "CommitDesk$Work" (18 : Nat) "CommitDesk$Work" "value" "[J") ∈ cd_TB := cd_in 40 (by decide +kernel) rfl
theorem fl_W_18 : Cond.fieldLink "CommitDesk$Work" 18 "CommitDesk$Work" "value" "[J" ∈ cd_TB := tw_29
theorem tw_30 : (Cond.fieldLink "CommitDesk$Work" (22 : Nat) "CommitDesk$Work" "version" "[I") ∈ cd_TB := cd_in 41 (by decide +kernel) rfl
theorem fl_W_22 : Cond.fieldLink "CommitDesk$Work" 22 "CommitDesk$Work" "version" "[I" ∈ cd_TB := tw_30
theorem tw_31 : (Cond.fieldLink "CommitDesk$Work" (25 : Nat) "CommitDesk$Work" "open" "Z") ∈ cd_TB := cd_in 42 (by decide +kernel) rfl
theorem fl_W_25 : Cond.fieldLink "CommitDesk$Work" 25 "CommitDesk$Work" "open" "Z" ∈ cd_TB := tw_31
theorem tw_32 : (Cond.fieldLink "CommitDesk" (41 : Nat) "CommitDesk$Work" "open" "Z") ∈ cd_TB := cd_in 43 (by decide +kernel) rfl
theorem fl_D_41 : Cond.fieldLink "CommitDesk" 41 "CommitDesk$Work" "open" "Z" ∈ cd_TB := tw_32
theorem tw_33 : (Cond.fieldLink "CommitDesk$Work" (29 : Nat) "CommitDesk$Work" "parts" "I") ∈ cd_TB := cd_in 44 (by decide +kernel) rfl
theorem fl_W_29 : Cond.fieldLink "CommitDesk$Work" 29 "CommitDesk$Work" "parts" "I" ∈ cd_TB := tw_33
theorem tw_34 : (Cond.fieldLink "CommitDesk" (87 : Nat) "CommitDesk$Work" "parts" "I") ∈ cd_TB := cd_in 45 (by decide +kernel) rfl
theorem fl_D_87 : Cond.fieldLink "CommitDesk" 87 "CommitDesk$Work" "parts" "I" ∈ cd_TB := tw_34
theorem tw_35 : (Cond.fieldLink "CommitDesk$Work" (33 : Nat) "CommitDesk$Work" "read" "I") ∈ cd_TB := cd_in 46 (by decide +kernel) rfl
theorem fl_W_33 : Cond.fieldLink "CommitDesk$Work" 33 "CommitDesk$Work" "read" "I" ∈ cd_TB := tw_35
theorem tw_36 : (Cond.fieldLink "CommitDesk" (112 : Nat) "CommitDesk$Work" "read" "I") ∈ cd_TB := cd_in 47 (by decide +kernel) rfl
theorem fl_D_112 : Cond.fieldLink "CommitDesk" 112 "CommitDesk$Work" "read" "I" ∈ cd_TB := tw_36
theorem tw_37 : (Cond.fieldLink "CommitDesk$Work" (36 : Nat) "CommitDesk$Work" "many" "I") ∈ cd_TB := cd_in 48 (by decide +kernel) rfl
theorem fl_W_36 : Cond.fieldLink "CommitDesk$Work" 36 "CommitDesk$Work" "many" "I" ∈ cd_TB := tw_37
theorem tw_57 : (Cond.fieldLink "CommitDesk" (9 : Nat) "CommitDesk" "cells" "[J") ∈ cd_TB := cd_in 68 (by decide +kernel) rfl
theorem fl_D_9 : Cond.fieldLink "CommitDesk" 9 "CommitDesk" "cells" "[J" ∈ cd_TB := tw_57
theorem tw_58 : (Cond.fieldLink "CommitDesk" (13 : Nat) "CommitDesk" "versions" "[I") ∈ cd_TB := cd_in 69 (by decide +kernel) rfl
theorem fl_D_13 : Cond.fieldLink "CommitDesk" 13 "CommitDesk" "versions" "[I" ∈ cd_TB := tw_58
theorem tw_59 : (Cond.fieldLink "CommitDesk" (19 : Nat) "CommitDesk" "works" "[LCommitDesk$Work;") ∈ cd_TB := cd_in 70 (by decide +kernel) rfl
theorem fl_D_19 : Cond.fieldLink "CommitDesk" 19 "CommitDesk" "works" "[LCommitDesk$Work;" ∈ cd_TB := tw_59
theorem tw_60 : (Cond.fieldLink "CommitDesk" (99 : Nat) "CommitDesk" "done" "I") ∈ cd_TB := cd_in 71 (by decide +kernel) rfl
theorem fl_D_99 : Cond.fieldLink "CommitDesk" 99 "CommitDesk" "done" "I" ∈ cd_TB := tw_60
theorem tw_61 : (Cond.fieldLink "CommitDesk" (80 : Nat) "CommitDesk" "stale" "I") ∈ cd_TB := cd_in 72 (by decide +kernel) rfl
theorem fl_D_80 : Cond.fieldLink "CommitDesk" 80 "CommitDesk" "stale" "I" ∈ cd_TB := tw_61
theorem tw_73 : (Cond.methodLink "CommitDeskLaw" (68 : Nat) ({ cls := "CommitDeskLaw", name := "begin", desc := "(LCommitDesk;I)I" } : MethodName)) ∈ cd_TB := cd_in 84 (by decide +kernel) rfl
theorem tw_74 : (Cond.static ({ cls := "CommitDeskLaw", name := "begin", desc := "(LCommitDesk;I)I" } : MethodName)) ∈ cd_TB := cd_in 85 (by decide +kernel) rfl
theorem cs_L_68 : cd_okB y_L_begin cw_L_begin b_L_begin 3 (some FieldType.int) [(0, 5, 8, 13), (0, 5, 11, 15)] 2 ∧ Cond.methodLink "CommitDeskLaw" 68 y_L_begin ∈ cd_TB ∧ Cond.static y_L_begin ∈ cd_TB := ⟨ok_L_begin, tw_73, tw_74⟩
theorem tw_76 : (Cond.classLink "CommitDeskLaw" (13 : Nat) "java/lang/IllegalArgumentException") ∈ cd_TB := cd_in 87 (by decide +kernel) rfl
theorem cl_L_13 : Cond.classLink "CommitDeskLaw" 13 "java/lang/IllegalArgumentException" ∈ cd_TB := tw_76
theorem tw_77 : (Cond.classLink "CommitDeskLaw" (15 : Nat) "java/lang/IllegalStateException") ∈ cd_TB := cd_in 88 (by decide +kernel) rfl
theorem cl_L_15 : Cond.classLink "CommitDeskLaw" 15 "java/lang/IllegalStateException" ∈ cd_TB := tw_77
theorem tw_78 : (Cond.methodLink "CommitDeskLaw" (7 : Nat) ({ cls := "CommitDesk", name := "begin", desc := "(I)V" } : MethodName)) ∈ cd_TB := cd_in 89 (by decide +kernel) rfl
theorem tw_79 : (Cond.instanceMethod ({ cls := "CommitDesk", name := "begin", desc := "(I)V" } : MethodName)) ∈ cd_TB := cd_in 90 (by decide +kernel) rfl
theorem tw_80 : (Cond.selects "CommitDesk" ({ cls := "CommitDesk", name := "begin", desc := "(I)V" } : MethodName) ({ cls := "CommitDesk", name := "begin", desc := "(I)V" } : MethodName)) ∈ cd_TB := cd_in 91 (by decide +kernel) rfl
theorem cv_L_7 : cd_okB y_D_begin cw_D_begin b_D_begin 3 none [] 1 ∧ Cond.methodLink "CommitDeskLaw" 7 y_D_begin ∈ cd_TB ∧ Cond.instanceMethod y_D_begin ∈ cd_TB ∧ Cond.selects "CommitDesk" y_D_begin y_D_begin ∈ cd_TB := ⟨ok_D_begin, tw_78, tw_79, tw_80⟩
theorem tw_82 : (Cond.methodLink "CommitDesk" (37 : Nat) ({ cls := "CommitDesk", name := "work", desc := "(I)LCommitDesk$Work;" } : MethodName)) ∈ cd_TB := cd_in 93 (by decide +kernel) rfl
theorem tw_84 : (Cond.instanceMethod ({ cls := "CommitDesk", name := "work", desc := "(I)LCommitDesk$Work;" } : MethodName)) ∈ cd_TB := cd_in 95 (by decide +kernel) rfl
theorem ts_0 : Cond.selects "CommitDesk" ⟨"CommitDesk", "work", "(I)LCommitDesk$Work;"⟩ ⟨"CommitDesk", "work", "(I)LCommitDesk$Work;"⟩ ∈ cd_TB := cd_in 0 (by decide +kernel) rfl
theorem cv_D_37 : cd_okB y_D_work cw_D_work b_D_work 2 (some (FieldType.object "CommitDesk$Work")) [] 1 ∧ Cond.methodLink "CommitDesk" 37 y_D_work ∈ cd_TB ∧ Cond.instanceMethod y_D_work ∈ cd_TB ∧ Cond.selects "CommitDesk" y_D_work y_D_work ∈ cd_TB := ⟨ok_D_work, tw_82, tw_84, ts_0⟩
theorem tw_86 : (Cond.methodLink "CommitDesk" (33 : Nat) ({ cls := "CommitDesk", name := "good", desc := "(Z)V" } : MethodName)) ∈ cd_TB := cd_in 97 (by decide +kernel) rfl
theorem tw_87 : (Cond.static ({ cls := "CommitDesk", name := "good", desc := "(Z)V" } : MethodName)) ∈ cd_TB := cd_in 98 (by decide +kernel) rfl
theorem cs_D_33 : cd_okB y_D_good cw_D_good b_D_good 1 none [] 1 ∧ Cond.methodLink "CommitDesk" 33 y_D_good ∈ cd_TB ∧ Cond.static y_D_good ∈ cd_TB := ⟨ok_D_good, tw_86, tw_87⟩
theorem tw_89 : (Cond.classLink "CommitDesk" (24 : Nat) "java/lang/IllegalArgumentException") ∈ cd_TB := cd_in 100 (by decide +kernel) rfl
theorem cl_D_24 : Cond.classLink "CommitDesk" 24 "java/lang/IllegalArgumentException" ∈ cd_TB := tw_89
theorem tw_153 : (Cond.classLink "CommitDesk" (45 : Nat) "java/lang/IllegalStateException") ∈ cd_TB := cd_in 164 (by decide +kernel) rfl
theorem cl_D_45 : Cond.classLink "CommitDesk" 45 "java/lang/IllegalStateException" ∈ cd_TB := tw_153
theorem tw_168 : (Cond.methodLink "CommitDesk" (48 : Nat) ({ cls := "CommitDesk$Work", name := "begin", desc := "()V" } : MethodName)) ∈ cd_TB := cd_in 179 (by decide +kernel) rfl
theorem tw_169 : (Cond.instanceMethod ({ cls := "CommitDesk$Work", name := "begin", desc := "()V" } : MethodName)) ∈ cd_TB := cd_in 180 (by decide +kernel) rfl
theorem tw_170 : (Cond.selects "CommitDesk$Work" ({ cls := "CommitDesk$Work", name := "begin", desc := "()V" } : MethodName) ({ cls := "CommitDesk$Work", name := "begin", desc := "()V" } : MethodName)) ∈ cd_TB := cd_in 181 (by decide +kernel) rfl
theorem cv_D_48 : cd_okB y_W_begin cw_W_begin b_W_begin 1 none [] 0 ∧ Cond.methodLink "CommitDesk" 48 y_W_begin ∈ cd_TB ∧ Cond.instanceMethod y_W_begin ∈ cd_TB ∧ Cond.selects "CommitDesk$Work" y_W_begin y_W_begin ∈ cd_TB := ⟨ok_W_begin, tw_168, tw_169, tw_170⟩
theorem tw_172 : (Cond.methodLink "CommitDeskLaw" (78 : Nat) ({ cls := "CommitDeskLaw", name := "read", desc := "(LCommitDesk;II[J)I" } : MethodName)) ∈ cd_TB := cd_in 183 (by decide +kernel) rfl
theorem tw_173 : (Cond.static ({ cls := "CommitDeskLaw", name := "read", desc := "(LCommitDesk;II[J)I" } : MethodName)) ∈ cd_TB := cd_in 184 (by decide +kernel) rfl
theorem cs_L_78 : cd_okB y_L_read cw_L_read b_L_read 5 (some FieldType.int) [(0, 9, 12, 13), (0, 9, 16, 21), (0, 9, 20, 15), (0, 9, 24, 23)] 4 ∧ Cond.methodLink "CommitDeskLaw" 78 y_L_read ∈ cd_TB ∧ Cond.static y_L_read ∈ cd_TB := ⟨ok_L_read, tw_172, tw_173⟩
theorem tw_175 : (Cond.classLink "CommitDeskLaw" (21 : Nat) "java/lang/IndexOutOfBoundsException") ∈ cd_TB := cd_in 186 (by decide +kernel) rfl
theorem cl_L_21 : Cond.classLink "CommitDeskLaw" 21 "java/lang/IndexOutOfBoundsException" ∈ cd_TB := tw_175
theorem tw_176 : (Cond.classLink "CommitDeskLaw" (23 : Nat) "java/lang/UnsupportedOperationException") ∈ cd_TB := cd_in 187 (by decide +kernel) rfl
theorem cl_L_23 : Cond.classLink "CommitDeskLaw" 23 "java/lang/UnsupportedOperationException" ∈ cd_TB := tw_176
theorem tw_177 : (Cond.methodLink "CommitDeskLaw" (17 : Nat) ({ cls := "CommitDesk", name := "read", desc := "(II)J" } : MethodName)) ∈ cd_TB := cd_in 188 (by decide +kernel) rfl
theorem tw_178 : (Cond.instanceMethod ({ cls := "CommitDesk", name := "read", desc := "(II)J" } : MethodName)) ∈ cd_TB := cd_in 189 (by decide +kernel) rfl
theorem tw_179 : (Cond.selects "CommitDesk" ({ cls := "CommitDesk", name := "read", desc := "(II)J" } : MethodName) ({ cls := "CommitDesk", name := "read", desc := "(II)J" } : MethodName)) ∈ cd_TB := cd_in 190 (by decide +kernel) rfl
theorem cv_L_17 : cd_okB y_D_read cw_D_read b_D_read 5 (some FieldType.long) [] 2 ∧ Cond.methodLink "CommitDeskLaw" 17 y_D_read ∈ cd_TB ∧ Cond.instanceMethod y_D_read ∈ cd_TB ∧ Cond.selects "CommitDesk" y_D_read y_D_read ∈ cd_TB := ⟨ok_D_read, tw_177, tw_178, tw_179⟩
theorem tw_181 : (Cond.methodLink "CommitDesk" (51 : Nat) ({ cls := "CommitDesk", name := "there", desc := "(I)V" } : MethodName)) ∈ cd_TB := cd_in 192 (by decide +kernel) rfl
theorem tw_182 : (Cond.static ({ cls := "CommitDesk", name := "there", desc := "(I)V" } : MethodName)) ∈ cd_TB := cd_in 193 (by decide +kernel) rfl
theorem cs_D_51 : cd_okB y_D_there cw_D_there b_D_there 1 none [] 1 ∧ Cond.methodLink "CommitDesk" 51 y_D_there ∈ cd_TB ∧ Cond.static y_D_there ∈ cd_TB := ⟨ok_D_there, tw_181, tw_182⟩
theorem tw_184 : (Cond.classLink "CommitDesk" (27 : Nat) "java/lang/IndexOutOfBoundsException") ∈ cd_TB := cd_in 195 (by decide +kernel) rfl
theorem cl_D_27 : Cond.classLink "CommitDesk" 27 "java/lang/IndexOutOfBoundsException" ∈ cd_TB := tw_184
theorem tw_199 : (Cond.methodLink "CommitDesk" (55 : Nat) ({ cls := "CommitDesk", name := "open", desc := "(I)LCommitDesk$Work;" } : MethodName)) ∈ cd_TB := cd_in 210 (by decide +kernel) rfl
theorem tw_201 : (Cond.instanceMethod ({ cls := "CommitDesk", name := "open", desc := "(I)LCommitDesk$Work;" } : MethodName)) ∈ cd_TB := cd_in 212 (by decide +kernel) rfl
theorem ts_2 : Cond.selects "CommitDesk" ⟨"CommitDesk", "open", "(I)LCommitDesk$Work;"⟩ ⟨"CommitDesk", "open", "(I)LCommitDesk$Work;"⟩ ∈ cd_TB := cd_in 2 (by decide +kernel) rfl
theorem cv_D_55 : cd_okB y_D_open cw_D_open b_D_open 3 (some (FieldType.object "CommitDesk$Work")) [] 1 ∧ Cond.methodLink "CommitDesk" 55 y_D_open ∈ cd_TB ∧ Cond.instanceMethod y_D_open ∈ cd_TB ∧ Cond.selects "CommitDesk" y_D_open y_D_open ∈ cd_TB := ⟨ok_D_open, tw_199, tw_201, ts_2⟩
theorem tw_203 : (Cond.methodLink "CommitDesk" (57 : Nat) ({ cls := "CommitDesk$Work", name := "last", desc := "(I)I" } : MethodName)) ∈ cd_TB := cd_in 214 (by decide +kernel) rfl
theorem tw_204 : (Cond.instanceMethod ({ cls := "CommitDesk$Work", name := "last", desc := "(I)I" } : MethodName)) ∈ cd_TB := cd_in 215 (by decide +kernel) rfl
theorem tw_205 : (Cond.selects "CommitDesk$Work" ({ cls := "CommitDesk$Work", name := "last", desc := "(I)I" } : MethodName) ({ cls := "CommitDesk$Work", name := "last", desc := "(I)I" } : MethodName)) ∈ cd_TB := cd_in 216 (by decide +kernel) rfl
theorem cv_D_57 : cd_okB y_W_last cw_W_last b_W_last 2 (some FieldType.int) [] 1 ∧ Cond.methodLink "CommitDesk" 57 y_W_last ∈ cd_TB ∧ Cond.instanceMethod y_W_last ∈ cd_TB ∧ Cond.selects "CommitDesk$Work" y_W_last y_W_last ∈ cd_TB := ⟨ok_W_last, tw_203, tw_204, tw_205⟩
theorem tw_207 : (Cond.methodLink "CommitDesk$Work" (39 : Nat) ({ cls := "CommitDesk$Work", name := "find", desc := "(II)I" } : MethodName)) ∈ cd_TB := cd_in 218 (by decide +kernel) rfl
theorem tw_209 : (Cond.instanceMethod ({ cls := "CommitDesk$Work", name := "find", desc := "(II)I" } : MethodName)) ∈ cd_TB := cd_in 220 (by decide +kernel) rfl
theorem ts_3 : Cond.selects "CommitDesk$Work" ⟨"CommitDesk$Work", "find", "(II)I"⟩ ⟨"CommitDesk$Work", "find", "(II)I"⟩ ∈ cd_TB := cd_in 3 (by decide +kernel) rfl
theorem cv_W_39 : cd_okB y_W_find cw_W_find b_W_find 4 (some FieldType.int) [] 2 ∧ Cond.methodLink "CommitDesk$Work" 39 y_W_find ∈ cd_TB ∧ Cond.instanceMethod y_W_find ∈ cd_TB ∧ Cond.selects "CommitDesk$Work" y_W_find y_W_find ∈ cd_TB := ⟨ok_W_find, tw_207, tw_209, ts_3⟩
theorem tw_211 : (Cond.methodLink "CommitDesk" (61 : Nat) ({ cls := "CommitDesk$Work", name := "at", desc := "(I)J" } : MethodName)) ∈ cd_TB := cd_in 222 (by decide +kernel) rfl
theorem tw_212 : (Cond.instanceMethod ({ cls := "CommitDesk$Work", name := "at", desc := "(I)J" } : MethodName)) ∈ cd_TB := cd_in 223 (by decide +kernel) rfl
theorem tw_213 : (Cond.selects "CommitDesk$Work" ({ cls := "CommitDesk$Work", name := "at", desc := "(I)J" } : MethodName) ({ cls := "CommitDesk$Work", name := "at", desc := "(I)J" } : MethodName)) ∈ cd_TB := cd_in 224 (by decide +kernel) rfl
theorem cv_D_61 : cd_okB y_W_at cw_W_at b_W_at 2 (some FieldType.long) [] 1 ∧ Cond.methodLink "CommitDesk" 61 y_W_at ∈ cd_TB ∧ Cond.instanceMethod y_W_at ∈ cd_TB ∧ Cond.selects "CommitDesk$Work" y_W_at y_W_at ∈ cd_TB := ⟨ok_W_at, tw_211, tw_212, tw_213⟩
theorem tw_215 : (Cond.methodLink "CommitDesk" (65 : Nat) ({ cls := "CommitDesk", name := "isFresh", desc := "(LCommitDesk$Work;)Z" } : MethodName)) ∈ cd_TB := cd_in 226 (by decide +kernel) rfl
theorem tw_217 : (Cond.instanceMethod ({ cls := "CommitDesk", name := "isFresh", desc := "(LCommitDesk$Work;)Z" } : MethodName)) ∈ cd_TB := cd_in 228 (by decide +kernel) rfl
theorem ts_4 : Cond.selects "CommitDesk" ⟨"CommitDesk", "isFresh", "(LCommitDesk$Work;)Z"⟩ ⟨"CommitDesk", "isFresh", "(LCommitDesk$Work;)Z"⟩ ∈ cd_TB := cd_in 4 (by decide +kernel) rfl
theorem cv_D_65 : cd_okB y_D_isFresh cw_D_isFresh b_D_isFresh 2 (some FieldType.boolean) [] 1 ∧ Cond.methodLink "CommitDesk" 65 y_D_isFresh ∈ cd_TB ∧ Cond.instanceMethod y_D_isFresh ∈ cd_TB ∧ Cond.selects "CommitDesk" y_D_isFresh y_D_isFresh ∈ cd_TB := ⟨ok_D_isFresh, tw_215, tw_217, ts_4⟩
theorem tw_219 : (Cond.methodLink "CommitDesk" (76 : Nat) ({ cls := "CommitDesk$Work", name := "stale", desc := "([I)Z" } : MethodName)) ∈ cd_TB := cd_in 230 (by decide +kernel) rfl
theorem tw_220 : (Cond.instanceMethod ({ cls := "CommitDesk$Work", name := "stale", desc := "([I)Z" } : MethodName)) ∈ cd_TB := cd_in 231 (by decide +kernel) rfl
theorem tw_221 : (Cond.selects "CommitDesk$Work" ({ cls := "CommitDesk$Work", name := "stale", desc := "([I)Z" } : MethodName) ({ cls := "CommitDesk$Work", name := "stale", desc := "([I)Z" } : MethodName)) ∈ cd_TB := cd_in 232 (by decide +kernel) rfl
theorem cv_D_76 : cd_okB y_W_stale cw_W_stale b_W_stale 3 (some FieldType.boolean) [] 1 ∧ Cond.methodLink "CommitDesk" 76 y_W_stale ∈ cd_TB ∧ Cond.instanceMethod y_W_stale ∈ cd_TB ∧ Cond.selects "CommitDesk$Work" y_W_stale y_W_stale ∈ cd_TB := ⟨ok_W_stale, tw_219, tw_220, tw_221⟩
theorem tw_223 : (Cond.methodLink "CommitDesk" (69 : Nat) ({ cls := "CommitDesk", name := "can", desc := "(Z)V" } : MethodName)) ∈ cd_TB := cd_in 234 (by decide +kernel) rfl
theorem tw_224 : (Cond.static ({ cls := "CommitDesk", name := "can", desc := "(Z)V" } : MethodName)) ∈ cd_TB := cd_in 235 (by decide +kernel) rfl
theorem cs_D_69 : cd_okB y_D_can cw_D_can b_D_can 1 none [] 1 ∧ Cond.methodLink "CommitDesk" 69 y_D_can ∈ cd_TB ∧ Cond.static y_D_can ∈ cd_TB := ⟨ok_D_can, tw_223, tw_224⟩
theorem tw_226 : (Cond.classLink "CommitDesk" (30 : Nat) "java/lang/UnsupportedOperationException") ∈ cd_TB := cd_in 237 (by decide +kernel) rfl
theorem cl_D_30 : Cond.classLink "CommitDesk" 30 "java/lang/UnsupportedOperationException" ∈ cd_TB := tw_226
theorem tw_241 : (Cond.methodLink "CommitDesk" (72 : Nat) ({ cls := "CommitDesk$Work", name := "look", desc := "(II)V" } : MethodName)) ∈ cd_TB := cd_in 252 (by decide +kernel) rfl
theorem tw_242 : (Cond.instanceMethod ({ cls := "CommitDesk$Work", name := "look", desc := "(II)V" } : MethodName)) ∈ cd_TB := cd_in 253 (by decide +kernel) rfl
theorem tw_243 : (Cond.selects "CommitDesk$Work" ({ cls := "CommitDesk$Work", name := "look", desc := "(II)V" } : MethodName) ({ cls := "CommitDesk$Work", name := "look", desc := "(II)V" } : MethodName)) ∈ cd_TB := cd_in 254 (by decide +kernel) rfl
theorem cv_D_72 : cd_okB y_W_look cw_W_look b_W_look 3 none [] 2 ∧ Cond.methodLink "CommitDesk" 72 y_W_look ∈ cd_TB ∧ Cond.instanceMethod y_W_look ∈ cd_TB ∧ Cond.selects "CommitDesk$Work" y_W_look y_W_look ∈ cd_TB := ⟨ok_W_look, tw_241, tw_242, tw_243⟩
theorem tw_245 : (Cond.methodLink "CommitDeskLaw" (84 : Nat) ({ cls := "CommitDeskLaw", name := "write", desc := "(LCommitDesk;IIJ)I" } : MethodName)) ∈ cd_TB := cd_in 256 (by decide +kernel) rfl
theorem tw_246 : (Cond.static ({ cls := "CommitDeskLaw", name := "write", desc := "(LCommitDesk;IIJ)I" } : MethodName)) ∈ cd_TB := cd_in 257 (by decide +kernel) rfl
theorem cs_L_84 : cd_okB y_L_write cw_L_write b_L_write 6 (some FieldType.int) [(0, 7, 10, 13), (0, 7, 14, 21), (0, 7, 18, 15)] 4 ∧ Cond.methodLink "CommitDeskLaw" 84 y_L_write ∈ cd_TB ∧ Cond.static y_L_write ∈ cd_TB := ⟨ok_L_write, tw_245, tw_246⟩
theorem tw_248 : (Cond.methodLink "CommitDeskLaw" (25 : Nat) ({ cls := "CommitDesk", name := "write", desc := "(IIJ)V" } : MethodName)) ∈ cd_TB := cd_in 259 (by decide +kernel) rfl
theorem tw_249 : (Cond.instanceMethod ({ cls := "CommitDesk", name := "write", desc := "(IIJ)V" } : MethodName)) ∈ cd_TB := cd_in 260 (by decide +kernel) rfl
theorem tw_250 : (Cond.selects "CommitDesk" ({ cls := "CommitDesk", name := "write", desc := "(IIJ)V" } : MethodName) ({ cls := "CommitDesk", name := "write", desc := "(IIJ)V" } : MethodName)) ∈ cd_TB := cd_in 261 (by decide +kernel) rfl
theorem cv_L_25 : cd_okB y_D_write cw_D_write b_D_write 5 none [] 3 ∧ Cond.methodLink "CommitDeskLaw" 25 y_D_write ∈ cd_TB ∧ Cond.instanceMethod y_D_write ∈ cd_TB ∧ Cond.selects "CommitDesk" y_D_write y_D_write ∈ cd_TB := ⟨ok_D_write, tw_248, tw_249, tw_250⟩
theorem tw_252 : (Cond.methodLink "CommitDesk" (83 : Nat) ({ cls := "CommitDesk$Work", name := "write", desc := "(IJ)V" } : MethodName)) ∈ cd_TB := cd_in 263 (by decide +kernel) rfl
theorem tw_253 : (Cond.instanceMethod ({ cls := "CommitDesk$Work", name := "write", desc := "(IJ)V" } : MethodName)) ∈ cd_TB := cd_in 264 (by decide +kernel) rfl
theorem tw_254 : (Cond.selects "CommitDesk$Work" ({ cls := "CommitDesk$Work", name := "write", desc := "(IJ)V" } : MethodName) ({ cls := "CommitDesk$Work", name := "write", desc := "(IJ)V" } : MethodName)) ∈ cd_TB := cd_in 265 (by decide +kernel) rfl
theorem cv_D_83 : cd_okB y_W_write cw_W_write b_W_write 5 none [] 2 ∧ Cond.methodLink "CommitDesk" 83 y_W_write ∈ cd_TB ∧ Cond.instanceMethod y_W_write ∈ cd_TB ∧ Cond.selects "CommitDesk$Work" y_W_write y_W_write ∈ cd_TB := ⟨ok_W_write, tw_252, tw_253, tw_254⟩
theorem tw_256 : (Cond.methodLink "CommitDeskLaw" (88 : Nat) ({ cls := "CommitDeskLaw", name := "save", desc := "(LCommitDesk;I[J)I" } : MethodName)) ∈ cd_TB := cd_in 267 (by decide +kernel) rfl
theorem tw_257 : (Cond.static ({ cls := "CommitDeskLaw", name := "save", desc := "(LCommitDesk;I[J)I" } : MethodName)) ∈ cd_TB := cd_in 268 (by decide +kernel) rfl
theorem cs_L_88 : cd_okB y_L_save cw_L_save b_L_save 4 (some FieldType.int) [(0, 9, 12, 13), (0, 9, 15, 15), (0, 9, 18, 23)] 3 ∧ Cond.methodLink "CommitDeskLaw" 88 y_L_save ∈ cd_TB ∧ Cond.static y_L_save ∈ cd_TB := ⟨ok_L_save, tw_256, tw_257⟩
theorem tw_259 : (Cond.methodLink "CommitDeskLaw" (29 : Nat) ({ cls := "CommitDesk", name := "save", desc := "(I)I" } : MethodName)) ∈ cd_TB := cd_in 270 (by decide +kernel) rfl
theorem tw_260 : (Cond.instanceMethod ({ cls := "CommitDesk", name := "save", desc := "(I)I" } : MethodName)) ∈ cd_TB := cd_in 271 (by decide +kernel) rfl
theorem tw_261 : (Cond.selects "CommitDesk" ({ cls := "CommitDesk", name := "save", desc := "(I)I" } : MethodName) ({ cls := "CommitDesk", name := "save", desc := "(I)I" } : MethodName)) ∈ cd_TB := cd_in 272 (by decide +kernel) rfl
theorem cv_L_29 : cd_okB y_D_save cw_D_save b_D_save 3 (some FieldType.int) [] 1 ∧ Cond.methodLink "CommitDeskLaw" 29 y_D_save ∈ cd_TB ∧ Cond.instanceMethod y_D_save ∈ cd_TB ∧ Cond.selects "CommitDesk" y_D_save y_D_save ∈ cd_TB := ⟨ok_D_save, tw_259, tw_260, tw_261⟩
theorem tw_263 : (Cond.methodLink "CommitDesk" (90 : Nat) ({ cls := "CommitDesk$Work", name := "save", desc := "()V" } : MethodName)) ∈ cd_TB := cd_in 274 (by decide +kernel) rfl
theorem tw_264 : (Cond.instanceMethod ({ cls := "CommitDesk$Work", name := "save", desc := "()V" } : MethodName)) ∈ cd_TB := cd_in 275 (by decide +kernel) rfl
theorem tw_265 : (Cond.selects "CommitDesk$Work" ({ cls := "CommitDesk$Work", name := "save", desc := "()V" } : MethodName) ({ cls := "CommitDesk$Work", name := "save", desc := "()V" } : MethodName)) ∈ cd_TB := cd_in 276 (by decide +kernel) rfl
theorem cv_D_90 : cd_okB y_W_save cw_W_save b_W_save 1 none [] 0 ∧ Cond.methodLink "CommitDesk" 90 y_W_save ∈ cd_TB ∧ Cond.instanceMethod y_W_save ∈ cd_TB ∧ Cond.selects "CommitDesk$Work" y_W_save y_W_save ∈ cd_TB := ⟨ok_W_save, tw_263, tw_264, tw_265⟩
theorem tw_267 : (Cond.methodLink "CommitDeskLaw" (92 : Nat) ({ cls := "CommitDeskLaw", name := "back", desc := "(LCommitDesk;I)I" } : MethodName)) ∈ cd_TB := cd_in 278 (by decide +kernel) rfl
theorem tw_268 : (Cond.static ({ cls := "CommitDeskLaw", name := "back", desc := "(LCommitDesk;I)I" } : MethodName)) ∈ cd_TB := cd_in 279 (by decide +kernel) rfl
theorem cs_L_92 : cd_okB y_L_back cw_L_back b_L_back 3 (some FieldType.int) [(0, 5, 8, 13), (0, 5, 11, 15), (0, 5, 14, 23)] 2 ∧ Cond.methodLink "CommitDeskLaw" 92 y_L_back ∈ cd_TB ∧ Cond.static y_L_back ∈ cd_TB := ⟨ok_L_back, tw_267, tw_268⟩
theorem tw_270 : (Cond.methodLink "CommitDeskLaw" (33 : Nat) ({ cls := "CommitDesk", name := "back", desc := "(I)V" } : MethodName)) ∈ cd_TB := cd_in 281 (by decide +kernel) rfl
theorem tw_271 : (Cond.instanceMethod ({ cls := "CommitDesk", name := "back", desc := "(I)V" } : MethodName)) ∈ cd_TB := cd_in 282 (by decide +kernel) rfl
theorem tw_272 : (Cond.selects "CommitDesk" ({ cls := "CommitDesk", name := "back", desc := "(I)V" } : MethodName) ({ cls := "CommitDesk", name := "back", desc := "(I)V" } : MethodName)) ∈ cd_TB := cd_in 283 (by decide +kernel) rfl
theorem cv_L_33 : cd_okB y_D_back cw_D_back b_D_back 3 none [] 1 ∧ Cond.methodLink "CommitDeskLaw" 33 y_D_back ∈ cd_TB ∧ Cond.instanceMethod y_D_back ∈ cd_TB ∧ Cond.selects "CommitDesk" y_D_back y_D_back ∈ cd_TB := ⟨ok_D_back, tw_270, tw_271, tw_272⟩
theorem tw_274 : (Cond.methodLink "CommitDesk" (93 : Nat) ({ cls := "CommitDesk$Work", name := "back", desc := "()V" } : MethodName)) ∈ cd_TB := cd_in 285 (by decide +kernel) rfl
theorem tw_275 : (Cond.instanceMethod ({ cls := "CommitDesk$Work", name := "back", desc := "()V" } : MethodName)) ∈ cd_TB := cd_in 286 (by decide +kernel) rfl
theorem tw_276 : (Cond.selects "CommitDesk$Work" ({ cls := "CommitDesk$Work", name := "back", desc := "()V" } : MethodName) ({ cls := "CommitDesk$Work", name := "back", desc := "()V" } : MethodName)) ∈ cd_TB := cd_in 287 (by decide +kernel) rfl
theorem cv_D_93 : cd_okB y_W_back cw_W_back b_W_back 1 none [] 0 ∧ Cond.methodLink "CommitDesk" 93 y_W_back ∈ cd_TB ∧ Cond.instanceMethod y_W_back ∈ cd_TB ∧ Cond.selects "CommitDesk$Work" y_W_back y_W_back ∈ cd_TB := ⟨ok_W_back, tw_274, tw_275, tw_276⟩
theorem tw_278 : (Cond.methodLink "CommitDeskLaw" (95 : Nat) ({ cls := "CommitDeskLaw", name := "keep", desc := "(LCommitDesk;I)I" } : MethodName)) ∈ cd_TB := cd_in 289 (by decide +kernel) rfl
theorem tw_279 : (Cond.static ({ cls := "CommitDeskLaw", name := "keep", desc := "(LCommitDesk;I)I" } : MethodName)) ∈ cd_TB := cd_in 290 (by decide +kernel) rfl
theorem cs_L_95 : cd_okB y_L_keep cw_L_keep b_L_keep 3 (some FieldType.int) [(0, 5, 8, 13), (0, 5, 11, 15), (0, 5, 14, 23)] 2 ∧ Cond.methodLink "CommitDeskLaw" 95 y_L_keep ∈ cd_TB ∧ Cond.static y_L_keep ∈ cd_TB := ⟨ok_L_keep, tw_278, tw_279⟩
theorem tw_281 : (Cond.methodLink "CommitDeskLaw" (36 : Nat) ({ cls := "CommitDesk", name := "keep", desc := "(I)V" } : MethodName)) ∈ cd_TB := cd_in 292 (by decide +kernel) rfl
theorem tw_282 : (Cond.instanceMethod ({ cls := "CommitDesk", name := "keep", desc := "(I)V" } : MethodName)) ∈ cd_TB := cd_in 293 (by decide +kernel) rfl
theorem tw_283 : (Cond.selects "CommitDesk" ({ cls := "CommitDesk", name := "keep", desc := "(I)V" } : MethodName) ({ cls := "CommitDesk", name := "keep", desc := "(I)V" } : MethodName)) ∈ cd_TB := cd_in 294 (by decide +kernel) rfl
theorem cv_L_36 : cd_okB y_D_keep cw_D_keep b_D_keep 3 none [] 1 ∧ Cond.methodLink "CommitDeskLaw" 36 y_D_keep ∈ cd_TB ∧ Cond.instanceMethod y_D_keep ∈ cd_TB ∧ Cond.selects "CommitDesk" y_D_keep y_D_keep ∈ cd_TB := ⟨ok_D_keep, tw_281, tw_282, tw_283⟩
theorem tw_285 : (Cond.methodLink "CommitDesk" (96 : Nat) ({ cls := "CommitDesk$Work", name := "keep", desc := "()V" } : MethodName)) ∈ cd_TB := cd_in 296 (by decide +kernel) rfl
theorem tw_286 : (Cond.instanceMethod ({ cls := "CommitDesk$Work", name := "keep", desc := "()V" } : MethodName)) ∈ cd_TB := cd_in 297 (by decide +kernel) rfl
theorem tw_287 : (Cond.selects "CommitDesk$Work" ({ cls := "CommitDesk$Work", name := "keep", desc := "()V" } : MethodName) ({ cls := "CommitDesk$Work", name := "keep", desc := "()V" } : MethodName)) ∈ cd_TB := cd_in 298 (by decide +kernel) rfl
theorem cv_D_96 : cd_okB y_W_keep cw_W_keep b_W_keep 4 none [] 0 ∧ Cond.methodLink "CommitDesk" 96 y_W_keep ∈ cd_TB ∧ Cond.instanceMethod y_W_keep ∈ cd_TB ∧ Cond.selects "CommitDesk$Work" y_W_keep y_W_keep ∈ cd_TB := ⟨ok_W_keep, tw_285, tw_286, tw_287⟩
theorem tw_289 : (Cond.methodLink "CommitDesk$Work" (43 : Nat) ({ cls := "CommitDesk$Work", name := "write", desc := "(IJ)V" } : MethodName)) ∈ cd_TB := cd_in 300 (by decide +kernel) rfl
theorem cv_W_43 : cd_okB y_W_write cw_W_write b_W_write 5 none [] 2 ∧ Cond.methodLink "CommitDesk$Work" 43 y_W_write ∈ cd_TB ∧ Cond.instanceMethod y_W_write ∈ cd_TB ∧ Cond.selects "CommitDesk$Work" y_W_write y_W_write ∈ cd_TB := ⟨ok_W_write, tw_289, tw_253, tw_254⟩
theorem tw_290 : (Cond.methodLink "CommitDeskLaw" (98 : Nat) ({ cls := "CommitDeskLaw", name := "done", desc := "(LCommitDesk;I[J)I" } : MethodName)) ∈ cd_TB := cd_in 301 (by decide +kernel) rfl
theorem tw_291 : (Cond.static ({ cls := "CommitDeskLaw", name := "done", desc := "(LCommitDesk;I[J)I" } : MethodName)) ∈ cd_TB := cd_in 302 (by decide +kernel) rfl
theorem cs_L_98 : cd_okB y_L_done cw_L_done b_L_done 4 (some FieldType.int) [(0, 16, 19, 13), (0, 16, 22, 15)] 3 ∧ Cond.methodLink "CommitDeskLaw" 98 y_L_done ∈ cd_TB ∧ Cond.static y_L_done ∈ cd_TB := ⟨ok_L_done, tw_290, tw_291⟩
theorem tw_293 : (Cond.methodLink "CommitDeskLaw" (39 : Nat) ({ cls := "CommitDesk", name := "done", desc := "(I)Z" } : MethodName)) ∈ cd_TB := cd_in 304 (by decide +kernel) rfl
theorem tw_294 : (Cond.instanceMethod ({ cls := "CommitDesk", name := "done", desc := "(I)Z" } : MethodName)) ∈ cd_TB := cd_in 305 (by decide +kernel) rfl
theorem tw_295 : (Cond.selects "CommitDesk" ({ cls := "CommitDesk", name := "done", desc := "(I)Z" } : MethodName) ({ cls := "CommitDesk", name := "done", desc := "(I)Z" } : MethodName)) ∈ cd_TB := cd_in 306 (by decide +kernel) rfl
theorem cv_L_39 : cd_okB y_D_done cw_D_done b_D_done 4 (some FieldType.boolean) [] 1 ∧ Cond.methodLink "CommitDeskLaw" 39 y_D_done ∈ cd_TB ∧ Cond.instanceMethod y_D_done ∈ cd_TB ∧ Cond.selects "CommitDesk" y_D_done y_D_done ∈ cd_TB := ⟨ok_D_done, tw_293, tw_294, tw_295⟩
theorem tw_297 : (Cond.methodLink "CommitDesk" (102 : Nat) ({ cls := "CommitDesk$Work", name := "many", desc := "()I" } : MethodName)) ∈ cd_TB := cd_in 308 (by decide +kernel) rfl
theorem tw_298 : (Cond.instanceMethod ({ cls := "CommitDesk$Work", name := "many", desc := "()I" } : MethodName)) ∈ cd_TB := cd_in 309 (by decide +kernel) rfl
theorem tw_299 : (Cond.selects "CommitDesk$Work" ({ cls := "CommitDesk$Work", name := "many", desc := "()I" } : MethodName) ({ cls := "CommitDesk$Work", name := "many", desc := "()I" } : MethodName)) ∈ cd_TB := cd_in 310 (by decide +kernel) rfl
theorem cv_D_102 : cd_okB y_W_many cw_W_many b_W_many 1 (some FieldType.int) [] 0 ∧ Cond.methodLink "CommitDesk" 102 y_W_many ∈ cd_TB ∧ Cond.instanceMethod y_W_many ∈ cd_TB ∧ Cond.selects "CommitDesk$Work" y_W_many y_W_many ∈ cd_TB := ⟨ok_W_many, tw_297, tw_298, tw_299⟩
theorem tw_301 : (Cond.methodLink "CommitDesk" (106 : Nat) ({ cls := "CommitDesk$Work", name := "cellAt", desc := "(I)I" } : MethodName)) ∈ cd_TB := cd_in 312 (by decide +kernel) rfl
theorem tw_302 : (Cond.instanceMethod ({ cls := "CommitDesk$Work", name := "cellAt", desc := "(I)I" } : MethodName)) ∈ cd_TB := cd_in 313 (by decide +kernel) rfl
theorem tw_303 : (Cond.selects "CommitDesk$Work" ({ cls := "CommitDesk$Work", name := "cellAt", desc := "(I)I" } : MethodName) ({ cls := "CommitDesk$Work", name := "cellAt", desc := "(I)I" } : MethodName)) ∈ cd_TB := cd_in 314 (by decide +kernel) rfl
theorem cv_D_106 : cd_okB y_W_cellAt cw_W_cellAt b_W_cellAt 2 (some FieldType.int) [] 1 ∧ Cond.methodLink "CommitDesk" 106 y_W_cellAt ∈ cd_TB ∧ Cond.instanceMethod y_W_cellAt ∈ cd_TB ∧ Cond.selects "CommitDesk$Work" y_W_cellAt y_W_cellAt ∈ cd_TB := ⟨ok_W_cellAt, tw_301, tw_302, tw_303⟩
theorem tw_305 : (Cond.methodLink "CommitDesk" (109 : Nat) ({ cls := "CommitDesk", name := "put", desc := "(IJ)V" } : MethodName)) ∈ cd_TB := cd_in 316 (by decide +kernel) rfl
theorem tw_307 : (Cond.instanceMethod ({ cls := "CommitDesk", name := "put", desc := "(IJ)V" } : MethodName)) ∈ cd_TB := cd_in 318 (by decide +kernel) rfl
theorem ts_5 : Cond.selects "CommitDesk" ⟨"CommitDesk", "put", "(IJ)V"⟩ ⟨"CommitDesk", "put", "(IJ)V"⟩ ∈ cd_TB := cd_in 5 (by decide +kernel) rfl
theorem cv_D_109 : cd_okB y_D_put cw_D_put b_D_put 4 none [] 2 ∧ Cond.methodLink "CommitDesk" 109 y_D_put ∈ cd_TB ∧ Cond.instanceMethod y_D_put ∈ cd_TB ∧ Cond.selects "CommitDesk" y_D_put y_D_put ∈ cd_TB := ⟨ok_D_put, tw_305, tw_307, ts_5⟩
theorem tw_309 : (Cond.methodLink "CommitDeskLaw" (101 : Nat) ({ cls := "CommitDeskLaw", name := "leave", desc := "(LCommitDesk;I)I" } : MethodName)) ∈ cd_TB := cd_in 320 (by decide +kernel) rfl
theorem tw_310 : (Cond.static ({ cls := "CommitDeskLaw", name := "leave", desc := "(LCommitDesk;I)I" } : MethodName)) ∈ cd_TB := cd_in 321 (by decide +kernel) rfl
theorem cs_L_101 : cd_okB y_L_leave cw_L_leave b_L_leave 3 (some FieldType.int) [(0, 5, 8, 13), (0, 5, 11, 15)] 2 ∧ Cond.methodLink "CommitDeskLaw" 101 y_L_leave ∈ cd_TB ∧ Cond.static y_L_leave ∈ cd_TB := ⟨ok_L_leave, tw_309, tw_310⟩
theorem tw_312 : (Cond.methodLink "CommitDeskLaw" (43 : Nat) ({ cls := "CommitDesk", name := "leave", desc := "(I)V" } : MethodName)) ∈ cd_TB := cd_in 323 (by decide +kernel) rfl
theorem tw_313 : (Cond.instanceMethod ({ cls := "CommitDesk", name := "leave", desc := "(I)V" } : MethodName)) ∈ cd_TB := cd_in 324 (by decide +kernel) rfl
theorem tw_314 : (Cond.selects "CommitDesk" ({ cls := "CommitDesk", name := "leave", desc := "(I)V" } : MethodName) ({ cls := "CommitDesk", name := "leave", desc := "(I)V" } : MethodName)) ∈ cd_TB := cd_in 325 (by decide +kernel) rfl
theorem cv_L_43 : cd_okB y_D_leave cw_D_leave b_D_leave 2 none [] 1 ∧ Cond.methodLink "CommitDeskLaw" 43 y_D_leave ∈ cd_TB ∧ Cond.instanceMethod y_D_leave ∈ cd_TB ∧ Cond.selects "CommitDesk" y_D_leave y_D_leave ∈ cd_TB := ⟨ok_D_leave, tw_312, tw_313, tw_314⟩
theorem tw_316 : (Cond.methodLink "CommitDeskLaw" (104 : Nat) ({ cls := "CommitDeskLaw", name := "set", desc := "(LCommitDesk;IJ)I" } : MethodName)) ∈ cd_TB := cd_in 327 (by decide +kernel) rfl
theorem tw_317 : (Cond.static ({ cls := "CommitDeskLaw", name := "set", desc := "(LCommitDesk;IJ)I" } : MethodName)) ∈ cd_TB := cd_in 328 (by decide +kernel) rfl
theorem cs_L_104 : cd_okB y_L_set cw_L_set b_L_set 5 (some FieldType.int) [(0, 6, 9, 21)] 3 ∧ Cond.methodLink "CommitDeskLaw" 104 y_L_set ∈ cd_TB ∧ Cond.static y_L_set ∈ cd_TB := ⟨ok_L_set, tw_316, tw_317⟩
theorem tw_319 : (Cond.methodLink "CommitDeskLaw" (46 : Nat) ({ cls := "CommitDesk", name := "set", desc := "(IJ)V" } : MethodName)) ∈ cd_TB := cd_in 330 (by decide +kernel) rfl
theorem tw_320 : (Cond.instanceMethod ({ cls := "CommitDesk", name := "set", desc := "(IJ)V" } : MethodName)) ∈ cd_TB := cd_in 331 (by decide +kernel) rfl
theorem tw_321 : (Cond.selects "CommitDesk" ({ cls := "CommitDesk", name := "set", desc := "(IJ)V" } : MethodName) ({ cls := "CommitDesk", name := "set", desc := "(IJ)V" } : MethodName)) ∈ cd_TB := cd_in 332 (by decide +kernel) rfl
theorem cv_L_46 : cd_okB y_D_set cw_D_set b_D_set 4 none [] 2 ∧ Cond.methodLink "CommitDeskLaw" 46 y_D_set ∈ cd_TB ∧ Cond.instanceMethod y_D_set ∈ cd_TB ∧ Cond.selects "CommitDesk" y_D_set y_D_set ∈ cd_TB := ⟨ok_D_set, tw_319, tw_320, tw_321⟩
theorem tw_323 : (Cond.methodLink "CommitDeskLaw" (108 : Nat) ({ cls := "CommitDeskLaw", name := "cell", desc := "(LCommitDesk;I[J)I" } : MethodName)) ∈ cd_TB := cd_in 334 (by decide +kernel) rfl
theorem tw_324 : (Cond.static ({ cls := "CommitDeskLaw", name := "cell", desc := "(LCommitDesk;I[J)I" } : MethodName)) ∈ cd_TB := cd_in 335 (by decide +kernel) rfl
theorem cs_L_108 : cd_okB y_L_cell cw_L_cell b_L_cell 4 (some FieldType.int) [(0, 8, 11, 21)] 3 ∧ Cond.methodLink "CommitDeskLaw" 108 y_L_cell ∈ cd_TB ∧ Cond.static y_L_cell ∈ cd_TB := ⟨ok_L_cell, tw_323, tw_324⟩
theorem tw_326 : (Cond.methodLink "CommitDeskLaw" (50 : Nat) ({ cls := "CommitDesk", name := "cell", desc := "(I)J" } : MethodName)) ∈ cd_TB := cd_in 337 (by decide +kernel) rfl
theorem tw_327 : (Cond.instanceMethod ({ cls := "CommitDesk", name := "cell", desc := "(I)J" } : MethodName)) ∈ cd_TB := cd_in 338 (by decide +kernel) rfl
theorem tw_328 : (Cond.selects "CommitDesk" ({ cls := "CommitDesk", name := "cell", desc := "(I)J" } : MethodName) ({ cls := "CommitDesk", name := "cell", desc := "(I)J" } : MethodName)) ∈ cd_TB := cd_in 339 (by decide +kernel) rfl
theorem cv_L_50 : cd_okB y_D_cell cw_D_cell b_D_cell 2 (some FieldType.long) [] 1 ∧ Cond.methodLink "CommitDeskLaw" 50 y_D_cell ∈ cd_TB ∧ Cond.instanceMethod y_D_cell ∈ cd_TB ∧ Cond.selects "CommitDesk" y_D_cell y_D_cell ∈ cd_TB := ⟨ok_D_cell, tw_326, tw_327, tw_328⟩
theorem tw_330 : (Cond.methodLink "CommitDeskLaw" (111 : Nat) ({ cls := "CommitDeskLaw", name := "changed", desc := "(LCommitDesk;I[J)I" } : MethodName)) ∈ cd_TB := cd_in 341 (by decide +kernel) rfl
theorem tw_331 : (Cond.static ({ cls := "CommitDeskLaw", name := "changed", desc := "(LCommitDesk;I[J)I" } : MethodName)) ∈ cd_TB := cd_in 342 (by decide +kernel) rfl
theorem cs_L_111 : cd_okB y_L_changed cw_L_changed b_L_changed 4 (some FieldType.int) [(0, 9, 12, 21)] 3 ∧ Cond.methodLink "CommitDeskLaw" 111 y_L_changed ∈ cd_TB ∧ Cond.static y_L_changed ∈ cd_TB := ⟨ok_L_changed, tw_330, tw_331⟩
theorem tw_333 : (Cond.methodLink "CommitDeskLaw" (54 : Nat) ({ cls := "CommitDesk", name := "changed", desc := "(I)I" } : MethodName)) ∈ cd_TB := cd_in 344 (by decide +kernel) rfl
theorem tw_334 : (Cond.instanceMethod ({ cls := "CommitDesk", name := "changed", desc := "(I)I" } : MethodName)) ∈ cd_TB := cd_in 345 (by decide +kernel) rfl
theorem tw_335 : (Cond.selects "CommitDesk" ({ cls := "CommitDesk", name := "changed", desc := "(I)I" } : MethodName) ({ cls := "CommitDesk", name := "changed", desc := "(I)I" } : MethodName)) ∈ cd_TB := cd_in 346 (by decide +kernel) rfl
theorem cv_L_54 : cd_okB y_D_changed cw_D_changed b_D_changed 2 (some FieldType.int) [] 1 ∧ Cond.methodLink "CommitDeskLaw" 54 y_D_changed ∈ cd_TB ∧ Cond.instanceMethod y_D_changed ∈ cd_TB ∧ Cond.selects "CommitDesk" y_D_changed y_D_changed ∈ cd_TB := ⟨ok_D_changed, tw_333, tw_334, tw_335⟩
theorem tw_337 : (Cond.methodLink "CommitDeskLaw" (114 : Nat) ({ cls := "CommitDeskLaw", name := "count", desc := "(LCommitDesk;II[J)I" } : MethodName)) ∈ cd_TB := cd_in 348 (by decide +kernel) rfl
theorem tw_338 : (Cond.static ({ cls := "CommitDeskLaw", name := "count", desc := "(LCommitDesk;II[J)I" } : MethodName)) ∈ cd_TB := cd_in 349 (by decide +kernel) rfl
theorem cs_L_114 : cd_okB y_L_count cw_L_count b_L_count 5 (some FieldType.int) [(0, 10, 13, 13), (0, 10, 17, 15)] 4 ∧ Cond.methodLink "CommitDeskLaw" 114 y_L_count ∈ cd_TB ∧ Cond.static y_L_count ∈ cd_TB := ⟨ok_L_count, tw_337, tw_338⟩
theorem tw_340 : (Cond.methodLink "CommitDeskLaw" (57 : Nat) ({ cls := "CommitDesk", name := "count", desc := "(II)I" } : MethodName)) ∈ cd_TB := cd_in 351 (by decide +kernel) rfl
theorem tw_341 : (Cond.instanceMethod ({ cls := "CommitDesk", name := "count", desc := "(II)I" } : MethodName)) ∈ cd_TB := cd_in 352 (by decide +kernel) rfl
theorem tw_342 : (Cond.selects "CommitDesk" ({ cls := "CommitDesk", name := "count", desc := "(II)I" } : MethodName) ({ cls := "CommitDesk", name := "count", desc := "(II)I" } : MethodName)) ∈ cd_TB := cd_in 353 (by decide +kernel) rfl
theorem cv_L_57 : cd_okB y_D_count cw_D_count b_D_count 4 (some FieldType.int) [] 2 ∧ Cond.methodLink "CommitDeskLaw" 57 y_D_count ∈ cd_TB ∧ Cond.instanceMethod y_D_count ∈ cd_TB ∧ Cond.selects "CommitDesk" y_D_count y_D_count ∈ cd_TB := ⟨ok_D_count, tw_340, tw_341, tw_342⟩
theorem tw_344 : (Cond.methodLink "CommitDesk" (115 : Nat) ({ cls := "java/lang/Integer", name := "bitCount", desc := "(I)I" } : MethodName)) ∈ cd_TB := cd_in 355 (by decide +kernel) rfl
theorem tw_345 : (Cond.static ({ cls := "java/lang/Integer", name := "bitCount", desc := "(I)I" } : MethodName)) ∈ cd_TB := cd_in 356 (by decide +kernel) rfl
theorem cs_D_115 : cd_okB y_I_bitCount cw_I_bitCount b_I_bitCount 1 (some FieldType.int) [] 1 ∧ Cond.methodLink "CommitDesk" 115 y_I_bitCount ∈ cd_TB ∧ Cond.static y_I_bitCount ∈ cd_TB := ⟨ok_I_bitCount, tw_344, tw_345⟩
theorem tw_347 : (Cond.constant "java/lang/Integer" (265 : Nat) (1431655765 : Int32)) ∈ cd_TB := cd_in 358 (by decide +kernel) rfl
theorem kc_I_265 : (Cond.constant "java/lang/Integer" (265 : Nat) (1431655765 : Int32)) ∈ cd_TB := tw_347
theorem tw_348 : (Cond.constant "java/lang/Integer" (266 : Nat) (858993459 : Int32)) ∈ cd_TB := cd_in 359 (by decide +kernel) rfl
theorem kc_I_266 : (Cond.constant "java/lang/Integer" (266 : Nat) (858993459 : Int32)) ∈ cd_TB := tw_348
theorem tw_349 : (Cond.constant "java/lang/Integer" (267 : Nat) (252645135 : Int32)) ∈ cd_TB := cd_in 360 (by decide +kernel) rfl
theorem kc_I_267 : (Cond.constant "java/lang/Integer" (267 : Nat) (252645135 : Int32)) ∈ cd_TB := tw_349
theorem tw_350 : (Cond.methodLink "CommitDesk" (120 : Nat) ({ cls := "CommitDesk$Work", name := "written", desc := "()I" } : MethodName)) ∈ cd_TB := cd_in 361 (by decide +kernel) rfl
theorem tw_351 : (Cond.instanceMethod ({ cls := "CommitDesk$Work", name := "written", desc := "()I" } : MethodName)) ∈ cd_TB := cd_in 362 (by decide +kernel) rfl
theorem tw_352 : (Cond.selects "CommitDesk$Work" ({ cls := "CommitDesk$Work", name := "written", desc := "()I" } : MethodName) ({ cls := "CommitDesk$Work", name := "written", desc := "()I" } : MethodName)) ∈ cd_TB := cd_in 363 (by decide +kernel) rfl
theorem cv_D_120 : cd_okB y_W_written cw_W_written b_W_written 3 (some FieldType.int) [] 0 ∧ Cond.methodLink "CommitDesk" 120 y_W_written ∈ cd_TB ∧ Cond.instanceMethod y_W_written ∈ cd_TB ∧ Cond.selects "CommitDesk$Work" y_W_written y_W_written ∈ cd_TB := ⟨ok_W_written, tw_350, tw_351, tw_352⟩
theorem tw_354 : (Cond.methodLink "CommitDesk$Work" (47 : Nat) ({ cls := "java/lang/Integer", name := "bitCount", desc := "(I)I" } : MethodName)) ∈ cd_TB := cd_in 365 (by decide +kernel) rfl
theorem cs_W_47 : cd_okB y_I_bitCount cw_I_bitCount b_I_bitCount 1 (some FieldType.int) [] 1 ∧ Cond.methodLink "CommitDesk$Work" 47 y_I_bitCount ∈ cd_TB ∧ Cond.static y_I_bitCount ∈ cd_TB := ⟨ok_I_bitCount, tw_354, tw_345⟩
theorem tw_355 : (Cond.methodLink "CommitDeskLaw" (117 : Nat) ({ cls := "CommitDeskLaw", name := "all", desc := "(LCommitDesk;I[J)I" } : MethodName)) ∈ cd_TB := cd_in 366 (by decide +kernel) rfl
theorem tw_356 : (Cond.static ({ cls := "CommitDeskLaw", name := "all", desc := "(LCommitDesk;I[J)I" } : MethodName)) ∈ cd_TB := cd_in 367 (by decide +kernel) rfl
theorem cs_L_117 : cd_okB y_L_all cw_L_all b_L_all 4 (some FieldType.int) [(0, 9, 12, 13)] 3 ∧ Cond.methodLink "CommitDeskLaw" 117 y_L_all ∈ cd_TB ∧ Cond.static y_L_all ∈ cd_TB := ⟨ok_L_all, tw_355, tw_356⟩
theorem tw_358 : (Cond.methodLink "CommitDeskLaw" (61 : Nat) ({ cls := "CommitDesk", name := "all", desc := "(I)I" } : MethodName)) ∈ cd_TB := cd_in 369 (by decide +kernel) rfl
theorem tw_359 : (Cond.instanceMethod ({ cls := "CommitDesk", name := "all", desc := "(I)I" } : MethodName)) ∈ cd_TB := cd_in 370 (by decide +kernel) rfl
theorem tw_360 : (Cond.selects "CommitDesk" ({ cls := "CommitDesk", name := "all", desc := "(I)I" } : MethodName) ({ cls := "CommitDesk", name := "all", desc := "(I)I" } : MethodName)) ∈ cd_TB := cd_in 371 (by decide +kernel) rfl
theorem cv_L_61 : cd_okB y_D_all cw_D_all b_D_all 4 (some FieldType.int) [] 1 ∧ Cond.methodLink "CommitDeskLaw" 61 y_D_all ∈ cd_TB ∧ Cond.instanceMethod y_D_all ∈ cd_TB ∧ Cond.selects "CommitDesk" y_D_all y_D_all ∈ cd_TB := ⟨ok_D_all, tw_358, tw_359, tw_360⟩
theorem tw_362 : (Cond.classLink "CommitDeskLaw" (65 : Nat) "CommitDeskModel") ∈ cd_TB := cd_in 373 (by decide +kernel) rfl
theorem cl_L_65 : Cond.classLink "CommitDeskLaw" 65 "CommitDeskModel" ∈ cd_TB := tw_362
theorem tw_364 : (Cond.methodLink "CommitDeskLaw" (67 : Nat) ({ cls := "CommitDeskModel", name := "<init>", desc := "()V" } : MethodName)) ∈ cd_TB := cd_in 375 (by decide +kernel) rfl
theorem tw_365 : (Cond.instanceMethod ({ cls := "CommitDeskModel", name := "<init>", desc := "()V" } : MethodName)) ∈ cd_TB := cd_in 376 (by decide +kernel) rfl
theorem ci_L_67 : cd_okB y_M_init (.code y_M_init b_M_init 1 none) b_M_init 1 none [] 0 ∧ (Cond.methodLink "CommitDeskLaw" 67 y_M_init ∈ cd_TB ∨ ∃ host, Cond.methodLinkNest "CommitDeskLaw" 67 y_M_init host ∈ cd_TB) ∧ Cond.instanceMethod y_M_init ∈ cd_TB ∧ y_M_init.name = "<init>" := ⟨ok_M_init, Or.inl tw_364, tw_365, rfl⟩
theorem tw_367 : (Cond.methodLink "CommitDeskModel" (1 : Nat) ({ cls := "java/lang/Object", name := "<init>", desc := "()V" } : MethodName)) ∈ cd_TB := cd_in 378 (by decide +kernel) rfl
theorem ob_M_1 : Cond.methodLink "CommitDeskModel" 1 Lib.objectInit ∈ cd_TB := tw_367
theorem tw_368 : (Cond.fieldLink "CommitDeskModel" (36 : Nat) "CommitDeskModel" "err" "I") ∈ cd_TB := cd_in 379 (by decide +kernel) rfl
theorem fl_M_36 : Cond.fieldLink "CommitDeskModel" 36 "CommitDeskModel" "err" "I" ∈ cd_TB := tw_368
theorem tw_369 : (Cond.fieldLink "CommitDeskModel" (9 : Nat) "CommitDeskModel" "cells" "[J") ∈ cd_TB := cd_in 380 (by decide +kernel) rfl
theorem fl_M_9 : Cond.fieldLink "CommitDeskModel" 9 "CommitDeskModel" "cells" "[J" ∈ cd_TB := tw_369
theorem tw_370 : (Cond.fieldLink "CommitDeskModel" (13 : Nat) "CommitDeskModel" "wrote" "[J") ∈ cd_TB := cd_in 381 (by decide +kernel) rfl
theorem fl_M_13 : Cond.fieldLink "CommitDeskModel" 13 "CommitDeskModel" "wrote" "[J" ∈ cd_TB := tw_370
theorem tw_371 : (Cond.fieldLink "CommitDeskModel" (16 : Nat) "CommitDeskModel" "changes" "[I") ∈ cd_TB := cd_in 382 (by decide +kernel) rfl
theorem fl_M_16 : Cond.fieldLink "CommitDeskModel" 16 "CommitDeskModel" "changes" "[I" ∈ cd_TB := tw_371
theorem tw_372 : (Cond.fieldLink "CommitDeskModel" (20 : Nat) "CommitDeskModel" "parts" "[I") ∈ cd_TB := cd_in 383 (by decide +kernel) rfl
theorem fl_M_20 : Cond.fieldLink "CommitDeskModel" 20 "CommitDeskModel" "parts" "[I" ∈ cd_TB := tw_372
theorem tw_373 : (Cond.fieldLink "CommitDeskModel" (23 : Nat) "CommitDeskModel" "seen" "[I") ∈ cd_TB := cd_in 384 (by decide +kernel) rfl
theorem fl_M_23 : Cond.fieldLink "CommitDeskModel" 23 "CommitDeskModel" "seen" "[I" ∈ cd_TB := tw_373
theorem tw_374 : (Cond.fieldLink "CommitDeskModel" (26 : Nat) "CommitDeskModel" "has" "[Z") ∈ cd_TB := cd_in 385 (by decide +kernel) rfl
theorem fl_M_26 : Cond.fieldLink "CommitDeskModel" 26 "CommitDeskModel" "has" "[Z" ∈ cd_TB := tw_374
theorem tw_375 : (Cond.fieldLink "CommitDeskModel" (30 : Nat) "CommitDeskModel" "read" "[Z") ∈ cd_TB := cd_in 386 (by decide +kernel) rfl
theorem fl_M_30 : Cond.fieldLink "CommitDeskModel" 30 "CommitDeskModel" "read" "[Z" ∈ cd_TB := tw_375
theorem tw_376 : (Cond.fieldLink "CommitDeskModel" (33 : Nat) "CommitDeskModel" "open" "[Z") ∈ cd_TB := cd_in 387 (by decide +kernel) rfl
theorem fl_M_33 : Cond.fieldLink "CommitDeskModel" 33 "CommitDeskModel" "open" "[Z" ∈ cd_TB := tw_376
theorem tw_377 : (Cond.fieldLink "CommitDeskModel" (77 : Nat) "CommitDeskModel" "done" "I") ∈ cd_TB := cd_in 388 (by decide +kernel) rfl
theorem fl_M_77 : Cond.fieldLink "CommitDeskModel" 77 "CommitDeskModel" "done" "I" ∈ cd_TB := tw_377
theorem tw_378 : (Cond.fieldLink "CommitDeskModel" (66 : Nat) "CommitDeskModel" "stale" "I") ∈ cd_TB := cd_in 389 (by decide +kernel) rfl
theorem fl_M_66 : Cond.fieldLink "CommitDeskModel" 66 "CommitDeskModel" "stale" "I" ∈ cd_TB := tw_378
theorem tw_403 : (Cond.methodLink "CommitDeskLaw" (74 : Nat) ({ cls := "CommitDeskModel", name := "thrown", desc := "()I" } : MethodName)) ∈ cd_TB := cd_in 414 (by decide +kernel) rfl
theorem tw_404 : (Cond.instanceMethod ({ cls := "CommitDeskModel", name := "thrown", desc := "()I" } : MethodName)) ∈ cd_TB := cd_in 415 (by decide +kernel) rfl
theorem tw_405 : (Cond.selects "CommitDeskModel" ({ cls := "CommitDeskModel", name := "thrown", desc := "()I" } : MethodName) ({ cls := "CommitDeskModel", name := "thrown", desc := "()I" } : MethodName)) ∈ cd_TB := cd_in 416 (by decide +kernel) rfl
theorem cv_L_74 : cd_okB y_M_thrown cw_M_thrown b_M_thrown 1 (some FieldType.int) [] 0 ∧ Cond.methodLink "CommitDeskLaw" 74 y_M_thrown ∈ cd_TB ∧ Cond.instanceMethod y_M_thrown ∈ cd_TB ∧ Cond.selects "CommitDeskModel" y_M_thrown y_M_thrown ∈ cd_TB := ⟨ok_M_thrown, tw_403, tw_404, tw_405⟩
theorem tw_407 : (Cond.methodLink "CommitDeskLaw" (73 : Nat) ({ cls := "CommitDeskModel", name := "begin", desc := "(I)V" } : MethodName)) ∈ cd_TB := cd_in 418 (by decide +kernel) rfl
theorem tw_408 : (Cond.instanceMethod ({ cls := "CommitDeskModel", name := "begin", desc := "(I)V" } : MethodName)) ∈ cd_TB := cd_in 419 (by decide +kernel) rfl
theorem tw_409 : (Cond.selects "CommitDeskModel" ({ cls := "CommitDeskModel", name := "begin", desc := "(I)V" } : MethodName) ({ cls := "CommitDeskModel", name := "begin", desc := "(I)V" } : MethodName)) ∈ cd_TB := cd_in 420 (by decide +kernel) rfl
theorem cv_L_73 : cd_okB y_M_begin cw_M_begin b_M_begin 3 none [] 1 ∧ Cond.methodLink "CommitDeskLaw" 73 y_M_begin ∈ cd_TB ∧ Cond.instanceMethod y_M_begin ∈ cd_TB ∧ Cond.selects "CommitDeskModel" y_M_begin y_M_begin ∈ cd_TB := ⟨ok_M_begin, tw_407, tw_408, tw_409⟩
theorem tw_411 : (Cond.methodLink "CommitDeskModel" (48 : Nat) ({ cls := "CommitDeskModel", name := "isOne", desc := "(I)Z" } : MethodName)) ∈ cd_TB := cd_in 422 (by decide +kernel) rfl
theorem tw_412 : (Cond.static ({ cls := "CommitDeskModel", name := "isOne", desc := "(I)Z" } : MethodName)) ∈ cd_TB := cd_in 423 (by decide +kernel) rfl
theorem cs_M_48 : cd_okB y_M_isOne cw_M_isOne b_M_isOne 1 (some FieldType.boolean) [] 1 ∧ Cond.methodLink "CommitDeskModel" 48 y_M_isOne ∈ cd_TB ∧ Cond.static y_M_isOne ∈ cd_TB := ⟨ok_M_isOne, tw_411, tw_412⟩
theorem tw_414 : (Cond.constantLong "CommitDeskModel" (40 : Nat) (7 : Int64)) ∈ cd_TB := cd_in 425 (by decide +kernel) rfl
theorem kc_M_40 : (Cond.constantLong "CommitDeskModel" (40 : Nat) (7 : Int64)) ∈ cd_TB := tw_414
theorem tw_415 : (Cond.methodLink "CommitDeskModel" (42 : Nat) ({ cls := "CommitDeskModel", name := "in", desc := "(JJJ)Z" } : MethodName)) ∈ cd_TB := cd_in 426 (by decide +kernel) rfl
theorem tw_416 : (Cond.static ({ cls := "CommitDeskModel", name := "in", desc := "(JJJ)Z" } : MethodName)) ∈ cd_TB := cd_in 427 (by decide +kernel) rfl
theorem cs_M_42 : cd_okB y_M_in cw_M_in b_M_in 6 (some FieldType.boolean) [] 3 ∧ Cond.methodLink "CommitDeskModel" 42 y_M_in ∈ cd_TB ∧ Cond.static y_M_in ∈ cd_TB := ⟨ok_M_in, tw_415, tw_416⟩
theorem tw_418 : (Cond.methodLink "CommitDeskModel" (52 : Nat) ({ cls := "CommitDeskModel", name := "fails", desc := "(ZI)Z" } : MethodName)) ∈ cd_TB := cd_in 429 (by decide +kernel) rfl
theorem tw_420 : (Cond.instanceMethod ({ cls := "CommitDeskModel", name := "fails", desc := "(ZI)Z" } : MethodName)) ∈ cd_TB := cd_in 431 (by decide +kernel) rfl
theorem ts_6 : Cond.selects "CommitDeskModel" ⟨"CommitDeskModel", "fails", "(ZI)Z"⟩ ⟨"CommitDeskModel", "fails", "(ZI)Z"⟩ ∈ cd_TB := cd_in 6 (by decide +kernel) rfl
theorem cv_M_52 : cd_okB y_M_fails cw_M_fails b_M_fails 3 (some FieldType.boolean) [] 2 ∧ Cond.methodLink "CommitDeskModel" 52 y_M_fails ∈ cd_TB ∧ Cond.instanceMethod y_M_fails ∈ cd_TB ∧ Cond.selects "CommitDeskModel" y_M_fails y_M_fails ∈ cd_TB := ⟨ok_M_fails, tw_418, tw_420, ts_6⟩
theorem tw_422 : (Cond.methodLink "CommitDeskModel" (56 : Nat) ({ cls := "CommitDeskModel", name := "last", desc := "(II)I" } : MethodName)) ∈ cd_TB := cd_in 433 (by decide +kernel) rfl
theorem tw_424 : (Cond.instanceMethod ({ cls := "CommitDeskModel", name := "last", desc := "(II)I" } : MethodName)) ∈ cd_TB := cd_in 435 (by decide +kernel) rfl
theorem ts_7 : Cond.selects "CommitDeskModel" ⟨"CommitDeskModel", "last", "(II)I"⟩ ⟨"CommitDeskModel", "last", "(II)I"⟩ ∈ cd_TB := cd_in 7 (by decide +kernel) rfl
theorem cv_M_56 : cd_okB y_M_last cw_M_last b_M_last 3 (some FieldType.int) [] 2 ∧ Cond.methodLink "CommitDeskModel" 56 y_M_last ∈ cd_TB ∧ Cond.instanceMethod y_M_last ∈ cd_TB ∧ Cond.selects "CommitDeskModel" y_M_last y_M_last ∈ cd_TB := ⟨ok_M_last, tw_422, tw_424, ts_7⟩
theorem tw_426 : (Cond.methodLink "CommitDeskLaw" (81 : Nat) ({ cls := "CommitDeskModel", name := "read", desc := "(II)J" } : MethodName)) ∈ cd_TB := cd_in 437 (by decide +kernel) rfl
theorem tw_427 : (Cond.instanceMethod ({ cls := "CommitDeskModel", name := "read", desc := "(II)J" } : MethodName)) ∈ cd_TB := cd_in 438 (by decide +kernel) rfl
theorem tw_428 : (Cond.selects "CommitDeskModel" ({ cls := "CommitDeskModel", name := "read", desc := "(II)J" } : MethodName) ({ cls := "CommitDeskModel", name := "read", desc := "(II)J" } : MethodName)) ∈ cd_TB := cd_in 439 (by decide +kernel) rfl
theorem cv_L_81 : cd_okB y_M_read cw_M_read b_M_read 3 (some FieldType.long) [] 2 ∧ Cond.methodLink "CommitDeskLaw" 81 y_M_read ∈ cd_TB ∧ Cond.instanceMethod y_M_read ∈ cd_TB ∧ Cond.selects "CommitDeskModel" y_M_read y_M_read ∈ cd_TB := ⟨ok_M_read, tw_426, tw_427, tw_428⟩
theorem tw_430 : (Cond.methodLink "CommitDeskModel" (60 : Nat) ({ cls := "CommitDeskModel", name := "isCell", desc := "(I)Z" } : MethodName)) ∈ cd_TB := cd_in 441 (by decide +kernel) rfl
theorem tw_431 : (Cond.static ({ cls := "CommitDeskModel", name := "isCell", desc := "(I)Z" } : MethodName)) ∈ cd_TB := cd_in 442 (by decide +kernel) rfl
theorem cs_M_60 : cd_okB y_M_isCell cw_M_isCell b_M_isCell 1 (some FieldType.boolean) [] 1 ∧ Cond.methodLink "CommitDeskModel" 60 y_M_isCell ∈ cd_TB ∧ Cond.static y_M_isCell ∈ cd_TB := ⟨ok_M_isCell, tw_430, tw_431⟩
theorem tw_433 : (Cond.constantLong "CommitDeskModel" (46 : Nat) (31 : Int64)) ∈ cd_TB := cd_in 444 (by decide +kernel) rfl
theorem kc_M_46 : (Cond.constantLong "CommitDeskModel" (46 : Nat) (31 : Int64)) ∈ cd_TB := tw_433
theorem tw_434 : (Cond.methodLink "CommitDeskModel" (63 : Nat) ({ cls := "CommitDeskModel", name := "isStale", desc := "(I)Z" } : MethodName)) ∈ cd_TB := cd_in 445 (by decide +kernel) rfl
theorem tw_436 : (Cond.instanceMethod ({ cls := "CommitDeskModel", name := "isStale", desc := "(I)Z" } : MethodName)) ∈ cd_TB := cd_in 447 (by decide +kernel) rfl
theorem ts_8 : Cond.selects "CommitDeskModel" ⟨"CommitDeskModel", "isStale", "(I)Z"⟩ ⟨"CommitDeskModel", "isStale", "(I)Z"⟩ ∈ cd_TB := cd_in 8 (by decide +kernel) rfl
theorem cv_M_63 : cd_okB y_M_isStale cw_M_isStale b_M_isStale 3 (some FieldType.boolean) [] 1 ∧ Cond.methodLink "CommitDeskModel" 63 y_M_isStale ∈ cd_TB ∧ Cond.instanceMethod y_M_isStale ∈ cd_TB ∧ Cond.selects "CommitDeskModel" y_M_isStale y_M_isStale ∈ cd_TB := ⟨ok_M_isStale, tw_434, tw_436, ts_8⟩
theorem tw_438 : (Cond.methodLink "CommitDeskLaw" (87 : Nat) ({ cls := "CommitDeskModel", name := "write", desc := "(IIJ)V" } : MethodName)) ∈ cd_TB := cd_in 449 (by decide +kernel) rfl
theorem tw_439 : (Cond.instanceMethod ({ cls := "CommitDeskModel", name := "write", desc := "(IIJ)V" } : MethodName)) ∈ cd_TB := cd_in 450 (by decide +kernel) rfl
theorem tw_440 : (Cond.selects "CommitDeskModel" ({ cls := "CommitDeskModel", name := "write", desc := "(IIJ)V" } : MethodName) ({ cls := "CommitDeskModel", name := "write", desc := "(IIJ)V" } : MethodName)) ∈ cd_TB := cd_in 451 (by decide +kernel) rfl
theorem cv_L_87 : cd_okB y_M_write cw_M_write b_M_write 5 none [] 3 ∧ Cond.methodLink "CommitDeskLaw" 87 y_M_write ∈ cd_TB ∧ Cond.instanceMethod y_M_write ∈ cd_TB ∧ Cond.selects "CommitDeskModel" y_M_write y_M_write ∈ cd_TB := ⟨ok_M_write, tw_438, tw_439, tw_440⟩
theorem tw_442 : (Cond.methodLink "CommitDeskLaw" (91 : Nat) ({ cls := "CommitDeskModel", name := "save", desc := "(I)I" } : MethodName)) ∈ cd_TB := cd_in 453 (by decide +kernel) rfl
theorem tw_443 : (Cond.instanceMethod ({ cls := "CommitDeskModel", name := "save", desc := "(I)I" } : MethodName)) ∈ cd_TB := cd_in 454 (by decide +kernel) rfl
theorem tw_444 : (Cond.selects "CommitDeskModel" ({ cls := "CommitDeskModel", name := "save", desc := "(I)I" } : MethodName) ({ cls := "CommitDeskModel", name := "save", desc := "(I)I" } : MethodName)) ∈ cd_TB := cd_in 455 (by decide +kernel) rfl
theorem cv_L_91 : cd_okB y_M_save cw_M_save b_M_save 2 (some FieldType.int) [] 1 ∧ Cond.methodLink "CommitDeskLaw" 91 y_M_save ∈ cd_TB ∧ Cond.instanceMethod y_M_save ∈ cd_TB ∧ Cond.selects "CommitDeskModel" y_M_save y_M_save ∈ cd_TB := ⟨ok_M_save, tw_442, tw_443, tw_444⟩
theorem tw_446 : (Cond.methodLink "CommitDeskModel" (69 : Nat) ({ cls := "CommitDeskModel", name := "copy", desc := "(II)V" } : MethodName)) ∈ cd_TB := cd_in 457 (by decide +kernel) rfl
theorem tw_448 : (Cond.instanceMethod ({ cls := "CommitDeskModel", name := "copy", desc := "(II)V" } : MethodName)) ∈ cd_TB := cd_in 459 (by decide +kernel) rfl
theorem ts_9 : Cond.selects "CommitDeskModel" ⟨"CommitDeskModel", "copy", "(II)V"⟩ ⟨"CommitDeskModel", "copy", "(II)V"⟩ ∈ cd_TB := cd_in 9 (by decide +kernel) rfl
theorem cv_M_69 : cd_okB y_M_copy cw_M_copy b_M_copy 4 none [] 2 ∧ Cond.methodLink "CommitDeskModel" 69 y_M_copy ∈ cd_TB ∧ Cond.instanceMethod y_M_copy ∈ cd_TB ∧ Cond.selects "CommitDeskModel" y_M_copy y_M_copy ∈ cd_TB := ⟨ok_M_copy, tw_446, tw_448, ts_9⟩
theorem tw_450 : (Cond.methodLink "CommitDeskLaw" (94 : Nat) ({ cls := "CommitDeskModel", name := "back", desc := "(I)V" } : MethodName)) ∈ cd_TB := cd_in 461 (by decide +kernel) rfl
theorem tw_451 : (Cond.instanceMethod ({ cls := "CommitDeskModel", name := "back", desc := "(I)V" } : MethodName)) ∈ cd_TB := cd_in 462 (by decide +kernel) rfl
theorem tw_452 : (Cond.selects "CommitDeskModel" ({ cls := "CommitDeskModel", name := "back", desc := "(I)V" } : MethodName) ({ cls := "CommitDeskModel", name := "back", desc := "(I)V" } : MethodName)) ∈ cd_TB := cd_in 463 (by decide +kernel) rfl
theorem cv_L_94 : cd_okB y_M_back cw_M_back b_M_back 2 none [] 1 ∧ Cond.methodLink "CommitDeskLaw" 94 y_M_back ∈ cd_TB ∧ Cond.instanceMethod y_M_back ∈ cd_TB ∧ Cond.selects "CommitDeskModel" y_M_back y_M_back ∈ cd_TB := ⟨ok_M_back, tw_450, tw_451, tw_452⟩
theorem tw_454 : (Cond.methodLink "CommitDeskLaw" (97 : Nat) ({ cls := "CommitDeskModel", name := "keep", desc := "(I)V" } : MethodName)) ∈ cd_TB := cd_in 465 (by decide +kernel) rfl
theorem tw_455 : (Cond.instanceMethod ({ cls := "CommitDeskModel", name := "keep", desc := "(I)V" } : MethodName)) ∈ cd_TB := cd_in 466 (by decide +kernel) rfl
theorem tw_456 : (Cond.selects "CommitDeskModel" ({ cls := "CommitDeskModel", name := "keep", desc := "(I)V" } : MethodName) ({ cls := "CommitDeskModel", name := "keep", desc := "(I)V" } : MethodName)) ∈ cd_TB := cd_in 467 (by decide +kernel) rfl
theorem cv_L_97 : cd_okB y_M_keep cw_M_keep b_M_keep 2 none [] 1 ∧ Cond.methodLink "CommitDeskLaw" 97 y_M_keep ∈ cd_TB ∧ Cond.instanceMethod y_M_keep ∈ cd_TB ∧ Cond.selects "CommitDeskModel" y_M_keep y_M_keep ∈ cd_TB := ⟨ok_M_keep, tw_454, tw_455, tw_456⟩
theorem tw_458 : (Cond.methodLink "CommitDeskLaw" (100 : Nat) ({ cls := "CommitDeskModel", name := "done", desc := "(I)Z" } : MethodName)) ∈ cd_TB := cd_in 469 (by decide +kernel) rfl
theorem tw_459 : (Cond.instanceMethod ({ cls := "CommitDeskModel", name := "done", desc := "(I)Z" } : MethodName)) ∈ cd_TB := cd_in 470 (by decide +kernel) rfl
theorem tw_460 : (Cond.selects "CommitDeskModel" ({ cls := "CommitDeskModel", name := "done", desc := "(I)Z" } : MethodName) ({ cls := "CommitDeskModel", name := "done", desc := "(I)Z" } : MethodName)) ∈ cd_TB := cd_in 471 (by decide +kernel) rfl
theorem cv_L_100 : cd_okB y_M_done cw_M_done b_M_done 3 (some FieldType.boolean) [] 1 ∧ Cond.methodLink "CommitDeskLaw" 100 y_M_done ∈ cd_TB ∧ Cond.instanceMethod y_M_done ∈ cd_TB ∧ Cond.selects "CommitDeskModel" y_M_done y_M_done ∈ cd_TB := ⟨ok_M_done, tw_458, tw_459, tw_460⟩
theorem tw_462 : (Cond.methodLink "CommitDeskModel" (73 : Nat) ({ cls := "CommitDeskModel", name := "change", desc := "(IJ)V" } : MethodName)) ∈ cd_TB := cd_in 473 (by decide +kernel) rfl
theorem tw_464 : (Cond.instanceMethod ({ cls := "CommitDeskModel", name := "change", desc := "(IJ)V" } : MethodName)) ∈ cd_TB := cd_in 475 (by decide +kernel) rfl
theorem ts_10 : Cond.selects "CommitDeskModel" ⟨"CommitDeskModel", "change", "(IJ)V"⟩ ⟨"CommitDeskModel", "change", "(IJ)V"⟩ ∈ cd_TB := cd_in 10 (by decide +kernel) rfl
theorem cv_M_73 : cd_okB y_M_change cw_M_change b_M_change 4 none [] 2 ∧ Cond.methodLink "CommitDeskModel" 73 y_M_change ∈ cd_TB ∧ Cond.instanceMethod y_M_change ∈ cd_TB ∧ Cond.selects "CommitDeskModel" y_M_change y_M_change ∈ cd_TB := ⟨ok_M_change, tw_462, tw_464, ts_10⟩
theorem tw_466 : (Cond.methodLink "CommitDeskLaw" (103 : Nat) ({ cls := "CommitDeskModel", name := "leave", desc := "(I)V" } : MethodName)) ∈ cd_TB := cd_in 477 (by decide +kernel) rfl
theorem tw_467 : (Cond.instanceMethod ({ cls := "CommitDeskModel", name := "leave", desc := "(I)V" } : MethodName)) ∈ cd_TB := cd_in 478 (by decide +kernel) rfl
theorem tw_468 : (Cond.selects "CommitDeskModel" ({ cls := "CommitDeskModel", name := "leave", desc := "(I)V" } : MethodName) ({ cls := "CommitDeskModel", name := "leave", desc := "(I)V" } : MethodName)) ∈ cd_TB := cd_in 479 (by decide +kernel) rfl
theorem cv_L_103 : cd_okB y_M_leave cw_M_leave b_M_leave 2 none [] 1 ∧ Cond.methodLink "CommitDeskLaw" 103 y_M_leave ∈ cd_TB ∧ Cond.instanceMethod y_M_leave ∈ cd_TB ∧ Cond.selects "CommitDeskModel" y_M_leave y_M_leave ∈ cd_TB := ⟨ok_M_leave, tw_466, tw_467, tw_468⟩
theorem tw_470 : (Cond.methodLink "CommitDeskLaw" (107 : Nat) ({ cls := "CommitDeskModel", name := "set", desc := "(IJ)V" } : MethodName)) ∈ cd_TB := cd_in 481 (by decide +kernel) rfl
theorem tw_471 : (Cond.instanceMethod ({ cls := "CommitDeskModel", name := "set", desc := "(IJ)V" } : MethodName)) ∈ cd_TB := cd_in 482 (by decide +kernel) rfl
theorem tw_472 : (Cond.selects "CommitDeskModel" ({ cls := "CommitDeskModel", name := "set", desc := "(IJ)V" } : MethodName) ({ cls := "CommitDeskModel", name := "set", desc := "(IJ)V" } : MethodName)) ∈ cd_TB := cd_in 483 (by decide +kernel) rfl
theorem cv_L_107 : cd_okB y_M_set cw_M_set b_M_set 4 none [] 2 ∧ Cond.methodLink "CommitDeskLaw" 107 y_M_set ∈ cd_TB ∧ Cond.instanceMethod y_M_set ∈ cd_TB ∧ Cond.selects "CommitDeskModel" y_M_set y_M_set ∈ cd_TB := ⟨ok_M_set, tw_470, tw_471, tw_472⟩
theorem tw_474 : (Cond.methodLink "CommitDeskLaw" (110 : Nat) ({ cls := "CommitDeskModel", name := "cell", desc := "(I)J" } : MethodName)) ∈ cd_TB := cd_in 485 (by decide +kernel) rfl
theorem tw_475 : (Cond.instanceMethod ({ cls := "CommitDeskModel", name := "cell", desc := "(I)J" } : MethodName)) ∈ cd_TB := cd_in 486 (by decide +kernel) rfl
theorem tw_476 : (Cond.selects "CommitDeskModel" ({ cls := "CommitDeskModel", name := "cell", desc := "(I)J" } : MethodName) ({ cls := "CommitDeskModel", name := "cell", desc := "(I)J" } : MethodName)) ∈ cd_TB := cd_in 487 (by decide +kernel) rfl
theorem cv_L_110 : cd_okB y_M_cell cw_M_cell b_M_cell 2 (some FieldType.long) [] 1 ∧ Cond.methodLink "CommitDeskLaw" 110 y_M_cell ∈ cd_TB ∧ Cond.instanceMethod y_M_cell ∈ cd_TB ∧ Cond.selects "CommitDeskModel" y_M_cell y_M_cell ∈ cd_TB := ⟨ok_M_cell, tw_474, tw_475, tw_476⟩
theorem tw_478 : (Cond.methodLink "CommitDeskLaw" (113 : Nat) ({ cls := "CommitDeskModel", name := "changed", desc := "(I)I" } : MethodName)) ∈ cd_TB := cd_in 489 (by decide +kernel) rfl
theorem tw_479 : (Cond.instanceMethod ({ cls := "CommitDeskModel", name := "changed", desc := "(I)I" } : MethodName)) ∈ cd_TB := cd_in 490 (by decide +kernel) rfl
theorem tw_480 : (Cond.selects "CommitDeskModel" ({ cls := "CommitDeskModel", name := "changed", desc := "(I)I" } : MethodName) ({ cls := "CommitDeskModel", name := "changed", desc := "(I)I" } : MethodName)) ∈ cd_TB := cd_in 491 (by decide +kernel) rfl
theorem cv_L_113 : cd_okB y_M_changed cw_M_changed b_M_changed 2 (some FieldType.int) [] 1 ∧ Cond.methodLink "CommitDeskLaw" 113 y_M_changed ∈ cd_TB ∧ Cond.instanceMethod y_M_changed ∈ cd_TB ∧ Cond.selects "CommitDeskModel" y_M_changed y_M_changed ∈ cd_TB := ⟨ok_M_changed, tw_478, tw_479, tw_480⟩
theorem tw_482 : (Cond.methodLink "CommitDeskLaw" (116 : Nat) ({ cls := "CommitDeskModel", name := "count", desc := "(II)I" } : MethodName)) ∈ cd_TB := cd_in 493 (by decide +kernel) rfl
theorem tw_483 : (Cond.instanceMethod ({ cls := "CommitDeskModel", name := "count", desc := "(II)I" } : MethodName)) ∈ cd_TB := cd_in 494 (by decide +kernel) rfl
theorem tw_484 : (Cond.selects "CommitDeskModel" ({ cls := "CommitDeskModel", name := "count", desc := "(II)I" } : MethodName) ({ cls := "CommitDeskModel", name := "count", desc := "(II)I" } : MethodName)) ∈ cd_TB := cd_in 495 (by decide +kernel) rfl
theorem cv_L_116 : cd_okB y_M_count cw_M_count b_M_count 5 (some FieldType.int) [] 2 ∧ Cond.methodLink "CommitDeskLaw" 116 y_M_count ∈ cd_TB ∧ Cond.instanceMethod y_M_count ∈ cd_TB ∧ Cond.selects "CommitDeskModel" y_M_count y_M_count ∈ cd_TB := ⟨ok_M_count, tw_482, tw_483, tw_484⟩
theorem tw_486 : (Cond.constantLong "CommitDeskModel" (80 : Nat) (3 : Int64)) ∈ cd_TB := cd_in 497 (by decide +kernel) rfl
theorem kc_M_80 : (Cond.constantLong "CommitDeskModel" (80 : Nat) (3 : Int64)) ∈ cd_TB := tw_486
theorem tw_487 : (Cond.methodLink "CommitDeskLaw" (119 : Nat) ({ cls := "CommitDeskModel", name := "all", desc := "(I)I" } : MethodName)) ∈ cd_TB := cd_in 498 (by decide +kernel) rfl
theorem tw_488 : (Cond.instanceMethod ({ cls := "CommitDeskModel", name := "all", desc := "(I)I" } : MethodName)) ∈ cd_TB := cd_in 499 (by decide +kernel) rfl
theorem tw_489 : (Cond.selects "CommitDeskModel" ({ cls := "CommitDeskModel", name := "all", desc := "(I)I" } : MethodName) ({ cls := "CommitDeskModel", name := "all", desc := "(I)I" } : MethodName)) ∈ cd_TB := cd_in 500 (by decide +kernel) rfl
theorem cv_L_119 : cd_okB y_M_all cw_M_all b_M_all 4 (some FieldType.int) [] 1 ∧ Cond.methodLink "CommitDeskLaw" 119 y_M_all ∈ cd_TB ∧ Cond.instanceMethod y_M_all ∈ cd_TB ∧ Cond.selects "CommitDeskModel" y_M_all y_M_all ∈ cd_TB := ⟨ok_M_all, tw_487, tw_488, tw_489⟩
theorem tw_491 : (Cond.constantLong "CommitDeskModel" (82 : Nat) (2 : Int64)) ∈ cd_TB := cd_in 502 (by decide +kernel) rfl
theorem kc_M_82 : (Cond.constantLong "CommitDeskModel" (82 : Nat) (2 : Int64)) ∈ cd_TB := tw_491
theorem tw_492 : (Cond.constantLong "CommitDeskLaw" (82 : Nat) (4294967295 : Int64)) ∈ cd_TB := cd_in 503 (by decide +kernel) rfl
theorem kc_L_82 : (Cond.constantLong "CommitDeskLaw" (82 : Nat) (4294967295 : Int64)) ∈ cd_TB := tw_492
theorem tw_55 : (Cond.arrayClass FieldType.long) ∈ cd_TB := cd_in 66 (by decide +kernel) rfl
theorem ac_long : Cond.arrayClass .long ∈ cd_TB := tw_55
theorem tw_56 : (Cond.arrayClass FieldType.int) ∈ cd_TB := cd_in 67 (by decide +kernel) rfl
theorem ac_int : Cond.arrayClass .int ∈ cd_TB := tw_56
theorem tw_402 : (Cond.arrayClass FieldType.boolean) ∈ cd_TB := cd_in 413 (by decide +kernel) rfl
theorem ac_boolean : Cond.arrayClass .boolean ∈ cd_TB := tw_402
theorem tw_13 : (Cond.instantiable "CommitDesk" (5 : Nat)) ∈ cd_TB := cd_in 24 (by decide +kernel) rfl
theorem it_D : Cond.instantiable "CommitDesk" 5 ∈ cd_TB := tw_13
theorem tw_22 : (Cond.instantiable "CommitDesk$Work" (8 : Nat)) ∈ cd_TB := cd_in 33 (by decide +kernel) rfl
theorem it_W : Cond.instantiable "CommitDesk$Work" 8 ∈ cd_TB := tw_22
theorem tw_363 : (Cond.instantiable "CommitDeskModel" (11 : Nat)) ∈ cd_TB := cd_in 374 (by decide +kernel) rfl
theorem it_M : Cond.instantiable "CommitDeskModel" 11 ∈ cd_TB := tw_363
theorem tw_18 : (Cond.instanceMethod ({ cls := "java/lang/Object", name := "<init>", desc := "()V" } : MethodName)) ∈ cd_TB := cd_in 29 (by decide +kernel) rfl
theorem ob_inst : Cond.instanceMethod Lib.objectInit ∈ cd_TB := tw_18
theorem tw_19 : (Cond.code ({ cls := "java/lang/Object", name := "<init>", desc := "()V" } : MethodName) object_method_1_code (1 : Nat) (Option.none : Option FieldType)) ∈ cd_TB := cd_in 30 (by decide +kernel) rfl
theorem ob_code : Cond.code Lib.objectInit ⟨#[0xb1]⟩ 1 none ∈ cd_TB := tw_19
theorem tw_21 : (Cond.arrayOver (FieldType.object "CommitDesk$Work")) ∈ cd_TB := cd_in 32 (by decide +kernel) rfl
theorem ao_W : Cond.arrayOver (.object "CommitDesk$Work") ∈ cd_TB := tw_21
end
section
/-! What the bytes of CommitDesk and Work decode to. Printed by prog/names.py. -/
theorem d_D_init_0 : decode b_D_init 0 = .ok (.aload_n 0, 1) := by decide +kernel
theorem d_D_init_1 : decode b_D_init 1 = .ok (.invokespecial 1, 3) := by decide +kernel
theorem d_D_init_4 : decode b_D_init 4 = .ok (.aload_n 0, 1) := by decide +kernel
theorem d_D_init_5 : decode b_D_init 5 = .ok (.bipush 32, 2) := by decide +kernel
theorem d_D_init_7 : decode b_D_init 7 = .ok (.newarray .long, 2) := by decide +kernel
theorem d_D_init_9 : decode b_D_init 9 = .ok (.putfield 9, 3) := by decide +kernel
theorem d_D_init_12 : decode b_D_init 12 = .ok (.aload_n 0, 1) := by decide +kernel
theorem d_D_init_13 : decode b_D_init 13 = .ok (.bipush 32, 2) := by decide +kernel
theorem d_D_init_15 : decode b_D_init 15 = .ok (.newarray .int, 2) := by decide +kernel
theorem d_D_init_17 : decode b_D_init 17 = .ok (.putfield 13, 3) := by decide +kernel
theorem d_D_init_20 : decode b_D_init 20 = .ok (.aload_n 0, 1) := by decide +kernel
theorem d_D_init_21 : decode b_D_init 21 = .ok (.bipush 8, 2) := by decide +kernel
theorem d_D_init_23 : decode b_D_init 23 = .ok (.anewarray 17, 3) := by decide +kernel
theorem d_D_init_26 : decode b_D_init 26 = .ok (.putfield 19, 3) := by decide +kernel
theorem d_D_init_29 : decode b_D_init 29 = .ok (.iconst 0, 1) := by decide +kernel
theorem d_D_init_30 : decode b_D_init 30 = .ok (.istore_n 1, 1) := by decide +kernel
theorem d_D_init_31 : decode b_D_init 31 = .ok (.iload_n 1, 1) := by decide +kernel
theorem d_D_init_32 : decode b_D_init 32 = .ok (.bipush 8, 2) := by decide +kernel
theorem d_D_init_34 : decode b_D_init 34 = .ok (.if_icmp .ge 22, 3) := by decide +kernel
theorem d_D_init_37 : decode b_D_init 37 = .ok (.aload_n 0, 1) := by decide +kernel
theorem d_D_init_38 : decode b_D_init 38 = .ok (.getfield 19, 3) := by decide +kernel
theorem d_D_init_41 : decode b_D_init 41 = .ok (.iload_n 1, 1) := by decide +kernel
theorem d_D_init_42 : decode b_D_init 42 = .ok (.new 17, 3) := by decide +kernel
theorem d_D_init_45 : decode b_D_init 45 = .ok (.dup, 1) := by decide +kernel
theorem d_D_init_46 : decode b_D_init 46 = .ok (.invokespecial 23, 3) := by decide +kernel
theorem d_D_init_49 : decode b_D_init 49 = .ok (.aastore, 1) := by decide +kernel
theorem d_D_init_50 : decode b_D_init 50 = .ok (.iinc 1 1, 3) := by decide +kernel
theorem d_D_init_53 : decode b_D_init 53 = .ok (.goto (-22), 3) := by decide +kernel
theorem d_D_init_56 : decode b_D_init 56 = .ok (.return_, 1) := by decide +kernel
theorem d_D_good_0 : decode b_D_good 0 = .ok (.iload_n 0, 1) := by decide +kernel
theorem d_D_good_1 : decode b_D_good 1 = .ok (.ifCond .ne 11, 3) := by decide +kernel
theorem d_D_good_4 : decode b_D_good 4 = .ok (.new 24, 3) := by decide +kernel
theorem d_D_good_7 : decode b_D_good 7 = .ok (.dup, 1) := by decide +kernel
theorem d_D_good_8 : decode b_D_good 8 = .ok (.invokespecial 26, 3) := by decide +kernel
theorem d_D_good_11 : decode b_D_good 11 = .ok (.athrow, 1) := by decide +kernel
theorem d_D_good_12 : decode b_D_good 12 = .ok (.return_, 1) := by decide +kernel
theorem d_D_there_0 : decode b_D_there 0 = .ok (.iload_n 0, 1) := by decide +kernel
theorem d_D_there_1 : decode b_D_there 1 = .ok (.ifCond .lt 9, 3) := by decide +kernel
theorem d_D_there_4 : decode b_D_there 4 = .ok (.iload_n 0, 1) := by decide +kernel
theorem d_D_there_5 : decode b_D_there 5 = .ok (.bipush 32, 2) := by decide +kernel
theorem d_D_there_7 : decode b_D_there 7 = .ok (.if_icmp .lt 11, 3) := by decide +kernel
theorem d_D_there_10 : decode b_D_there 10 = .ok (.new 27, 3) := by decide +kernel
theorem d_D_there_13 : decode b_D_there 13 = .ok (.dup, 1) := by decide +kernel
theorem d_D_there_14 : decode b_D_there 14 = .ok (.invokespecial 29, 3) := by decide +kernel
theorem d_D_there_17 : decode b_D_there 17 = .ok (.athrow, 1) := by decide +kernel
theorem d_D_there_18 : decode b_D_there 18 = .ok (.return_, 1) := by decide +kernel
theorem d_D_can_0 : decode b_D_can 0 = .ok (.iload_n 0, 1) := by decide +kernel
theorem d_D_can_1 : decode b_D_can 1 = .ok (.ifCond .ne 11, 3) := by decide +kernel
theorem d_D_can_4 : decode b_D_can 4 = .ok (.new 30, 3) := by decide +kernel
theorem d_D_can_7 : decode b_D_can 7 = .ok (.dup, 1) := by decide +kernel
theorem d_D_can_8 : decode b_D_can 8 = .ok (.invokespecial 32, 3) := by decide +kernel
theorem d_D_can_11 : decode b_D_can 11 = .ok (.athrow, 1) := by decide +kernel
theorem d_D_can_12 : decode b_D_can 12 = .ok (.return_, 1) := by decide +kernel
theorem d_D_work_0 : decode b_D_work 0 = .ok (.iload_n 1, 1) := by decide +kernel
theorem d_D_work_1 : decode b_D_work 1 = .ok (.ifCond .lt 13, 3) := by decide +kernel
theorem d_D_work_4 : decode b_D_work 4 = .ok (.iload_n 1, 1) := by decide +kernel
theorem d_D_work_5 : decode b_D_work 5 = .ok (.bipush 8, 2) := by decide +kernel
theorem d_D_work_7 : decode b_D_work 7 = .ok (.if_icmp .ge 7, 3) := by decide +kernel
theorem d_D_work_10 : decode b_D_work 10 = .ok (.iconst 1, 1) := by decide +kernel
theorem d_D_work_11 : decode b_D_work 11 = .ok (.goto 4, 3) := by decide +kernel
theorem d_D_work_14 : decode b_D_work 14 = .ok (.iconst 0, 1) := by decide +kernel
theorem d_D_work_15 : decode b_D_work 15 = .ok (.invokestatic 33, 3) := by decide +kernel
theorem d_D_work_18 : decode b_D_work 18 = .ok (.aload_n 0, 1) := by decide +kernel
theorem d_D_work_19 : decode b_D_work 19 = .ok (.getfield 19, 3) := by decide +kernel
theorem d_D_work_22 : decode b_D_work 22 = .ok (.iload_n 1, 1) := by decide +kernel
theorem d_D_work_23 : decode b_D_work 23 = .ok (.aaload, 1) := by decide +kernel
theorem d_D_work_24 : decode b_D_work 24 = .ok (.areturn, 1) := by decide +kernel
theorem d_D_open_0 : decode b_D_open 0 = .ok (.aload_n 0, 1) := by decide +kernel
theorem d_D_open_1 : decode b_D_open 1 = .ok (.iload_n 1, 1) := by decide +kernel
theorem d_D_open_2 : decode b_D_open 2 = .ok (.invokevirtual 37, 3) := by decide +kernel
theorem d_D_open_5 : decode b_D_open 5 = .ok (.astore_n 2, 1) := by decide +kernel
theorem d_D_open_6 : decode b_D_open 6 = .ok (.aload_n 2, 1) := by decide +kernel
theorem d_D_open_7 : decode b_D_open 7 = .ok (.getfield 41, 3) := by decide +kernel
theorem d_D_open_10 : decode b_D_open 10 = .ok (.ifCond .ne 11, 3) := by decide +kernel
theorem d_D_open_13 : decode b_D_open 13 = .ok (.new 45, 3) := by decide +kernel
theorem d_D_open_16 : decode b_D_open 16 = .ok (.dup, 1) := by decide +kernel
theorem d_D_open_17 : decode b_D_open 17 = .ok (.invokespecial 47, 3) := by decide +kernel
theorem d_D_open_20 : decode b_D_open 20 = .ok (.athrow, 1) := by decide +kernel
theorem d_D_open_21 : decode b_D_open 21 = .ok (.aload_n 2, 1) := by decide +kernel
theorem d_D_open_22 : decode b_D_open 22 = .ok (.areturn, 1) := by decide +kernel
theorem d_D_begin_0 : decode b_D_begin 0 = .ok (.aload_n 0, 1) := by decide +kernel
theorem d_D_begin_1 : decode b_D_begin 1 = .ok (.iload_n 1, 1) := by decide +kernel
theorem d_D_begin_2 : decode b_D_begin 2 = .ok (.invokevirtual 37, 3) := by decide +kernel
theorem d_D_begin_5 : decode b_D_begin 5 = .ok (.astore_n 2, 1) := by decide +kernel
theorem d_D_begin_6 : decode b_D_begin 6 = .ok (.aload_n 2, 1) := by decide +kernel
theorem d_D_begin_7 : decode b_D_begin 7 = .ok (.getfield 41, 3) := by decide +kernel
theorem d_D_begin_10 : decode b_D_begin 10 = .ok (.ifCond .eq 11, 3) := by decide +kernel
theorem d_D_begin_13 : decode b_D_begin 13 = .ok (.new 45, 3) := by decide +kernel
theorem d_D_begin_16 : decode b_D_begin 16 = .ok (.dup, 1) := by decide +kernel
theorem d_D_begin_17 : decode b_D_begin 17 = .ok (.invokespecial 47, 3) := by decide +kernel
theorem d_D_begin_20 : decode b_D_begin 20 = .ok (.athrow, 1) := by decide +kernel
theorem d_D_begin_21 : decode b_D_begin 21 = .ok (.aload_n 2, 1) := by decide +kernel
theorem d_D_begin_22 : decode b_D_begin 22 = .ok (.invokevirtual 48, 3) := by decide +kernel
theorem d_D_begin_25 : decode b_D_begin 25 = .ok (.return_, 1) := by decide +kernel
theorem d_D_read_0 : decode b_D_read 0 = .ok (.aload_n 0, 1) := by decide +kernel
theorem d_D_read_1 : decode b_D_read 1 = .ok (.iload_n 1, 1) := by decide +kernel
theorem d_D_read_2 : decode b_D_read 2 = .ok (.invokevirtual 37, 3) := by decide +kernel
theorem d_D_read_5 : decode b_D_read 5 = .ok (.pop, 1) := by decide +kernel
theorem d_D_read_6 : decode b_D_read 6 = .ok (.iload_n 2, 1) := by decide +kernel
theorem d_D_read_7 : decode b_D_read 7 = .ok (.invokestatic 51, 3) := by decide +kernel
theorem d_D_read_10 : decode b_D_read 10 = .ok (.aload_n 0, 1) := by decide +kernel
theorem d_D_read_11 : decode b_D_read 11 = .ok (.iload_n 1, 1) := by decide +kernel
theorem d_D_read_12 : decode b_D_read 12 = .ok (.invokevirtual 55, 3) := by decide +kernel
theorem d_D_read_15 : decode b_D_read 15 = .ok (.astore_n 3, 1) := by decide +kernel
theorem d_D_read_16 : decode b_D_read 16 = .ok (.aload_n 3, 1) := by decide +kernel
theorem d_D_read_17 : decode b_D_read 17 = .ok (.iload_n 2, 1) := by decide +kernel
theorem d_D_read_18 : decode b_D_read 18 = .ok (.invokevirtual 57, 3) := by decide +kernel
theorem d_D_read_21 : decode b_D_read 21 = .ok (.istore 4, 2) := by decide +kernel
theorem d_D_read_23 : decode b_D_read 23 = .ok (.iload 4, 2) := by decide +kernel
theorem d_D_read_25 : decode b_D_read 25 = .ok (.iconst (-1), 1) := by decide +kernel
theorem d_D_read_26 : decode b_D_read 26 = .ok (.if_icmp .eq 10, 3) := by decide +kernel
theorem d_D_read_29 : decode b_D_read 29 = .ok (.aload_n 3, 1) := by decide +kernel
theorem d_D_read_30 : decode b_D_read 30 = .ok (.iload 4, 2) := by decide +kernel
theorem d_D_read_32 : decode b_D_read 32 = .ok (.invokevirtual 61, 3) := by decide +kernel
theorem d_D_read_35 : decode b_D_read 35 = .ok (.lreturn, 1) := by decide +kernel
theorem d_D_read_36 : decode b_D_read 36 = .ok (.aload_n 0, 1) := by decide +kernel
theorem d_D_read_37 : decode b_D_read 37 = .ok (.aload_n 3, 1) := by decide +kernel
theorem d_D_read_38 : decode b_D_read 38 = .ok (.invokevirtual 65, 3) := by decide +kernel
theorem d_D_read_41 : decode b_D_read 41 = .ok (.invokestatic 69, 3) := by decide +kernel
theorem d_D_read_44 : decode b_D_read 44 = .ok (.aload_n 3, 1) := by decide +kernel
theorem d_D_read_45 : decode b_D_read 45 = .ok (.iload_n 2, 1) := by decide +kernel
theorem d_D_read_46 : decode b_D_read 46 = .ok (.aload_n 0, 1) := by decide +kernel
theorem d_D_read_47 : decode b_D_read 47 = .ok (.getfield 13, 3) := by decide +kernel
theorem d_D_read_50 : decode b_D_read 50 = .ok (.iload_n 2, 1) := by decide +kernel
theorem d_D_read_51 : decode b_D_read 51 = .ok (.iaload, 1) := by decide +kernel
theorem d_D_read_52 : decode b_D_read 52 = .ok (.invokevirtual 72, 3) := by decide +kernel
theorem d_D_read_55 : decode b_D_read 55 = .ok (.aload_n 0, 1) := by decide +kernel
theorem d_D_read_56 : decode b_D_read 56 = .ok (.getfield 9, 3) := by decide +kernel
theorem d_D_read_59 : decode b_D_read 59 = .ok (.iload_n 2, 1) := by decide +kernel
theorem d_D_read_60 : decode b_D_read 60 = .ok (.laload, 1) := by decide +kernel
theorem d_D_read_61 : decode b_D_read 61 = .ok (.lreturn, 1) := by decide +kernel
theorem d_D_isFresh_0 : decode b_D_isFresh 0 = .ok (.aload_n 1, 1) := by decide +kernel
theorem d_D_isFresh_1 : decode b_D_isFresh 1 = .ok (.aload_n 0, 1) := by decide +kernel
theorem d_D_isFresh_2 : decode b_D_isFresh 2 = .ok (.getfield 13, 3) := by decide +kernel
theorem d_D_isFresh_5 : decode b_D_isFresh 5 = .ok (.invokevirtual 76, 3) := by decide +kernel
theorem d_D_isFresh_8 : decode b_D_isFresh 8 = .ok (.ifCond .ne 5, 3) := by decide +kernel
theorem d_D_isFresh_11 : decode b_D_isFresh 11 = .ok (.iconst 1, 1) := by decide +kernel
theorem d_D_isFresh_12 : decode b_D_isFresh 12 = .ok (.ireturn, 1) := by decide +kernel
theorem d_D_isFresh_13 : decode b_D_isFresh 13 = .ok (.aload_n 1, 1) := by decide +kernel
theorem d_D_isFresh_14 : decode b_D_isFresh 14 = .ok (.iconst 0, 1) := by decide +kernel
theorem d_D_isFresh_15 : decode b_D_isFresh 15 = .ok (.putfield 41, 3) := by decide +kernel
theorem d_D_isFresh_18 : decode b_D_isFresh 18 = .ok (.aload_n 0, 1) := by decide +kernel
theorem d_D_isFresh_19 : decode b_D_isFresh 19 = .ok (.dup, 1) := by decide +kernel
theorem d_D_isFresh_20 : decode b_D_isFresh 20 = .ok (.getfield 80, 3) := by decide +kernel
theorem d_D_isFresh_23 : decode b_D_isFresh 23 = .ok (.iconst 1, 1) := by decide +kernel
theorem d_D_isFresh_24 : decode b_D_isFresh 24 = .ok (.iadd, 1) := by decide +kernel
theorem d_D_isFresh_25 : decode b_D_isFresh 25 = .ok (.putfield 80, 3) := by decide +kernel
theorem d_D_isFresh_28 : decode b_D_isFresh 28 = .ok (.iconst 0, 1) := by decide +kernel
theorem d_D_isFresh_29 : decode b_D_isFresh 29 = .ok (.ireturn, 1) := by decide +kernel
theorem d_D_write_0 : decode b_D_write 0 = .ok (.aload_n 0, 1) := by decide +kernel
theorem d_D_write_1 : decode b_D_write 1 = .ok (.iload_n 1, 1) := by decide +kernel
theorem d_D_write_2 : decode b_D_write 2 = .ok (.invokevirtual 37, 3) := by decide +kernel
theorem d_D_write_5 : decode b_D_write 5 = .ok (.pop, 1) := by decide +kernel
theorem d_D_write_6 : decode b_D_write 6 = .ok (.iload_n 2, 1) := by decide +kernel
theorem d_D_write_7 : decode b_D_write 7 = .ok (.invokestatic 51, 3) := by decide +kernel
theorem d_D_write_10 : decode b_D_write 10 = .ok (.aload_n 0, 1) := by decide +kernel
theorem d_D_write_11 : decode b_D_write 11 = .ok (.iload_n 1, 1) := by decide +kernel
theorem d_D_write_12 : decode b_D_write 12 = .ok (.invokevirtual 55, 3) := by decide +kernel
theorem d_D_write_15 : decode b_D_write 15 = .ok (.iload_n 2, 1) := by decide +kernel
theorem d_D_write_16 : decode b_D_write 16 = .ok (.lload_n 3, 1) := by decide +kernel
theorem d_D_write_17 : decode b_D_write 17 = .ok (.invokevirtual 83, 3) := by decide +kernel
theorem d_D_write_20 : decode b_D_write 20 = .ok (.return_, 1) := by decide +kernel
theorem d_D_save_0 : decode b_D_save 0 = .ok (.aload_n 0, 1) := by decide +kernel
theorem d_D_save_1 : decode b_D_save 1 = .ok (.iload_n 1, 1) := by decide +kernel
theorem d_D_save_2 : decode b_D_save 2 = .ok (.invokevirtual 55, 3) := by decide +kernel
theorem d_D_save_5 : decode b_D_save 5 = .ok (.astore_n 2, 1) := by decide +kernel
theorem d_D_save_6 : decode b_D_save 6 = .ok (.aload_n 2, 1) := by decide +kernel
theorem d_D_save_7 : decode b_D_save 7 = .ok (.getfield 87, 3) := by decide +kernel
theorem d_D_save_10 : decode b_D_save 10 = .ok (.iconst 5, 1) := by decide +kernel
theorem d_D_save_11 : decode b_D_save 11 = .ok (.if_icmp .ge 7, 3) := by decide +kernel
theorem d_D_save_14 : decode b_D_save 14 = .ok (.iconst 1, 1) := by decide +kernel
theorem d_D_save_15 : decode b_D_save 15 = .ok (.goto 4, 3) := by decide +kernel
theorem d_D_save_18 : decode b_D_save 18 = .ok (.iconst 0, 1) := by decide +kernel
theorem d_D_save_19 : decode b_D_save 19 = .ok (.invokestatic 69, 3) := by decide +kernel
theorem d_D_save_22 : decode b_D_save 22 = .ok (.aload_n 2, 1) := by decide +kernel
theorem d_D_save_23 : decode b_D_save 23 = .ok (.invokevirtual 90, 3) := by decide +kernel
theorem d_D_save_26 : decode b_D_save 26 = .ok (.aload_n 2, 1) := by decide +kernel
theorem d_D_save_27 : decode b_D_save 27 = .ok (.getfield 87, 3) := by decide +kernel
theorem d_D_save_30 : decode b_D_save 30 = .ok (.ireturn, 1) := by decide +kernel
theorem d_D_back_0 : decode b_D_back 0 = .ok (.aload_n 0, 1) := by decide +kernel
theorem d_D_back_1 : decode b_D_back 1 = .ok (.iload_n 1, 1) := by decide +kernel
theorem d_D_back_2 : decode b_D_back 2 = .ok (.invokevirtual 55, 3) := by decide +kernel
theorem d_D_back_5 : decode b_D_back 5 = .ok (.astore_n 2, 1) := by decide +kernel
theorem d_D_back_6 : decode b_D_back 6 = .ok (.aload_n 2, 1) := by decide +kernel
theorem d_D_back_7 : decode b_D_back 7 = .ok (.getfield 87, 3) := by decide +kernel
theorem d_D_back_10 : decode b_D_back 10 = .ok (.iconst 1, 1) := by decide +kernel
theorem d_D_back_11 : decode b_D_back 11 = .ok (.if_icmp .le 7, 3) := by decide +kernel
theorem d_D_back_14 : decode b_D_back 14 = .ok (.iconst 1, 1) := by decide +kernel
theorem d_D_back_15 : decode b_D_back 15 = .ok (.goto 4, 3) := by decide +kernel
theorem d_D_back_18 : decode b_D_back 18 = .ok (.iconst 0, 1) := by decide +kernel
theorem d_D_back_19 : decode b_D_back 19 = .ok (.invokestatic 69, 3) := by decide +kernel
theorem d_D_back_22 : decode b_D_back 22 = .ok (.aload_n 2, 1) := by decide +kernel
theorem d_D_back_23 : decode b_D_back 23 = .ok (.invokevirtual 93, 3) := by decide +kernel
theorem d_D_back_26 : decode b_D_back 26 = .ok (.return_, 1) := by decide +kernel
theorem d_D_keep_0 : decode b_D_keep 0 = .ok (.aload_n 0, 1) := by decide +kernel
theorem d_D_keep_1 : decode b_D_keep 1 = .ok (.iload_n 1, 1) := by decide +kernel
theorem d_D_keep_2 : decode b_D_keep 2 = .ok (.invokevirtual 55, 3) := by decide +kernel
theorem d_D_keep_5 : decode b_D_keep 5 = .ok (.astore_n 2, 1) := by decide +kernel
theorem d_D_keep_6 : decode b_D_keep 6 = .ok (.aload_n 2, 1) := by decide +kernel
theorem d_D_keep_7 : decode b_D_keep 7 = .ok (.getfield 87, 3) := by decide +kernel
theorem d_D_keep_10 : decode b_D_keep 10 = .ok (.iconst 1, 1) := by decide +kernel
theorem d_D_keep_11 : decode b_D_keep 11 = .ok (.if_icmp .le 7, 3) := by decide +kernel
theorem d_D_keep_14 : decode b_D_keep 14 = .ok (.iconst 1, 1) := by decide +kernel
theorem d_D_keep_15 : decode b_D_keep 15 = .ok (.goto 4, 3) := by decide +kernel
theorem d_D_keep_18 : decode b_D_keep 18 = .ok (.iconst 0, 1) := by decide +kernel
theorem d_D_keep_19 : decode b_D_keep 19 = .ok (.invokestatic 69, 3) := by decide +kernel
theorem d_D_keep_22 : decode b_D_keep 22 = .ok (.aload_n 2, 1) := by decide +kernel
theorem d_D_keep_23 : decode b_D_keep 23 = .ok (.invokevirtual 96, 3) := by decide +kernel
theorem d_D_keep_26 : decode b_D_keep 26 = .ok (.return_, 1) := by decide +kernel
theorem d_D_done_0 : decode b_D_done 0 = .ok (.aload_n 0, 1) := by decide +kernel
theorem d_D_done_1 : decode b_D_done 1 = .ok (.iload_n 1, 1) := by decide +kernel
theorem d_D_done_2 : decode b_D_done 2 = .ok (.invokevirtual 55, 3) := by decide +kernel
theorem d_D_done_5 : decode b_D_done 5 = .ok (.astore_n 2, 1) := by decide +kernel
theorem d_D_done_6 : decode b_D_done 6 = .ok (.aload_n 0, 1) := by decide +kernel
theorem d_D_done_7 : decode b_D_done 7 = .ok (.aload_n 2, 1) := by decide +kernel
theorem d_D_done_8 : decode b_D_done 8 = .ok (.invokevirtual 65, 3) := by decide +kernel
theorem d_D_done_11 : decode b_D_done 11 = .ok (.ifCond .ne 5, 3) := by decide +kernel
theorem d_D_done_14 : decode b_D_done 14 = .ok (.iconst 0, 1) := by decide +kernel
theorem d_D_done_15 : decode b_D_done 15 = .ok (.ireturn, 1) := by decide +kernel
theorem d_D_done_16 : decode b_D_done 16 = .ok (.aload_n 2, 1) := by decide +kernel
theorem d_D_done_17 : decode b_D_done 17 = .ok (.iconst 0, 1) := by decide +kernel
theorem d_D_done_18 : decode b_D_done 18 = .ok (.putfield 41, 3) := by decide +kernel
theorem d_D_done_21 : decode b_D_done 21 = .ok (.aload_n 0, 1) := by decide +kernel
theorem d_D_done_22 : decode b_D_done 22 = .ok (.dup, 1) := by decide +kernel
theorem d_D_done_23 : decode b_D_done 23 = .ok (.getfield 99, 3) := by decide +kernel
theorem d_D_done_26 : decode b_D_done 26 = .ok (.iconst 1, 1) := by decide +kernel
theorem d_D_done_27 : decode b_D_done 27 = .ok (.iadd, 1) := by decide +kernel
theorem d_D_done_28 : decode b_D_done 28 = .ok (.putfield 99, 3) := by decide +kernel
theorem d_D_done_31 : decode b_D_done 31 = .ok (.iconst 0, 1) := by decide +kernel
theorem d_D_done_32 : decode b_D_done 32 = .ok (.istore_n 3, 1) := by decide +kernel
theorem d_D_done_33 : decode b_D_done 33 = .ok (.iload_n 3, 1) := by decide +kernel
theorem d_D_done_34 : decode b_D_done 34 = .ok (.aload_n 2, 1) := by decide +kernel
theorem d_D_done_35 : decode b_D_done 35 = .ok (.invokevirtual 102, 3) := by decide +kernel
theorem d_D_done_38 : decode b_D_done 38 = .ok (.if_icmp .ge 36, 3) := by decide +kernel
theorem d_D_done_41 : decode b_D_done 41 = .ok (.aload_n 2, 1) := by decide +kernel
theorem d_D_done_42 : decode b_D_done 42 = .ok (.aload_n 2, 1) := by decide +kernel
theorem d_D_done_43 : decode b_D_done 43 = .ok (.iload_n 3, 1) := by decide +kernel
theorem d_D_done_44 : decode b_D_done 44 = .ok (.invokevirtual 106, 3) := by decide +kernel
theorem d_D_done_47 : decode b_D_done 47 = .ok (.invokevirtual 57, 3) := by decide +kernel
theorem d_D_done_50 : decode b_D_done 50 = .ok (.iload_n 3, 1) := by decide +kernel
theorem d_D_done_51 : decode b_D_done 51 = .ok (.if_icmp .ne 17, 3) := by decide +kernel
theorem d_D_done_54 : decode b_D_done 54 = .ok (.aload_n 0, 1) := by decide +kernel
theorem d_D_done_55 : decode b_D_done 55 = .ok (.aload_n 2, 1) := by decide +kernel
theorem d_D_done_56 : decode b_D_done 56 = .ok (.iload_n 3, 1) := by decide +kernel
theorem d_D_done_57 : decode b_D_done 57 = .ok (.invokevirtual 106, 3) := by decide +kernel
theorem d_D_done_60 : decode b_D_done 60 = .ok (.aload_n 2, 1) := by decide +kernel
theorem d_D_done_61 : decode b_D_done 61 = .ok (.iload_n 3, 1) := by decide +kernel
theorem d_D_done_62 : decode b_D_done 62 = .ok (.invokevirtual 61, 3) := by decide +kernel
theorem d_D_done_65 : decode b_D_done 65 = .ok (.invokevirtual 109, 3) := by decide +kernel
theorem d_D_done_68 : decode b_D_done 68 = .ok (.iinc 3 1, 3) := by decide +kernel
theorem d_D_done_71 : decode b_D_done 71 = .ok (.goto (-38), 3) := by decide +kernel
theorem d_D_done_74 : decode b_D_done 74 = .ok (.iconst 1, 1) := by decide +kernel
theorem d_D_done_75 : decode b_D_done 75 = .ok (.ireturn, 1) := by decide +kernel
theorem d_D_leave_0 : decode b_D_leave 0 = .ok (.aload_n 0, 1) := by decide +kernel
theorem d_D_leave_1 : decode b_D_leave 1 = .ok (.iload_n 1, 1) := by decide +kernel
theorem d_D_leave_2 : decode b_D_leave 2 = .ok (.invokevirtual 55, 3) := by decide +kernel
theorem d_D_leave_5 : decode b_D_leave 5 = .ok (.iconst 0, 1) := by decide +kernel
theorem d_D_leave_6 : decode b_D_leave 6 = .ok (.putfield 41, 3) := by decide +kernel
theorem d_D_leave_9 : decode b_D_leave 9 = .ok (.return_, 1) := by decide +kernel
theorem d_D_put_0 : decode b_D_put 0 = .ok (.aload_n 0, 1) := by decide +kernel
theorem d_D_put_1 : decode b_D_put 1 = .ok (.getfield 9, 3) := by decide +kernel
theorem d_D_put_4 : decode b_D_put 4 = .ok (.iload_n 1, 1) := by decide +kernel
theorem d_D_put_5 : decode b_D_put 5 = .ok (.lload_n 2, 1) := by decide +kernel
theorem d_D_put_6 : decode b_D_put 6 = .ok (.lastore, 1) := by decide +kernel
theorem d_D_put_7 : decode b_D_put 7 = .ok (.aload_n 0, 1) := by decide +kernel
theorem d_D_put_8 : decode b_D_put 8 = .ok (.getfield 13, 3) := by decide +kernel
theorem d_D_put_11 : decode b_D_put 11 = .ok (.iload_n 1, 1) := by decide +kernel
theorem d_D_put_12 : decode b_D_put 12 = .ok (.dup2, 1) := by decide +kernel
theorem d_D_put_13 : decode b_D_put 13 = .ok (.iaload, 1) := by decide +kernel
theorem d_D_put_14 : decode b_D_put 14 = .ok (.iconst 1, 1) := by decide +kernel
theorem d_D_put_15 : decode b_D_put 15 = .ok (.iadd, 1) := by decide +kernel
theorem d_D_put_16 : decode b_D_put 16 = .ok (.iastore, 1) := by decide +kernel
theorem d_D_put_17 : decode b_D_put 17 = .ok (.return_, 1) := by decide +kernel
theorem d_D_set_0 : decode b_D_set 0 = .ok (.iload_n 1, 1) := by decide +kernel
theorem d_D_set_1 : decode b_D_set 1 = .ok (.invokestatic 51, 3) := by decide +kernel
theorem d_D_set_4 : decode b_D_set 4 = .ok (.aload_n 0, 1) := by decide +kernel
theorem d_D_set_5 : decode b_D_set 5 = .ok (.iload_n 1, 1) := by decide +kernel
theorem d_D_set_6 : decode b_D_set 6 = .ok (.lload_n 2, 1) := by decide +kernel
theorem d_D_set_7 : decode b_D_set 7 = .ok (.invokevirtual 109, 3) := by decide +kernel
theorem d_D_set_10 : decode b_D_set 10 = .ok (.return_, 1) := by decide +kernel
theorem d_D_cell_0 : decode b_D_cell 0 = .ok (.iload_n 1, 1) := by decide +kernel
theorem d_D_cell_1 : decode b_D_cell 1 = .ok (.invokestatic 51, 3) := by decide +kernel
theorem d_D_cell_4 : decode b_D_cell 4 = .ok (.aload_n 0, 1) := by decide +kernel
theorem d_D_cell_5 : decode b_D_cell 5 = .ok (.getfield 9, 3) := by decide +kernel
theorem d_D_cell_8 : decode b_D_cell 8 = .ok (.iload_n 1, 1) := by decide +kernel
theorem d_D_cell_9 : decode b_D_cell 9 = .ok (.laload, 1) := by decide +kernel
theorem d_D_cell_10 : decode b_D_cell 10 = .ok (.lreturn, 1) := by decide +kernel
theorem d_D_changed_0 : decode b_D_changed 0 = .ok (.iload_n 1, 1) := by decide +kernel
theorem d_D_changed_1 : decode b_D_changed 1 = .ok (.invokestatic 51, 3) := by decide +kernel
theorem d_D_changed_4 : decode b_D_changed 4 = .ok (.aload_n 0, 1) := by decide +kernel
theorem d_D_changed_5 : decode b_D_changed 5 = .ok (.getfield 13, 3) := by decide +kernel
theorem d_D_changed_8 : decode b_D_changed 8 = .ok (.iload_n 1, 1) := by decide +kernel
theorem d_D_changed_9 : decode b_D_changed 9 = .ok (.iaload, 1) := by decide +kernel
theorem d_D_changed_10 : decode b_D_changed 10 = .ok (.ireturn, 1) := by decide +kernel
theorem d_D_count_0 : decode b_D_count 0 = .ok (.iload_n 2, 1) := by decide +kernel
theorem d_D_count_1 : decode b_D_count 1 = .ok (.ifCond .lt 12, 3) := by decide +kernel
theorem d_D_count_4 : decode b_D_count 4 = .ok (.iload_n 2, 1) := by decide +kernel
theorem d_D_count_5 : decode b_D_count 5 = .ok (.iconst 4, 1) := by decide +kernel
theorem d_D_count_6 : decode b_D_count 6 = .ok (.if_icmp .ge 7, 3) := by decide +kernel
theorem d_D_count_9 : decode b_D_count 9 = .ok (.iconst 1, 1) := by decide +kernel
theorem d_D_count_10 : decode b_D_count 10 = .ok (.goto 4, 3) := by decide +kernel
theorem d_D_count_13 : decode b_D_count 13 = .ok (.iconst 0, 1) := by decide +kernel
theorem d_D_count_14 : decode b_D_count 14 = .ok (.invokestatic 33, 3) := by decide +kernel
theorem d_D_count_17 : decode b_D_count 17 = .ok (.aload_n 0, 1) := by decide +kernel
theorem d_D_count_18 : decode b_D_count 18 = .ok (.iload_n 1, 1) := by decide +kernel
theorem d_D_count_19 : decode b_D_count 19 = .ok (.invokevirtual 55, 3) := by decide +kernel
theorem d_D_count_22 : decode b_D_count 22 = .ok (.astore_n 3, 1) := by decide +kernel
theorem d_D_count_23 : decode b_D_count 23 = .ok (.iload_n 2, 1) := by decide +kernel
theorem d_D_count_24 : decode b_D_count 24 = .ok (.ifCond .ne 13, 3) := by decide +kernel
theorem d_D_count_27 : decode b_D_count 27 = .ok (.aload_n 3, 1) := by decide +kernel
theorem d_D_count_28 : decode b_D_count 28 = .ok (.getfield 112, 3) := by decide +kernel
theorem d_D_count_31 : decode b_D_count 31 = .ok (.invokestatic 115, 3) := by decide +kernel
theorem d_D_count_34 : decode b_D_count 34 = .ok (.goto 43, 3) := by decide +kernel
theorem d_D_count_37 : decode b_D_count 37 = .ok (.iload_n 2, 1) := by decide +kernel
theorem d_D_count_38 : decode b_D_count 38 = .ok (.iconst 1, 1) := by decide +kernel
theorem d_D_count_39 : decode b_D_count 39 = .ok (.if_icmp .ne 10, 3) := by decide +kernel
theorem d_D_count_42 : decode b_D_count 42 = .ok (.aload_n 3, 1) := by decide +kernel
theorem d_D_count_43 : decode b_D_count 43 = .ok (.invokevirtual 120, 3) := by decide +kernel
theorem d_D_count_46 : decode b_D_count 46 = .ok (.goto 31, 3) := by decide +kernel
theorem d_D_count_49 : decode b_D_count 49 = .ok (.iload_n 2, 1) := by decide +kernel
theorem d_D_count_50 : decode b_D_count 50 = .ok (.iconst 2, 1) := by decide +kernel
theorem d_D_count_51 : decode b_D_count 51 = .ok (.if_icmp .ne 10, 3) := by decide +kernel
theorem d_D_count_54 : decode b_D_count 54 = .ok (.aload_n 3, 1) := by decide +kernel
theorem d_D_count_55 : decode b_D_count 55 = .ok (.getfield 87, 3) := by decide +kernel
theorem d_D_count_58 : decode b_D_count 58 = .ok (.goto 19, 3) := by decide +kernel
theorem d_D_count_61 : decode b_D_count 61 = .ok (.aload_n 3, 1) := by decide +kernel
theorem d_D_count_62 : decode b_D_count 62 = .ok (.aload_n 0, 1) := by decide +kernel
theorem d_D_count_63 : decode b_D_count 63 = .ok (.getfield 13, 3) := by decide +kernel
theorem d_D_count_66 : decode b_D_count 66 = .ok (.invokevirtual 76, 3) := by decide +kernel
theorem d_D_count_69 : decode b_D_count 69 = .ok (.ifCond .eq 7, 3) := by decide +kernel
theorem d_D_count_72 : decode b_D_count 72 = .ok (.iconst 1, 1) := by decide +kernel
theorem d_D_count_73 : decode b_D_count 73 = .ok (.goto 4, 3) := by decide +kernel
theorem d_D_count_76 : decode b_D_count 76 = .ok (.iconst 0, 1) := by decide +kernel
theorem d_D_count_77 : decode b_D_count 77 = .ok (.ireturn, 1) := by decide +kernel
theorem d_D_all_0 : decode b_D_all 0 = .ok (.iload_n 1, 1) := by decide +kernel
theorem d_D_all_1 : decode b_D_all 1 = .ok (.ifCond .lt 12, 3) := by decide +kernel
theorem d_D_all_4 : decode b_D_all 4 = .ok (.iload_n 1, 1) := by decide +kernel
theorem d_D_all_5 : decode b_D_all 5 = .ok (.iconst 3, 1) := by decide +kernel
theorem d_D_all_6 : decode b_D_all 6 = .ok (.if_icmp .ge 7, 3) := by decide +kernel
theorem d_D_all_9 : decode b_D_all 9 = .ok (.iconst 1, 1) := by decide +kernel
theorem d_D_all_10 : decode b_D_all 10 = .ok (.goto 4, 3) := by decide +kernel
theorem d_D_all_13 : decode b_D_all 13 = .ok (.iconst 0, 1) := by decide +kernel
theorem d_D_all_14 : decode b_D_all 14 = .ok (.invokestatic 33, 3) := by decide +kernel
theorem d_D_all_17 : decode b_D_all 17 = .ok (.iconst 0, 1) := by decide +kernel
theorem d_D_all_18 : decode b_D_all 18 = .ok (.istore_n 2, 1) := by decide +kernel
theorem d_D_all_19 : decode b_D_all 19 = .ok (.iconst 0, 1) := by decide +kernel
theorem d_D_all_20 : decode b_D_all 20 = .ok (.istore_n 3, 1) := by decide +kernel
theorem d_D_all_21 : decode b_D_all 21 = .ok (.iload_n 3, 1) := by decide +kernel
theorem d_D_all_22 : decode b_D_all 22 = .ok (.bipush 8, 2) := by decide +kernel
theorem d_D_all_24 : decode b_D_all 24 = .ok (.if_icmp .ge 24, 3) := by decide +kernel
theorem d_D_all_27 : decode b_D_all 27 = .ok (.aload_n 0, 1) := by decide +kernel
theorem d_D_all_28 : decode b_D_all 28 = .ok (.getfield 19, 3) := by decide +kernel
theorem d_D_all_31 : decode b_D_all 31 = .ok (.iload_n 3, 1) := by decide +kernel
theorem d_D_all_32 : decode b_D_all 32 = .ok (.aaload, 1) := by decide +kernel
theorem d_D_all_33 : decode b_D_all 33 = .ok (.getfield 41, 3) := by decide +kernel
theorem d_D_all_36 : decode b_D_all 36 = .ok (.ifCond .eq 6, 3) := by decide +kernel
theorem d_D_all_39 : decode b_D_all 39 = .ok (.iinc 2 1, 3) := by decide +kernel
theorem d_D_all_42 : decode b_D_all 42 = .ok (.iinc 3 1, 3) := by decide +kernel
theorem d_D_all_45 : decode b_D_all 45 = .ok (.goto (-24), 3) := by decide +kernel
theorem d_D_all_48 : decode b_D_all 48 = .ok (.iload_n 1, 1) := by decide +kernel
theorem d_D_all_49 : decode b_D_all 49 = .ok (.ifCond .ne 7, 3) := by decide +kernel
theorem d_D_all_52 : decode b_D_all 52 = .ok (.iload_n 2, 1) := by decide +kernel
theorem d_D_all_53 : decode b_D_all 53 = .ok (.goto 19, 3) := by decide +kernel
theorem d_D_all_56 : decode b_D_all 56 = .ok (.iload_n 1, 1) := by decide +kernel
theorem d_D_all_57 : decode b_D_all 57 = .ok (.iconst 1, 1) := by decide +kernel
theorem d_D_all_58 : decode b_D_all 58 = .ok (.if_icmp .ne 10, 3) := by decide +kernel
theorem d_D_all_61 : decode b_D_all 61 = .ok (.aload_n 0, 1) := by decide +kernel
theorem d_D_all_62 : decode b_D_all 62 = .ok (.getfield 99, 3) := by decide +kernel
theorem d_D_all_65 : decode b_D_all 65 = .ok (.goto 7, 3) := by decide +kernel
theorem d_D_all_68 : decode b_D_all 68 = .ok (.aload_n 0, 1) := by decide +kernel
theorem d_D_all_69 : decode b_D_all 69 = .ok (.getfield 80, 3) := by decide +kernel
theorem d_D_all_72 : decode b_D_all 72 = .ok (.ireturn, 1) := by decide +kernel
theorem d_W_init_0 : decode b_W_init 0 = .ok (.aload_n 0, 1) := by decide +kernel
theorem d_W_init_1 : decode b_W_init 1 = .ok (.invokespecial 3, 3) := by decide +kernel
theorem d_W_init_4 : decode b_W_init 4 = .ok (.aload_n 0, 1) := by decide +kernel
theorem d_W_init_5 : decode b_W_init 5 = .ok (.sipush 160, 3) := by decide +kernel
theorem d_W_init_8 : decode b_W_init 8 = .ok (.newarray .int, 2) := by decide +kernel
theorem d_W_init_10 : decode b_W_init 10 = .ok (.putfield 9, 3) := by decide +kernel
theorem d_W_init_13 : decode b_W_init 13 = .ok (.aload_n 0, 1) := by decide +kernel
theorem d_W_init_14 : decode b_W_init 14 = .ok (.iconst 5, 1) := by decide +kernel
theorem d_W_init_15 : decode b_W_init 15 = .ok (.newarray .int, 2) := by decide +kernel
theorem d_W_init_17 : decode b_W_init 17 = .ok (.putfield 15, 3) := by decide +kernel
theorem d_W_init_20 : decode b_W_init 20 = .ok (.aload_n 0, 1) := by decide +kernel
theorem d_W_init_21 : decode b_W_init 21 = .ok (.sipush 160, 3) := by decide +kernel
theorem d_W_init_24 : decode b_W_init 24 = .ok (.newarray .long, 2) := by decide +kernel
theorem d_W_init_26 : decode b_W_init 26 = .ok (.putfield 18, 3) := by decide +kernel
theorem d_W_init_29 : decode b_W_init 29 = .ok (.aload_n 0, 1) := by decide +kernel
theorem d_W_init_30 : decode b_W_init 30 = .ok (.bipush 32, 2) := by decide +kernel
theorem d_W_init_32 : decode b_W_init 32 = .ok (.newarray .int, 2) := by decide +kernel
theorem d_W_init_34 : decode b_W_init 34 = .ok (.putfield 22, 3) := by decide +kernel
theorem d_W_init_37 : decode b_W_init 37 = .ok (.return_, 1) := by decide +kernel
theorem d_W_begin_0 : decode b_W_begin 0 = .ok (.aload_n 0, 1) := by decide +kernel
theorem d_W_begin_1 : decode b_W_begin 1 = .ok (.iconst 1, 1) := by decide +kernel
theorem d_W_begin_2 : decode b_W_begin 2 = .ok (.putfield 25, 3) := by decide +kernel
theorem d_W_begin_5 : decode b_W_begin 5 = .ok (.aload_n 0, 1) := by decide +kernel
theorem d_W_begin_6 : decode b_W_begin 6 = .ok (.iconst 1, 1) := by decide +kernel
theorem d_W_begin_7 : decode b_W_begin 7 = .ok (.putfield 29, 3) := by decide +kernel
theorem d_W_begin_10 : decode b_W_begin 10 = .ok (.aload_n 0, 1) := by decide +kernel
theorem d_W_begin_11 : decode b_W_begin 11 = .ok (.iconst 0, 1) := by decide +kernel
theorem d_W_begin_12 : decode b_W_begin 12 = .ok (.putfield 33, 3) := by decide +kernel
theorem d_W_begin_15 : decode b_W_begin 15 = .ok (.aload_n 0, 1) := by decide +kernel
theorem d_W_begin_16 : decode b_W_begin 16 = .ok (.iconst 0, 1) := by decide +kernel
theorem d_W_begin_17 : decode b_W_begin 17 = .ok (.putfield 36, 3) := by decide +kernel
theorem d_W_begin_20 : decode b_W_begin 20 = .ok (.aload_n 0, 1) := by decide +kernel
theorem d_W_begin_21 : decode b_W_begin 21 = .ok (.getfield 15, 3) := by decide +kernel
theorem d_W_begin_24 : decode b_W_begin 24 = .ok (.iconst 0, 1) := by decide +kernel
theorem d_W_begin_25 : decode b_W_begin 25 = .ok (.iconst 0, 1) := by decide +kernel
theorem d_W_begin_26 : decode b_W_begin 26 = .ok (.iastore, 1) := by decide +kernel
theorem d_W_begin_27 : decode b_W_begin 27 = .ok (.return_, 1) := by decide +kernel
theorem d_W_find_0 : decode b_W_find 0 = .ok (.aload_n 0, 1) := by decide +kernel
theorem d_W_find_1 : decode b_W_find 1 = .ok (.getfield 36, 3) := by decide +kernel
theorem d_W_find_4 : decode b_W_find 4 = .ok (.iconst 1, 1) := by decide +kernel
theorem d_W_find_5 : decode b_W_find 5 = .ok (.isub, 1) := by decide +kernel
theorem d_W_find_6 : decode b_W_find 6 = .ok (.istore_n 3, 1) := by decide +kernel
theorem d_W_find_7 : decode b_W_find 7 = .ok (.iload_n 3, 1) := by decide +kernel
theorem d_W_find_8 : decode b_W_find 8 = .ok (.iload_n 2, 1) := by decide +kernel
theorem d_W_find_9 : decode b_W_find 9 = .ok (.if_icmp .lt 19, 3) := by decide +kernel
theorem d_W_find_12 : decode b_W_find 12 = .ok (.aload_n 0, 1) := by decide +kernel
theorem d_W_find_13 : decode b_W_find 13 = .ok (.getfield 9, 3) := by decide +kernel
theorem d_W_find_16 : decode b_W_find 16 = .ok (.iload_n 3, 1) := by decide +kernel
theorem d_W_find_17 : decode b_W_find 17 = .ok (.iaload, 1) := by decide +kernel
theorem d_W_find_18 : decode b_W_find 18 = .ok (.iload_n 1, 1) := by decide +kernel
theorem d_W_find_19 : decode b_W_find 19 = .ok (.if_icmp .eq 9, 3) := by decide +kernel
theorem d_W_find_22 : decode b_W_find 22 = .ok (.iinc 3 (-1), 3) := by decide +kernel
theorem d_W_find_25 : decode b_W_find 25 = .ok (.goto (-18), 3) := by decide +kernel
theorem d_W_find_28 : decode b_W_find 28 = .ok (.iload_n 3, 1) := by decide +kernel
theorem d_W_find_29 : decode b_W_find 29 = .ok (.iload_n 2, 1) := by decide +kernel
theorem d_W_find_30 : decode b_W_find 30 = .ok (.if_icmp .ge 7, 3) := by decide +kernel
theorem d_W_find_33 : decode b_W_find 33 = .ok (.iconst (-1), 1) := by decide +kernel
theorem d_W_find_34 : decode b_W_find 34 = .ok (.goto 4, 3) := by decide +kernel
theorem d_W_find_37 : decode b_W_find 37 = .ok (.iload_n 3, 1) := by decide +kernel
theorem d_W_find_38 : decode b_W_find 38 = .ok (.ireturn, 1) := by decide +kernel
theorem d_W_last_0 : decode b_W_last 0 = .ok (.aload_n 0, 1) := by decide +kernel
theorem d_W_last_1 : decode b_W_last 1 = .ok (.iload_n 1, 1) := by decide +kernel
theorem d_W_last_2 : decode b_W_last 2 = .ok (.iconst 0, 1) := by decide +kernel
theorem d_W_last_3 : decode b_W_last 3 = .ok (.invokevirtual 39, 3) := by decide +kernel
theorem d_W_last_6 : decode b_W_last 6 = .ok (.ireturn, 1) := by decide +kernel
theorem d_W_at_0 : decode b_W_at 0 = .ok (.aload_n 0, 1) := by decide +kernel
theorem d_W_at_1 : decode b_W_at 1 = .ok (.getfield 18, 3) := by decide +kernel
theorem d_W_at_4 : decode b_W_at 4 = .ok (.iload_n 1, 1) := by decide +kernel
theorem d_W_at_5 : decode b_W_at 5 = .ok (.laload, 1) := by decide +kernel
theorem d_W_at_6 : decode b_W_at 6 = .ok (.lreturn, 1) := by decide +kernel
theorem d_W_cellAt_0 : decode b_W_cellAt 0 = .ok (.aload_n 0, 1) := by decide +kernel
theorem d_W_cellAt_1 : decode b_W_cellAt 1 = .ok (.getfield 9, 3) := by decide +kernel
theorem d_W_cellAt_4 : decode b_W_cellAt 4 = .ok (.iload_n 1, 1) := by decide +kernel
theorem d_W_cellAt_5 : decode b_W_cellAt 5 = .ok (.iaload, 1) := by decide +kernel
theorem d_W_cellAt_6 : decode b_W_cellAt 6 = .ok (.ireturn, 1) := by decide +kernel
theorem d_W_many_0 : decode b_W_many 0 = .ok (.aload_n 0, 1) := by decide +kernel
theorem d_W_many_1 : decode b_W_many 1 = .ok (.getfield 36, 3) := by decide +kernel
theorem d_W_many_4 : decode b_W_many 4 = .ok (.ireturn, 1) := by decide +kernel
theorem d_W_write_0 : decode b_W_write 0 = .ok (.aload_n 0, 1) := by decide +kernel
theorem d_W_write_1 : decode b_W_write 1 = .ok (.iload_n 1, 1) := by decide +kernel
theorem d_W_write_2 : decode b_W_write 2 = .ok (.aload_n 0, 1) := by decide +kernel
theorem d_W_write_3 : decode b_W_write 3 = .ok (.getfield 15, 3) := by decide +kernel
theorem d_W_write_6 : decode b_W_write 6 = .ok (.aload_n 0, 1) := by decide +kernel
theorem d_W_write_7 : decode b_W_write 7 = .ok (.getfield 29, 3) := by decide +kernel
theorem d_W_write_10 : decode b_W_write 10 = .ok (.iconst 1, 1) := by decide +kernel
theorem d_W_write_11 : decode b_W_write 11 = .ok (.isub, 1) := by decide +kernel
theorem d_W_write_12 : decode b_W_write 12 = .ok (.iaload, 1) := by decide +kernel
theorem d_W_write_13 : decode b_W_write 13 = .ok (.invokevirtual 39, 3) := by decide +kernel
theorem d_W_write_16 : decode b_W_write 16 = .ok (.istore 4, 2) := by decide +kernel
theorem d_W_write_18 : decode b_W_write 18 = .ok (.iload 4, 2) := by decide +kernel
theorem d_W_write_20 : decode b_W_write 20 = .ok (.iconst (-1), 1) := by decide +kernel
theorem d_W_write_21 : decode b_W_write 21 = .ok (.if_icmp .ne 24, 3) := by decide +kernel
theorem d_W_write_24 : decode b_W_write 24 = .ok (.aload_n 0, 1) := by decide +kernel
theorem d_W_write_25 : decode b_W_write 25 = .ok (.dup, 1) := by decide +kernel
theorem d_W_write_26 : decode b_W_write 26 = .ok (.getfield 36, 3) := by decide +kernel
theorem d_W_write_29 : decode b_W_write 29 = .ok (.dup_x1, 1) := by decide +kernel
theorem d_W_write_30 : decode b_W_write 30 = .ok (.iconst 1, 1) := by decide +kernel
theorem d_W_write_31 : decode b_W_write 31 = .ok (.iadd, 1) := by decide +kernel
theorem d_W_write_32 : decode b_W_write 32 = .ok (.putfield 36, 3) := by decide +kernel
theorem d_W_write_35 : decode b_W_write 35 = .ok (.istore 4, 2) := by decide +kernel
theorem d_W_write_37 : decode b_W_write 37 = .ok (.aload_n 0, 1) := by decide +kernel
theorem d_W_write_38 : decode b_W_write 38 = .ok (.getfield 9, 3) := by decide +kernel
theorem d_W_write_41 : decode b_W_write 41 = .ok (.iload 4, 2) := by decide +kernel
theorem d_W_write_43 : decode b_W_write 43 = .ok (.iload_n 1, 1) := by decide +kernel
theorem d_W_write_44 : decode b_W_write 44 = .ok (.iastore, 1) := by decide +kernel
theorem d_W_write_45 : decode b_W_write 45 = .ok (.aload_n 0, 1) := by decide +kernel
theorem d_W_write_46 : decode b_W_write 46 = .ok (.getfield 18, 3) := by decide +kernel
theorem d_W_write_49 : decode b_W_write 49 = .ok (.iload 4, 2) := by decide +kernel
theorem d_W_write_51 : decode b_W_write 51 = .ok (.lload_n 2, 1) := by decide +kernel
theorem d_W_write_52 : decode b_W_write 52 = .ok (.lastore, 1) := by decide +kernel
theorem d_W_write_53 : decode b_W_write 53 = .ok (.return_, 1) := by decide +kernel
theorem d_W_look_0 : decode b_W_look 0 = .ok (.aload_n 0, 1) := by decide +kernel
theorem d_W_look_1 : decode b_W_look 1 = .ok (.getfield 33, 3) := by decide +kernel
theorem d_W_look_4 : decode b_W_look 4 = .ok (.iload_n 1, 1) := by decide +kernel
theorem d_W_look_5 : decode b_W_look 5 = .ok (.ishr, 1) := by decide +kernel
theorem d_W_look_6 : decode b_W_look 6 = .ok (.iconst 1, 1) := by decide +kernel
theorem d_W_look_7 : decode b_W_look 7 = .ok (.iand, 1) := by decide +kernel
theorem d_W_look_8 : decode b_W_look 8 = .ok (.iconst 1, 1) := by decide +kernel
theorem d_W_look_9 : decode b_W_look 9 = .ok (.if_icmp .ne 4, 3) := by decide +kernel
theorem d_W_look_12 : decode b_W_look 12 = .ok (.return_, 1) := by decide +kernel
theorem d_W_look_13 : decode b_W_look 13 = .ok (.aload_n 0, 1) := by decide +kernel
theorem d_W_look_14 : decode b_W_look 14 = .ok (.dup, 1) := by decide +kernel
theorem d_W_look_15 : decode b_W_look 15 = .ok (.getfield 33, 3) := by decide +kernel
theorem d_W_look_18 : decode b_W_look 18 = .ok (.iconst 1, 1) := by decide +kernel
theorem d_W_look_19 : decode b_W_look 19 = .ok (.iload_n 1, 1) := by decide +kernel
theorem d_W_look_20 : decode b_W_look 20 = .ok (.ishl, 1) := by decide +kernel
theorem d_W_look_21 : decode b_W_look 21 = .ok (.ior, 1) := by decide +kernel
theorem d_W_look_22 : decode b_W_look 22 = .ok (.putfield 33, 3) := by decide +kernel
theorem d_W_look_25 : decode b_W_look 25 = .ok (.aload_n 0, 1) := by decide +kernel
theorem d_W_look_26 : decode b_W_look 26 = .ok (.getfield 22, 3) := by decide +kernel
theorem d_W_look_29 : decode b_W_look 29 = .ok (.iload_n 1, 1) := by decide +kernel
theorem d_W_look_30 : decode b_W_look 30 = .ok (.iload_n 2, 1) := by decide +kernel
theorem d_W_look_31 : decode b_W_look 31 = .ok (.iastore, 1) := by decide +kernel
theorem d_W_look_32 : decode b_W_look 32 = .ok (.return_, 1) := by decide +kernel
theorem d_W_stale_0 : decode b_W_stale 0 = .ok (.iconst 0, 1) := by decide +kernel
theorem d_W_stale_1 : decode b_W_stale 1 = .ok (.istore_n 2, 1) := by decide +kernel
theorem d_W_stale_2 : decode b_W_stale 2 = .ok (.iload_n 2, 1) := by decide +kernel
theorem d_W_stale_3 : decode b_W_stale 3 = .ok (.bipush 32, 2) := by decide +kernel
theorem d_W_stale_5 : decode b_W_stale 5 = .ok (.if_icmp .ge 35, 3) := by decide +kernel
theorem d_W_stale_8 : decode b_W_stale 8 = .ok (.aload_n 0, 1) := by decide +kernel
theorem d_W_stale_9 : decode b_W_stale 9 = .ok (.getfield 33, 3) := by decide +kernel
theorem d_W_stale_12 : decode b_W_stale 12 = .ok (.iload_n 2, 1) := by decide +kernel
theorem d_W_stale_13 : decode b_W_stale 13 = .ok (.ishr, 1) := by decide +kernel
theorem d_W_stale_14 : decode b_W_stale 14 = .ok (.iconst 1, 1) := by decide +kernel
theorem d_W_stale_15 : decode b_W_stale 15 = .ok (.iand, 1) := by decide +kernel
theorem d_W_stale_16 : decode b_W_stale 16 = .ok (.iconst 1, 1) := by decide +kernel
theorem d_W_stale_17 : decode b_W_stale 17 = .ok (.if_icmp .ne 17, 3) := by decide +kernel
theorem d_W_stale_20 : decode b_W_stale 20 = .ok (.aload_n 0, 1) := by decide +kernel
theorem d_W_stale_21 : decode b_W_stale 21 = .ok (.getfield 22, 3) := by decide +kernel
theorem d_W_stale_24 : decode b_W_stale 24 = .ok (.iload_n 2, 1) := by decide +kernel
theorem d_W_stale_25 : decode b_W_stale 25 = .ok (.iaload, 1) := by decide +kernel
theorem d_W_stale_26 : decode b_W_stale 26 = .ok (.aload_n 1, 1) := by decide +kernel
theorem d_W_stale_27 : decode b_W_stale 27 = .ok (.iload_n 2, 1) := by decide +kernel
theorem d_W_stale_28 : decode b_W_stale 28 = .ok (.iaload, 1) := by decide +kernel
theorem d_W_stale_29 : decode b_W_stale 29 = .ok (.if_icmp .eq 5, 3) := by decide +kernel
theorem d_W_stale_32 : decode b_W_stale 32 = .ok (.iconst 1, 1) := by decide +kernel
theorem d_W_stale_33 : decode b_W_stale 33 = .ok (.ireturn, 1) := by decide +kernel
theorem d_W_stale_34 : decode b_W_stale 34 = .ok (.iinc 2 1, 3) := by decide +kernel
theorem d_W_stale_37 : decode b_W_stale 37 = .ok (.goto (-35), 3) := by decide +kernel
theorem d_W_stale_40 : decode b_W_stale 40 = .ok (.iconst 0, 1) := by decide +kernel
theorem d_W_stale_41 : decode b_W_stale 41 = .ok (.ireturn, 1) := by decide +kernel
theorem d_W_save_0 : decode b_W_save 0 = .ok (.aload_n 0, 1) := by decide +kernel
theorem d_W_save_1 : decode b_W_save 1 = .ok (.getfield 15, 3) := by decide +kernel
theorem d_W_save_4 : decode b_W_save 4 = .ok (.aload_n 0, 1) := by decide +kernel
theorem d_W_save_5 : decode b_W_save 5 = .ok (.dup, 1) := by decide +kernel
theorem d_W_save_6 : decode b_W_save 6 = .ok (.getfield 29, 3) := by decide +kernel
theorem d_W_save_9 : decode b_W_save 9 = .ok (.dup_x1, 1) := by decide +kernel
theorem d_W_save_10 : decode b_W_save 10 = .ok (.iconst 1, 1) := by decide +kernel
theorem d_W_save_11 : decode b_W_save 11 = .ok (.iadd, 1) := by decide +kernel
theorem d_W_save_12 : decode b_W_save 12 = .ok (.putfield 29, 3) := by decide +kernel
theorem d_W_save_15 : decode b_W_save 15 = .ok (.aload_n 0, 1) := by decide +kernel
theorem d_W_save_16 : decode b_W_save 16 = .ok (.getfield 36, 3) := by decide +kernel
theorem d_W_save_19 : decode b_W_save 19 = .ok (.iastore, 1) := by decide +kernel
theorem d_W_save_20 : decode b_W_save 20 = .ok (.return_, 1) := by decide +kernel
theorem d_W_back_0 : decode b_W_back 0 = .ok (.aload_n 0, 1) := by decide +kernel
theorem d_W_back_1 : decode b_W_back 1 = .ok (.aload_n 0, 1) := by decide +kernel
theorem d_W_back_2 : decode b_W_back 2 = .ok (.getfield 15, 3) := by decide +kernel
theorem d_W_back_5 : decode b_W_back 5 = .ok (.aload_n 0, 1) := by decide +kernel
theorem d_W_back_6 : decode b_W_back 6 = .ok (.dup, 1) := by decide +kernel
theorem d_W_back_7 : decode b_W_back 7 = .ok (.getfield 29, 3) := by decide +kernel
theorem d_W_back_10 : decode b_W_back 10 = .ok (.iconst 1, 1) := by decide +kernel
theorem d_W_back_11 : decode b_W_back 11 = .ok (.isub, 1) := by decide +kernel
theorem d_W_back_12 : decode b_W_back 12 = .ok (.dup_x1, 1) := by decide +kernel
theorem d_W_back_13 : decode b_W_back 13 = .ok (.putfield 29, 3) := by decide +kernel
theorem d_W_back_16 : decode b_W_back 16 = .ok (.iaload, 1) := by decide +kernel
theorem d_W_back_17 : decode b_W_back 17 = .ok (.putfield 36, 3) := by decide +kernel
theorem d_W_back_20 : decode b_W_back 20 = .ok (.return_, 1) := by decide +kernel
theorem d_W_keep_0 : decode b_W_keep 0 = .ok (.aload_n 0, 1) := by decide +kernel
theorem d_W_keep_1 : decode b_W_keep 1 = .ok (.getfield 15, 3) := by decide +kernel
theorem d_W_keep_4 : decode b_W_keep 4 = .ok (.aload_n 0, 1) := by decide +kernel
theorem d_W_keep_5 : decode b_W_keep 5 = .ok (.dup, 1) := by decide +kernel
theorem d_W_keep_6 : decode b_W_keep 6 = .ok (.getfield 29, 3) := by decide +kernel
theorem d_W_keep_9 : decode b_W_keep 9 = .ok (.iconst 1, 1) := by decide +kernel
theorem d_W_keep_10 : decode b_W_keep 10 = .ok (.isub, 1) := by decide +kernel
theorem d_W_keep_11 : decode b_W_keep 11 = .ok (.dup_x1, 1) := by decide +kernel
theorem d_W_keep_12 : decode b_W_keep 12 = .ok (.putfield 29, 3) := by decide +kernel
theorem d_W_keep_15 : decode b_W_keep 15 = .ok (.iaload, 1) := by decide +kernel
theorem d_W_keep_16 : decode b_W_keep 16 = .ok (.istore_n 1, 1) := by decide +kernel
theorem d_W_keep_17 : decode b_W_keep 17 = .ok (.aload_n 0, 1) := by decide +kernel
theorem d_W_keep_18 : decode b_W_keep 18 = .ok (.getfield 36, 3) := by decide +kernel
theorem d_W_keep_21 : decode b_W_keep 21 = .ok (.istore_n 2, 1) := by decide +kernel
theorem d_W_keep_22 : decode b_W_keep 22 = .ok (.aload_n 0, 1) := by decide +kernel
theorem d_W_keep_23 : decode b_W_keep 23 = .ok (.iload_n 1, 1) := by decide +kernel
theorem d_W_keep_24 : decode b_W_keep 24 = .ok (.putfield 36, 3) := by decide +kernel
theorem d_W_keep_27 : decode b_W_keep 27 = .ok (.iload_n 1, 1) := by decide +kernel
theorem d_W_keep_28 : decode b_W_keep 28 = .ok (.istore_n 3, 1) := by decide +kernel
theorem d_W_keep_29 : decode b_W_keep 29 = .ok (.iload_n 3, 1) := by decide +kernel
theorem d_W_keep_30 : decode b_W_keep 30 = .ok (.iload_n 2, 1) := by decide +kernel
theorem d_W_keep_31 : decode b_W_keep 31 = .ok (.if_icmp .ge 25, 3) := by decide +kernel
theorem d_W_keep_34 : decode b_W_keep 34 = .ok (.aload_n 0, 1) := by decide +kernel
theorem d_W_keep_35 : decode b_W_keep 35 = .ok (.aload_n 0, 1) := by decide +kernel
theorem d_W_keep_36 : decode b_W_keep 36 = .ok (.getfield 9, 3) := by decide +kernel
theorem d_W_keep_39 : decode b_W_keep 39 = .ok (.iload_n 3, 1) := by decide +kernel
theorem d_W_keep_40 : decode b_W_keep 40 = .ok (.iaload, 1) := by decide +kernel
theorem d_W_keep_41 : decode b_W_keep 41 = .ok (.aload_n 0, 1) := by decide +kernel
theorem d_W_keep_42 : decode b_W_keep 42 = .ok (.getfield 18, 3) := by decide +kernel
theorem d_W_keep_45 : decode b_W_keep 45 = .ok (.iload_n 3, 1) := by decide +kernel
theorem d_W_keep_46 : decode b_W_keep 46 = .ok (.laload, 1) := by decide +kernel
theorem d_W_keep_47 : decode b_W_keep 47 = .ok (.invokevirtual 43, 3) := by decide +kernel
theorem d_W_keep_50 : decode b_W_keep 50 = .ok (.iinc 3 1, 3) := by decide +kernel
theorem d_W_keep_53 : decode b_W_keep 53 = .ok (.goto (-24), 3) := by decide +kernel
theorem d_W_keep_56 : decode b_W_keep 56 = .ok (.return_, 1) := by decide +kernel
theorem d_W_written_0 : decode b_W_written 0 = .ok (.iconst 0, 1) := by decide +kernel
theorem d_W_written_1 : decode b_W_written 1 = .ok (.istore_n 1, 1) := by decide +kernel
theorem d_W_written_2 : decode b_W_written 2 = .ok (.iconst 0, 1) := by decide +kernel
theorem d_W_written_3 : decode b_W_written 3 = .ok (.istore_n 2, 1) := by decide +kernel
theorem d_W_written_4 : decode b_W_written 4 = .ok (.iload_n 2, 1) := by decide +kernel
theorem d_W_written_5 : decode b_W_written 5 = .ok (.aload_n 0, 1) := by decide +kernel
theorem d_W_written_6 : decode b_W_written 6 = .ok (.getfield 36, 3) := by decide +kernel
theorem d_W_written_9 : decode b_W_written 9 = .ok (.if_icmp .ge 20, 3) := by decide +kernel
theorem d_W_written_12 : decode b_W_written 12 = .ok (.iload_n 1, 1) := by decide +kernel
theorem d_W_written_13 : decode b_W_written 13 = .ok (.iconst 1, 1) := by decide +kernel
theorem d_W_written_14 : decode b_W_written 14 = .ok (.aload_n 0, 1) := by decide +kernel
theorem d_W_written_15 : decode b_W_written 15 = .ok (.getfield 9, 3) := by decide +kernel
theorem d_W_written_18 : decode b_W_written 18 = .ok (.iload_n 2, 1) := by decide +kernel
theorem d_W_written_19 : decode b_W_written 19 = .ok (.iaload, 1) := by decide +kernel
theorem d_W_written_20 : decode b_W_written 20 = .ok (.ishl, 1) := by decide +kernel
theorem d_W_written_21 : decode b_W_written 21 = .ok (.ior, 1) := by decide +kernel
theorem d_W_written_22 : decode b_W_written 22 = .ok (.istore_n 1, 1) := by decide +kernel
theorem d_W_written_23 : decode b_W_written 23 = .ok (.iinc 2 1, 3) := by decide +kernel
theorem d_W_written_26 : decode b_W_written 26 = .ok (.goto (-22), 3) := by decide +kernel
theorem d_W_written_29 : decode b_W_written 29 = .ok (.iload_n 1, 1) := by decide +kernel
theorem d_W_written_30 : decode b_W_written 30 = .ok (.invokestatic 47, 3) := by decide +kernel
theorem d_W_written_33 : decode b_W_written 33 = .ok (.ireturn, 1) := by decide +kernel
theorem d_I_bitCount_0 : decode b_I_bitCount 0 = .ok (.iload_n 0, 1) := by decide +kernel
theorem d_I_bitCount_1 : decode b_I_bitCount 1 = .ok (.iload_n 0, 1) := by decide +kernel
theorem d_I_bitCount_2 : decode b_I_bitCount 2 = .ok (.iconst 1, 1) := by decide +kernel
theorem d_I_bitCount_3 : decode b_I_bitCount 3 = .ok (.iushr, 1) := by decide +kernel
theorem d_I_bitCount_4 : decode b_I_bitCount 4 = .ok (.ldc_w 265, 3) := by decide +kernel
theorem d_I_bitCount_7 : decode b_I_bitCount 7 = .ok (.iand, 1) := by decide +kernel
theorem d_I_bitCount_8 : decode b_I_bitCount 8 = .ok (.isub, 1) := by decide +kernel
theorem d_I_bitCount_9 : decode b_I_bitCount 9 = .ok (.istore_n 0, 1) := by decide +kernel
theorem d_I_bitCount_10 : decode b_I_bitCount 10 = .ok (.iload_n 0, 1) := by decide +kernel
theorem d_I_bitCount_11 : decode b_I_bitCount 11 = .ok (.ldc_w 266, 3) := by decide +kernel
theorem d_I_bitCount_14 : decode b_I_bitCount 14 = .ok (.iand, 1) := by decide +kernel
theorem d_I_bitCount_15 : decode b_I_bitCount 15 = .ok (.iload_n 0, 1) := by decide +kernel
theorem d_I_bitCount_16 : decode b_I_bitCount 16 = .ok (.iconst 2, 1) := by decide +kernel
theorem d_I_bitCount_17 : decode b_I_bitCount 17 = .ok (.iushr, 1) := by decide +kernel
theorem d_I_bitCount_18 : decode b_I_bitCount 18 = .ok (.ldc_w 266, 3) := by decide +kernel
theorem d_I_bitCount_21 : decode b_I_bitCount 21 = .ok (.iand, 1) := by decide +kernel
theorem d_I_bitCount_22 : decode b_I_bitCount 22 = .ok (.iadd, 1) := by decide +kernel
theorem d_I_bitCount_23 : decode b_I_bitCount 23 = .ok (.istore_n 0, 1) := by decide +kernel
theorem d_I_bitCount_24 : decode b_I_bitCount 24 = .ok (.iload_n 0, 1) := by decide +kernel
theorem d_I_bitCount_25 : decode b_I_bitCount 25 = .ok (.iload_n 0, 1) := by decide +kernel
theorem d_I_bitCount_26 : decode b_I_bitCount 26 = .ok (.iconst 4, 1) := by decide +kernel
theorem d_I_bitCount_27 : decode b_I_bitCount 27 = .ok (.iushr, 1) := by decide +kernel
theorem d_I_bitCount_28 : decode b_I_bitCount 28 = .ok (.iadd, 1) := by decide +kernel
theorem d_I_bitCount_29 : decode b_I_bitCount 29 = .ok (.ldc_w 267, 3) := by decide +kernel
theorem d_I_bitCount_32 : decode b_I_bitCount 32 = .ok (.iand, 1) := by decide +kernel
theorem d_I_bitCount_33 : decode b_I_bitCount 33 = .ok (.istore_n 0, 1) := by decide +kernel
theorem d_I_bitCount_34 : decode b_I_bitCount 34 = .ok (.iload_n 0, 1) := by decide +kernel
theorem d_I_bitCount_35 : decode b_I_bitCount 35 = .ok (.iload_n 0, 1) := by decide +kernel
theorem d_I_bitCount_36 : decode b_I_bitCount 36 = .ok (.bipush 8, 2) := by decide +kernel
theorem d_I_bitCount_38 : decode b_I_bitCount 38 = .ok (.iushr, 1) := by decide +kernel
theorem d_I_bitCount_39 : decode b_I_bitCount 39 = .ok (.iadd, 1) := by decide +kernel
theorem d_I_bitCount_40 : decode b_I_bitCount 40 = .ok (.istore_n 0, 1) := by decide +kernel
theorem d_I_bitCount_41 : decode b_I_bitCount 41 = .ok (.iload_n 0, 1) := by decide +kernel
theorem d_I_bitCount_42 : decode b_I_bitCount 42 = .ok (.iload_n 0, 1) := by decide +kernel
theorem d_I_bitCount_43 : decode b_I_bitCount 43 = .ok (.bipush 16, 2) := by decide +kernel
theorem d_I_bitCount_45 : decode b_I_bitCount 45 = .ok (.iushr, 1) := by decide +kernel
theorem d_I_bitCount_46 : decode b_I_bitCount 46 = .ok (.iadd, 1) := by decide +kernel
theorem d_I_bitCount_47 : decode b_I_bitCount 47 = .ok (.istore_n 0, 1) := by decide +kernel
theorem d_I_bitCount_48 : decode b_I_bitCount 48 = .ok (.iload_n 0, 1) := by decide +kernel
theorem d_I_bitCount_49 : decode b_I_bitCount 49 = .ok (.bipush 63, 2) := by decide +kernel
theorem d_I_bitCount_51 : decode b_I_bitCount 51 = .ok (.iand, 1) := by decide +kernel
theorem d_I_bitCount_52 : decode b_I_bitCount 52 = .ok (.ireturn, 1) := by decide +kernel
end
section
/-! What the bytes of the reference decode to. Printed by prog/names.py. -/
theorem d_M_init_0 : decode b_M_init 0 = .ok (.aload_n 0, 1) := by decide +kernel
theorem d_M_init_1 : decode b_M_init 1 = .ok (.invokespecial 1, 3) := by decide +kernel
theorem d_M_init_4 : decode b_M_init 4 = .ok (.aload_n 0, 1) := by decide +kernel
theorem d_M_init_5 : decode b_M_init 5 = .ok (.bipush 32, 2) := by decide +kernel
theorem d_M_init_7 : decode b_M_init 7 = .ok (.newarray .long, 2) := by decide +kernel
theorem d_M_init_9 : decode b_M_init 9 = .ok (.putfield 9, 3) := by decide +kernel
theorem d_M_init_12 : decode b_M_init 12 = .ok (.aload_n 0, 1) := by decide +kernel
theorem d_M_init_13 : decode b_M_init 13 = .ok (.sipush 1280, 3) := by decide +kernel
theorem d_M_init_16 : decode b_M_init 16 = .ok (.newarray .long, 2) := by decide +kernel
theorem d_M_init_18 : decode b_M_init 18 = .ok (.putfield 13, 3) := by decide +kernel
theorem d_M_init_21 : decode b_M_init 21 = .ok (.aload_n 0, 1) := by decide +kernel
theorem d_M_init_22 : decode b_M_init 22 = .ok (.bipush 32, 2) := by decide +kernel
theorem d_M_init_24 : decode b_M_init 24 = .ok (.newarray .int, 2) := by decide +kernel
theorem d_M_init_26 : decode b_M_init 26 = .ok (.putfield 16, 3) := by decide +kernel
theorem d_M_init_29 : decode b_M_init 29 = .ok (.aload_n 0, 1) := by decide +kernel
theorem d_M_init_30 : decode b_M_init 30 = .ok (.bipush 8, 2) := by decide +kernel
theorem d_M_init_32 : decode b_M_init 32 = .ok (.newarray .int, 2) := by decide +kernel
theorem d_M_init_34 : decode b_M_init 34 = .ok (.putfield 20, 3) := by decide +kernel
theorem d_M_init_37 : decode b_M_init 37 = .ok (.aload_n 0, 1) := by decide +kernel
theorem d_M_init_38 : decode b_M_init 38 = .ok (.sipush 256, 3) := by decide +kernel
theorem d_M_init_41 : decode b_M_init 41 = .ok (.newarray .int, 2) := by decide +kernel
theorem d_M_init_43 : decode b_M_init 43 = .ok (.putfield 23, 3) := by decide +kernel
theorem d_M_init_46 : decode b_M_init 46 = .ok (.aload_n 0, 1) := by decide +kernel
theorem d_M_init_47 : decode b_M_init 47 = .ok (.sipush 1280, 3) := by decide +kernel
theorem d_M_init_50 : decode b_M_init 50 = .ok (.newarray .boolean, 2) := by decide +kernel
theorem d_M_init_52 : decode b_M_init 52 = .ok (.putfield 26, 3) := by decide +kernel
theorem d_M_init_55 : decode b_M_init 55 = .ok (.aload_n 0, 1) := by decide +kernel
theorem d_M_init_56 : decode b_M_init 56 = .ok (.sipush 256, 3) := by decide +kernel
theorem d_M_init_59 : decode b_M_init 59 = .ok (.newarray .boolean, 2) := by decide +kernel
theorem d_M_init_61 : decode b_M_init 61 = .ok (.putfield 30, 3) := by decide +kernel
theorem d_M_init_64 : decode b_M_init 64 = .ok (.aload_n 0, 1) := by decide +kernel
theorem d_M_init_65 : decode b_M_init 65 = .ok (.bipush 8, 2) := by decide +kernel
theorem d_M_init_67 : decode b_M_init 67 = .ok (.newarray .boolean, 2) := by decide +kernel
theorem d_M_init_69 : decode b_M_init 69 = .ok (.putfield 33, 3) := by decide +kernel
theorem d_M_init_72 : decode b_M_init 72 = .ok (.return_, 1) := by decide +kernel
theorem d_M_thrown_0 : decode b_M_thrown 0 = .ok (.aload_n 0, 1) := by decide +kernel
theorem d_M_thrown_1 : decode b_M_thrown 1 = .ok (.getfield 36, 3) := by decide +kernel
theorem d_M_thrown_4 : decode b_M_thrown 4 = .ok (.ireturn, 1) := by decide +kernel
theorem d_M_in_0 : decode b_M_in 0 = .ok (.lload_n 0, 1) := by decide +kernel
theorem d_M_in_1 : decode b_M_in 1 = .ok (.lload_n 2, 1) := by decide +kernel
theorem d_M_in_2 : decode b_M_in 2 = .ok (.lcmp, 1) := by decide +kernel
theorem d_M_in_3 : decode b_M_in 3 = .ok (.ifCond .lt 14, 3) := by decide +kernel
theorem d_M_in_6 : decode b_M_in 6 = .ok (.lload_n 0, 1) := by decide +kernel
theorem d_M_in_7 : decode b_M_in 7 = .ok (.lload 4, 2) := by decide +kernel
theorem d_M_in_9 : decode b_M_in 9 = .ok (.lcmp, 1) := by decide +kernel
theorem d_M_in_10 : decode b_M_in 10 = .ok (.ifCond .gt 7, 3) := by decide +kernel
theorem d_M_in_13 : decode b_M_in 13 = .ok (.iconst 1, 1) := by decide +kernel
theorem d_M_in_14 : decode b_M_in 14 = .ok (.goto 4, 3) := by decide +kernel
theorem d_M_in_17 : decode b_M_in 17 = .ok (.iconst 0, 1) := by decide +kernel
theorem d_M_in_18 : decode b_M_in 18 = .ok (.ireturn, 1) := by decide +kernel
theorem d_M_fails_0 : decode b_M_fails 0 = .ok (.iload_n 1, 1) := by decide +kernel
theorem d_M_fails_1 : decode b_M_fails 1 = .ok (.ifCond .eq 15, 3) := by decide +kernel
theorem d_M_fails_4 : decode b_M_fails 4 = .ok (.aload_n 0, 1) := by decide +kernel
theorem d_M_fails_5 : decode b_M_fails 5 = .ok (.getfield 36, 3) := by decide +kernel
theorem d_M_fails_8 : decode b_M_fails 8 = .ok (.ifCond .ne 8, 3) := by decide +kernel
theorem d_M_fails_11 : decode b_M_fails 11 = .ok (.aload_n 0, 1) := by decide +kernel
theorem d_M_fails_12 : decode b_M_fails 12 = .ok (.iload_n 2, 1) := by decide +kernel
theorem d_M_fails_13 : decode b_M_fails 13 = .ok (.putfield 36, 3) := by decide +kernel
theorem d_M_fails_16 : decode b_M_fails 16 = .ok (.aload_n 0, 1) := by decide +kernel
theorem d_M_fails_17 : decode b_M_fails 17 = .ok (.getfield 36, 3) := by decide +kernel
theorem d_M_fails_20 : decode b_M_fails 20 = .ok (.ifCond .eq 7, 3) := by decide +kernel
theorem d_M_fails_23 : decode b_M_fails 23 = .ok (.iconst 1, 1) := by decide +kernel
theorem d_M_fails_24 : decode b_M_fails 24 = .ok (.goto 4, 3) := by decide +kernel
theorem d_M_fails_27 : decode b_M_fails 27 = .ok (.iconst 0, 1) := by decide +kernel
theorem d_M_fails_28 : decode b_M_fails 28 = .ok (.ireturn, 1) := by decide +kernel
theorem d_M_isOne_0 : decode b_M_isOne 0 = .ok (.iload_n 0, 1) := by decide +kernel
theorem d_M_isOne_1 : decode b_M_isOne 1 = .ok (.i2l, 1) := by decide +kernel
theorem d_M_isOne_2 : decode b_M_isOne 2 = .ok (.lconst 0, 1) := by decide +kernel
theorem d_M_isOne_3 : decode b_M_isOne 3 = .ok (.ldc2_w 40, 3) := by decide +kernel
theorem d_M_isOne_6 : decode b_M_isOne 6 = .ok (.invokestatic 42, 3) := by decide +kernel
theorem d_M_isOne_9 : decode b_M_isOne 9 = .ok (.ireturn, 1) := by decide +kernel
theorem d_M_isCell_0 : decode b_M_isCell 0 = .ok (.iload_n 0, 1) := by decide +kernel
theorem d_M_isCell_1 : decode b_M_isCell 1 = .ok (.i2l, 1) := by decide +kernel
theorem d_M_isCell_2 : decode b_M_isCell 2 = .ok (.lconst 0, 1) := by decide +kernel
theorem d_M_isCell_3 : decode b_M_isCell 3 = .ok (.ldc2_w 46, 3) := by decide +kernel
theorem d_M_isCell_6 : decode b_M_isCell 6 = .ok (.invokestatic 42, 3) := by decide +kernel
theorem d_M_isCell_9 : decode b_M_isCell 9 = .ok (.ireturn, 1) := by decide +kernel
theorem d_M_last_0 : decode b_M_last 0 = .ok (.iconst 5, 1) := by decide +kernel
theorem d_M_last_1 : decode b_M_last 1 = .ok (.iload_n 1, 1) := by decide +kernel
theorem d_M_last_2 : decode b_M_last 2 = .ok (.imul, 1) := by decide +kernel
theorem d_M_last_3 : decode b_M_last 3 = .ok (.aload_n 0, 1) := by decide +kernel
theorem d_M_last_4 : decode b_M_last 4 = .ok (.getfield 20, 3) := by decide +kernel
theorem d_M_last_7 : decode b_M_last 7 = .ok (.iload_n 1, 1) := by decide +kernel
theorem d_M_last_8 : decode b_M_last 8 = .ok (.iaload, 1) := by decide +kernel
theorem d_M_last_9 : decode b_M_last 9 = .ok (.iadd, 1) := by decide +kernel
theorem d_M_last_10 : decode b_M_last 10 = .ok (.iconst 1, 1) := by decide +kernel
theorem d_M_last_11 : decode b_M_last 11 = .ok (.isub, 1) := by decide +kernel
theorem d_M_last_12 : decode b_M_last 12 = .ok (.bipush 32, 2) := by decide +kernel
theorem d_M_last_14 : decode b_M_last 14 = .ok (.imul, 1) := by decide +kernel
theorem d_M_last_15 : decode b_M_last 15 = .ok (.iload_n 2, 1) := by decide +kernel
theorem d_M_last_16 : decode b_M_last 16 = .ok (.iadd, 1) := by decide +kernel
theorem d_M_last_17 : decode b_M_last 17 = .ok (.ireturn, 1) := by decide +kernel
theorem d_M_isStale_0 : decode b_M_isStale 0 = .ok (.iconst 0, 1) := by decide +kernel
theorem d_M_isStale_1 : decode b_M_isStale 1 = .ok (.istore_n 2, 1) := by decide +kernel
theorem d_M_isStale_2 : decode b_M_isStale 2 = .ok (.iload_n 2, 1) := by decide +kernel
theorem d_M_isStale_3 : decode b_M_isStale 3 = .ok (.bipush 32, 2) := by decide +kernel
theorem d_M_isStale_5 : decode b_M_isStale 5 = .ok (.if_icmp .ge 45, 3) := by decide +kernel
theorem d_M_isStale_8 : decode b_M_isStale 8 = .ok (.aload_n 0, 1) := by decide +kernel
theorem d_M_isStale_9 : decode b_M_isStale 9 = .ok (.getfield 30, 3) := by decide +kernel
theorem d_M_isStale_12 : decode b_M_isStale 12 = .ok (.bipush 32, 2) := by decide +kernel
theorem d_M_isStale_14 : decode b_M_isStale 14 = .ok (.iload_n 1, 1) := by decide +kernel
theorem d_M_isStale_15 : decode b_M_isStale 15 = .ok (.imul, 1) := by decide +kernel
theorem d_M_isStale_16 : decode b_M_isStale 16 = .ok (.iload_n 2, 1) := by decide +kernel
theorem d_M_isStale_17 : decode b_M_isStale 17 = .ok (.iadd, 1) := by decide +kernel
theorem d_M_isStale_18 : decode b_M_isStale 18 = .ok (.baload, 1) := by decide +kernel
theorem d_M_isStale_19 : decode b_M_isStale 19 = .ok (.ifCond .eq 25, 3) := by decide +kernel
theorem d_M_isStale_22 : decode b_M_isStale 22 = .ok (.aload_n 0, 1) := by decide +kernel
theorem d_M_isStale_23 : decode b_M_isStale 23 = .ok (.getfield 23, 3) := by decide +kernel
theorem d_M_isStale_26 : decode b_M_isStale 26 = .ok (.bipush 32, 2) := by decide +kernel
theorem d_M_isStale_28 : decode b_M_isStale 28 = .ok (.iload_n 1, 1) := by decide +kernel
theorem d_M_isStale_29 : decode b_M_isStale 29 = .ok (.imul, 1) := by decide +kernel
theorem d_M_isStale_30 : decode b_M_isStale 30 = .ok (.iload_n 2, 1) := by decide +kernel
theorem d_M_isStale_31 : decode b_M_isStale 31 = .ok (.iadd, 1) := by decide +kernel
theorem d_M_isStale_32 : decode b_M_isStale 32 = .ok (.iaload, 1) := by decide +kernel
theorem d_M_isStale_33 : decode b_M_isStale 33 = .ok (.aload_n 0, 1) := by decide +kernel
theorem d_M_isStale_34 : decode b_M_isStale 34 = .ok (.getfield 16, 3) := by decide +kernel
theorem d_M_isStale_37 : decode b_M_isStale 37 = .ok (.iload_n 2, 1) := by decide +kernel
theorem d_M_isStale_38 : decode b_M_isStale 38 = .ok (.iaload, 1) := by decide +kernel
theorem d_M_isStale_39 : decode b_M_isStale 39 = .ok (.if_icmp .eq 5, 3) := by decide +kernel
theorem d_M_isStale_42 : decode b_M_isStale 42 = .ok (.iconst 1, 1) := by decide +kernel
theorem d_M_isStale_43 : decode b_M_isStale 43 = .ok (.ireturn, 1) := by decide +kernel
theorem d_M_isStale_44 : decode b_M_isStale 44 = .ok (.iinc 2 1, 3) := by decide +kernel
theorem d_M_isStale_47 : decode b_M_isStale 47 = .ok (.goto (-45), 3) := by decide +kernel
theorem d_M_isStale_50 : decode b_M_isStale 50 = .ok (.iconst 0, 1) := by decide +kernel
theorem d_M_isStale_51 : decode b_M_isStale 51 = .ok (.ireturn, 1) := by decide +kernel
theorem d_M_change_0 : decode b_M_change 0 = .ok (.aload_n 0, 1) := by decide +kernel
theorem d_M_change_1 : decode b_M_change 1 = .ok (.getfield 9, 3) := by decide +kernel
theorem d_M_change_4 : decode b_M_change 4 = .ok (.iload_n 1, 1) := by decide +kernel
theorem d_M_change_5 : decode b_M_change 5 = .ok (.lload_n 2, 1) := by decide +kernel
theorem d_M_change_6 : decode b_M_change 6 = .ok (.lastore, 1) := by decide +kernel
theorem d_M_change_7 : decode b_M_change 7 = .ok (.aload_n 0, 1) := by decide +kernel
theorem d_M_change_8 : decode b_M_change 8 = .ok (.getfield 16, 3) := by decide +kernel
theorem d_M_change_11 : decode b_M_change 11 = .ok (.iload_n 1, 1) := by decide +kernel
theorem d_M_change_12 : decode b_M_change 12 = .ok (.dup2, 1) := by decide +kernel
theorem d_M_change_13 : decode b_M_change 13 = .ok (.iaload, 1) := by decide +kernel
theorem d_M_change_14 : decode b_M_change 14 = .ok (.iconst 1, 1) := by decide +kernel
theorem d_M_change_15 : decode b_M_change 15 = .ok (.iadd, 1) := by decide +kernel
theorem d_M_change_16 : decode b_M_change 16 = .ok (.iastore, 1) := by decide +kernel
theorem d_M_change_17 : decode b_M_change 17 = .ok (.return_, 1) := by decide +kernel
theorem d_M_begin_0 : decode b_M_begin 0 = .ok (.aload_n 0, 1) := by decide +kernel
theorem d_M_begin_1 : decode b_M_begin 1 = .ok (.iconst 0, 1) := by decide +kernel
theorem d_M_begin_2 : decode b_M_begin 2 = .ok (.putfield 36, 3) := by decide +kernel
theorem d_M_begin_5 : decode b_M_begin 5 = .ok (.aload_n 0, 1) := by decide +kernel
theorem d_M_begin_6 : decode b_M_begin 6 = .ok (.iload_n 1, 1) := by decide +kernel
theorem d_M_begin_7 : decode b_M_begin 7 = .ok (.invokestatic 48, 3) := by decide +kernel
theorem d_M_begin_10 : decode b_M_begin 10 = .ok (.ifCond .ne 7, 3) := by decide +kernel
theorem d_M_begin_13 : decode b_M_begin 13 = .ok (.iconst 1, 1) := by decide +kernel
theorem d_M_begin_14 : decode b_M_begin 14 = .ok (.goto 4, 3) := by decide +kernel
theorem d_M_begin_17 : decode b_M_begin 17 = .ok (.iconst 0, 1) := by decide +kernel
theorem d_M_begin_18 : decode b_M_begin 18 = .ok (.iconst 1, 1) := by decide +kernel
theorem d_M_begin_19 : decode b_M_begin 19 = .ok (.invokevirtual 52, 3) := by decide +kernel
theorem d_M_begin_22 : decode b_M_begin 22 = .ok (.ifCond .ne 17, 3) := by decide +kernel
theorem d_M_begin_25 : decode b_M_begin 25 = .ok (.aload_n 0, 1) := by decide +kernel
theorem d_M_begin_26 : decode b_M_begin 26 = .ok (.aload_n 0, 1) := by decide +kernel
theorem d_M_begin_27 : decode b_M_begin 27 = .ok (.getfield 33, 3) := by decide +kernel
theorem d_M_begin_30 : decode b_M_begin 30 = .ok (.iload_n 1, 1) := by decide +kernel
theorem d_M_begin_31 : decode b_M_begin 31 = .ok (.baload, 1) := by decide +kernel
theorem d_M_begin_32 : decode b_M_begin 32 = .ok (.iconst 2, 1) := by decide +kernel
theorem d_M_begin_33 : decode b_M_begin 33 = .ok (.invokevirtual 52, 3) := by decide +kernel
theorem d_M_begin_36 : decode b_M_begin 36 = .ok (.ifCond .eq 4, 3) := by decide +kernel
theorem d_M_begin_39 : decode b_M_begin 39 = .ok (.return_, 1) := by decide +kernel
theorem d_M_begin_40 : decode b_M_begin 40 = .ok (.aload_n 0, 1) := by decide +kernel
theorem d_M_begin_41 : decode b_M_begin 41 = .ok (.getfield 33, 3) := by decide +kernel
theorem d_M_begin_44 : decode b_M_begin 44 = .ok (.iload_n 1, 1) := by decide +kernel
theorem d_M_begin_45 : decode b_M_begin 45 = .ok (.iconst 1, 1) := by decide +kernel
theorem d_M_begin_46 : decode b_M_begin 46 = .ok (.bastore, 1) := by decide +kernel
theorem d_M_begin_47 : decode b_M_begin 47 = .ok (.aload_n 0, 1) := by decide +kernel
theorem d_M_begin_48 : decode b_M_begin 48 = .ok (.getfield 20, 3) := by decide +kernel
theorem d_M_begin_51 : decode b_M_begin 51 = .ok (.iload_n 1, 1) := by decide +kernel
theorem d_M_begin_52 : decode b_M_begin 52 = .ok (.iconst 1, 1) := by decide +kernel
theorem d_M_begin_53 : decode b_M_begin 53 = .ok (.iastore, 1) := by decide +kernel
theorem d_M_begin_54 : decode b_M_begin 54 = .ok (.iconst 0, 1) := by decide +kernel
theorem d_M_begin_55 : decode b_M_begin 55 = .ok (.istore_n 2, 1) := by decide +kernel
theorem d_M_begin_56 : decode b_M_begin 56 = .ok (.iload_n 2, 1) := by decide +kernel
theorem d_M_begin_57 : decode b_M_begin 57 = .ok (.bipush 32, 2) := by decide +kernel
theorem d_M_begin_59 : decode b_M_begin 59 = .ok (.if_icmp .ge 33, 3) := by decide +kernel
theorem d_M_begin_62 : decode b_M_begin 62 = .ok (.aload_n 0, 1) := by decide +kernel
theorem d_M_begin_63 : decode b_M_begin 63 = .ok (.getfield 30, 3) := by decide +kernel
theorem d_M_begin_66 : decode b_M_begin 66 = .ok (.bipush 32, 2) := by decide +kernel
theorem d_M_begin_68 : decode b_M_begin 68 = .ok (.iload_n 1, 1) := by decide +kernel
theorem d_M_begin_69 : decode b_M_begin 69 = .ok (.imul, 1) := by decide +kernel
theorem d_M_begin_70 : decode b_M_begin 70 = .ok (.iload_n 2, 1) := by decide +kernel
theorem d_M_begin_71 : decode b_M_begin 71 = .ok (.iadd, 1) := by decide +kernel
theorem d_M_begin_72 : decode b_M_begin 72 = .ok (.iconst 0, 1) := by decide +kernel
theorem d_M_begin_73 : decode b_M_begin 73 = .ok (.bastore, 1) := by decide +kernel
theorem d_M_begin_74 : decode b_M_begin 74 = .ok (.aload_n 0, 1) := by decide +kernel
theorem d_M_begin_75 : decode b_M_begin 75 = .ok (.getfield 26, 3) := by decide +kernel
theorem d_M_begin_78 : decode b_M_begin 78 = .ok (.aload_n 0, 1) := by decide +kernel
theorem d_M_begin_79 : decode b_M_begin 79 = .ok (.iload_n 1, 1) := by decide +kernel
theorem d_M_begin_80 : decode b_M_begin 80 = .ok (.iload_n 2, 1) := by decide +kernel
theorem d_M_begin_81 : decode b_M_begin 81 = .ok (.invokevirtual 56, 3) := by decide +kernel
theorem d_M_begin_84 : decode b_M_begin 84 = .ok (.iconst 0, 1) := by decide +kernel
theorem d_M_begin_85 : decode b_M_begin 85 = .ok (.bastore, 1) := by decide +kernel
theorem d_M_begin_86 : decode b_M_begin 86 = .ok (.iinc 2 1, 3) := by decide +kernel
theorem d_M_begin_89 : decode b_M_begin 89 = .ok (.goto (-33), 3) := by decide +kernel
theorem d_M_begin_92 : decode b_M_begin 92 = .ok (.return_, 1) := by decide +kernel
theorem d_M_read_0 : decode b_M_read 0 = .ok (.aload_n 0, 1) := by decide +kernel
theorem d_M_read_1 : decode b_M_read 1 = .ok (.iconst 0, 1) := by decide +kernel
theorem d_M_read_2 : decode b_M_read 2 = .ok (.putfield 36, 3) := by decide +kernel
theorem d_M_read_5 : decode b_M_read 5 = .ok (.aload_n 0, 1) := by decide +kernel
theorem d_M_read_6 : decode b_M_read 6 = .ok (.iload_n 1, 1) := by decide +kernel
theorem d_M_read_7 : decode b_M_read 7 = .ok (.invokestatic 48, 3) := by decide +kernel
theorem d_M_read_10 : decode b_M_read 10 = .ok (.ifCond .ne 7, 3) := by decide +kernel
theorem d_M_read_13 : decode b_M_read 13 = .ok (.iconst 1, 1) := by decide +kernel
theorem d_M_read_14 : decode b_M_read 14 = .ok (.goto 4, 3) := by decide +kernel
theorem d_M_read_17 : decode b_M_read 17 = .ok (.iconst 0, 1) := by decide +kernel
theorem d_M_read_18 : decode b_M_read 18 = .ok (.iconst 1, 1) := by decide +kernel
theorem d_M_read_19 : decode b_M_read 19 = .ok (.invokevirtual 52, 3) := by decide +kernel
theorem d_M_read_22 : decode b_M_read 22 = .ok (.ifCond .ne 45, 3) := by decide +kernel
theorem d_M_read_25 : decode b_M_read 25 = .ok (.aload_n 0, 1) := by decide +kernel
theorem d_M_read_26 : decode b_M_read 26 = .ok (.iload_n 2, 1) := by decide +kernel
theorem d_M_read_27 : decode b_M_read 27 = .ok (.invokestatic 60, 3) := by decide +kernel
theorem d_M_read_30 : decode b_M_read 30 = .ok (.ifCond .ne 7, 3) := by decide +kernel
theorem d_M_read_33 : decode b_M_read 33 = .ok (.iconst 1, 1) := by decide +kernel
theorem d_M_read_34 : decode b_M_read 34 = .ok (.goto 4, 3) := by decide +kernel
theorem d_M_read_37 : decode b_M_read 37 = .ok (.iconst 0, 1) := by decide +kernel
theorem d_M_read_38 : decode b_M_read 38 = .ok (.iconst 2, 1) := by decide +kernel
theorem d_M_read_39 : decode b_M_read 39 = .ok (.invokevirtual 52, 3) := by decide +kernel
theorem d_M_read_42 : decode b_M_read 42 = .ok (.ifCond .ne 25, 3) := by decide +kernel
theorem d_M_read_45 : decode b_M_read 45 = .ok (.aload_n 0, 1) := by decide +kernel
theorem d_M_read_46 : decode b_M_read 46 = .ok (.aload_n 0, 1) := by decide +kernel
theorem d_M_read_47 : decode b_M_read 47 = .ok (.getfield 33, 3) := by decide +kernel
theorem d_M_read_50 : decode b_M_read 50 = .ok (.iload_n 1, 1) := by decide +kernel
theorem d_M_read_51 : decode b_M_read 51 = .ok (.baload, 1) := by decide +kernel
theorem d_M_read_52 : decode b_M_read 52 = .ok (.ifCond .ne 7, 3) := by decide +kernel
theorem d_M_read_55 : decode b_M_read 55 = .ok (.iconst 1, 1) := by decide +kernel
theorem d_M_read_56 : decode b_M_read 56 = .ok (.goto 4, 3) := by decide +kernel
theorem d_M_read_59 : decode b_M_read 59 = .ok (.iconst 0, 1) := by decide +kernel
theorem d_M_read_60 : decode b_M_read 60 = .ok (.iconst 3, 1) := by decide +kernel
theorem d_M_read_61 : decode b_M_read 61 = .ok (.invokevirtual 52, 3) := by decide +kernel
theorem d_M_read_64 : decode b_M_read 64 = .ok (.ifCond .eq 5, 3) := by decide +kernel
theorem d_M_read_67 : decode b_M_read 67 = .ok (.lconst 0, 1) := by decide +kernel
theorem d_M_read_68 : decode b_M_read 68 = .ok (.lreturn, 1) := by decide +kernel
theorem d_M_read_69 : decode b_M_read 69 = .ok (.aload_n 0, 1) := by decide +kernel
theorem d_M_read_70 : decode b_M_read 70 = .ok (.getfield 26, 3) := by decide +kernel
theorem d_M_read_73 : decode b_M_read 73 = .ok (.aload_n 0, 1) := by decide +kernel
theorem d_M_read_74 : decode b_M_read 74 = .ok (.iload_n 1, 1) := by decide +kernel
theorem d_M_read_75 : decode b_M_read 75 = .ok (.iload_n 2, 1) := by decide +kernel
theorem d_M_read_76 : decode b_M_read 76 = .ok (.invokevirtual 56, 3) := by decide +kernel
theorem d_M_read_79 : decode b_M_read 79 = .ok (.baload, 1) := by decide +kernel
theorem d_M_read_80 : decode b_M_read 80 = .ok (.ifCond .eq 15, 3) := by decide +kernel
theorem d_M_read_83 : decode b_M_read 83 = .ok (.aload_n 0, 1) := by decide +kernel
theorem d_M_read_84 : decode b_M_read 84 = .ok (.getfield 13, 3) := by decide +kernel
theorem d_M_read_87 : decode b_M_read 87 = .ok (.aload_n 0, 1) := by decide +kernel
theorem d_M_read_88 : decode b_M_read 88 = .ok (.iload_n 1, 1) := by decide +kernel
theorem d_M_read_89 : decode b_M_read 89 = .ok (.iload_n 2, 1) := by decide +kernel
theorem d_M_read_90 : decode b_M_read 90 = .ok (.invokevirtual 56, 3) := by decide +kernel
theorem d_M_read_93 : decode b_M_read 93 = .ok (.laload, 1) := by decide +kernel
theorem d_M_read_94 : decode b_M_read 94 = .ok (.lreturn, 1) := by decide +kernel
theorem d_M_read_95 : decode b_M_read 95 = .ok (.aload_n 0, 1) := by decide +kernel
theorem d_M_read_96 : decode b_M_read 96 = .ok (.iload_n 1, 1) := by decide +kernel
theorem d_M_read_97 : decode b_M_read 97 = .ok (.invokevirtual 63, 3) := by decide +kernel
theorem d_M_read_100 : decode b_M_read 100 = .ok (.ifCond .eq 29, 3) := by decide +kernel
theorem d_M_read_103 : decode b_M_read 103 = .ok (.aload_n 0, 1) := by decide +kernel
theorem d_M_read_104 : decode b_M_read 104 = .ok (.getfield 33, 3) := by decide +kernel
theorem d_M_read_107 : decode b_M_read 107 = .ok (.iload_n 1, 1) := by decide +kernel
theorem d_M_read_108 : decode b_M_read 108 = .ok (.iconst 0, 1) := by decide +kernel
theorem d_M_read_109 : decode b_M_read 109 = .ok (.bastore, 1) := by decide +kernel
theorem d_M_read_110 : decode b_M_read 110 = .ok (.aload_n 0, 1) := by decide +kernel
theorem d_M_read_111 : decode b_M_read 111 = .ok (.dup, 1) := by decide +kernel
theorem d_M_read_112 : decode b_M_read 112 = .ok (.getfield 66, 3) := by decide +kernel
theorem d_M_read_115 : decode b_M_read 115 = .ok (.iconst 1, 1) := by decide +kernel
theorem d_M_read_116 : decode b_M_read 116 = .ok (.iadd, 1) := by decide +kernel
theorem d_M_read_117 : decode b_M_read 117 = .ok (.putfield 66, 3) := by decide +kernel
theorem d_M_read_120 : decode b_M_read 120 = .ok (.aload_n 0, 1) := by decide +kernel
theorem d_M_read_121 : decode b_M_read 121 = .ok (.iconst 1, 1) := by decide +kernel
theorem d_M_read_122 : decode b_M_read 122 = .ok (.iconst 4, 1) := by decide +kernel
theorem d_M_read_123 : decode b_M_read 123 = .ok (.invokevirtual 52, 3) := by decide +kernel
theorem d_M_read_126 : decode b_M_read 126 = .ok (.pop, 1) := by decide +kernel
theorem d_M_read_127 : decode b_M_read 127 = .ok (.lconst 0, 1) := by decide +kernel
theorem d_M_read_128 : decode b_M_read 128 = .ok (.lreturn, 1) := by decide +kernel
theorem d_M_read_129 : decode b_M_read 129 = .ok (.aload_n 0, 1) := by decide +kernel
theorem d_M_read_130 : decode b_M_read 130 = .ok (.getfield 30, 3) := by decide +kernel
theorem d_M_read_133 : decode b_M_read 133 = .ok (.bipush 32, 2) := by decide +kernel
theorem d_M_read_135 : decode b_M_read 135 = .ok (.iload_n 1, 1) := by decide +kernel
theorem d_M_read_136 : decode b_M_read 136 = .ok (.imul, 1) := by decide +kernel
theorem d_M_read_137 : decode b_M_read 137 = .ok (.iload_n 2, 1) := by decide +kernel
theorem d_M_read_138 : decode b_M_read 138 = .ok (.iadd, 1) := by decide +kernel
theorem d_M_read_139 : decode b_M_read 139 = .ok (.baload, 1) := by decide +kernel
theorem d_M_read_140 : decode b_M_read 140 = .ok (.ifCond .ne 20, 3) := by decide +kernel
theorem d_M_read_143 : decode b_M_read 143 = .ok (.aload_n 0, 1) := by decide +kernel
theorem d_M_read_144 : decode b_M_read 144 = .ok (.getfield 23, 3) := by decide +kernel
theorem d_M_read_147 : decode b_M_read 147 = .ok (.bipush 32, 2) := by decide +kernel
theorem d_M_read_149 : decode b_M_read 149 = .ok (.iload_n 1, 1) := by decide +kernel
theorem d_M_read_150 : decode b_M_read 150 = .ok (.imul, 1) := by decide +kernel
theorem d_M_read_151 : decode b_M_read 151 = .ok (.iload_n 2, 1) := by decide +kernel
theorem d_M_read_152 : decode b_M_read 152 = .ok (.iadd, 1) := by decide +kernel
theorem d_M_read_153 : decode b_M_read 153 = .ok (.aload_n 0, 1) := by decide +kernel
theorem d_M_read_154 : decode b_M_read 154 = .ok (.getfield 16, 3) := by decide +kernel
theorem d_M_read_157 : decode b_M_read 157 = .ok (.iload_n 2, 1) := by decide +kernel
theorem d_M_read_158 : decode b_M_read 158 = .ok (.iaload, 1) := by decide +kernel
theorem d_M_read_159 : decode b_M_read 159 = .ok (.iastore, 1) := by decide +kernel
theorem d_M_read_160 : decode b_M_read 160 = .ok (.aload_n 0, 1) := by decide +kernel
theorem d_M_read_161 : decode b_M_read 161 = .ok (.getfield 30, 3) := by decide +kernel
theorem d_M_read_164 : decode b_M_read 164 = .ok (.bipush 32, 2) := by decide +kernel
theorem d_M_read_166 : decode b_M_read 166 = .ok (.iload_n 1, 1) := by decide +kernel
theorem d_M_read_167 : decode b_M_read 167 = .ok (.imul, 1) := by decide +kernel
theorem d_M_read_168 : decode b_M_read 168 = .ok (.iload_n 2, 1) := by decide +kernel
theorem d_M_read_169 : decode b_M_read 169 = .ok (.iadd, 1) := by decide +kernel
theorem d_M_read_170 : decode b_M_read 170 = .ok (.iconst 1, 1) := by decide +kernel
theorem d_M_read_171 : decode b_M_read 171 = .ok (.bastore, 1) := by decide +kernel
theorem d_M_read_172 : decode b_M_read 172 = .ok (.aload_n 0, 1) := by decide +kernel
theorem d_M_read_173 : decode b_M_read 173 = .ok (.getfield 9, 3) := by decide +kernel
theorem d_M_read_176 : decode b_M_read 176 = .ok (.iload_n 2, 1) := by decide +kernel
theorem d_M_read_177 : decode b_M_read 177 = .ok (.laload, 1) := by decide +kernel
theorem d_M_read_178 : decode b_M_read 178 = .ok (.lreturn, 1) := by decide +kernel
theorem d_M_write_0 : decode b_M_write 0 = .ok (.aload_n 0, 1) := by decide +kernel
theorem d_M_write_1 : decode b_M_write 1 = .ok (.iconst 0, 1) := by decide +kernel
theorem d_M_write_2 : decode b_M_write 2 = .ok (.putfield 36, 3) := by decide +kernel
theorem d_M_write_5 : decode b_M_write 5 = .ok (.aload_n 0, 1) := by decide +kernel
theorem d_M_write_6 : decode b_M_write 6 = .ok (.iload_n 1, 1) := by decide +kernel
theorem d_M_write_7 : decode b_M_write 7 = .ok (.invokestatic 48, 3) := by decide +kernel
theorem d_M_write_10 : decode b_M_write 10 = .ok (.ifCond .ne 7, 3) := by decide +kernel
theorem d_M_write_13 : decode b_M_write 13 = .ok (.iconst 1, 1) := by decide +kernel
theorem d_M_write_14 : decode b_M_write 14 = .ok (.goto 4, 3) := by decide +kernel
theorem d_M_write_17 : decode b_M_write 17 = .ok (.iconst 0, 1) := by decide +kernel
theorem d_M_write_18 : decode b_M_write 18 = .ok (.iconst 1, 1) := by decide +kernel
theorem d_M_write_19 : decode b_M_write 19 = .ok (.invokevirtual 52, 3) := by decide +kernel
theorem d_M_write_22 : decode b_M_write 22 = .ok (.ifCond .ne 45, 3) := by decide +kernel
theorem d_M_write_25 : decode b_M_write 25 = .ok (.aload_n 0, 1) := by decide +kernel
theorem d_M_write_26 : decode b_M_write 26 = .ok (.iload_n 2, 1) := by decide +kernel
theorem d_M_write_27 : decode b_M_write 27 = .ok (.invokestatic 60, 3) := by decide +kernel
theorem d_M_write_30 : decode b_M_write 30 = .ok (.ifCond .ne 7, 3) := by decide +kernel
theorem d_M_write_33 : decode b_M_write 33 = .ok (.iconst 1, 1) := by decide +kernel
theorem d_M_write_34 : decode b_M_write 34 = .ok (.goto 4, 3) := by decide +kernel
theorem d_M_write_37 : decode b_M_write 37 = .ok (.iconst 0, 1) := by decide +kernel
theorem d_M_write_38 : decode b_M_write 38 = .ok (.iconst 2, 1) := by decide +kernel
theorem d_M_write_39 : decode b_M_write 39 = .ok (.invokevirtual 52, 3) := by decide +kernel
theorem d_M_write_42 : decode b_M_write 42 = .ok (.ifCond .ne 25, 3) := by decide +kernel
theorem d_M_write_45 : decode b_M_write 45 = .ok (.aload_n 0, 1) := by decide +kernel
theorem d_M_write_46 : decode b_M_write 46 = .ok (.aload_n 0, 1) := by decide +kernel
theorem d_M_write_47 : decode b_M_write 47 = .ok (.getfield 33, 3) := by decide +kernel
theorem d_M_write_50 : decode b_M_write 50 = .ok (.iload_n 1, 1) := by decide +kernel
theorem d_M_write_51 : decode b_M_write 51 = .ok (.baload, 1) := by decide +kernel
theorem d_M_write_52 : decode b_M_write 52 = .ok (.ifCond .ne 7, 3) := by decide +kernel
theorem d_M_write_55 : decode b_M_write 55 = .ok (.iconst 1, 1) := by decide +kernel
theorem d_M_write_56 : decode b_M_write 56 = .ok (.goto 4, 3) := by decide +kernel
theorem d_M_write_59 : decode b_M_write 59 = .ok (.iconst 0, 1) := by decide +kernel
theorem d_M_write_60 : decode b_M_write 60 = .ok (.iconst 3, 1) := by decide +kernel
theorem d_M_write_61 : decode b_M_write 61 = .ok (.invokevirtual 52, 3) := by decide +kernel
theorem d_M_write_64 : decode b_M_write 64 = .ok (.ifCond .eq 4, 3) := by decide +kernel
theorem d_M_write_67 : decode b_M_write 67 = .ok (.return_, 1) := by decide +kernel
theorem d_M_write_68 : decode b_M_write 68 = .ok (.aload_n 0, 1) := by decide +kernel
theorem d_M_write_69 : decode b_M_write 69 = .ok (.getfield 26, 3) := by decide +kernel
theorem d_M_write_72 : decode b_M_write 72 = .ok (.aload_n 0, 1) := by decide +kernel
theorem d_M_write_73 : decode b_M_write 73 = .ok (.iload_n 1, 1) := by decide +kernel
theorem d_M_write_74 : decode b_M_write 74 = .ok (.iload_n 2, 1) := by decide +kernel
theorem d_M_write_75 : decode b_M_write 75 = .ok (.invokevirtual 56, 3) := by decide +kernel
theorem d_M_write_78 : decode b_M_write 78 = .ok (.iconst 1, 1) := by decide +kernel
theorem d_M_write_79 : decode b_M_write 79 = .ok (.bastore, 1) := by decide +kernel
theorem d_M_write_80 : decode b_M_write 80 = .ok (.aload_n 0, 1) := by decide +kernel
theorem d_M_write_81 : decode b_M_write 81 = .ok (.getfield 13, 3) := by decide +kernel
theorem d_M_write_84 : decode b_M_write 84 = .ok (.aload_n 0, 1) := by decide +kernel
theorem d_M_write_85 : decode b_M_write 85 = .ok (.iload_n 1, 1) := by decide +kernel
theorem d_M_write_86 : decode b_M_write 86 = .ok (.iload_n 2, 1) := by decide +kernel
theorem d_M_write_87 : decode b_M_write 87 = .ok (.invokevirtual 56, 3) := by decide +kernel
theorem d_M_write_90 : decode b_M_write 90 = .ok (.lload_n 3, 1) := by decide +kernel
theorem d_M_write_91 : decode b_M_write 91 = .ok (.lastore, 1) := by decide +kernel
theorem d_M_write_92 : decode b_M_write 92 = .ok (.return_, 1) := by decide +kernel
theorem d_M_copy_0 : decode b_M_copy 0 = .ok (.iconst 0, 1) := by decide +kernel
theorem d_M_copy_1 : decode b_M_copy 1 = .ok (.istore_n 3, 1) := by decide +kernel
theorem d_M_copy_2 : decode b_M_copy 2 = .ok (.iload_n 3, 1) := by decide +kernel
theorem d_M_copy_3 : decode b_M_copy 3 = .ok (.bipush 32, 2) := by decide +kernel
theorem d_M_copy_5 : decode b_M_copy 5 = .ok (.if_icmp .ge 41, 3) := by decide +kernel
theorem d_M_copy_8 : decode b_M_copy 8 = .ok (.aload_n 0, 1) := by decide +kernel
theorem d_M_copy_9 : decode b_M_copy 9 = .ok (.getfield 26, 3) := by decide +kernel
theorem d_M_copy_12 : decode b_M_copy 12 = .ok (.iload_n 2, 1) := by decide +kernel
theorem d_M_copy_13 : decode b_M_copy 13 = .ok (.iload_n 3, 1) := by decide +kernel
theorem d_M_copy_14 : decode b_M_copy 14 = .ok (.iadd, 1) := by decide +kernel
theorem d_M_copy_15 : decode b_M_copy 15 = .ok (.aload_n 0, 1) := by decide +kernel
theorem d_M_copy_16 : decode b_M_copy 16 = .ok (.getfield 26, 3) := by decide +kernel
theorem d_M_copy_19 : decode b_M_copy 19 = .ok (.iload_n 1, 1) := by decide +kernel
theorem d_M_copy_20 : decode b_M_copy 20 = .ok (.iload_n 3, 1) := by decide +kernel
theorem d_M_copy_21 : decode b_M_copy 21 = .ok (.iadd, 1) := by decide +kernel
theorem d_M_copy_22 : decode b_M_copy 22 = .ok (.baload, 1) := by decide +kernel
theorem d_M_copy_23 : decode b_M_copy 23 = .ok (.bastore, 1) := by decide +kernel
theorem d_M_copy_24 : decode b_M_copy 24 = .ok (.aload_n 0, 1) := by decide +kernel
theorem d_M_copy_25 : decode b_M_copy 25 = .ok (.getfield 13, 3) := by decide +kernel
theorem d_M_copy_28 : decode b_M_copy 28 = .ok (.iload_n 2, 1) := by decide +kernel
theorem d_M_copy_29 : decode b_M_copy 29 = .ok (.iload_n 3, 1) := by decide +kernel
theorem d_M_copy_30 : decode b_M_copy 30 = .ok (.iadd, 1) := by decide +kernel
theorem d_M_copy_31 : decode b_M_copy 31 = .ok (.aload_n 0, 1) := by decide +kernel
theorem d_M_copy_32 : decode b_M_copy 32 = .ok (.getfield 13, 3) := by decide +kernel
theorem d_M_copy_35 : decode b_M_copy 35 = .ok (.iload_n 1, 1) := by decide +kernel
theorem d_M_copy_36 : decode b_M_copy 36 = .ok (.iload_n 3, 1) := by decide +kernel
theorem d_M_copy_37 : decode b_M_copy 37 = .ok (.iadd, 1) := by decide +kernel
theorem d_M_copy_38 : decode b_M_copy 38 = .ok (.laload, 1) := by decide +kernel
theorem d_M_copy_39 : decode b_M_copy 39 = .ok (.lastore, 1) := by decide +kernel
theorem d_M_copy_40 : decode b_M_copy 40 = .ok (.iinc 3 1, 3) := by decide +kernel
theorem d_M_copy_43 : decode b_M_copy 43 = .ok (.goto (-41), 3) := by decide +kernel
theorem d_M_copy_46 : decode b_M_copy 46 = .ok (.return_, 1) := by decide +kernel
theorem d_M_save_0 : decode b_M_save 0 = .ok (.aload_n 0, 1) := by decide +kernel
theorem d_M_save_1 : decode b_M_save 1 = .ok (.iconst 0, 1) := by decide +kernel
theorem d_M_save_2 : decode b_M_save 2 = .ok (.putfield 36, 3) := by decide +kernel
theorem d_M_save_5 : decode b_M_save 5 = .ok (.aload_n 0, 1) := by decide +kernel
theorem d_M_save_6 : decode b_M_save 6 = .ok (.iload_n 1, 1) := by decide +kernel
theorem d_M_save_7 : decode b_M_save 7 = .ok (.invokestatic 48, 3) := by decide +kernel
theorem d_M_save_10 : decode b_M_save 10 = .ok (.ifCond .ne 7, 3) := by decide +kernel
theorem d_M_save_13 : decode b_M_save 13 = .ok (.iconst 1, 1) := by decide +kernel
theorem d_M_save_14 : decode b_M_save 14 = .ok (.goto 4, 3) := by decide +kernel
theorem d_M_save_17 : decode b_M_save 17 = .ok (.iconst 0, 1) := by decide +kernel
theorem d_M_save_18 : decode b_M_save 18 = .ok (.iconst 1, 1) := by decide +kernel
theorem d_M_save_19 : decode b_M_save 19 = .ok (.invokevirtual 52, 3) := by decide +kernel
theorem d_M_save_22 : decode b_M_save 22 = .ok (.ifCond .ne 48, 3) := by decide +kernel
theorem d_M_save_25 : decode b_M_save 25 = .ok (.aload_n 0, 1) := by decide +kernel
theorem d_M_save_26 : decode b_M_save 26 = .ok (.aload_n 0, 1) := by decide +kernel
theorem d_M_save_27 : decode b_M_save 27 = .ok (.getfield 33, 3) := by decide +kernel
theorem d_M_save_30 : decode b_M_save 30 = .ok (.iload_n 1, 1) := by decide +kernel
theorem d_M_save_31 : decode b_M_save 31 = .ok (.baload, 1) := by decide +kernel
theorem d_M_save_32 : decode b_M_save 32 = .ok (.ifCond .ne 7, 3) := by decide +kernel
theorem d_M_save_35 : decode b_M_save 35 = .ok (.iconst 1, 1) := by decide +kernel
theorem d_M_save_36 : decode b_M_save 36 = .ok (.goto 4, 3) := by decide +kernel
theorem d_M_save_39 : decode b_M_save 39 = .ok (.iconst 0, 1) := by decide +kernel
theorem d_M_save_40 : decode b_M_save 40 = .ok (.iconst 2, 1) := by decide +kernel
theorem d_M_save_41 : decode b_M_save 41 = .ok (.invokevirtual 52, 3) := by decide +kernel
theorem d_M_save_44 : decode b_M_save 44 = .ok (.ifCond .ne 26, 3) := by decide +kernel
theorem d_M_save_47 : decode b_M_save 47 = .ok (.aload_n 0, 1) := by decide +kernel
theorem d_M_save_48 : decode b_M_save 48 = .ok (.aload_n 0, 1) := by decide +kernel
theorem d_M_save_49 : decode b_M_save 49 = .ok (.getfield 20, 3) := by decide +kernel
theorem d_M_save_52 : decode b_M_save 52 = .ok (.iload_n 1, 1) := by decide +kernel
theorem d_M_save_53 : decode b_M_save 53 = .ok (.iaload, 1) := by decide +kernel
theorem d_M_save_54 : decode b_M_save 54 = .ok (.iconst 5, 1) := by decide +kernel
theorem d_M_save_55 : decode b_M_save 55 = .ok (.if_icmp .ne 7, 3) := by decide +kernel
theorem d_M_save_58 : decode b_M_save 58 = .ok (.iconst 1, 1) := by decide +kernel
theorem d_M_save_59 : decode b_M_save 59 = .ok (.goto 4, 3) := by decide +kernel
theorem d_M_save_62 : decode b_M_save 62 = .ok (.iconst 0, 1) := by decide +kernel
theorem d_M_save_63 : decode b_M_save 63 = .ok (.iconst 3, 1) := by decide +kernel
theorem d_M_save_64 : decode b_M_save 64 = .ok (.invokevirtual 52, 3) := by decide +kernel
theorem d_M_save_67 : decode b_M_save 67 = .ok (.ifCond .eq 5, 3) := by decide +kernel
theorem d_M_save_70 : decode b_M_save 70 = .ok (.iconst 0, 1) := by decide +kernel
theorem d_M_save_71 : decode b_M_save 71 = .ok (.ireturn, 1) := by decide +kernel
theorem d_M_save_72 : decode b_M_save 72 = .ok (.aload_n 0, 1) := by decide +kernel
theorem d_M_save_73 : decode b_M_save 73 = .ok (.getfield 20, 3) := by decide +kernel
theorem d_M_save_76 : decode b_M_save 76 = .ok (.iload_n 1, 1) := by decide +kernel
theorem d_M_save_77 : decode b_M_save 77 = .ok (.dup2, 1) := by decide +kernel
theorem d_M_save_78 : decode b_M_save 78 = .ok (.iaload, 1) := by decide +kernel
theorem d_M_save_79 : decode b_M_save 79 = .ok (.iconst 1, 1) := by decide +kernel
theorem d_M_save_80 : decode b_M_save 80 = .ok (.iadd, 1) := by decide +kernel
theorem d_M_save_81 : decode b_M_save 81 = .ok (.iastore, 1) := by decide +kernel
theorem d_M_save_82 : decode b_M_save 82 = .ok (.aload_n 0, 1) := by decide +kernel
theorem d_M_save_83 : decode b_M_save 83 = .ok (.aload_n 0, 1) := by decide +kernel
theorem d_M_save_84 : decode b_M_save 84 = .ok (.iload_n 1, 1) := by decide +kernel
theorem d_M_save_85 : decode b_M_save 85 = .ok (.iconst 0, 1) := by decide +kernel
theorem d_M_save_86 : decode b_M_save 86 = .ok (.invokevirtual 56, 3) := by decide +kernel
theorem d_M_save_89 : decode b_M_save 89 = .ok (.bipush 32, 2) := by decide +kernel
theorem d_M_save_91 : decode b_M_save 91 = .ok (.isub, 1) := by decide +kernel
theorem d_M_save_92 : decode b_M_save 92 = .ok (.aload_n 0, 1) := by decide +kernel
theorem d_M_save_93 : decode b_M_save 93 = .ok (.iload_n 1, 1) := by decide +kernel
theorem d_M_save_94 : decode b_M_save 94 = .ok (.iconst 0, 1) := by decide +kernel
theorem d_M_save_95 : decode b_M_save 95 = .ok (.invokevirtual 56, 3) := by decide +kernel
theorem d_M_save_98 : decode b_M_save 98 = .ok (.invokevirtual 69, 3) := by decide +kernel
theorem d_M_save_101 : decode b_M_save 101 = .ok (.aload_n 0, 1) := by decide +kernel
theorem d_M_save_102 : decode b_M_save 102 = .ok (.getfield 20, 3) := by decide +kernel
theorem d_M_save_105 : decode b_M_save 105 = .ok (.iload_n 1, 1) := by decide +kernel
theorem d_M_save_106 : decode b_M_save 106 = .ok (.iaload, 1) := by decide +kernel
theorem d_M_save_107 : decode b_M_save 107 = .ok (.ireturn, 1) := by decide +kernel
theorem d_M_back_0 : decode b_M_back 0 = .ok (.aload_n 0, 1) := by decide +kernel
theorem d_M_back_1 : decode b_M_back 1 = .ok (.iconst 0, 1) := by decide +kernel
theorem d_M_back_2 : decode b_M_back 2 = .ok (.putfield 36, 3) := by decide +kernel
theorem d_M_back_5 : decode b_M_back 5 = .ok (.aload_n 0, 1) := by decide +kernel
theorem d_M_back_6 : decode b_M_back 6 = .ok (.iload_n 1, 1) := by decide +kernel
theorem d_M_back_7 : decode b_M_back 7 = .ok (.invokestatic 48, 3) := by decide +kernel
theorem d_M_back_10 : decode b_M_back 10 = .ok (.ifCond .ne 7, 3) := by decide +kernel
theorem d_M_back_13 : decode b_M_back 13 = .ok (.iconst 1, 1) := by decide +kernel
theorem d_M_back_14 : decode b_M_back 14 = .ok (.goto 4, 3) := by decide +kernel
theorem d_M_back_17 : decode b_M_back 17 = .ok (.iconst 0, 1) := by decide +kernel
theorem d_M_back_18 : decode b_M_back 18 = .ok (.iconst 1, 1) := by decide +kernel
theorem d_M_back_19 : decode b_M_back 19 = .ok (.invokevirtual 52, 3) := by decide +kernel
theorem d_M_back_22 : decode b_M_back 22 = .ok (.ifCond .ne 48, 3) := by decide +kernel
theorem d_M_back_25 : decode b_M_back 25 = .ok (.aload_n 0, 1) := by decide +kernel
theorem d_M_back_26 : decode b_M_back 26 = .ok (.aload_n 0, 1) := by decide +kernel
theorem d_M_back_27 : decode b_M_back 27 = .ok (.getfield 33, 3) := by decide +kernel
theorem d_M_back_30 : decode b_M_back 30 = .ok (.iload_n 1, 1) := by decide +kernel
theorem d_M_back_31 : decode b_M_back 31 = .ok (.baload, 1) := by decide +kernel
theorem d_M_back_32 : decode b_M_back 32 = .ok (.ifCond .ne 7, 3) := by decide +kernel
theorem d_M_back_35 : decode b_M_back 35 = .ok (.iconst 1, 1) := by decide +kernel
theorem d_M_back_36 : decode b_M_back 36 = .ok (.goto 4, 3) := by decide +kernel
theorem d_M_back_39 : decode b_M_back 39 = .ok (.iconst 0, 1) := by decide +kernel
theorem d_M_back_40 : decode b_M_back 40 = .ok (.iconst 2, 1) := by decide +kernel
theorem d_M_back_41 : decode b_M_back 41 = .ok (.invokevirtual 52, 3) := by decide +kernel
theorem d_M_back_44 : decode b_M_back 44 = .ok (.ifCond .ne 26, 3) := by decide +kernel
theorem d_M_back_47 : decode b_M_back 47 = .ok (.aload_n 0, 1) := by decide +kernel
theorem d_M_back_48 : decode b_M_back 48 = .ok (.aload_n 0, 1) := by decide +kernel
theorem d_M_back_49 : decode b_M_back 49 = .ok (.getfield 20, 3) := by decide +kernel
theorem d_M_back_52 : decode b_M_back 52 = .ok (.iload_n 1, 1) := by decide +kernel
theorem d_M_back_53 : decode b_M_back 53 = .ok (.iaload, 1) := by decide +kernel
theorem d_M_back_54 : decode b_M_back 54 = .ok (.iconst 1, 1) := by decide +kernel
theorem d_M_back_55 : decode b_M_back 55 = .ok (.if_icmp .ne 7, 3) := by decide +kernel
theorem d_M_back_58 : decode b_M_back 58 = .ok (.iconst 1, 1) := by decide +kernel
theorem d_M_back_59 : decode b_M_back 59 = .ok (.goto 4, 3) := by decide +kernel
theorem d_M_back_62 : decode b_M_back 62 = .ok (.iconst 0, 1) := by decide +kernel
theorem d_M_back_63 : decode b_M_back 63 = .ok (.iconst 3, 1) := by decide +kernel
theorem d_M_back_64 : decode b_M_back 64 = .ok (.invokevirtual 52, 3) := by decide +kernel
theorem d_M_back_67 : decode b_M_back 67 = .ok (.ifCond .eq 4, 3) := by decide +kernel
theorem d_M_back_70 : decode b_M_back 70 = .ok (.return_, 1) := by decide +kernel
theorem d_M_back_71 : decode b_M_back 71 = .ok (.aload_n 0, 1) := by decide +kernel
theorem d_M_back_72 : decode b_M_back 72 = .ok (.getfield 20, 3) := by decide +kernel
theorem d_M_back_75 : decode b_M_back 75 = .ok (.iload_n 1, 1) := by decide +kernel
theorem d_M_back_76 : decode b_M_back 76 = .ok (.dup2, 1) := by decide +kernel
theorem d_M_back_77 : decode b_M_back 77 = .ok (.iaload, 1) := by decide +kernel
theorem d_M_back_78 : decode b_M_back 78 = .ok (.iconst 1, 1) := by decide +kernel
theorem d_M_back_79 : decode b_M_back 79 = .ok (.isub, 1) := by decide +kernel
theorem d_M_back_80 : decode b_M_back 80 = .ok (.iastore, 1) := by decide +kernel
theorem d_M_back_81 : decode b_M_back 81 = .ok (.return_, 1) := by decide +kernel
theorem d_M_keep_0 : decode b_M_keep 0 = .ok (.aload_n 0, 1) := by decide +kernel
theorem d_M_keep_1 : decode b_M_keep 1 = .ok (.iconst 0, 1) := by decide +kernel
theorem d_M_keep_2 : decode b_M_keep 2 = .ok (.putfield 36, 3) := by decide +kernel
theorem d_M_keep_5 : decode b_M_keep 5 = .ok (.aload_n 0, 1) := by decide +kernel
theorem d_M_keep_6 : decode b_M_keep 6 = .ok (.iload_n 1, 1) := by decide +kernel
theorem d_M_keep_7 : decode b_M_keep 7 = .ok (.invokestatic 48, 3) := by decide +kernel
theorem d_M_keep_10 : decode b_M_keep 10 = .ok (.ifCond .ne 7, 3) := by decide +kernel
theorem d_M_keep_13 : decode b_M_keep 13 = .ok (.iconst 1, 1) := by decide +kernel
theorem d_M_keep_14 : decode b_M_keep 14 = .ok (.goto 4, 3) := by decide +kernel
theorem d_M_keep_17 : decode b_M_keep 17 = .ok (.iconst 0, 1) := by decide +kernel
theorem d_M_keep_18 : decode b_M_keep 18 = .ok (.iconst 1, 1) := by decide +kernel
theorem d_M_keep_19 : decode b_M_keep 19 = .ok (.invokevirtual 52, 3) := by decide +kernel
theorem d_M_keep_22 : decode b_M_keep 22 = .ok (.ifCond .ne 48, 3) := by decide +kernel
theorem d_M_keep_25 : decode b_M_keep 25 = .ok (.aload_n 0, 1) := by decide +kernel
theorem d_M_keep_26 : decode b_M_keep 26 = .ok (.aload_n 0, 1) := by decide +kernel
theorem d_M_keep_27 : decode b_M_keep 27 = .ok (.getfield 33, 3) := by decide +kernel
theorem d_M_keep_30 : decode b_M_keep 30 = .ok (.iload_n 1, 1) := by decide +kernel
theorem d_M_keep_31 : decode b_M_keep 31 = .ok (.baload, 1) := by decide +kernel
theorem d_M_keep_32 : decode b_M_keep 32 = .ok (.ifCond .ne 7, 3) := by decide +kernel
theorem d_M_keep_35 : decode b_M_keep 35 = .ok (.iconst 1, 1) := by decide +kernel
theorem d_M_keep_36 : decode b_M_keep 36 = .ok (.goto 4, 3) := by decide +kernel
theorem d_M_keep_39 : decode b_M_keep 39 = .ok (.iconst 0, 1) := by decide +kernel
theorem d_M_keep_40 : decode b_M_keep 40 = .ok (.iconst 2, 1) := by decide +kernel
theorem d_M_keep_41 : decode b_M_keep 41 = .ok (.invokevirtual 52, 3) := by decide +kernel
theorem d_M_keep_44 : decode b_M_keep 44 = .ok (.ifCond .ne 26, 3) := by decide +kernel
theorem d_M_keep_47 : decode b_M_keep 47 = .ok (.aload_n 0, 1) := by decide +kernel
theorem d_M_keep_48 : decode b_M_keep 48 = .ok (.aload_n 0, 1) := by decide +kernel
theorem d_M_keep_49 : decode b_M_keep 49 = .ok (.getfield 20, 3) := by decide +kernel
theorem d_M_keep_52 : decode b_M_keep 52 = .ok (.iload_n 1, 1) := by decide +kernel
theorem d_M_keep_53 : decode b_M_keep 53 = .ok (.iaload, 1) := by decide +kernel
theorem d_M_keep_54 : decode b_M_keep 54 = .ok (.iconst 1, 1) := by decide +kernel
theorem d_M_keep_55 : decode b_M_keep 55 = .ok (.if_icmp .ne 7, 3) := by decide +kernel
theorem d_M_keep_58 : decode b_M_keep 58 = .ok (.iconst 1, 1) := by decide +kernel
theorem d_M_keep_59 : decode b_M_keep 59 = .ok (.goto 4, 3) := by decide +kernel
theorem d_M_keep_62 : decode b_M_keep 62 = .ok (.iconst 0, 1) := by decide +kernel
theorem d_M_keep_63 : decode b_M_keep 63 = .ok (.iconst 3, 1) := by decide +kernel
theorem d_M_keep_64 : decode b_M_keep 64 = .ok (.invokevirtual 52, 3) := by decide +kernel
theorem d_M_keep_67 : decode b_M_keep 67 = .ok (.ifCond .eq 4, 3) := by decide +kernel
theorem d_M_keep_70 : decode b_M_keep 70 = .ok (.return_, 1) := by decide +kernel
theorem d_M_keep_71 : decode b_M_keep 71 = .ok (.aload_n 0, 1) := by decide +kernel
theorem d_M_keep_72 : decode b_M_keep 72 = .ok (.getfield 20, 3) := by decide +kernel
theorem d_M_keep_75 : decode b_M_keep 75 = .ok (.iload_n 1, 1) := by decide +kernel
theorem d_M_keep_76 : decode b_M_keep 76 = .ok (.dup2, 1) := by decide +kernel
theorem d_M_keep_77 : decode b_M_keep 77 = .ok (.iaload, 1) := by decide +kernel
theorem d_M_keep_78 : decode b_M_keep 78 = .ok (.iconst 1, 1) := by decide +kernel
theorem d_M_keep_79 : decode b_M_keep 79 = .ok (.isub, 1) := by decide +kernel
theorem d_M_keep_80 : decode b_M_keep 80 = .ok (.iastore, 1) := by decide +kernel
theorem d_M_keep_81 : decode b_M_keep 81 = .ok (.aload_n 0, 1) := by decide +kernel
theorem d_M_keep_82 : decode b_M_keep 82 = .ok (.aload_n 0, 1) := by decide +kernel
theorem d_M_keep_83 : decode b_M_keep 83 = .ok (.iload_n 1, 1) := by decide +kernel
theorem d_M_keep_84 : decode b_M_keep 84 = .ok (.iconst 0, 1) := by decide +kernel
theorem d_M_keep_85 : decode b_M_keep 85 = .ok (.invokevirtual 56, 3) := by decide +kernel
theorem d_M_keep_88 : decode b_M_keep 88 = .ok (.bipush 32, 2) := by decide +kernel
theorem d_M_keep_90 : decode b_M_keep 90 = .ok (.iadd, 1) := by decide +kernel
theorem d_M_keep_91 : decode b_M_keep 91 = .ok (.aload_n 0, 1) := by decide +kernel
theorem d_M_keep_92 : decode b_M_keep 92 = .ok (.iload_n 1, 1) := by decide +kernel
theorem d_M_keep_93 : decode b_M_keep 93 = .ok (.iconst 0, 1) := by decide +kernel
theorem d_M_keep_94 : decode b_M_keep 94 = .ok (.invokevirtual 56, 3) := by decide +kernel
theorem d_M_keep_97 : decode b_M_keep 97 = .ok (.invokevirtual 69, 3) := by decide +kernel
theorem d_M_keep_100 : decode b_M_keep 100 = .ok (.return_, 1) := by decide +kernel
theorem d_M_done_0 : decode b_M_done 0 = .ok (.aload_n 0, 1) := by decide +kernel
theorem d_M_done_1 : decode b_M_done 1 = .ok (.iconst 0, 1) := by decide +kernel
theorem d_M_done_2 : decode b_M_done 2 = .ok (.putfield 36, 3) := by decide +kernel
theorem d_M_done_5 : decode b_M_done 5 = .ok (.aload_n 0, 1) := by decide +kernel
theorem d_M_done_6 : decode b_M_done 6 = .ok (.iload_n 1, 1) := by decide +kernel
theorem d_M_done_7 : decode b_M_done 7 = .ok (.invokestatic 48, 3) := by decide +kernel
theorem d_M_done_10 : decode b_M_done 10 = .ok (.ifCond .ne 7, 3) := by decide +kernel
theorem d_M_done_13 : decode b_M_done 13 = .ok (.iconst 1, 1) := by decide +kernel
theorem d_M_done_14 : decode b_M_done 14 = .ok (.goto 4, 3) := by decide +kernel
theorem d_M_done_17 : decode b_M_done 17 = .ok (.iconst 0, 1) := by decide +kernel
theorem d_M_done_18 : decode b_M_done 18 = .ok (.iconst 1, 1) := by decide +kernel
theorem d_M_done_19 : decode b_M_done 19 = .ok (.invokevirtual 52, 3) := by decide +kernel
theorem d_M_done_22 : decode b_M_done 22 = .ok (.ifCond .ne 25, 3) := by decide +kernel
theorem d_M_done_25 : decode b_M_done 25 = .ok (.aload_n 0, 1) := by decide +kernel
theorem d_M_done_26 : decode b_M_done 26 = .ok (.aload_n 0, 1) := by decide +kernel
theorem d_M_done_27 : decode b_M_done 27 = .ok (.getfield 33, 3) := by decide +kernel
theorem d_M_done_30 : decode b_M_done 30 = .ok (.iload_n 1, 1) := by decide +kernel
theorem d_M_done_31 : decode b_M_done 31 = .ok (.baload, 1) := by decide +kernel
theorem d_M_done_32 : decode b_M_done 32 = .ok (.ifCond .ne 7, 3) := by decide +kernel
theorem d_M_done_35 : decode b_M_done 35 = .ok (.iconst 1, 1) := by decide +kernel
theorem d_M_done_36 : decode b_M_done 36 = .ok (.goto 4, 3) := by decide +kernel
theorem d_M_done_39 : decode b_M_done 39 = .ok (.iconst 0, 1) := by decide +kernel
theorem d_M_done_40 : decode b_M_done 40 = .ok (.iconst 2, 1) := by decide +kernel
theorem d_M_done_41 : decode b_M_done 41 = .ok (.invokevirtual 52, 3) := by decide +kernel
theorem d_M_done_44 : decode b_M_done 44 = .ok (.ifCond .eq 5, 3) := by decide +kernel
theorem d_M_done_47 : decode b_M_done 47 = .ok (.iconst 0, 1) := by decide +kernel
theorem d_M_done_48 : decode b_M_done 48 = .ok (.ireturn, 1) := by decide +kernel
theorem d_M_done_49 : decode b_M_done 49 = .ok (.aload_n 0, 1) := by decide +kernel
theorem d_M_done_50 : decode b_M_done 50 = .ok (.getfield 33, 3) := by decide +kernel
theorem d_M_done_53 : decode b_M_done 53 = .ok (.iload_n 1, 1) := by decide +kernel
theorem d_M_done_54 : decode b_M_done 54 = .ok (.iconst 0, 1) := by decide +kernel
theorem d_M_done_55 : decode b_M_done 55 = .ok (.bastore, 1) := by decide +kernel
theorem d_M_done_56 : decode b_M_done 56 = .ok (.aload_n 0, 1) := by decide +kernel
theorem d_M_done_57 : decode b_M_done 57 = .ok (.iload_n 1, 1) := by decide +kernel
theorem d_M_done_58 : decode b_M_done 58 = .ok (.invokevirtual 63, 3) := by decide +kernel
theorem d_M_done_61 : decode b_M_done 61 = .ok (.ifCond .eq 15, 3) := by decide +kernel
theorem d_M_done_64 : decode b_M_done 64 = .ok (.aload_n 0, 1) := by decide +kernel
theorem d_M_done_65 : decode b_M_done 65 = .ok (.dup, 1) := by decide +kernel
theorem d_M_done_66 : decode b_M_done 66 = .ok (.getfield 66, 3) := by decide +kernel
theorem d_M_done_69 : decode b_M_done 69 = .ok (.iconst 1, 1) := by decide +kernel
theorem d_M_done_70 : decode b_M_done 70 = .ok (.iadd, 1) := by decide +kernel
theorem d_M_done_71 : decode b_M_done 71 = .ok (.putfield 66, 3) := by decide +kernel
theorem d_M_done_74 : decode b_M_done 74 = .ok (.iconst 0, 1) := by decide +kernel
theorem d_M_done_75 : decode b_M_done 75 = .ok (.ireturn, 1) := by decide +kernel
theorem d_M_done_76 : decode b_M_done 76 = .ok (.iconst 0, 1) := by decide +kernel
theorem d_M_done_77 : decode b_M_done 77 = .ok (.istore_n 2, 1) := by decide +kernel
theorem d_M_done_78 : decode b_M_done 78 = .ok (.iload_n 2, 1) := by decide +kernel
theorem d_M_done_79 : decode b_M_done 79 = .ok (.bipush 32, 2) := by decide +kernel
theorem d_M_done_81 : decode b_M_done 81 = .ok (.if_icmp .ge 39, 3) := by decide +kernel
theorem d_M_done_84 : decode b_M_done 84 = .ok (.aload_n 0, 1) := by decide +kernel
theorem d_M_done_85 : decode b_M_done 85 = .ok (.getfield 26, 3) := by decide +kernel
theorem d_M_done_88 : decode b_M_done 88 = .ok (.aload_n 0, 1) := by decide +kernel
theorem d_M_done_89 : decode b_M_done 89 = .ok (.iload_n 1, 1) := by decide +kernel
theorem d_M_done_90 : decode b_M_done 90 = .ok (.iload_n 2, 1) := by decide +kernel
theorem d_M_done_91 : decode b_M_done 91 = .ok (.invokevirtual 56, 3) := by decide +kernel
theorem d_M_done_94 : decode b_M_done 94 = .ok (.baload, 1) := by decide +kernel
theorem d_M_done_95 : decode b_M_done 95 = .ok (.ifCond .eq 19, 3) := by decide +kernel
theorem d_M_done_98 : decode b_M_done 98 = .ok (.aload_n 0, 1) := by decide +kernel
theorem d_M_done_99 : decode b_M_done 99 = .ok (.iload_n 2, 1) := by decide +kernel
theorem d_M_done_100 : decode b_M_done 100 = .ok (.aload_n 0, 1) := by decide +kernel
theorem d_M_done_101 : decode b_M_done 101 = .ok (.getfield 13, 3) := by decide +kernel
theorem d_M_done_104 : decode b_M_done 104 = .ok (.aload_n 0, 1) := by decide +kernel
theorem d_M_done_105 : decode b_M_done 105 = .ok (.iload_n 1, 1) := by decide +kernel
theorem d_M_done_106 : decode b_M_done 106 = .ok (.iload_n 2, 1) := by decide +kernel
theorem d_M_done_107 : decode b_M_done 107 = .ok (.invokevirtual 56, 3) := by decide +kernel
theorem d_M_done_110 : decode b_M_done 110 = .ok (.laload, 1) := by decide +kernel
theorem d_M_done_111 : decode b_M_done 111 = .ok (.invokevirtual 73, 3) := by decide +kernel
theorem d_M_done_114 : decode b_M_done 114 = .ok (.iinc 2 1, 3) := by decide +kernel
theorem d_M_done_117 : decode b_M_done 117 = .ok (.goto (-39), 3) := by decide +kernel
theorem d_M_done_120 : decode b_M_done 120 = .ok (.aload_n 0, 1) := by decide +kernel
theorem d_M_done_121 : decode b_M_done 121 = .ok (.dup, 1) := by decide +kernel
theorem d_M_done_122 : decode b_M_done 122 = .ok (.getfield 77, 3) := by decide +kernel
theorem d_M_done_125 : decode b_M_done 125 = .ok (.iconst 1, 1) := by decide +kernel
theorem d_M_done_126 : decode b_M_done 126 = .ok (.iadd, 1) := by decide +kernel
theorem d_M_done_127 : decode b_M_done 127 = .ok (.putfield 77, 3) := by decide +kernel
theorem d_M_done_130 : decode b_M_done 130 = .ok (.iconst 1, 1) := by decide +kernel
theorem d_M_done_131 : decode b_M_done 131 = .ok (.ireturn, 1) := by decide +kernel
theorem d_M_leave_0 : decode b_M_leave 0 = .ok (.aload_n 0, 1) := by decide +kernel
theorem d_M_leave_1 : decode b_M_leave 1 = .ok (.iconst 0, 1) := by decide +kernel
theorem d_M_leave_2 : decode b_M_leave 2 = .ok (.putfield 36, 3) := by decide +kernel
theorem d_M_leave_5 : decode b_M_leave 5 = .ok (.aload_n 0, 1) := by decide +kernel
theorem d_M_leave_6 : decode b_M_leave 6 = .ok (.iload_n 1, 1) := by decide +kernel
theorem d_M_leave_7 : decode b_M_leave 7 = .ok (.invokestatic 48, 3) := by decide +kernel
theorem d_M_leave_10 : decode b_M_leave 10 = .ok (.ifCond .ne 7, 3) := by decide +kernel
theorem d_M_leave_13 : decode b_M_leave 13 = .ok (.iconst 1, 1) := by decide +kernel
theorem d_M_leave_14 : decode b_M_leave 14 = .ok (.goto 4, 3) := by decide +kernel
theorem d_M_leave_17 : decode b_M_leave 17 = .ok (.iconst 0, 1) := by decide +kernel
theorem d_M_leave_18 : decode b_M_leave 18 = .ok (.iconst 1, 1) := by decide +kernel
theorem d_M_leave_19 : decode b_M_leave 19 = .ok (.invokevirtual 52, 3) := by decide +kernel
theorem d_M_leave_22 : decode b_M_leave 22 = .ok (.ifCond .ne 25, 3) := by decide +kernel
theorem d_M_leave_25 : decode b_M_leave 25 = .ok (.aload_n 0, 1) := by decide +kernel
theorem d_M_leave_26 : decode b_M_leave 26 = .ok (.aload_n 0, 1) := by decide +kernel
theorem d_M_leave_27 : decode b_M_leave 27 = .ok (.getfield 33, 3) := by decide +kernel
theorem d_M_leave_30 : decode b_M_leave 30 = .ok (.iload_n 1, 1) := by decide +kernel
theorem d_M_leave_31 : decode b_M_leave 31 = .ok (.baload, 1) := by decide +kernel
theorem d_M_leave_32 : decode b_M_leave 32 = .ok (.ifCond .ne 7, 3) := by decide +kernel
theorem d_M_leave_35 : decode b_M_leave 35 = .ok (.iconst 1, 1) := by decide +kernel
theorem d_M_leave_36 : decode b_M_leave 36 = .ok (.goto 4, 3) := by decide +kernel
theorem d_M_leave_39 : decode b_M_leave 39 = .ok (.iconst 0, 1) := by decide +kernel
theorem d_M_leave_40 : decode b_M_leave 40 = .ok (.iconst 2, 1) := by decide +kernel
theorem d_M_leave_41 : decode b_M_leave 41 = .ok (.invokevirtual 52, 3) := by decide +kernel
theorem d_M_leave_44 : decode b_M_leave 44 = .ok (.ifCond .eq 4, 3) := by decide +kernel
theorem d_M_leave_47 : decode b_M_leave 47 = .ok (.return_, 1) := by decide +kernel
theorem d_M_leave_48 : decode b_M_leave 48 = .ok (.aload_n 0, 1) := by decide +kernel
theorem d_M_leave_49 : decode b_M_leave 49 = .ok (.getfield 33, 3) := by decide +kernel
theorem d_M_leave_52 : decode b_M_leave 52 = .ok (.iload_n 1, 1) := by decide +kernel
theorem d_M_leave_53 : decode b_M_leave 53 = .ok (.iconst 0, 1) := by decide +kernel
theorem d_M_leave_54 : decode b_M_leave 54 = .ok (.bastore, 1) := by decide +kernel
theorem d_M_leave_55 : decode b_M_leave 55 = .ok (.return_, 1) := by decide +kernel
theorem d_M_set_0 : decode b_M_set 0 = .ok (.aload_n 0, 1) := by decide +kernel
theorem d_M_set_1 : decode b_M_set 1 = .ok (.iconst 0, 1) := by decide +kernel
theorem d_M_set_2 : decode b_M_set 2 = .ok (.putfield 36, 3) := by decide +kernel
theorem d_M_set_5 : decode b_M_set 5 = .ok (.aload_n 0, 1) := by decide +kernel
theorem d_M_set_6 : decode b_M_set 6 = .ok (.iload_n 1, 1) := by decide +kernel
theorem d_M_set_7 : decode b_M_set 7 = .ok (.invokestatic 60, 3) := by decide +kernel
theorem d_M_set_10 : decode b_M_set 10 = .ok (.ifCond .ne 7, 3) := by decide +kernel
theorem d_M_set_13 : decode b_M_set 13 = .ok (.iconst 1, 1) := by decide +kernel
theorem d_M_set_14 : decode b_M_set 14 = .ok (.goto 4, 3) := by decide +kernel
theorem d_M_set_17 : decode b_M_set 17 = .ok (.iconst 0, 1) := by decide +kernel
theorem d_M_set_18 : decode b_M_set 18 = .ok (.iconst 1, 1) := by decide +kernel
theorem d_M_set_19 : decode b_M_set 19 = .ok (.invokevirtual 52, 3) := by decide +kernel
theorem d_M_set_22 : decode b_M_set 22 = .ok (.ifCond .eq 4, 3) := by decide +kernel
theorem d_M_set_25 : decode b_M_set 25 = .ok (.return_, 1) := by decide +kernel
theorem d_M_set_26 : decode b_M_set 26 = .ok (.aload_n 0, 1) := by decide +kernel
theorem d_M_set_27 : decode b_M_set 27 = .ok (.iload_n 1, 1) := by decide +kernel
theorem d_M_set_28 : decode b_M_set 28 = .ok (.lload_n 2, 1) := by decide +kernel
theorem d_M_set_29 : decode b_M_set 29 = .ok (.invokevirtual 73, 3) := by decide +kernel
theorem d_M_set_32 : decode b_M_set 32 = .ok (.return_, 1) := by decide +kernel
theorem d_M_cell_0 : decode b_M_cell 0 = .ok (.aload_n 0, 1) := by decide +kernel
theorem d_M_cell_1 : decode b_M_cell 1 = .ok (.iconst 0, 1) := by decide +kernel
theorem d_M_cell_2 : decode b_M_cell 2 = .ok (.putfield 36, 3) := by decide +kernel
theorem d_M_cell_5 : decode b_M_cell 5 = .ok (.aload_n 0, 1) := by decide +kernel
theorem d_M_cell_6 : decode b_M_cell 6 = .ok (.iload_n 1, 1) := by decide +kernel
theorem d_M_cell_7 : decode b_M_cell 7 = .ok (.invokestatic 60, 3) := by decide +kernel
theorem d_M_cell_10 : decode b_M_cell 10 = .ok (.ifCond .ne 7, 3) := by decide +kernel
theorem d_M_cell_13 : decode b_M_cell 13 = .ok (.iconst 1, 1) := by decide +kernel
theorem d_M_cell_14 : decode b_M_cell 14 = .ok (.goto 4, 3) := by decide +kernel
theorem d_M_cell_17 : decode b_M_cell 17 = .ok (.iconst 0, 1) := by decide +kernel
theorem d_M_cell_18 : decode b_M_cell 18 = .ok (.iconst 1, 1) := by decide +kernel
theorem d_M_cell_19 : decode b_M_cell 19 = .ok (.invokevirtual 52, 3) := by decide +kernel
theorem d_M_cell_22 : decode b_M_cell 22 = .ok (.ifCond .eq 7, 3) := by decide +kernel
theorem d_M_cell_25 : decode b_M_cell 25 = .ok (.lconst 0, 1) := by decide +kernel
theorem d_M_cell_26 : decode b_M_cell 26 = .ok (.goto 9, 3) := by decide +kernel
theorem d_M_cell_29 : decode b_M_cell 29 = .ok (.aload_n 0, 1) := by decide +kernel
theorem d_M_cell_30 : decode b_M_cell 30 = .ok (.getfield 9, 3) := by decide +kernel
theorem d_M_cell_33 : decode b_M_cell 33 = .ok (.iload_n 1, 1) := by decide +kernel
theorem d_M_cell_34 : decode b_M_cell 34 = .ok (.laload, 1) := by decide +kernel
theorem d_M_cell_35 : decode b_M_cell 35 = .ok (.lreturn, 1) := by decide +kernel
theorem d_M_changed_0 : decode b_M_changed 0 = .ok (.aload_n 0, 1) := by decide +kernel
theorem d_M_changed_1 : decode b_M_changed 1 = .ok (.iconst 0, 1) := by decide +kernel
theorem d_M_changed_2 : decode b_M_changed 2 = .ok (.putfield 36, 3) := by decide +kernel
theorem d_M_changed_5 : decode b_M_changed 5 = .ok (.aload_n 0, 1) := by decide +kernel
theorem d_M_changed_6 : decode b_M_changed 6 = .ok (.iload_n 1, 1) := by decide +kernel
theorem d_M_changed_7 : decode b_M_changed 7 = .ok (.invokestatic 60, 3) := by decide +kernel
theorem d_M_changed_10 : decode b_M_changed 10 = .ok (.ifCond .ne 7, 3) := by decide +kernel
theorem d_M_changed_13 : decode b_M_changed 13 = .ok (.iconst 1, 1) := by decide +kernel
theorem d_M_changed_14 : decode b_M_changed 14 = .ok (.goto 4, 3) := by decide +kernel
theorem d_M_changed_17 : decode b_M_changed 17 = .ok (.iconst 0, 1) := by decide +kernel
theorem d_M_changed_18 : decode b_M_changed 18 = .ok (.iconst 1, 1) := by decide +kernel
theorem d_M_changed_19 : decode b_M_changed 19 = .ok (.invokevirtual 52, 3) := by decide +kernel
theorem d_M_changed_22 : decode b_M_changed 22 = .ok (.ifCond .eq 7, 3) := by decide +kernel
theorem d_M_changed_25 : decode b_M_changed 25 = .ok (.iconst 0, 1) := by decide +kernel
theorem d_M_changed_26 : decode b_M_changed 26 = .ok (.goto 9, 3) := by decide +kernel
theorem d_M_changed_29 : decode b_M_changed 29 = .ok (.aload_n 0, 1) := by decide +kernel
theorem d_M_changed_30 : decode b_M_changed 30 = .ok (.getfield 16, 3) := by decide +kernel
theorem d_M_changed_33 : decode b_M_changed 33 = .ok (.iload_n 1, 1) := by decide +kernel
theorem d_M_changed_34 : decode b_M_changed 34 = .ok (.iaload, 1) := by decide +kernel
theorem d_M_changed_35 : decode b_M_changed 35 = .ok (.ireturn, 1) := by decide +kernel
theorem d_M_count_0 : decode b_M_count 0 = .ok (.aload_n 0, 1) := by decide +kernel
theorem d_M_count_1 : decode b_M_count 1 = .ok (.iconst 0, 1) := by decide +kernel
theorem d_M_count_2 : decode b_M_count 2 = .ok (.putfield 36, 3) := by decide +kernel
theorem d_M_count_5 : decode b_M_count 5 = .ok (.aload_n 0, 1) := by decide +kernel
theorem d_M_count_6 : decode b_M_count 6 = .ok (.iload_n 1, 1) := by decide +kernel
theorem d_M_count_7 : decode b_M_count 7 = .ok (.invokestatic 48, 3) := by decide +kernel
theorem d_M_count_10 : decode b_M_count 10 = .ok (.ifCond .eq 15, 3) := by decide +kernel
theorem d_M_count_13 : decode b_M_count 13 = .ok (.iload_n 2, 1) := by decide +kernel
theorem d_M_count_14 : decode b_M_count 14 = .ok (.i2l, 1) := by decide +kernel
theorem d_M_count_15 : decode b_M_count 15 = .ok (.lconst 0, 1) := by decide +kernel
theorem d_M_count_16 : decode b_M_count 16 = .ok (.ldc2_w 80, 3) := by decide +kernel
theorem d_M_count_19 : decode b_M_count 19 = .ok (.invokestatic 42, 3) := by decide +kernel
theorem d_M_count_22 : decode b_M_count 22 = .ok (.ifCond .ne 7, 3) := by decide +kernel
theorem d_M_count_25 : decode b_M_count 25 = .ok (.iconst 1, 1) := by decide +kernel
theorem d_M_count_26 : decode b_M_count 26 = .ok (.goto 4, 3) := by decide +kernel
theorem d_M_count_29 : decode b_M_count 29 = .ok (.iconst 0, 1) := by decide +kernel
theorem d_M_count_30 : decode b_M_count 30 = .ok (.iconst 1, 1) := by decide +kernel
theorem d_M_count_31 : decode b_M_count 31 = .ok (.invokevirtual 52, 3) := by decide +kernel
theorem d_M_count_34 : decode b_M_count 34 = .ok (.ifCond .ne 25, 3) := by decide +kernel
theorem d_M_count_37 : decode b_M_count 37 = .ok (.aload_n 0, 1) := by decide +kernel
theorem d_M_count_38 : decode b_M_count 38 = .ok (.aload_n 0, 1) := by decide +kernel
theorem d_M_count_39 : decode b_M_count 39 = .ok (.getfield 33, 3) := by decide +kernel
theorem d_M_count_42 : decode b_M_count 42 = .ok (.iload_n 1, 1) := by decide +kernel
theorem d_M_count_43 : decode b_M_count 43 = .ok (.baload, 1) := by decide +kernel
theorem d_M_count_44 : decode b_M_count 44 = .ok (.ifCond .ne 7, 3) := by decide +kernel
theorem d_M_count_47 : decode b_M_count 47 = .ok (.iconst 1, 1) := by decide +kernel
theorem d_M_count_48 : decode b_M_count 48 = .ok (.goto 4, 3) := by decide +kernel
theorem d_M_count_51 : decode b_M_count 51 = .ok (.iconst 0, 1) := by decide +kernel
theorem d_M_count_52 : decode b_M_count 52 = .ok (.iconst 2, 1) := by decide +kernel
theorem d_M_count_53 : decode b_M_count 53 = .ok (.invokevirtual 52, 3) := by decide +kernel
theorem d_M_count_56 : decode b_M_count 56 = .ok (.ifCond .eq 5, 3) := by decide +kernel
theorem d_M_count_59 : decode b_M_count 59 = .ok (.iconst 0, 1) := by decide +kernel
theorem d_M_count_60 : decode b_M_count 60 = .ok (.ireturn, 1) := by decide +kernel
theorem d_M_count_61 : decode b_M_count 61 = .ok (.iconst 0, 1) := by decide +kernel
theorem d_M_count_62 : decode b_M_count 62 = .ok (.istore_n 3, 1) := by decide +kernel
theorem d_M_count_63 : decode b_M_count 63 = .ok (.iconst 0, 1) := by decide +kernel
theorem d_M_count_64 : decode b_M_count 64 = .ok (.istore 4, 2) := by decide +kernel
theorem d_M_count_66 : decode b_M_count 66 = .ok (.iload 4, 2) := by decide +kernel
theorem d_M_count_68 : decode b_M_count 68 = .ok (.bipush 32, 2) := by decide +kernel
theorem d_M_count_70 : decode b_M_count 70 = .ok (.if_icmp .ge 54, 3) := by decide +kernel
theorem d_M_count_73 : decode b_M_count 73 = .ok (.iload_n 2, 1) := by decide +kernel
theorem d_M_count_74 : decode b_M_count 74 = .ok (.ifCond .ne 21, 3) := by decide +kernel
theorem d_M_count_77 : decode b_M_count 77 = .ok (.aload_n 0, 1) := by decide +kernel
theorem d_M_count_78 : decode b_M_count 78 = .ok (.getfield 30, 3) := by decide +kernel
theorem d_M_count_81 : decode b_M_count 81 = .ok (.bipush 32, 2) := by decide +kernel
theorem d_M_count_83 : decode b_M_count 83 = .ok (.iload_n 1, 1) := by decide +kernel
theorem d_M_count_84 : decode b_M_count 84 = .ok (.imul, 1) := by decide +kernel
theorem d_M_count_85 : decode b_M_count 85 = .ok (.iload 4, 2) := by decide +kernel
theorem d_M_count_87 : decode b_M_count 87 = .ok (.iadd, 1) := by decide +kernel
theorem d_M_count_88 : decode b_M_count 88 = .ok (.baload, 1) := by decide +kernel
theorem d_M_count_89 : decode b_M_count 89 = .ok (.ifCond .eq 29, 3) := by decide +kernel
theorem d_M_count_92 : decode b_M_count 92 = .ok (.goto 23, 3) := by decide +kernel
theorem d_M_count_95 : decode b_M_count 95 = .ok (.iload_n 2, 1) := by decide +kernel
theorem d_M_count_96 : decode b_M_count 96 = .ok (.iconst 1, 1) := by decide +kernel
theorem d_M_count_97 : decode b_M_count 97 = .ok (.if_icmp .ne 21, 3) := by decide +kernel
theorem d_M_count_100 : decode b_M_count 100 = .ok (.aload_n 0, 1) := by decide +kernel
theorem d_M_count_101 : decode b_M_count 101 = .ok (.getfield 26, 3) := by decide +kernel
theorem d_M_count_104 : decode b_M_count 104 = .ok (.aload_n 0, 1) := by decide +kernel
theorem d_M_count_105 : decode b_M_count 105 = .ok (.iload_n 1, 1) := by decide +kernel
theorem d_M_count_106 : decode b_M_count 106 = .ok (.iload 4, 2) := by decide +kernel
theorem d_M_count_108 : decode b_M_count 108 = .ok (.invokevirtual 56, 3) := by decide +kernel
theorem d_M_count_111 : decode b_M_count 111 = .ok (.baload, 1) := by decide +kernel
theorem d_M_count_112 : decode b_M_count 112 = .ok (.ifCond .eq 6, 3) := by decide +kernel
theorem d_M_count_115 : decode b_M_count 115 = .ok (.iinc 3 1, 3) := by decide +kernel
theorem d_M_count_118 : decode b_M_count 118 = .ok (.iinc 4 1, 3) := by decide +kernel
theorem d_M_count_121 : decode b_M_count 121 = .ok (.goto (-55), 3) := by decide +kernel
theorem d_M_count_124 : decode b_M_count 124 = .ok (.iload_n 2, 1) := by decide +kernel
theorem d_M_count_125 : decode b_M_count 125 = .ok (.iconst 2, 1) := by decide +kernel
theorem d_M_count_126 : decode b_M_count 126 = .ok (.if_icmp .ge 7, 3) := by decide +kernel
theorem d_M_count_129 : decode b_M_count 129 = .ok (.iload_n 3, 1) := by decide +kernel
theorem d_M_count_130 : decode b_M_count 130 = .ok (.goto 30, 3) := by decide +kernel
theorem d_M_count_133 : decode b_M_count 133 = .ok (.iload_n 2, 1) := by decide +kernel
theorem d_M_count_134 : decode b_M_count 134 = .ok (.iconst 2, 1) := by decide +kernel
theorem d_M_count_135 : decode b_M_count 135 = .ok (.if_icmp .ne 12, 3) := by decide +kernel
theorem d_M_count_138 : decode b_M_count 138 = .ok (.aload_n 0, 1) := by decide +kernel
theorem d_M_count_139 : decode b_M_count 139 = .ok (.getfield 20, 3) := by decide +kernel
theorem d_M_count_142 : decode b_M_count 142 = .ok (.iload_n 1, 1) := by decide +kernel
theorem d_M_count_143 : decode b_M_count 143 = .ok (.iaload, 1) := by decide +kernel
theorem d_M_count_144 : decode b_M_count 144 = .ok (.goto 16, 3) := by decide +kernel
theorem d_M_count_147 : decode b_M_count 147 = .ok (.aload_n 0, 1) := by decide +kernel
theorem d_M_count_148 : decode b_M_count 148 = .ok (.iload_n 1, 1) := by decide +kernel
theorem d_M_count_149 : decode b_M_count 149 = .ok (.invokevirtual 63, 3) := by decide +kernel
theorem d_M_count_152 : decode b_M_count 152 = .ok (.ifCond .eq 7, 3) := by decide +kernel
theorem d_M_count_155 : decode b_M_count 155 = .ok (.iconst 1, 1) := by decide +kernel
theorem d_M_count_156 : decode b_M_count 156 = .ok (.goto 4, 3) := by decide +kernel
theorem d_M_count_159 : decode b_M_count 159 = .ok (.iconst 0, 1) := by decide +kernel
theorem d_M_count_160 : decode b_M_count 160 = .ok (.ireturn, 1) := by decide +kernel
theorem d_M_all_0 : decode b_M_all 0 = .ok (.aload_n 0, 1) := by decide +kernel
theorem d_M_all_1 : decode b_M_all 1 = .ok (.iconst 0, 1) := by decide +kernel
theorem d_M_all_2 : decode b_M_all 2 = .ok (.putfield 36, 3) := by decide +kernel
theorem d_M_all_5 : decode b_M_all 5 = .ok (.aload_n 0, 1) := by decide +kernel
theorem d_M_all_6 : decode b_M_all 6 = .ok (.iload_n 1, 1) := by decide +kernel
theorem d_M_all_7 : decode b_M_all 7 = .ok (.i2l, 1) := by decide +kernel
theorem d_M_all_8 : decode b_M_all 8 = .ok (.lconst 0, 1) := by decide +kernel
theorem d_M_all_9 : decode b_M_all 9 = .ok (.ldc2_w 82, 3) := by decide +kernel
theorem d_M_all_12 : decode b_M_all 12 = .ok (.invokestatic 42, 3) := by decide +kernel
theorem d_M_all_15 : decode b_M_all 15 = .ok (.ifCond .ne 7, 3) := by decide +kernel
theorem d_M_all_18 : decode b_M_all 18 = .ok (.iconst 1, 1) := by decide +kernel
theorem d_M_all_19 : decode b_M_all 19 = .ok (.goto 4, 3) := by decide +kernel
theorem d_M_all_22 : decode b_M_all 22 = .ok (.iconst 0, 1) := by decide +kernel
theorem d_M_all_23 : decode b_M_all 23 = .ok (.iconst 1, 1) := by decide +kernel
theorem d_M_all_24 : decode b_M_all 24 = .ok (.invokevirtual 52, 3) := by decide +kernel
theorem d_M_all_27 : decode b_M_all 27 = .ok (.ifCond .eq 5, 3) := by decide +kernel
theorem d_M_all_30 : decode b_M_all 30 = .ok (.iconst 0, 1) := by decide +kernel
theorem d_M_all_31 : decode b_M_all 31 = .ok (.ireturn, 1) := by decide +kernel
theorem d_M_all_32 : decode b_M_all 32 = .ok (.iconst 0, 1) := by decide +kernel
theorem d_M_all_33 : decode b_M_all 33 = .ok (.istore_n 2, 1) := by decide +kernel
theorem d_M_all_34 : decode b_M_all 34 = .ok (.iconst 0, 1) := by decide +kernel
theorem d_M_all_35 : decode b_M_all 35 = .ok (.istore_n 3, 1) := by decide +kernel
theorem d_M_all_36 : decode b_M_all 36 = .ok (.iload_n 3, 1) := by decide +kernel
theorem d_M_all_37 : decode b_M_all 37 = .ok (.bipush 8, 2) := by decide +kernel
theorem d_M_all_39 : decode b_M_all 39 = .ok (.if_icmp .ge 21, 3) := by decide +kernel
theorem d_M_all_42 : decode b_M_all 42 = .ok (.aload_n 0, 1) := by decide +kernel
theorem d_M_all_43 : decode b_M_all 43 = .ok (.getfield 33, 3) := by decide +kernel
theorem d_M_all_46 : decode b_M_all 46 = .ok (.iload_n 3, 1) := by decide +kernel
theorem d_M_all_47 : decode b_M_all 47 = .ok (.baload, 1) := by decide +kernel
theorem d_M_all_48 : decode b_M_all 48 = .ok (.ifCond .eq 6, 3) := by decide +kernel
theorem d_M_all_51 : decode b_M_all 51 = .ok (.iinc 2 1, 3) := by decide +kernel
theorem d_M_all_54 : decode b_M_all 54 = .ok (.iinc 3 1, 3) := by decide +kernel
theorem d_M_all_57 : decode b_M_all 57 = .ok (.goto (-21), 3) := by decide +kernel
theorem d_M_all_60 : decode b_M_all 60 = .ok (.iload_n 1, 1) := by decide +kernel
theorem d_M_all_61 : decode b_M_all 61 = .ok (.ifCond .ne 7, 3) := by decide +kernel
theorem d_M_all_64 : decode b_M_all 64 = .ok (.iload_n 2, 1) := by decide +kernel
theorem d_M_all_65 : decode b_M_all 65 = .ok (.goto 19, 3) := by decide +kernel
theorem d_M_all_68 : decode b_M_all 68 = .ok (.iload_n 1, 1) := by decide +kernel
theorem d_M_all_69 : decode b_M_all 69 = .ok (.iconst 1, 1) := by decide +kernel
theorem d_M_all_70 : decode b_M_all 70 = .ok (.if_icmp .ne 10, 3) := by decide +kernel
theorem d_M_all_73 : decode b_M_all 73 = .ok (.aload_n 0, 1) := by decide +kernel
theorem d_M_all_74 : decode b_M_all 74 = .ok (.getfield 77, 3) := by decide +kernel
theorem d_M_all_77 : decode b_M_all 77 = .ok (.goto 7, 3) := by decide +kernel
theorem d_M_all_80 : decode b_M_all 80 = .ok (.aload_n 0, 1) := by decide +kernel
theorem d_M_all_81 : decode b_M_all 81 = .ok (.getfield 66, 3) := by decide +kernel
theorem d_M_all_84 : decode b_M_all 84 = .ok (.ireturn, 1) := by decide +kernel
end
section
/-! What the bytes of the law decode to. Printed by prog/names.py. -/
theorem d_L_begin_0 : decode b_L_begin 0 = .ok (.aload_n 0, 1) := by decide +kernel
theorem d_L_begin_1 : decode b_L_begin 1 = .ok (.iload_n 1, 1) := by decide +kernel
theorem d_L_begin_2 : decode b_L_begin 2 = .ok (.invokevirtual 7, 3) := by decide +kernel
theorem d_L_begin_5 : decode b_L_begin 5 = .ok (.goto 9, 3) := by decide +kernel
theorem d_L_begin_8 : decode b_L_begin 8 = .ok (.astore_n 2, 1) := by decide +kernel
theorem d_L_begin_9 : decode b_L_begin 9 = .ok (.iconst 1, 1) := by decide +kernel
theorem d_L_begin_10 : decode b_L_begin 10 = .ok (.ireturn, 1) := by decide +kernel
theorem d_L_begin_11 : decode b_L_begin 11 = .ok (.astore_n 2, 1) := by decide +kernel
theorem d_L_begin_12 : decode b_L_begin 12 = .ok (.iconst 2, 1) := by decide +kernel
theorem d_L_begin_13 : decode b_L_begin 13 = .ok (.ireturn, 1) := by decide +kernel
theorem d_L_begin_14 : decode b_L_begin 14 = .ok (.iconst 0, 1) := by decide +kernel
theorem d_L_begin_15 : decode b_L_begin 15 = .ok (.ireturn, 1) := by decide +kernel
theorem d_L_read_0 : decode b_L_read 0 = .ok (.aload_n 3, 1) := by decide +kernel
theorem d_L_read_1 : decode b_L_read 1 = .ok (.iconst 0, 1) := by decide +kernel
theorem d_L_read_2 : decode b_L_read 2 = .ok (.aload_n 0, 1) := by decide +kernel
theorem d_L_read_3 : decode b_L_read 3 = .ok (.iload_n 1, 1) := by decide +kernel
theorem d_L_read_4 : decode b_L_read 4 = .ok (.iload_n 2, 1) := by decide +kernel
theorem d_L_read_5 : decode b_L_read 5 = .ok (.invokevirtual 17, 3) := by decide +kernel
theorem d_L_read_8 : decode b_L_read 8 = .ok (.lastore, 1) := by decide +kernel
theorem d_L_read_9 : decode b_L_read 9 = .ok (.goto 19, 3) := by decide +kernel
theorem d_L_read_12 : decode b_L_read 12 = .ok (.astore 4, 2) := by decide +kernel
theorem d_L_read_14 : decode b_L_read 14 = .ok (.iconst 1, 1) := by decide +kernel
theorem d_L_read_15 : decode b_L_read 15 = .ok (.ireturn, 1) := by decide +kernel
theorem d_L_read_16 : decode b_L_read 16 = .ok (.astore 4, 2) := by decide +kernel
theorem d_L_read_18 : decode b_L_read 18 = .ok (.iconst 2, 1) := by decide +kernel
theorem d_L_read_19 : decode b_L_read 19 = .ok (.ireturn, 1) := by decide +kernel
theorem d_L_read_20 : decode b_L_read 20 = .ok (.astore 4, 2) := by decide +kernel
theorem d_L_read_22 : decode b_L_read 22 = .ok (.iconst 3, 1) := by decide +kernel
theorem d_L_read_23 : decode b_L_read 23 = .ok (.ireturn, 1) := by decide +kernel
theorem d_L_read_24 : decode b_L_read 24 = .ok (.astore 4, 2) := by decide +kernel
theorem d_L_read_26 : decode b_L_read 26 = .ok (.iconst 4, 1) := by decide +kernel
theorem d_L_read_27 : decode b_L_read 27 = .ok (.ireturn, 1) := by decide +kernel
theorem d_L_read_28 : decode b_L_read 28 = .ok (.iconst 0, 1) := by decide +kernel
theorem d_L_read_29 : decode b_L_read 29 = .ok (.ireturn, 1) := by decide +kernel
theorem d_L_write_0 : decode b_L_write 0 = .ok (.aload_n 0, 1) := by decide +kernel
theorem d_L_write_1 : decode b_L_write 1 = .ok (.iload_n 1, 1) := by decide +kernel
theorem d_L_write_2 : decode b_L_write 2 = .ok (.iload_n 2, 1) := by decide +kernel
theorem d_L_write_3 : decode b_L_write 3 = .ok (.lload_n 3, 1) := by decide +kernel
theorem d_L_write_4 : decode b_L_write 4 = .ok (.invokevirtual 25, 3) := by decide +kernel
theorem d_L_write_7 : decode b_L_write 7 = .ok (.goto 15, 3) := by decide +kernel
theorem d_L_write_10 : decode b_L_write 10 = .ok (.astore 5, 2) := by decide +kernel
theorem d_L_write_12 : decode b_L_write 12 = .ok (.iconst 1, 1) := by decide +kernel
theorem d_L_write_13 : decode b_L_write 13 = .ok (.ireturn, 1) := by decide +kernel
theorem d_L_write_14 : decode b_L_write 14 = .ok (.astore 5, 2) := by decide +kernel
theorem d_L_write_16 : decode b_L_write 16 = .ok (.iconst 2, 1) := by decide +kernel
theorem d_L_write_17 : decode b_L_write 17 = .ok (.ireturn, 1) := by decide +kernel
theorem d_L_write_18 : decode b_L_write 18 = .ok (.astore 5, 2) := by decide +kernel
theorem d_L_write_20 : decode b_L_write 20 = .ok (.iconst 3, 1) := by decide +kernel
theorem d_L_write_21 : decode b_L_write 21 = .ok (.ireturn, 1) := by decide +kernel
theorem d_L_write_22 : decode b_L_write 22 = .ok (.iconst 0, 1) := by decide +kernel
theorem d_L_write_23 : decode b_L_write 23 = .ok (.ireturn, 1) := by decide +kernel
theorem d_L_save_0 : decode b_L_save 0 = .ok (.aload_n 2, 1) := by decide +kernel
theorem d_L_save_1 : decode b_L_save 1 = .ok (.iconst 0, 1) := by decide +kernel
theorem d_L_save_2 : decode b_L_save 2 = .ok (.aload_n 0, 1) := by decide +kernel
theorem d_L_save_3 : decode b_L_save 3 = .ok (.iload_n 1, 1) := by decide +kernel
theorem d_L_save_4 : decode b_L_save 4 = .ok (.invokevirtual 29, 3) := by decide +kernel
theorem d_L_save_7 : decode b_L_save 7 = .ok (.i2l, 1) := by decide +kernel
theorem d_L_save_8 : decode b_L_save 8 = .ok (.lastore, 1) := by decide +kernel
theorem d_L_save_9 : decode b_L_save 9 = .ok (.goto 12, 3) := by decide +kernel
theorem d_L_save_12 : decode b_L_save 12 = .ok (.astore_n 3, 1) := by decide +kernel
theorem d_L_save_13 : decode b_L_save 13 = .ok (.iconst 1, 1) := by decide +kernel
theorem d_L_save_14 : decode b_L_save 14 = .ok (.ireturn, 1) := by decide +kernel
theorem d_L_save_15 : decode b_L_save 15 = .ok (.astore_n 3, 1) := by decide +kernel
theorem d_L_save_16 : decode b_L_save 16 = .ok (.iconst 2, 1) := by decide +kernel
theorem d_L_save_17 : decode b_L_save 17 = .ok (.ireturn, 1) := by decide +kernel
theorem d_L_save_18 : decode b_L_save 18 = .ok (.astore_n 3, 1) := by decide +kernel
theorem d_L_save_19 : decode b_L_save 19 = .ok (.iconst 3, 1) := by decide +kernel
theorem d_L_save_20 : decode b_L_save 20 = .ok (.ireturn, 1) := by decide +kernel
theorem d_L_save_21 : decode b_L_save 21 = .ok (.iconst 0, 1) := by decide +kernel
theorem d_L_save_22 : decode b_L_save 22 = .ok (.ireturn, 1) := by decide +kernel
theorem d_L_back_0 : decode b_L_back 0 = .ok (.aload_n 0, 1) := by decide +kernel
theorem d_L_back_1 : decode b_L_back 1 = .ok (.iload_n 1, 1) := by decide +kernel
theorem d_L_back_2 : decode b_L_back 2 = .ok (.invokevirtual 33, 3) := by decide +kernel
theorem d_L_back_5 : decode b_L_back 5 = .ok (.goto 12, 3) := by decide +kernel
theorem d_L_back_8 : decode b_L_back 8 = .ok (.astore_n 2, 1) := by decide +kernel
theorem d_L_back_9 : decode b_L_back 9 = .ok (.iconst 1, 1) := by decide +kernel
theorem d_L_back_10 : decode b_L_back 10 = .ok (.ireturn, 1) := by decide +kernel
theorem d_L_back_11 : decode b_L_back 11 = .ok (.astore_n 2, 1) := by decide +kernel
theorem d_L_back_12 : decode b_L_back 12 = .ok (.iconst 2, 1) := by decide +kernel
theorem d_L_back_13 : decode b_L_back 13 = .ok (.ireturn, 1) := by decide +kernel
theorem d_L_back_14 : decode b_L_back 14 = .ok (.astore_n 2, 1) := by decide +kernel
theorem d_L_back_15 : decode b_L_back 15 = .ok (.iconst 3, 1) := by decide +kernel
theorem d_L_back_16 : decode b_L_back 16 = .ok (.ireturn, 1) := by decide +kernel
theorem d_L_back_17 : decode b_L_back 17 = .ok (.iconst 0, 1) := by decide +kernel
theorem d_L_back_18 : decode b_L_back 18 = .ok (.ireturn, 1) := by decide +kernel
theorem d_L_keep_0 : decode b_L_keep 0 = .ok (.aload_n 0, 1) := by decide +kernel
theorem d_L_keep_1 : decode b_L_keep 1 = .ok (.iload_n 1, 1) := by decide +kernel
theorem d_L_keep_2 : decode b_L_keep 2 = .ok (.invokevirtual 36, 3) := by decide +kernel
theorem d_L_keep_5 : decode b_L_keep 5 = .ok (.goto 12, 3) := by decide +kernel
theorem d_L_keep_8 : decode b_L_keep 8 = .ok (.astore_n 2, 1) := by decide +kernel
theorem d_L_keep_9 : decode b_L_keep 9 = .ok (.iconst 1, 1) := by decide +kernel
theorem d_L_keep_10 : decode b_L_keep 10 = .ok (.ireturn, 1) := by decide +kernel
theorem d_L_keep_11 : decode b_L_keep 11 = .ok (.astore_n 2, 1) := by decide +kernel
theorem d_L_keep_12 : decode b_L_keep 12 = .ok (.iconst 2, 1) := by decide +kernel
theorem d_L_keep_13 : decode b_L_keep 13 = .ok (.ireturn, 1) := by decide +kernel
theorem d_L_keep_14 : decode b_L_keep 14 = .ok (.astore_n 2, 1) := by decide +kernel
theorem d_L_keep_15 : decode b_L_keep 15 = .ok (.iconst 3, 1) := by decide +kernel
theorem d_L_keep_16 : decode b_L_keep 16 = .ok (.ireturn, 1) := by decide +kernel
theorem d_L_keep_17 : decode b_L_keep 17 = .ok (.iconst 0, 1) := by decide +kernel
theorem d_L_keep_18 : decode b_L_keep 18 = .ok (.ireturn, 1) := by decide +kernel
theorem d_L_done_0 : decode b_L_done 0 = .ok (.aload_n 2, 1) := by decide +kernel
theorem d_L_done_1 : decode b_L_done 1 = .ok (.iconst 0, 1) := by decide +kernel
theorem d_L_done_2 : decode b_L_done 2 = .ok (.aload_n 0, 1) := by decide +kernel
theorem d_L_done_3 : decode b_L_done 3 = .ok (.iload_n 1, 1) := by decide +kernel
theorem d_L_done_4 : decode b_L_done 4 = .ok (.invokevirtual 39, 3) := by decide +kernel
theorem d_L_done_7 : decode b_L_done 7 = .ok (.ifCond .eq 7, 3) := by decide +kernel
theorem d_L_done_10 : decode b_L_done 10 = .ok (.lconst 1, 1) := by decide +kernel
theorem d_L_done_11 : decode b_L_done 11 = .ok (.goto 4, 3) := by decide +kernel
theorem d_L_done_14 : decode b_L_done 14 = .ok (.lconst 0, 1) := by decide +kernel
theorem d_L_done_15 : decode b_L_done 15 = .ok (.lastore, 1) := by decide +kernel
theorem d_L_done_16 : decode b_L_done 16 = .ok (.goto 9, 3) := by decide +kernel
theorem d_L_done_19 : decode b_L_done 19 = .ok (.astore_n 3, 1) := by decide +kernel
theorem d_L_done_20 : decode b_L_done 20 = .ok (.iconst 1, 1) := by decide +kernel
theorem d_L_done_21 : decode b_L_done 21 = .ok (.ireturn, 1) := by decide +kernel
theorem d_L_done_22 : decode b_L_done 22 = .ok (.astore_n 3, 1) := by decide +kernel
theorem d_L_done_23 : decode b_L_done 23 = .ok (.iconst 2, 1) := by decide +kernel
theorem d_L_done_24 : decode b_L_done 24 = .ok (.ireturn, 1) := by decide +kernel
theorem d_L_done_25 : decode b_L_done 25 = .ok (.iconst 0, 1) := by decide +kernel
theorem d_L_done_26 : decode b_L_done 26 = .ok (.ireturn, 1) := by decide +kernel
theorem d_L_leave_0 : decode b_L_leave 0 = .ok (.aload_n 0, 1) := by decide +kernel
theorem d_L_leave_1 : decode b_L_leave 1 = .ok (.iload_n 1, 1) := by decide +kernel
theorem d_L_leave_2 : decode b_L_leave 2 = .ok (.invokevirtual 43, 3) := by decide +kernel
theorem d_L_leave_5 : decode b_L_leave 5 = .ok (.goto 9, 3) := by decide +kernel
theorem d_L_leave_8 : decode b_L_leave 8 = .ok (.astore_n 2, 1) := by decide +kernel
theorem d_L_leave_9 : decode b_L_leave 9 = .ok (.iconst 1, 1) := by decide +kernel
theorem d_L_leave_10 : decode b_L_leave 10 = .ok (.ireturn, 1) := by decide +kernel
theorem d_L_leave_11 : decode b_L_leave 11 = .ok (.astore_n 2, 1) := by decide +kernel
theorem d_L_leave_12 : decode b_L_leave 12 = .ok (.iconst 2, 1) := by decide +kernel
theorem d_L_leave_13 : decode b_L_leave 13 = .ok (.ireturn, 1) := by decide +kernel
theorem d_L_leave_14 : decode b_L_leave 14 = .ok (.iconst 0, 1) := by decide +kernel
theorem d_L_leave_15 : decode b_L_leave 15 = .ok (.ireturn, 1) := by decide +kernel
theorem d_L_set_0 : decode b_L_set 0 = .ok (.aload_n 0, 1) := by decide +kernel
theorem d_L_set_1 : decode b_L_set 1 = .ok (.iload_n 1, 1) := by decide +kernel
theorem d_L_set_2 : decode b_L_set 2 = .ok (.lload_n 2, 1) := by decide +kernel
theorem d_L_set_3 : decode b_L_set 3 = .ok (.invokevirtual 46, 3) := by decide +kernel
theorem d_L_set_6 : decode b_L_set 6 = .ok (.goto 7, 3) := by decide +kernel
theorem d_L_set_9 : decode b_L_set 9 = .ok (.astore 4, 2) := by decide +kernel
theorem d_L_set_11 : decode b_L_set 11 = .ok (.iconst 1, 1) := by decide +kernel
theorem d_L_set_12 : decode b_L_set 12 = .ok (.ireturn, 1) := by decide +kernel
theorem d_L_set_13 : decode b_L_set 13 = .ok (.iconst 0, 1) := by decide +kernel
theorem d_L_set_14 : decode b_L_set 14 = .ok (.ireturn, 1) := by decide +kernel
theorem d_L_cell_0 : decode b_L_cell 0 = .ok (.aload_n 2, 1) := by decide +kernel
theorem d_L_cell_1 : decode b_L_cell 1 = .ok (.iconst 0, 1) := by decide +kernel
theorem d_L_cell_2 : decode b_L_cell 2 = .ok (.aload_n 0, 1) := by decide +kernel
theorem d_L_cell_3 : decode b_L_cell 3 = .ok (.iload_n 1, 1) := by decide +kernel
theorem d_L_cell_4 : decode b_L_cell 4 = .ok (.invokevirtual 50, 3) := by decide +kernel
theorem d_L_cell_7 : decode b_L_cell 7 = .ok (.lastore, 1) := by decide +kernel
theorem d_L_cell_8 : decode b_L_cell 8 = .ok (.goto 6, 3) := by decide +kernel
theorem d_L_cell_11 : decode b_L_cell 11 = .ok (.astore_n 3, 1) := by decide +kernel
theorem d_L_cell_12 : decode b_L_cell 12 = .ok (.iconst 1, 1) := by decide +kernel
theorem d_L_cell_13 : decode b_L_cell 13 = .ok (.ireturn, 1) := by decide +kernel
theorem d_L_cell_14 : decode b_L_cell 14 = .ok (.iconst 0, 1) := by decide +kernel
theorem d_L_cell_15 : decode b_L_cell 15 = .ok (.ireturn, 1) := by decide +kernel
theorem d_L_changed_0 : decode b_L_changed 0 = .ok (.aload_n 2, 1) := by decide +kernel
theorem d_L_changed_1 : decode b_L_changed 1 = .ok (.iconst 0, 1) := by decide +kernel
theorem d_L_changed_2 : decode b_L_changed 2 = .ok (.aload_n 0, 1) := by decide +kernel
theorem d_L_changed_3 : decode b_L_changed 3 = .ok (.iload_n 1, 1) := by decide +kernel
theorem d_L_changed_4 : decode b_L_changed 4 = .ok (.invokevirtual 54, 3) := by decide +kernel
theorem d_L_changed_7 : decode b_L_changed 7 = .ok (.i2l, 1) := by decide +kernel
theorem d_L_changed_8 : decode b_L_changed 8 = .ok (.lastore, 1) := by decide +kernel
theorem d_L_changed_9 : decode b_L_changed 9 = .ok (.goto 6, 3) := by decide +kernel
theorem d_L_changed_12 : decode b_L_changed 12 = .ok (.astore_n 3, 1) := by decide +kernel
theorem d_L_changed_13 : decode b_L_changed 13 = .ok (.iconst 1, 1) := by decide +kernel
theorem d_L_changed_14 : decode b_L_changed 14 = .ok (.ireturn, 1) := by decide +kernel
theorem d_L_changed_15 : decode b_L_changed 15 = .ok (.iconst 0, 1) := by decide +kernel
theorem d_L_changed_16 : decode b_L_changed 16 = .ok (.ireturn, 1) := by decide +kernel
theorem d_L_count_0 : decode b_L_count 0 = .ok (.aload_n 3, 1) := by decide +kernel
theorem d_L_count_1 : decode b_L_count 1 = .ok (.iconst 0, 1) := by decide +kernel
theorem d_L_count_2 : decode b_L_count 2 = .ok (.aload_n 0, 1) := by decide +kernel
theorem d_L_count_3 : decode b_L_count 3 = .ok (.iload_n 1, 1) := by decide +kernel
theorem d_L_count_4 : decode b_L_count 4 = .ok (.iload_n 2, 1) := by decide +kernel
theorem d_L_count_5 : decode b_L_count 5 = .ok (.invokevirtual 57, 3) := by decide +kernel
theorem d_L_count_8 : decode b_L_count 8 = .ok (.i2l, 1) := by decide +kernel
theorem d_L_count_9 : decode b_L_count 9 = .ok (.lastore, 1) := by decide +kernel
theorem d_L_count_10 : decode b_L_count 10 = .ok (.goto 11, 3) := by decide +kernel
theorem d_L_count_13 : decode b_L_count 13 = .ok (.astore 4, 2) := by decide +kernel
theorem d_L_count_15 : decode b_L_count 15 = .ok (.iconst 1, 1) := by decide +kernel
theorem d_L_count_16 : decode b_L_count 16 = .ok (.ireturn, 1) := by decide +kernel
theorem d_L_count_17 : decode b_L_count 17 = .ok (.astore 4, 2) := by decide +kernel
theorem d_L_count_19 : decode b_L_count 19 = .ok (.iconst 2, 1) := by decide +kernel
theorem d_L_count_20 : decode b_L_count 20 = .ok (.ireturn, 1) := by decide +kernel
theorem d_L_count_21 : decode b_L_count 21 = .ok (.iconst 0, 1) := by decide +kernel
theorem d_L_count_22 : decode b_L_count 22 = .ok (.ireturn, 1) := by decide +kernel
theorem d_L_all_0 : decode b_L_all 0 = .ok (.aload_n 2, 1) := by decide +kernel
theorem d_L_all_1 : decode b_L_all 1 = .ok (.iconst 0, 1) := by decide +kernel
theorem d_L_all_2 : decode b_L_all 2 = .ok (.aload_n 0, 1) := by decide +kernel
theorem d_L_all_3 : decode b_L_all 3 = .ok (.iload_n 1, 1) := by decide +kernel
theorem d_L_all_4 : decode b_L_all 4 = .ok (.invokevirtual 61, 3) := by decide +kernel
theorem d_L_all_7 : decode b_L_all 7 = .ok (.i2l, 1) := by decide +kernel
theorem d_L_all_8 : decode b_L_all 8 = .ok (.lastore, 1) := by decide +kernel
theorem d_L_all_9 : decode b_L_all 9 = .ok (.goto 6, 3) := by decide +kernel
theorem d_L_all_12 : decode b_L_all 12 = .ok (.astore_n 3, 1) := by decide +kernel
theorem d_L_all_13 : decode b_L_all 13 = .ok (.iconst 1, 1) := by decide +kernel
theorem d_L_all_14 : decode b_L_all 14 = .ok (.ireturn, 1) := by decide +kernel
theorem d_L_all_15 : decode b_L_all 15 = .ok (.iconst 0, 1) := by decide +kernel
theorem d_L_all_16 : decode b_L_all 16 = .ok (.ireturn, 1) := by decide +kernel
theorem d_L_law_0 : decode code 0 = .ok (.new 8, 3) := by decide +kernel
theorem d_L_law_3 : decode code 3 = .ok (.dup, 1) := by decide +kernel
theorem d_L_law_4 : decode code 4 = .ok (.invokespecial 64, 3) := by decide +kernel
theorem d_L_law_7 : decode code 7 = .ok (.astore_n 1, 1) := by decide +kernel
theorem d_L_law_8 : decode code 8 = .ok (.new 65, 3) := by decide +kernel
theorem d_L_law_11 : decode code 11 = .ok (.dup, 1) := by decide +kernel
theorem d_L_law_12 : decode code 12 = .ok (.invokespecial 67, 3) := by decide +kernel
theorem d_L_law_15 : decode code 15 = .ok (.astore_n 2, 1) := by decide +kernel
theorem d_L_law_16 : decode code 16 = .ok (.iconst 1, 1) := by decide +kernel
theorem d_L_law_17 : decode code 17 = .ok (.newarray .long, 2) := by decide +kernel
theorem d_L_law_19 : decode code 19 = .ok (.astore_n 3, 1) := by decide +kernel
theorem d_L_law_20 : decode code 20 = .ok (.iconst 0, 1) := by decide +kernel
theorem d_L_law_21 : decode code 21 = .ok (.istore 4, 2) := by decide +kernel
theorem d_L_law_23 : decode code 23 = .ok (.iload 4, 2) := by decide +kernel
theorem d_L_law_25 : decode code 25 = .ok (.aload_n 0, 1) := by decide +kernel
theorem d_L_law_26 : decode code 26 = .ok (.arraylength, 1) := by decide +kernel
theorem d_L_law_27 : decode code 27 = .ok (.iconst 5, 1) := by decide +kernel
theorem d_L_law_28 : decode code 28 = .ok (.isub, 1) := by decide +kernel
theorem d_L_law_29 : decode code 29 = .ok (.if_icmp .gt 818, 3) := by decide +kernel
theorem d_L_law_32 : decode code 32 = .ok (.aload_n 0, 1) := by decide +kernel
theorem d_L_law_33 : decode code 33 = .ok (.iload 4, 2) := by decide +kernel
theorem d_L_law_35 : decode code 35 = .ok (.iaload, 1) := by decide +kernel
theorem d_L_law_36 : decode code 36 = .ok (.bipush 15, 2) := by decide +kernel
theorem d_L_law_38 : decode code 38 = .ok (.iand, 1) := by decide +kernel
theorem d_L_law_39 : decode code 39 = .ok (.tableswitch 802 0 12 #[65, 101, 168, 260, 316, 352, 388, 451, 487, 567, 622, 678, 746], 65) := by decide +kernel
theorem d_L_law_104 : decode code 104 = .ok (.aload_n 1, 1) := by decide +kernel
theorem d_L_law_105 : decode code 105 = .ok (.aload_n 0, 1) := by decide +kernel
theorem d_L_law_106 : decode code 106 = .ok (.iload 4, 2) := by decide +kernel
theorem d_L_law_108 : decode code 108 = .ok (.iconst 1, 1) := by decide +kernel
theorem d_L_law_109 : decode code 109 = .ok (.iadd, 1) := by decide +kernel
theorem d_L_law_110 : decode code 110 = .ok (.iaload, 1) := by decide +kernel
theorem d_L_law_111 : decode code 111 = .ok (.invokestatic 68, 3) := by decide +kernel
theorem d_L_law_114 : decode code 114 = .ok (.istore 5, 2) := by decide +kernel
theorem d_L_law_116 : decode code 116 = .ok (.aload_n 2, 1) := by decide +kernel
theorem d_L_law_117 : decode code 117 = .ok (.aload_n 0, 1) := by decide +kernel
theorem d_L_law_118 : decode code 118 = .ok (.iload 4, 2) := by decide +kernel
theorem d_L_law_120 : decode code 120 = .ok (.iconst 1, 1) := by decide +kernel
theorem d_L_law_121 : decode code 121 = .ok (.iadd, 1) := by decide +kernel
theorem d_L_law_122 : decode code 122 = .ok (.iaload, 1) := by decide +kernel
theorem d_L_law_123 : decode code 123 = .ok (.invokevirtual 73, 3) := by decide +kernel
theorem d_L_law_126 : decode code 126 = .ok (.aload_n 2, 1) := by decide +kernel
theorem d_L_law_127 : decode code 127 = .ok (.invokevirtual 74, 3) := by decide +kernel
theorem d_L_law_130 : decode code 130 = .ok (.iload 5, 2) := by decide +kernel
theorem d_L_law_132 : decode code 132 = .ok (.if_icmp .eq 5, 3) := by decide +kernel
theorem d_L_law_135 : decode code 135 = .ok (.iconst 0, 1) := by decide +kernel
theorem d_L_law_136 : decode code 136 = .ok (.ireturn, 1) := by decide +kernel
theorem d_L_law_137 : decode code 137 = .ok (.goto 704, 3) := by decide +kernel
theorem d_L_law_140 : decode code 140 = .ok (.aload_n 1, 1) := by decide +kernel
theorem d_L_law_141 : decode code 141 = .ok (.aload_n 0, 1) := by decide +kernel
theorem d_L_law_142 : decode code 142 = .ok (.iload 4, 2) := by decide +kernel
theorem d_L_law_144 : decode code 144 = .ok (.iconst 1, 1) := by decide +kernel
theorem d_L_law_145 : decode code 145 = .ok (.iadd, 1) := by decide +kernel
theorem d_L_law_146 : decode code 146 = .ok (.iaload, 1) := by decide +kernel
theorem d_L_law_147 : decode code 147 = .ok (.aload_n 0, 1) := by decide +kernel
theorem d_L_law_148 : decode code 148 = .ok (.iload 4, 2) := by decide +kernel
theorem d_L_law_150 : decode code 150 = .ok (.iconst 2, 1) := by decide +kernel
theorem d_L_law_151 : decode code 151 = .ok (.iadd, 1) := by decide +kernel
theorem d_L_law_152 : decode code 152 = .ok (.iaload, 1) := by decide +kernel
theorem d_L_law_153 : decode code 153 = .ok (.aload_n 3, 1) := by decide +kernel
theorem d_L_law_154 : decode code 154 = .ok (.invokestatic 78, 3) := by decide +kernel
theorem d_L_law_157 : decode code 157 = .ok (.istore 5, 2) := by decide +kernel
theorem d_L_law_159 : decode code 159 = .ok (.aload_n 2, 1) := by decide +kernel
theorem d_L_law_160 : decode code 160 = .ok (.aload_n 0, 1) := by decide +kernel
theorem d_L_law_161 : decode code 161 = .ok (.iload 4, 2) := by decide +kernel
theorem d_L_law_163 : decode code 163 = .ok (.iconst 1, 1) := by decide +kernel
theorem d_L_law_164 : decode code 164 = .ok (.iadd, 1) := by decide +kernel
theorem d_L_law_165 : decode code 165 = .ok (.iaload, 1) := by decide +kernel
theorem d_L_law_166 : decode code 166 = .ok (.aload_n 0, 1) := by decide +kernel
theorem d_L_law_167 : decode code 167 = .ok (.iload 4, 2) := by decide +kernel
theorem d_L_law_169 : decode code 169 = .ok (.iconst 2, 1) := by decide +kernel
theorem d_L_law_170 : decode code 170 = .ok (.iadd, 1) := by decide +kernel
theorem d_L_law_171 : decode code 171 = .ok (.iaload, 1) := by decide +kernel
theorem d_L_law_172 : decode code 172 = .ok (.invokevirtual 81, 3) := by decide +kernel
theorem d_L_law_175 : decode code 175 = .ok (.lstore 6, 2) := by decide +kernel
theorem d_L_law_177 : decode code 177 = .ok (.aload_n 2, 1) := by decide +kernel
theorem d_L_law_178 : decode code 178 = .ok (.invokevirtual 74, 3) := by decide +kernel
theorem d_L_law_181 : decode code 181 = .ok (.iload 5, 2) := by decide +kernel
theorem d_L_law_183 : decode code 183 = .ok (.if_icmp .eq 5, 3) := by decide +kernel
theorem d_L_law_186 : decode code 186 = .ok (.iconst 0, 1) := by decide +kernel
theorem d_L_law_187 : decode code 187 = .ok (.ireturn, 1) := by decide +kernel
theorem d_L_law_188 : decode code 188 = .ok (.iload 5, 2) := by decide +kernel
theorem d_L_law_190 : decode code 190 = .ok (.ifCond .ne 14, 3) := by decide +kernel
theorem d_L_law_193 : decode code 193 = .ok (.aload_n 3, 1) := by decide +kernel
theorem d_L_law_194 : decode code 194 = .ok (.iconst 0, 1) := by decide +kernel
theorem d_L_law_195 : decode code 195 = .ok (.laload, 1) := by decide +kernel
theorem d_L_law_196 : decode code 196 = .ok (.lload 6, 2) := by decide +kernel
theorem d_L_law_198 : decode code 198 = .ok (.lcmp, 1) := by decide +kernel
theorem d_L_law_199 : decode code 199 = .ok (.ifCond .eq 5, 3) := by decide +kernel
theorem d_L_law_202 : decode code 202 = .ok (.iconst 0, 1) := by decide +kernel
theorem d_L_law_203 : decode code 203 = .ok (.ireturn, 1) := by decide +kernel
theorem d_L_law_204 : decode code 204 = .ok (.goto 637, 3) := by decide +kernel
theorem d_L_law_207 : decode code 207 = .ok (.aload_n 1, 1) := by decide +kernel
theorem d_L_law_208 : decode code 208 = .ok (.aload_n 0, 1) := by decide +kernel
theorem d_L_law_209 : decode code 209 = .ok (.iload 4, 2) := by decide +kernel
theorem d_L_law_211 : decode code 211 = .ok (.iconst 1, 1) := by decide +kernel
theorem d_L_law_212 : decode code 212 = .ok (.iadd, 1) := by decide +kernel
theorem d_L_law_213 : decode code 213 = .ok (.iaload, 1) := by decide +kernel
theorem d_L_law_214 : decode code 214 = .ok (.aload_n 0, 1) := by decide +kernel
theorem d_L_law_215 : decode code 215 = .ok (.iload 4, 2) := by decide +kernel
theorem d_L_law_217 : decode code 217 = .ok (.iconst 2, 1) := by decide +kernel
theorem d_L_law_218 : decode code 218 = .ok (.iadd, 1) := by decide +kernel
theorem d_L_law_219 : decode code 219 = .ok (.iaload, 1) := by decide +kernel
theorem d_L_law_220 : decode code 220 = .ok (.aload_n 0, 1) := by decide +kernel
theorem d_L_law_221 : decode code 221 = .ok (.iload 4, 2) := by decide +kernel
theorem d_L_law_223 : decode code 223 = .ok (.iconst 3, 1) := by decide +kernel
theorem d_L_law_224 : decode code 224 = .ok (.iadd, 1) := by decide +kernel
theorem d_L_law_225 : decode code 225 = .ok (.iaload, 1) := by decide +kernel
theorem d_L_law_226 : decode code 226 = .ok (.i2l, 1) := by decide +kernel
theorem d_L_law_227 : decode code 227 = .ok (.bipush 32, 2) := by decide +kernel
theorem d_L_law_229 : decode code 229 = .ok (.lshl, 1) := by decide +kernel
theorem d_L_law_230 : decode code 230 = .ok (.aload_n 0, 1) := by decide +kernel
theorem d_L_law_231 : decode code 231 = .ok (.iload 4, 2) := by decide +kernel
theorem d_L_law_233 : decode code 233 = .ok (.iconst 4, 1) := by decide +kernel
theorem d_L_law_234 : decode code 234 = .ok (.iadd, 1) := by decide +kernel
theorem d_L_law_235 : decode code 235 = .ok (.iaload, 1) := by decide +kernel
theorem d_L_law_236 : decode code 236 = .ok (.i2l, 1) := by decide +kernel
theorem d_L_law_237 : decode code 237 = .ok (.ldc2_w 82, 3) := by decide +kernel
theorem d_L_law_240 : decode code 240 = .ok (.land, 1) := by decide +kernel
theorem d_L_law_241 : decode code 241 = .ok (.lor, 1) := by decide +kernel
theorem d_L_law_242 : decode code 242 = .ok (.invokestatic 84, 3) := by decide +kernel
theorem d_L_law_245 : decode code 245 = .ok (.istore 5, 2) := by decide +kernel
theorem d_L_law_247 : decode code 247 = .ok (.aload_n 2, 1) := by decide +kernel
theorem d_L_law_248 : decode code 248 = .ok (.aload_n 0, 1) := by decide +kernel
theorem d_L_law_249 : decode code 249 = .ok (.iload 4, 2) := by decide +kernel
theorem d_L_law_251 : decode code 251 = .ok (.iconst 1, 1) := by decide +kernel
theorem d_L_law_252 : decode code 252 = .ok (.iadd, 1) := by decide +kernel
theorem d_L_law_253 : decode code 253 = .ok (.iaload, 1) := by decide +kernel
theorem d_L_law_254 : decode code 254 = .ok (.aload_n 0, 1) := by decide +kernel
theorem d_L_law_255 : decode code 255 = .ok (.iload 4, 2) := by decide +kernel
theorem d_L_law_257 : decode code 257 = .ok (.iconst 2, 1) := by decide +kernel
theorem d_L_law_258 : decode code 258 = .ok (.iadd, 1) := by decide +kernel
theorem d_L_law_259 : decode code 259 = .ok (.iaload, 1) := by decide +kernel
theorem d_L_law_260 : decode code 260 = .ok (.aload_n 0, 1) := by decide +kernel
theorem d_L_law_261 : decode code 261 = .ok (.iload 4, 2) := by decide +kernel
theorem d_L_law_263 : decode code 263 = .ok (.iconst 3, 1) := by decide +kernel
theorem d_L_law_264 : decode code 264 = .ok (.iadd, 1) := by decide +kernel
theorem d_L_law_265 : decode code 265 = .ok (.iaload, 1) := by decide +kernel
theorem d_L_law_266 : decode code 266 = .ok (.i2l, 1) := by decide +kernel
theorem d_L_law_267 : decode code 267 = .ok (.bipush 32, 2) := by decide +kernel
theorem d_L_law_269 : decode code 269 = .ok (.lshl, 1) := by decide +kernel
theorem d_L_law_270 : decode code 270 = .ok (.aload_n 0, 1) := by decide +kernel
theorem d_L_law_271 : decode code 271 = .ok (.iload 4, 2) := by decide +kernel
theorem d_L_law_273 : decode code 273 = .ok (.iconst 4, 1) := by decide +kernel
theorem d_L_law_274 : decode code 274 = .ok (.iadd, 1) := by decide +kernel
theorem d_L_law_275 : decode code 275 = .ok (.iaload, 1) := by decide +kernel
theorem d_L_law_276 : decode code 276 = .ok (.i2l, 1) := by decide +kernel
theorem d_L_law_277 : decode code 277 = .ok (.ldc2_w 82, 3) := by decide +kernel
theorem d_L_law_280 : decode code 280 = .ok (.land, 1) := by decide +kernel
theorem d_L_law_281 : decode code 281 = .ok (.lor, 1) := by decide +kernel
theorem d_L_law_282 : decode code 282 = .ok (.invokevirtual 87, 3) := by decide +kernel
theorem d_L_law_285 : decode code 285 = .ok (.aload_n 2, 1) := by decide +kernel
theorem d_L_law_286 : decode code 286 = .ok (.invokevirtual 74, 3) := by decide +kernel
theorem d_L_law_289 : decode code 289 = .ok (.iload 5, 2) := by decide +kernel
theorem d_L_law_291 : decode code 291 = .ok (.if_icmp .eq 5, 3) := by decide +kernel
theorem d_L_law_294 : decode code 294 = .ok (.iconst 0, 1) := by decide +kernel
theorem d_L_law_295 : decode code 295 = .ok (.ireturn, 1) := by decide +kernel
theorem d_L_law_296 : decode code 296 = .ok (.goto 545, 3) := by decide +kernel
theorem d_L_law_299 : decode code 299 = .ok (.aload_n 1, 1) := by decide +kernel
theorem d_L_law_300 : decode code 300 = .ok (.aload_n 0, 1) := by decide +kernel
theorem d_L_law_301 : decode code 301 = .ok (.iload 4, 2) := by decide +kernel
theorem d_L_law_303 : decode code 303 = .ok (.iconst 1, 1) := by decide +kernel
theorem d_L_law_304 : decode code 304 = .ok (.iadd, 1) := by decide +kernel
theorem d_L_law_305 : decode code 305 = .ok (.iaload, 1) := by decide +kernel
theorem d_L_law_306 : decode code 306 = .ok (.aload_n 3, 1) := by decide +kernel
theorem d_L_law_307 : decode code 307 = .ok (.invokestatic 88, 3) := by decide +kernel
theorem d_L_law_310 : decode code 310 = .ok (.istore 5, 2) := by decide +kernel
theorem d_L_law_312 : decode code 312 = .ok (.aload_n 2, 1) := by decide +kernel
theorem d_L_law_313 : decode code 313 = .ok (.aload_n 0, 1) := by decide +kernel
theorem d_L_law_314 : decode code 314 = .ok (.iload 4, 2) := by decide +kernel
theorem d_L_law_316 : decode code 316 = .ok (.iconst 1, 1) := by decide +kernel
theorem d_L_law_317 : decode code 317 = .ok (.iadd, 1) := by decide +kernel
theorem d_L_law_318 : decode code 318 = .ok (.iaload, 1) := by decide +kernel
theorem d_L_law_319 : decode code 319 = .ok (.invokevirtual 91, 3) := by decide +kernel
theorem d_L_law_322 : decode code 322 = .ok (.istore 6, 2) := by decide +kernel
theorem d_L_law_324 : decode code 324 = .ok (.aload_n 2, 1) := by decide +kernel
theorem d_L_law_325 : decode code 325 = .ok (.invokevirtual 74, 3) := by decide +kernel
theorem d_L_law_328 : decode code 328 = .ok (.iload 5, 2) := by decide +kernel
theorem d_L_law_330 : decode code 330 = .ok (.if_icmp .eq 5, 3) := by decide +kernel
theorem d_L_law_333 : decode code 333 = .ok (.iconst 0, 1) := by decide +kernel
theorem d_L_law_334 : decode code 334 = .ok (.ireturn, 1) := by decide +kernel
theorem d_L_law_335 : decode code 335 = .ok (.iload 5, 2) := by decide +kernel
theorem d_L_law_337 : decode code 337 = .ok (.ifCond .ne 15, 3) := by decide +kernel
theorem d_L_law_340 : decode code 340 = .ok (.aload_n 3, 1) := by decide +kernel
theorem d_L_law_341 : decode code 341 = .ok (.iconst 0, 1) := by decide +kernel
theorem d_L_law_342 : decode code 342 = .ok (.laload, 1) := by decide +kernel
theorem d_L_law_343 : decode code 343 = .ok (.iload 6, 2) := by decide +kernel
theorem d_L_law_345 : decode code 345 = .ok (.i2l, 1) := by decide +kernel
theorem d_L_law_346 : decode code 346 = .ok (.lcmp, 1) := by decide +kernel
theorem d_L_law_347 : decode code 347 = .ok (.ifCond .eq 5, 3) := by decide +kernel
theorem d_L_law_350 : decode code 350 = .ok (.iconst 0, 1) := by decide +kernel
theorem d_L_law_351 : decode code 351 = .ok (.ireturn, 1) := by decide +kernel
theorem d_L_law_352 : decode code 352 = .ok (.goto 489, 3) := by decide +kernel
theorem d_L_law_355 : decode code 355 = .ok (.aload_n 1, 1) := by decide +kernel
theorem d_L_law_356 : decode code 356 = .ok (.aload_n 0, 1) := by decide +kernel
theorem d_L_law_357 : decode code 357 = .ok (.iload 4, 2) := by decide +kernel
theorem d_L_law_359 : decode code 359 = .ok (.iconst 1, 1) := by decide +kernel
theorem d_L_law_360 : decode code 360 = .ok (.iadd, 1) := by decide +kernel
theorem d_L_law_361 : decode code 361 = .ok (.iaload, 1) := by decide +kernel
theorem d_L_law_362 : decode code 362 = .ok (.invokestatic 92, 3) := by decide +kernel
theorem d_L_law_365 : decode code 365 = .ok (.istore 5, 2) := by decide +kernel
theorem d_L_law_367 : decode code 367 = .ok (.aload_n 2, 1) := by decide +kernel
theorem d_L_law_368 : decode code 368 = .ok (.aload_n 0, 1) := by decide +kernel
theorem d_L_law_369 : decode code 369 = .ok (.iload 4, 2) := by decide +kernel
theorem d_L_law_371 : decode code 371 = .ok (.iconst 1, 1) := by decide +kernel
theorem d_L_law_372 : decode code 372 = .ok (.iadd, 1) := by decide +kernel
theorem d_L_law_373 : decode code 373 = .ok (.iaload, 1) := by decide +kernel
theorem d_L_law_374 : decode code 374 = .ok (.invokevirtual 94, 3) := by decide +kernel
theorem d_L_law_377 : decode code 377 = .ok (.aload_n 2, 1) := by decide +kernel
theorem d_L_law_378 : decode code 378 = .ok (.invokevirtual 74, 3) := by decide +kernel
theorem d_L_law_381 : decode code 381 = .ok (.iload 5, 2) := by decide +kernel
theorem d_L_law_383 : decode code 383 = .ok (.if_icmp .eq 5, 3) := by decide +kernel
theorem d_L_law_386 : decode code 386 = .ok (.iconst 0, 1) := by decide +kernel
theorem d_L_law_387 : decode code 387 = .ok (.ireturn, 1) := by decide +kernel
theorem d_L_law_388 : decode code 388 = .ok (.goto 453, 3) := by decide +kernel
theorem d_L_law_391 : decode code 391 = .ok (.aload_n 1, 1) := by decide +kernel
theorem d_L_law_392 : decode code 392 = .ok (.aload_n 0, 1) := by decide +kernel
theorem d_L_law_393 : decode code 393 = .ok (.iload 4, 2) := by decide +kernel
theorem d_L_law_395 : decode code 395 = .ok (.iconst 1, 1) := by decide +kernel
theorem d_L_law_396 : decode code 396 = .ok (.iadd, 1) := by decide +kernel
theorem d_L_law_397 : decode code 397 = .ok (.iaload, 1) := by decide +kernel
theorem d_L_law_398 : decode code 398 = .ok (.invokestatic 95, 3) := by decide +kernel
theorem d_L_law_401 : decode code 401 = .ok (.istore 5, 2) := by decide +kernel
theorem d_L_law_403 : decode code 403 = .ok (.aload_n 2, 1) := by decide +kernel
theorem d_L_law_404 : decode code 404 = .ok (.aload_n 0, 1) := by decide +kernel
theorem d_L_law_405 : decode code 405 = .ok (.iload 4, 2) := by decide +kernel
theorem d_L_law_407 : decode code 407 = .ok (.iconst 1, 1) := by decide +kernel
theorem d_L_law_408 : decode code 408 = .ok (.iadd, 1) := by decide +kernel
theorem d_L_law_409 : decode code 409 = .ok (.iaload, 1) := by decide +kernel
theorem d_L_law_410 : decode code 410 = .ok (.invokevirtual 97, 3) := by decide +kernel
theorem d_L_law_413 : decode code 413 = .ok (.aload_n 2, 1) := by decide +kernel
theorem d_L_law_414 : decode code 414 = .ok (.invokevirtual 74, 3) := by decide +kernel
theorem d_L_law_417 : decode code 417 = .ok (.iload 5, 2) := by decide +kernel
theorem d_L_law_419 : decode code 419 = .ok (.if_icmp .eq 5, 3) := by decide +kernel
theorem d_L_law_422 : decode code 422 = .ok (.iconst 0, 1) := by decide +kernel
theorem d_L_law_423 : decode code 423 = .ok (.ireturn, 1) := by decide +kernel
theorem d_L_law_424 : decode code 424 = .ok (.goto 417, 3) := by decide +kernel
theorem d_L_law_427 : decode code 427 = .ok (.aload_n 1, 1) := by decide +kernel
theorem d_L_law_428 : decode code 428 = .ok (.aload_n 0, 1) := by decide +kernel
theorem d_L_law_429 : decode code 429 = .ok (.iload 4, 2) := by decide +kernel
theorem d_L_law_431 : decode code 431 = .ok (.iconst 1, 1) := by decide +kernel
theorem d_L_law_432 : decode code 432 = .ok (.iadd, 1) := by decide +kernel
theorem d_L_law_433 : decode code 433 = .ok (.iaload, 1) := by decide +kernel
theorem d_L_law_434 : decode code 434 = .ok (.aload_n 3, 1) := by decide +kernel
theorem d_L_law_435 : decode code 435 = .ok (.invokestatic 98, 3) := by decide +kernel
theorem d_L_law_438 : decode code 438 = .ok (.istore 5, 2) := by decide +kernel
theorem d_L_law_440 : decode code 440 = .ok (.aload_n 2, 1) := by decide +kernel
theorem d_L_law_441 : decode code 441 = .ok (.aload_n 0, 1) := by decide +kernel
theorem d_L_law_442 : decode code 442 = .ok (.iload 4, 2) := by decide +kernel
theorem d_L_law_444 : decode code 444 = .ok (.iconst 1, 1) := by decide +kernel
theorem d_L_law_445 : decode code 445 = .ok (.iadd, 1) := by decide +kernel
theorem d_L_law_446 : decode code 446 = .ok (.iaload, 1) := by decide +kernel
theorem d_L_law_447 : decode code 447 = .ok (.invokevirtual 100, 3) := by decide +kernel
theorem d_L_law_450 : decode code 450 = .ok (.istore 6, 2) := by decide +kernel
theorem d_L_law_452 : decode code 452 = .ok (.aload_n 2, 1) := by decide +kernel
theorem d_L_law_453 : decode code 453 = .ok (.invokevirtual 74, 3) := by decide +kernel
theorem d_L_law_456 : decode code 456 = .ok (.iload 5, 2) := by decide +kernel
theorem d_L_law_458 : decode code 458 = .ok (.if_icmp .eq 5, 3) := by decide +kernel
theorem d_L_law_461 : decode code 461 = .ok (.iconst 0, 1) := by decide +kernel
theorem d_L_law_462 : decode code 462 = .ok (.ireturn, 1) := by decide +kernel
theorem d_L_law_463 : decode code 463 = .ok (.iload 5, 2) := by decide +kernel
theorem d_L_law_465 : decode code 465 = .ok (.ifCond .ne 22, 3) := by decide +kernel
theorem d_L_law_468 : decode code 468 = .ok (.aload_n 3, 1) := by decide +kernel
theorem d_L_law_469 : decode code 469 = .ok (.iconst 0, 1) := by decide +kernel
theorem d_L_law_470 : decode code 470 = .ok (.laload, 1) := by decide +kernel
theorem d_L_law_471 : decode code 471 = .ok (.iload 6, 2) := by decide +kernel
theorem d_L_law_473 : decode code 473 = .ok (.ifCond .eq 7, 3) := by decide +kernel
theorem d_L_law_476 : decode code 476 = .ok (.lconst 1, 1) := by decide +kernel
theorem d_L_law_477 : decode code 477 = .ok (.goto 4, 3) := by decide +kernel
theorem d_L_law_480 : decode code 480 = .ok (.lconst 0, 1) := by decide +kernel
theorem d_L_law_481 : decode code 481 = .ok (.lcmp, 1) := by decide +kernel
theorem d_L_law_482 : decode code 482 = .ok (.ifCond .eq 5, 3) := by decide +kernel
theorem d_L_law_485 : decode code 485 = .ok (.iconst 0, 1) := by decide +kernel
theorem d_L_law_486 : decode code 486 = .ok (.ireturn, 1) := by decide +kernel
theorem d_L_law_487 : decode code 487 = .ok (.goto 354, 3) := by decide +kernel
theorem d_L_law_490 : decode code 490 = .ok (.aload_n 1, 1) := by decide +kernel
theorem d_L_law_491 : decode code 491 = .ok (.aload_n 0, 1) := by decide +kernel
theorem d_L_law_492 : decode code 492 = .ok (.iload 4, 2) := by decide +kernel
theorem d_L_law_494 : decode code 494 = .ok (.iconst 1, 1) := by decide +kernel
theorem d_L_law_495 : decode code 495 = .ok (.iadd, 1) := by decide +kernel
theorem d_L_law_496 : decode code 496 = .ok (.iaload, 1) := by decide +kernel
theorem d_L_law_497 : decode code 497 = .ok (.invokestatic 101, 3) := by decide +kernel
theorem d_L_law_500 : decode code 500 = .ok (.istore 5, 2) := by decide +kernel
theorem d_L_law_502 : decode code 502 = .ok (.aload_n 2, 1) := by decide +kernel
theorem d_L_law_503 : decode code 503 = .ok (.aload_n 0, 1) := by decide +kernel
theorem d_L_law_504 : decode code 504 = .ok (.iload 4, 2) := by decide +kernel
theorem d_L_law_506 : decode code 506 = .ok (.iconst 1, 1) := by decide +kernel
theorem d_L_law_507 : decode code 507 = .ok (.iadd, 1) := by decide +kernel
theorem d_L_law_508 : decode code 508 = .ok (.iaload, 1) := by decide +kernel
theorem d_L_law_509 : decode code 509 = .ok (.invokevirtual 103, 3) := by decide +kernel
theorem d_L_law_512 : decode code 512 = .ok (.aload_n 2, 1) := by decide +kernel
theorem d_L_law_513 : decode code 513 = .ok (.invokevirtual 74, 3) := by decide +kernel
theorem d_L_law_516 : decode code 516 = .ok (.iload 5, 2) := by decide +kernel
theorem d_L_law_518 : decode code 518 = .ok (.if_icmp .eq 5, 3) := by decide +kernel
theorem d_L_law_521 : decode code 521 = .ok (.iconst 0, 1) := by decide +kernel
theorem d_L_law_522 : decode code 522 = .ok (.ireturn, 1) := by decide +kernel
theorem d_L_law_523 : decode code 523 = .ok (.goto 318, 3) := by decide +kernel
theorem d_L_law_526 : decode code 526 = .ok (.aload_n 1, 1) := by decide +kernel
theorem d_L_law_527 : decode code 527 = .ok (.aload_n 0, 1) := by decide +kernel
theorem d_L_law_528 : decode code 528 = .ok (.iload 4, 2) := by decide +kernel
theorem d_L_law_530 : decode code 530 = .ok (.iconst 1, 1) := by decide +kernel
theorem d_L_law_531 : decode code 531 = .ok (.iadd, 1) := by decide +kernel
theorem d_L_law_532 : decode code 532 = .ok (.iaload, 1) := by decide +kernel
theorem d_L_law_533 : decode code 533 = .ok (.aload_n 0, 1) := by decide +kernel
theorem d_L_law_534 : decode code 534 = .ok (.iload 4, 2) := by decide +kernel
theorem d_L_law_536 : decode code 536 = .ok (.iconst 2, 1) := by decide +kernel
theorem d_L_law_537 : decode code 537 = .ok (.iadd, 1) := by decide +kernel
theorem d_L_law_538 : decode code 538 = .ok (.iaload, 1) := by decide +kernel
theorem d_L_law_539 : decode code 539 = .ok (.i2l, 1) := by decide +kernel
theorem d_L_law_540 : decode code 540 = .ok (.bipush 32, 2) := by decide +kernel
theorem d_L_law_542 : decode code 542 = .ok (.lshl, 1) := by decide +kernel
theorem d_L_law_543 : decode code 543 = .ok (.aload_n 0, 1) := by decide +kernel
theorem d_L_law_544 : decode code 544 = .ok (.iload 4, 2) := by decide +kernel
theorem d_L_law_546 : decode code 546 = .ok (.iconst 3, 1) := by decide +kernel
theorem d_L_law_547 : decode code 547 = .ok (.iadd, 1) := by decide +kernel
theorem d_L_law_548 : decode code 548 = .ok (.iaload, 1) := by decide +kernel
theorem d_L_law_549 : decode code 549 = .ok (.i2l, 1) := by decide +kernel
theorem d_L_law_550 : decode code 550 = .ok (.ldc2_w 82, 3) := by decide +kernel
theorem d_L_law_553 : decode code 553 = .ok (.land, 1) := by decide +kernel
theorem d_L_law_554 : decode code 554 = .ok (.lor, 1) := by decide +kernel
theorem d_L_law_555 : decode code 555 = .ok (.invokestatic 104, 3) := by decide +kernel
theorem d_L_law_558 : decode code 558 = .ok (.istore 5, 2) := by decide +kernel
theorem d_L_law_560 : decode code 560 = .ok (.aload_n 2, 1) := by decide +kernel
theorem d_L_law_561 : decode code 561 = .ok (.aload_n 0, 1) := by decide +kernel
theorem d_L_law_562 : decode code 562 = .ok (.iload 4, 2) := by decide +kernel
theorem d_L_law_564 : decode code 564 = .ok (.iconst 1, 1) := by decide +kernel
theorem d_L_law_565 : decode code 565 = .ok (.iadd, 1) := by decide +kernel
theorem d_L_law_566 : decode code 566 = .ok (.iaload, 1) := by decide +kernel
theorem d_L_law_567 : decode code 567 = .ok (.aload_n 0, 1) := by decide +kernel
theorem d_L_law_568 : decode code 568 = .ok (.iload 4, 2) := by decide +kernel
theorem d_L_law_570 : decode code 570 = .ok (.iconst 2, 1) := by decide +kernel
theorem d_L_law_571 : decode code 571 = .ok (.iadd, 1) := by decide +kernel
theorem d_L_law_572 : decode code 572 = .ok (.iaload, 1) := by decide +kernel
theorem d_L_law_573 : decode code 573 = .ok (.i2l, 1) := by decide +kernel
theorem d_L_law_574 : decode code 574 = .ok (.bipush 32, 2) := by decide +kernel
theorem d_L_law_576 : decode code 576 = .ok (.lshl, 1) := by decide +kernel
theorem d_L_law_577 : decode code 577 = .ok (.aload_n 0, 1) := by decide +kernel
theorem d_L_law_578 : decode code 578 = .ok (.iload 4, 2) := by decide +kernel
theorem d_L_law_580 : decode code 580 = .ok (.iconst 3, 1) := by decide +kernel
theorem d_L_law_581 : decode code 581 = .ok (.iadd, 1) := by decide +kernel
theorem d_L_law_582 : decode code 582 = .ok (.iaload, 1) := by decide +kernel
theorem d_L_law_583 : decode code 583 = .ok (.i2l, 1) := by decide +kernel
theorem d_L_law_584 : decode code 584 = .ok (.ldc2_w 82, 3) := by decide +kernel
theorem d_L_law_587 : decode code 587 = .ok (.land, 1) := by decide +kernel
theorem d_L_law_588 : decode code 588 = .ok (.lor, 1) := by decide +kernel
theorem d_L_law_589 : decode code 589 = .ok (.invokevirtual 107, 3) := by decide +kernel
theorem d_L_law_592 : decode code 592 = .ok (.aload_n 2, 1) := by decide +kernel
theorem d_L_law_593 : decode code 593 = .ok (.invokevirtual 74, 3) := by decide +kernel
theorem d_L_law_596 : decode code 596 = .ok (.iload 5, 2) := by decide +kernel
theorem d_L_law_598 : decode code 598 = .ok (.if_icmp .eq 5, 3) := by decide +kernel
theorem d_L_law_601 : decode code 601 = .ok (.iconst 0, 1) := by decide +kernel
theorem d_L_law_602 : decode code 602 = .ok (.ireturn, 1) := by decide +kernel
theorem d_L_law_603 : decode code 603 = .ok (.goto 238, 3) := by decide +kernel
theorem d_L_law_606 : decode code 606 = .ok (.aload_n 1, 1) := by decide +kernel
theorem d_L_law_607 : decode code 607 = .ok (.aload_n 0, 1) := by decide +kernel
theorem d_L_law_608 : decode code 608 = .ok (.iload 4, 2) := by decide +kernel
theorem d_L_law_610 : decode code 610 = .ok (.iconst 1, 1) := by decide +kernel
theorem d_L_law_611 : decode code 611 = .ok (.iadd, 1) := by decide +kernel
theorem d_L_law_612 : decode code 612 = .ok (.iaload, 1) := by decide +kernel
theorem d_L_law_613 : decode code 613 = .ok (.aload_n 3, 1) := by decide +kernel
theorem d_L_law_614 : decode code 614 = .ok (.invokestatic 108, 3) := by decide +kernel
theorem d_L_law_617 : decode code 617 = .ok (.istore 5, 2) := by decide +kernel
theorem d_L_law_619 : decode code 619 = .ok (.aload_n 2, 1) := by decide +kernel
theorem d_L_law_620 : decode code 620 = .ok (.aload_n 0, 1) := by decide +kernel
theorem d_L_law_621 : decode code 621 = .ok (.iload 4, 2) := by decide +kernel
theorem d_L_law_623 : decode code 623 = .ok (.iconst 1, 1) := by decide +kernel
theorem d_L_law_624 : decode code 624 = .ok (.iadd, 1) := by decide +kernel
theorem d_L_law_625 : decode code 625 = .ok (.iaload, 1) := by decide +kernel
theorem d_L_law_626 : decode code 626 = .ok (.invokevirtual 110, 3) := by decide +kernel
theorem d_L_law_629 : decode code 629 = .ok (.lstore 6, 2) := by decide +kernel
theorem d_L_law_631 : decode code 631 = .ok (.aload_n 2, 1) := by decide +kernel
theorem d_L_law_632 : decode code 632 = .ok (.invokevirtual 74, 3) := by decide +kernel
theorem d_L_law_635 : decode code 635 = .ok (.iload 5, 2) := by decide +kernel
theorem d_L_law_637 : decode code 637 = .ok (.if_icmp .eq 5, 3) := by decide +kernel
theorem d_L_law_640 : decode code 640 = .ok (.iconst 0, 1) := by decide +kernel
theorem d_L_law_641 : decode code 641 = .ok (.ireturn, 1) := by decide +kernel
theorem d_L_law_642 : decode code 642 = .ok (.iload 5, 2) := by decide +kernel
theorem d_L_law_644 : decode code 644 = .ok (.ifCond .ne 14, 3) := by decide +kernel
theorem d_L_law_647 : decode code 647 = .ok (.aload_n 3, 1) := by decide +kernel
theorem d_L_law_648 : decode code 648 = .ok (.iconst 0, 1) := by decide +kernel
theorem d_L_law_649 : decode code 649 = .ok (.laload, 1) := by decide +kernel
theorem d_L_law_650 : decode code 650 = .ok (.lload 6, 2) := by decide +kernel
theorem d_L_law_652 : decode code 652 = .ok (.lcmp, 1) := by decide +kernel
theorem d_L_law_653 : decode code 653 = .ok (.ifCond .eq 5, 3) := by decide +kernel
theorem d_L_law_656 : decode code 656 = .ok (.iconst 0, 1) := by decide +kernel
theorem d_L_law_657 : decode code 657 = .ok (.ireturn, 1) := by decide +kernel
theorem d_L_law_658 : decode code 658 = .ok (.goto 183, 3) := by decide +kernel
theorem d_L_law_661 : decode code 661 = .ok (.aload_n 1, 1) := by decide +kernel
theorem d_L_law_662 : decode code 662 = .ok (.aload_n 0, 1) := by decide +kernel
theorem d_L_law_663 : decode code 663 = .ok (.iload 4, 2) := by decide +kernel
theorem d_L_law_665 : decode code 665 = .ok (.iconst 1, 1) := by decide +kernel
theorem d_L_law_666 : decode code 666 = .ok (.iadd, 1) := by decide +kernel
theorem d_L_law_667 : decode code 667 = .ok (.iaload, 1) := by decide +kernel
theorem d_L_law_668 : decode code 668 = .ok (.aload_n 3, 1) := by decide +kernel
theorem d_L_law_669 : decode code 669 = .ok (.invokestatic 111, 3) := by decide +kernel
theorem d_L_law_672 : decode code 672 = .ok (.istore 5, 2) := by decide +kernel
theorem d_L_law_674 : decode code 674 = .ok (.aload_n 2, 1) := by decide +kernel
theorem d_L_law_675 : decode code 675 = .ok (.aload_n 0, 1) := by decide +kernel
theorem d_L_law_676 : decode code 676 = .ok (.iload 4, 2) := by decide +kernel
theorem d_L_law_678 : decode code 678 = .ok (.iconst 1, 1) := by decide +kernel
theorem d_L_law_679 : decode code 679 = .ok (.iadd, 1) := by decide +kernel
theorem d_L_law_680 : decode code 680 = .ok (.iaload, 1) := by decide +kernel
theorem d_L_law_681 : decode code 681 = .ok (.invokevirtual 113, 3) := by decide +kernel
theorem d_L_law_684 : decode code 684 = .ok (.istore 6, 2) := by decide +kernel
theorem d_L_law_686 : decode code 686 = .ok (.aload_n 2, 1) := by decide +kernel
theorem d_L_law_687 : decode code 687 = .ok (.invokevirtual 74, 3) := by decide +kernel
theorem d_L_law_690 : decode code 690 = .ok (.iload 5, 2) := by decide +kernel
theorem d_L_law_692 : decode code 692 = .ok (.if_icmp .eq 5, 3) := by decide +kernel
theorem d_L_law_695 : decode code 695 = .ok (.iconst 0, 1) := by decide +kernel
theorem d_L_law_696 : decode code 696 = .ok (.ireturn, 1) := by decide +kernel
theorem d_L_law_697 : decode code 697 = .ok (.iload 5, 2) := by decide +kernel
theorem d_L_law_699 : decode code 699 = .ok (.ifCond .ne 15, 3) := by decide +kernel
theorem d_L_law_702 : decode code 702 = .ok (.aload_n 3, 1) := by decide +kernel
theorem d_L_law_703 : decode code 703 = .ok (.iconst 0, 1) := by decide +kernel
theorem d_L_law_704 : decode code 704 = .ok (.laload, 1) := by decide +kernel
theorem d_L_law_705 : decode code 705 = .ok (.iload 6, 2) := by decide +kernel
theorem d_L_law_707 : decode code 707 = .ok (.i2l, 1) := by decide +kernel
theorem d_L_law_708 : decode code 708 = .ok (.lcmp, 1) := by decide +kernel
theorem d_L_law_709 : decode code 709 = .ok (.ifCond .eq 5, 3) := by decide +kernel
theorem d_L_law_712 : decode code 712 = .ok (.iconst 0, 1) := by decide +kernel
theorem d_L_law_713 : decode code 713 = .ok (.ireturn, 1) := by decide +kernel
theorem d_L_law_714 : decode code 714 = .ok (.goto 127, 3) := by decide +kernel
theorem d_L_law_717 : decode code 717 = .ok (.aload_n 1, 1) := by decide +kernel
theorem d_L_law_718 : decode code 718 = .ok (.aload_n 0, 1) := by decide +kernel
theorem d_L_law_719 : decode code 719 = .ok (.iload 4, 2) := by decide +kernel
theorem d_L_law_721 : decode code 721 = .ok (.iconst 1, 1) := by decide +kernel
theorem d_L_law_722 : decode code 722 = .ok (.iadd, 1) := by decide +kernel
theorem d_L_law_723 : decode code 723 = .ok (.iaload, 1) := by decide +kernel
theorem d_L_law_724 : decode code 724 = .ok (.aload_n 0, 1) := by decide +kernel
theorem d_L_law_725 : decode code 725 = .ok (.iload 4, 2) := by decide +kernel
theorem d_L_law_727 : decode code 727 = .ok (.iconst 2, 1) := by decide +kernel
theorem d_L_law_728 : decode code 728 = .ok (.iadd, 1) := by decide +kernel
theorem d_L_law_729 : decode code 729 = .ok (.iaload, 1) := by decide +kernel
theorem d_L_law_730 : decode code 730 = .ok (.aload_n 3, 1) := by decide +kernel
theorem d_L_law_731 : decode code 731 = .ok (.invokestatic 114, 3) := by decide +kernel
theorem d_L_law_734 : decode code 734 = .ok (.istore 5, 2) := by decide +kernel
theorem d_L_law_736 : decode code 736 = .ok (.aload_n 2, 1) := by decide +kernel
theorem d_L_law_737 : decode code 737 = .ok (.aload_n 0, 1) := by decide +kernel
theorem d_L_law_738 : decode code 738 = .ok (.iload 4, 2) := by decide +kernel
theorem d_L_law_740 : decode code 740 = .ok (.iconst 1, 1) := by decide +kernel
theorem d_L_law_741 : decode code 741 = .ok (.iadd, 1) := by decide +kernel
theorem d_L_law_742 : decode code 742 = .ok (.iaload, 1) := by decide +kernel
theorem d_L_law_743 : decode code 743 = .ok (.aload_n 0, 1) := by decide +kernel
theorem d_L_law_744 : decode code 744 = .ok (.iload 4, 2) := by decide +kernel
theorem d_L_law_746 : decode code 746 = .ok (.iconst 2, 1) := by decide +kernel
theorem d_L_law_747 : decode code 747 = .ok (.iadd, 1) := by decide +kernel
theorem d_L_law_748 : decode code 748 = .ok (.iaload, 1) := by decide +kernel
theorem d_L_law_749 : decode code 749 = .ok (.invokevirtual 116, 3) := by decide +kernel
theorem d_L_law_752 : decode code 752 = .ok (.istore 6, 2) := by decide +kernel
theorem d_L_law_754 : decode code 754 = .ok (.aload_n 2, 1) := by decide +kernel
theorem d_L_law_755 : decode code 755 = .ok (.invokevirtual 74, 3) := by decide +kernel
theorem d_L_law_758 : decode code 758 = .ok (.iload 5, 2) := by decide +kernel
theorem d_L_law_760 : decode code 760 = .ok (.if_icmp .eq 5, 3) := by decide +kernel
theorem d_L_law_763 : decode code 763 = .ok (.iconst 0, 1) := by decide +kernel
theorem d_L_law_764 : decode code 764 = .ok (.ireturn, 1) := by decide +kernel
theorem d_L_law_765 : decode code 765 = .ok (.iload 5, 2) := by decide +kernel
theorem d_L_law_767 : decode code 767 = .ok (.ifCond .ne 15, 3) := by decide +kernel
theorem d_L_law_770 : decode code 770 = .ok (.aload_n 3, 1) := by decide +kernel
theorem d_L_law_771 : decode code 771 = .ok (.iconst 0, 1) := by decide +kernel
theorem d_L_law_772 : decode code 772 = .ok (.laload, 1) := by decide +kernel
theorem d_L_law_773 : decode code 773 = .ok (.iload 6, 2) := by decide +kernel
theorem d_L_law_775 : decode code 775 = .ok (.i2l, 1) := by decide +kernel
theorem d_L_law_776 : decode code 776 = .ok (.lcmp, 1) := by decide +kernel
theorem d_L_law_777 : decode code 777 = .ok (.ifCond .eq 5, 3) := by decide +kernel
theorem d_L_law_780 : decode code 780 = .ok (.iconst 0, 1) := by decide +kernel
theorem d_L_law_781 : decode code 781 = .ok (.ireturn, 1) := by decide +kernel
theorem d_L_law_782 : decode code 782 = .ok (.goto 59, 3) := by decide +kernel
theorem d_L_law_785 : decode code 785 = .ok (.aload_n 1, 1) := by decide +kernel
theorem d_L_law_786 : decode code 786 = .ok (.aload_n 0, 1) := by decide +kernel
theorem d_L_law_787 : decode code 787 = .ok (.iload 4, 2) := by decide +kernel
theorem d_L_law_789 : decode code 789 = .ok (.iconst 1, 1) := by decide +kernel
theorem d_L_law_790 : decode code 790 = .ok (.iadd, 1) := by decide +kernel
theorem d_L_law_791 : decode code 791 = .ok (.iaload, 1) := by decide +kernel
theorem d_L_law_792 : decode code 792 = .ok (.aload_n 3, 1) := by decide +kernel
theorem d_L_law_793 : decode code 793 = .ok (.invokestatic 117, 3) := by decide +kernel
theorem d_L_law_796 : decode code 796 = .ok (.istore 5, 2) := by decide +kernel
theorem d_L_law_798 : decode code 798 = .ok (.aload_n 2, 1) := by decide +kernel
theorem d_L_law_799 : decode code 799 = .ok (.aload_n 0, 1) := by decide +kernel
theorem d_L_law_800 : decode code 800 = .ok (.iload 4, 2) := by decide +kernel
theorem d_L_law_802 : decode code 802 = .ok (.iconst 1, 1) := by decide +kernel
theorem d_L_law_803 : decode code 803 = .ok (.iadd, 1) := by decide +kernel
theorem d_L_law_804 : decode code 804 = .ok (.iaload, 1) := by decide +kernel
theorem d_L_law_805 : decode code 805 = .ok (.invokevirtual 119, 3) := by decide +kernel
theorem d_L_law_808 : decode code 808 = .ok (.istore 6, 2) := by decide +kernel
theorem d_L_law_810 : decode code 810 = .ok (.aload_n 2, 1) := by decide +kernel
theorem d_L_law_811 : decode code 811 = .ok (.invokevirtual 74, 3) := by decide +kernel
theorem d_L_law_814 : decode code 814 = .ok (.iload 5, 2) := by decide +kernel
theorem d_L_law_816 : decode code 816 = .ok (.if_icmp .eq 5, 3) := by decide +kernel
theorem d_L_law_819 : decode code 819 = .ok (.iconst 0, 1) := by decide +kernel
theorem d_L_law_820 : decode code 820 = .ok (.ireturn, 1) := by decide +kernel
theorem d_L_law_821 : decode code 821 = .ok (.iload 5, 2) := by decide +kernel
theorem d_L_law_823 : decode code 823 = .ok (.ifCond .ne 15, 3) := by decide +kernel
theorem d_L_law_826 : decode code 826 = .ok (.aload_n 3, 1) := by decide +kernel
theorem d_L_law_827 : decode code 827 = .ok (.iconst 0, 1) := by decide +kernel
theorem d_L_law_828 : decode code 828 = .ok (.laload, 1) := by decide +kernel
theorem d_L_law_829 : decode code 829 = .ok (.iload 6, 2) := by decide +kernel
theorem d_L_law_831 : decode code 831 = .ok (.i2l, 1) := by decide +kernel
theorem d_L_law_832 : decode code 832 = .ok (.lcmp, 1) := by decide +kernel
theorem d_L_law_833 : decode code 833 = .ok (.ifCond .eq 5, 3) := by decide +kernel
theorem d_L_law_836 : decode code 836 = .ok (.iconst 0, 1) := by decide +kernel
theorem d_L_law_837 : decode code 837 = .ok (.ireturn, 1) := by decide +kernel
theorem d_L_law_838 : decode code 838 = .ok (.goto 3, 3) := by decide +kernel
theorem d_L_law_841 : decode code 841 = .ok (.iinc 4 5, 3) := by decide +kernel
theorem d_L_law_844 : decode code 844 = .ok (.goto (-821), 3) := by decide +kernel
theorem d_L_law_847 : decode code 847 = .ok (.iconst 1, 1) := by decide +kernel
theorem d_L_law_848 : decode code 848 = .ok (.ireturn, 1) := by decide +kernel
end
section
/-! Work: its cells, its pure operations. -/
abbrev cd_rm (f k n w : Nat) : Room := { frames := f, cells := k, slots := n, locals := w }
section CdMore
variable {p : Program} {l : Launch} {e : Env} {R : Room} {s : State} {m : MethodId} {args : Array Value} {below : List Frame} {meth : Method} {c : Code} {H : Heap} {locs : List Loc} {cells slots : Nat} {Q : State → Prop}
variable {cc : ByteArray} {pc : Nat} {ls : Array Slot} {rest : List Value}
theorem cd_iinc (hx : p.tables.exec = Jvm.exec) (hb : c.code = cc) {i nL : Nat} {n : Int} {x v : Int32} {lv lv' : List (Nat × Value)} (hdg : decode cc pc = .ok (.iinc i n, 3)) (h : lv_has ls nL lv) (hk : cd_look lv i = some (.int x)) (hv : x + Int32.ofInt n = v) (hn : i < nL) (hl : (i, Value.int v) :: lv.filter (fun q => !(q.1 == i) && !(q.1 + 1 == i && q.2.category == 2)) = lv')
    (kk : ∀ ls' : Array Slot, lv_has ls' nL lv' → W p l e R s m args below meth c H locs cells slots Q (F0 m (pc + 3) ls' rest)) : W p l e R s m args below meth c H locs cells slots Q (F0 m pc ls rest) := by
  obtain ⟨k, hk'⟩ := List.getElem?_of_mem (cd_look_mem hk)
  exact lv_iinc hx hb hdg h hk' hv hn hl kk
theorem cd_ti {x y : Int32} (h : x = y) (k : W p l e R s m args below meth c H locs cells slots Q (F0 m pc ls (.int y :: rest))) : W p l e R s m args below meth c H locs cells slots Q (F0 m pc ls (.int x :: rest)) := by rw [h]; exact k
theorem cd_tl {x y : Int64} (h : x = y) (k : W p l e R s m args below meth c H locs cells slots Q (F0 m pc ls (.long y :: rest))) : W p l e R s m args below meth c H locs cells slots Q (F0 m pc ls (.long x :: rest)) := by rw [h]; exact k
end CdMore
theorem cd_keep {D : va_G} {ws : va_W} {H H1 : Heap} {A : Nat → Prop} (h : va_P D cd_cls ws H) (hF : cd_FR A H H1) (hA : ∀ (k : Nat) (q : Nat × va_E), ws[k]? = some q → ¬ A q.1) : va_P D cd_cls ws H1 := h.kept fun k q hk => hF.2 _ (h k q hk).lt (hA k q hk)
theorem cd_keep0 {D : va_G} {ws : va_W} {H H1 : Heap} (h : va_P D cd_cls ws H) (hF : cd_FR (fun _ => False) H H1) : va_P D cd_cls ws H1 := cd_keep h hF fun _ _ _ h => h
theorem cd_keepq {D : va_G} {ws : va_W} {H H1 : Heap} {a : Nat} (h : va_P D cd_cls ws H) (hq : ∀ q, q ≠ a → H1[q]? = H[q]?) (hA : ∀ (k : Nat) (q : Nat × va_E), ws[k]? = some q → q.1 ≠ a) : va_P D cd_cls ws H1 := h.kept fun k q hk => hq _ (hA k q hk)
/-- cell, from, value, version, open, parts, read, many -/
abbrev WS : Type := (Nat → Int32) × (Nat → Nat) × (Nat → Int64) × (Nat → Int32) × Bool × Nat × Int32 × Nat
def wk (G : cd_G) (a : Nat) (ce : Nat → Int32) (fr : Nat → Nat) (va : Nat → Int64) (ve : Nat → Int32) (op : Bool) (pa : Nat) (re : Int32) (ma : Nat) : va_W :=
  [(a, .inr (0, [.ref (a + 1), .ref (a + 2), .ref (a + 3), .ref (a + 4), .int (cd_bi op), .int (nI pa), .int re, .int (nI ma)])),
   (a + 1, .inl (cd_cI G, 160, .inl ce)), (a + 2, .inl (cd_cI G, 5, .inl (fun j => nI (fr j)))), (a + 3, .inl (cd_cL G, 160, .inr (.inl va))), (a + 4, .inl (cd_cI G, 32, .inl ve))]
def wkS (G : cd_G) (a : Nat) (w : WS) : va_W := match w with
  | (ce, fr, va, ve, op, pa, re, ma) => wk G a ce fr va ve op pa re ma
def rg (lo n : Nat) : Nat → Prop := fun q => lo ≤ q ∧ q < lo + n
theorem rg_z {z lo n : Nat} (h : z < lo) : ¬ rg lo n z := fun h2 => by have := h2.1; omega
theorem wk_D (G : cd_G) (a : Nat) (w : WS) : va_D (rg a 5) (wkS G a w) := by
  obtain ⟨ce, fr, va, ve, op, pa, re, ma⟩ := w
  exact cd_cons a rfl
theorem cd_Dx {lo n : Nat} {ws : va_W} {s : State} {A : Nat → Prop} (h : va_D (rg lo n) ws) (hA : ∀ q, rg lo n q → A q) : va_D (cd_xA A s) ws := h.weaken fun _ _ _ h => Or.inl (hA _ h)
theorem cd_upn (f : Nat → Nat) (i x : Nat) : upd (fun j => nI (f j)) i (nI x) = fun j => nI (va_up f i x j) := by
  funext j
  by_cases h : j = i <;> simp [upd, va_up, h]
def fnd (ce : Nat → Int32) (k : Int32) (lo : Nat) : Nat → Option Nat
  | 0 => none
  | n + 1 => if n < lo then none else if ce n = k then some n else fnd ce k lo n
def fI : Option Nat → Int32
  | none => -1
  | some i => nI i
def ws_begin (w : WS) : WS := match w with
  | (ce, fr, va, ve, _, _, _, _) => (ce, va_up fr 0 0, va, ve, true, 1, 0, 0)
def ws_write (w : WS) (k : Int32) (v : Int64) : WS := match w with
  | (ce, fr, va, ve, op, pa, re, ma) => match fnd ce k (fr (pa - 1)) ma with
    | some i => (ce, fr, vp_updL va i v, ve, op, pa, re, ma)
    | none => (upd ce ma k, fr, vp_updL va ma v, ve, op, pa, re, ma + 1)
def bit (re : Int32) (k : Nat) : Bool := decide ((re >>> (nI k &&& 31)) &&& 1 = 1)
def ws_look (w : WS) (k : Nat) (now : Int32) : WS := match w with
  | (ce, fr, va, ve, op, pa, re, ma) => if bit re k = true then (ce, fr, va, ve, op, pa, re, ma) else (ce, fr, va, upd ve k now, op, pa, re ||| (1 <<< (nI k &&& 31)), ma)
def stl (re : Int32) (ve vs : Nat → Int32) (n : Nat) : Bool := (List.range n).any fun k => bit re k && decide (ve k ≠ vs k)
def ws_save (w : WS) : WS := match w with
  | (ce, fr, va, ve, op, pa, re, ma) => (ce, va_up fr pa ma, va, ve, op, pa + 1, re, ma)
def ws_back (w : WS) : WS := match w with
  | (ce, fr, va, ve, op, pa, re, _) => (ce, fr, va, ve, op, pa - 1, re, fr (pa - 1))
def ws_kN (w : WS) (b : Nat) : Nat → WS
  | 0 => w
  | n + 1 => ws_write (ws_kN w b n) ((ws_kN w b n).1 (b + n)) ((ws_kN w b n).2.2.1 (b + n))
def ws_keep (w : WS) : WS := match w with
  | (ce, fr, va, ve, op, pa, re, ma) => ws_kN (ce, fr, va, ve, op, pa - 1, re, fr (pa - 1)) (fr (pa - 1)) (ma - fr (pa - 1))
def orN (ce : Nat → Int32) : Nat → Int32
  | 0 => 0
  | n + 1 => orN ce n ||| (1 <<< (ce n &&& 31))
end
section
/-! Walks of Work, 1: begin, find, last, at, cellAt, many. Printed by prog/walk.py from walks/12.walkW1.walk. -/
set_option maxHeartbeats 4000000 in
theorem c_W_begin (l : Launch) (G : cd_G) (a : Nat) (w : WS) (hz : cd_z G < a) : cd_Con l y_W_begin cw_W_begin (cd_rm 0 0 0 0) [.ref a] G (va_P G.1 cd_cls (wkS G a w)) (fun o H => o = .returned none ∧ va_P G.1 cd_cls (wkS G a (ws_begin w)) H) (rg a 5) := by
  obtain ⟨ce, fr, va, ve, op, pa, re, ma⟩ := w
  refine cd_ofW (by decide) ok_W_begin.1 (Nat.le_of_ble_eq_true rfl) (rg_z hz) ?_
  intro p e s m below meth c ct hlk hr hxt hnm hP ls hl
  have hx := ct.1
  have hb := ct.2.1
  have hS : va_S (cd_xA (rg a 5) s) s.heap s.heap [] := va_S.rf
  have hD := fun w => cd_Dx (s := s) (wk_D G a w) (fun _ h => h)
  refine lv_aload_n hx hb d_W_begin_0 rfl (lk hl rfl) ?_
  refine lv_iconst (v := 1) hx hb d_W_begin_1 (by decide) ?_
  refine cd_put in_W rfl t_W t_W_ok n_W ct hP (hD (ce, fr, va, ve, op, pa, re, ma)) hS 0 4 (by decide) rfl fl_W_25 (Or.inl rfl) rfl rfl (Nat.le_of_ble_eq_true rfl) d_W_begin_2 (fun H locs hP hz1 hq hS => ?_)
  have hP : va_P G.1 cd_cls (wk G a ce fr va ve true pa re ma) H := hP
  refine lv_aload_n hx hb d_W_begin_5 rfl (lk hl rfl) ?_
  refine lv_iconst (v := 1) hx hb d_W_begin_6 (by decide) ?_
  refine cd_put in_W rfl t_W t_W_ok n_W ct hP (hD (ce, fr, va, ve, true, pa, re, ma)) hS 0 5 (by decide) rfl fl_W_29 (Or.inl rfl) rfl rfl (Nat.le_of_ble_eq_true rfl) d_W_begin_7 (fun H locs hP hz1 hq hS => ?_)
  have hP : va_P G.1 cd_cls (wk G a ce fr va ve true 1 re ma) H := hP
  refine lv_aload_n hx hb d_W_begin_10 rfl (lk hl rfl) ?_
  refine lv_iconst (v := 0) hx hb d_W_begin_11 (by decide) ?_
  refine cd_put in_W rfl t_W t_W_ok n_W ct hP (hD (ce, fr, va, ve, true, 1, re, ma)) hS 0 6 (by decide) rfl fl_W_33 (Or.inl rfl) rfl rfl (Nat.le_of_ble_eq_true rfl) d_W_begin_12 (fun H locs hP hz1 hq hS => ?_)
  have hP : va_P G.1 cd_cls (wk G a ce fr va ve true 1 0 ma) H := hP
  refine lv_aload_n hx hb d_W_begin_15 rfl (lk hl rfl) ?_
  refine lv_iconst (v := 0) hx hb d_W_begin_16 (by decide) ?_
  refine cd_put in_W rfl t_W t_W_ok n_W ct hP (hD (ce, fr, va, ve, true, 1, 0, ma)) hS 0 7 (by decide) rfl fl_W_36 (Or.inl rfl) rfl rfl (Nat.le_of_ble_eq_true rfl) d_W_begin_17 (fun H locs hP hz1 hq hS => ?_)
  have hP : va_P G.1 cd_cls (wk G a ce fr va ve true 1 0 0) H := hP
  refine lv_aload_n hx hb d_W_begin_20 rfl (lk hl rfl) ?_
  refine cd_getW ct hP 0 1 (by decide) rfl fl_W_15 rfl d_W_begin_21 ?_
  refine lv_iconst (v := 0) hx hb d_W_begin_24 (by decide) ?_
  refine lv_iconst (v := 0) hx hb d_W_begin_25 (by decide) ?_
  refine cd_iast ct hP (hD (ce, fr, va, ve, true, 1, 0, 0)) hS 2 rfl 0 ⟨by decide, by decide⟩ rfl d_W_begin_26 (fun H locs hP hz1 hq hS => ?_)
  have hP : va_P G.1 cd_cls (wk G a ce (va_up fr 0 0) va ve true 1 0 0) H := by
    have h := cd_upn fr 0 0
    rw [show (upd (fun j => nI (fr j)) 0 0) = fun j => nI (va_up fr 0 0 j) from h] at hP
    exact hP
  exact cd_vret ct hlk hr hS ⟨by decide, by decide⟩ ⟨rfl, hP⟩ d_W_begin_27
/-- the search from n down -/
theorem w_find_loop {p : Program} {l : Launch} {e : Env} {R : Room} {s : State} {m : MethodId} {args : Array Value} {below : List Frame} {meth : Method} {c : Code} {H : Heap} {locs : List Loc} {cells slots : Nat} {Q : State → Prop} {G : cd_G} {A : Nat → Prop} {a : Nat} {ce : Nat → Int32} {fr : Nat → Nat} {va : Nat → Int64} {ve : Nat → Int32} {op : Bool} {pa : Nat} {re : Int32} {ma : Nat} {k : Int32} {lo : Nat}
    (ct : cd_Ct G p s m args c b_W_find "CommitDesk$Work" 4 A) (hP : va_P G.1 cd_cls (wk G a ce fr va ve op pa re ma) H) (hlo : lo < 2 ^ 31) :
    ∀ n : Nat, n ≤ 160 → ∀ ls, lv_has ls 4 [(0, .ref a), (1, .int k), (2, .int (nI lo)), (3, .int (nI n - 1))] → (∀ ls, lv_has ls 4 [] → W p l e R s m args below meth c H locs cells slots Q (F0 m 38 ls [.int (fI (fnd ce k lo n))])) →
      W p l e R s m args below meth c H locs cells slots Q (F0 m 7 ls []) := by
  have hx := ct.1
  have hb := ct.2.1
  intro n
  induction n with
  | zero =>
    intro _ ls hl kk
    have e0 : nI 0 - 1 = -1 := rfl
    have hlt : (-1 : Int32) < nI lo := by
      rw [Int32.lt_iff_toInt_lt, nI_toInt hlo]
      show (-1 : Int) < _
      omega
    refine lv_iload_n hx hb d_W_find_7 rfl (lk hl rfl) ?_
    refine lv_iload_n hx hb d_W_find_8 rfl (lk hl rfl) ?_
    refine lv_icmp_lt (tgt := 28) hx hb d_W_find_9 (by decide) (fun hc => ?_) (fun hc => absurd hlt hc)
    refine lv_iload_n hx hb d_W_find_28 rfl (lk hl rfl) ?_
    refine lv_iload_n hx hb d_W_find_29 rfl (lk hl rfl) ?_
    refine lv_icmp_ge (tgt := 37) hx hb d_W_find_30 (by decide) (fun hc => ?_) (fun hc => ?_)
    · exact absurd hlt (Int32.not_lt.mpr hc)
    refine lv_iconst (v := -1) hx hb d_W_find_33 (by decide) ?_
    refine lv_goto (tgt := 38) hx hb d_W_find_34 (by decide) ?_
    exact kk ls (lre hl [] rfl)
  | succ n ih =>
    intro hn ls hl kk
    have en : nI (n + 1) - 1 = nI n := nI_pred n
    have hl : lv_has ls 4 [(0, .ref a), (1, .int k), (2, .int (nI lo)), (3, .int (nI n))] := by rw [en] at hl; exact hl
    refine lv_iload_n hx hb d_W_find_7 rfl (lk hl rfl) ?_
    refine lv_iload_n hx hb d_W_find_8 rfl (lk hl rfl) ?_
    refine lv_icmp_lt (tgt := 28) hx hb d_W_find_9 (by decide) (fun hc => ?_) (fun hc => ?_)
    · have hlt : n < lo := (nI_ltI (by omega) hlo).mp hc
      refine lv_iload_n hx hb d_W_find_28 rfl (lk hl rfl) ?_
      refine lv_iload_n hx hb d_W_find_29 rfl (lk hl rfl) ?_
      refine lv_icmp_ge (tgt := 37) hx hb d_W_find_30 (by decide) (fun hc2 => ?_) (fun hc2 => ?_)
      · exact absurd hc (Int32.not_lt.mpr hc2)
      refine lv_iconst (v := -1) hx hb d_W_find_33 (by decide) ?_
      refine lv_goto (tgt := 38) hx hb d_W_find_34 (by decide) ?_
      have h := kk ls (lre hl [] rfl)
      rw [fnd, if_pos hlt] at h
      exact h
    have hge : ¬ n < lo := fun h => hc ((nI_ltI (by omega) hlo).mpr h)
    refine lv_aload_n hx hb d_W_find_12 rfl (lk hl rfl) ?_
    refine cd_getW ct hP 0 0 (by decide) rfl fl_W_9 rfl d_W_find_13 ?_
    refine lv_iload_n hx hb d_W_find_16 rfl (lk hl rfl) ?_
    refine cd_iald ct hP 1 rfl n ⟨by omega, by decide⟩ rfl d_W_find_17 ?_
    refine lv_iload_n hx hb d_W_find_18 rfl (lk hl rfl) ?_
    refine lv_icmp_eq (tgt := 28) hx hb d_W_find_19 (by decide) (fun he => ?_) (fun he => ?_)
    · refine lv_iload_n hx hb d_W_find_28 rfl (lk hl rfl) ?_
      refine lv_iload_n hx hb d_W_find_29 rfl (lk hl rfl) ?_
      refine lv_icmp_ge (tgt := 37) hx hb d_W_find_30 (by decide) (fun hc2 => ?_) (fun hc2 => ?_)
      · refine lv_iload_n hx hb d_W_find_37 rfl (lk hl rfl) ?_
        have h := kk ls (lre hl [] rfl)
        rw [fnd, if_neg hge, if_pos he] at h
        exact h
      exact absurd (nI_le (Nat.not_lt.mp hge) (by omega)) hc2
    refine cd_iinc hx hb d_W_find_22 hl rfl (v := nI n - 1) (by rw [Int32.sub_eq_add_neg]; rfl) (by decide) rfl (fun ls hl => ?_)
    refine lv_goto (tgt := 7) hx hb d_W_find_25 (by decide) ?_
    refine ih (by omega) ls (lre hl _ rfl) (fun ls h => ?_)
    have h := kk ls h
    rw [fnd, if_neg hge, if_neg he] at h
    exact h

set_option maxHeartbeats 4000000 in
theorem c_W_find (l : Launch) (G : cd_G) (a : Nat) (w : WS) (k : Int32) (lo : Nat) (hlo : lo < 2 ^ 31) (hma : w.2.2.2.2.2.2.2 ≤ 160) : cd_Con l y_W_find cw_W_find (cd_rm 0 0 0 0) [.ref a, .int k, .int (nI lo)] G (va_P G.1 cd_cls (wkS G a w)) (fun o _ => o = .returned (some (.int (fI (fnd w.1 k lo w.2.2.2.2.2.2.2))))) (fun _ => False) := by
  obtain ⟨ce, fr, va, ve, op, pa, re, ma⟩ := w
  refine cd_ofW (by decide) ok_W_find.1 (Nat.le_of_ble_eq_true rfl) (fun h => h) ?_
  intro p e s m below meth c ct hlk hr hxt hnm hP ls hl
  have hx := ct.1
  have hb := ct.2.1
  have hS : va_S (cd_xA (fun _ => False) s) s.heap s.heap [] := va_S.rf
  have hP : va_P G.1 cd_cls (wk G a ce fr va ve op pa re ma) s.heap := hP
  refine lv_aload_n hx hb d_W_find_0 rfl (lk hl rfl) ?_
  refine cd_getW ct hP 0 7 (by decide) rfl fl_W_36 rfl d_W_find_1 ?_
  refine lv_iconst (v := 1) hx hb d_W_find_4 (by decide) ?_
  refine lv_isub hx hb d_W_find_5 ?_
  refine lv_istore_n hx hb d_W_find_6 rfl hl (by decide) rfl (fun ls hl => ?_)
  refine w_find_loop ct hP hlo ma hma ls (lre hl _ rfl) (fun ls hl => ?_)
  exact cd_iret ct hlk hr hS ⟨by decide, by decide⟩ rfl d_W_find_38
set_option maxHeartbeats 4000000 in
theorem c_W_last (l : Launch) (G : cd_G) (a : Nat) (w : WS) (k : Int32) (hma : w.2.2.2.2.2.2.2 ≤ 160) : cd_Con l y_W_last cw_W_last (cd_rm 1 0 0 23) [.ref a, .int k] G (va_P G.1 cd_cls (wkS G a w)) (fun o _ => o = .returned (some (.int (fI (fnd w.1 k 0 w.2.2.2.2.2.2.2))))) (fun _ => False) := by
  refine cd_ofW (by decide) ok_W_last.1 (Nat.le_of_ble_eq_true rfl) (fun h => h) ?_
  intro p e s m below meth c ct hlk hr hxt hnm hP ls hl
  have hx := ct.1
  have hb := ct.2.1
  have hS : va_S (cd_xA (fun _ => False) s) s.heap s.heap [] := va_S.rf
  refine lv_aload_n hx hb d_W_last_0 rfl (lk hl rfl) ?_
  refine lv_iload_n hx hb d_W_last_1 rfl (lk hl rfl) ?_
  refine lv_iconst (v := 0) hx hb d_W_last_2 (by decide) ?_
  refine cd_callV (As := [.int k, .int (nI 0)]) (rest := []) ct hS (c_W_find l G a w k 0 (by decide) hma) cv_W_39 ⟨⟨by decide, by decide⟩, by decide, by decide⟩ (va_recv (q := (R_W, F_W, 8)) (q0 := 0) ct.2.2.2.2.2.1.1 hP rfl rfl) hP hl.1 rfl rfl (by decide) d_W_last_3 (fun _ _ h => h.elim) (fun v H1 locs1 hq hF hS => ?_) (fun _ _ _ h => by cases h)
  cases hq
  exact cd_iret ct hlk hr hS ⟨by decide, by decide⟩ rfl d_W_last_6
set_option maxHeartbeats 4000000 in
theorem c_W_at (l : Launch) (G : cd_G) (a : Nat) (w : WS) (i : Nat) (hi : i < 160) : cd_Con l y_W_at cw_W_at (cd_rm 0 0 0 0) [.ref a, .int (nI i)] G (va_P G.1 cd_cls (wkS G a w)) (fun o _ => o = .returned (some (.long (w.2.2.1 i)))) (fun _ => False) := by
  obtain ⟨ce, fr, va, ve, op, pa, re, ma⟩ := w
  refine cd_ofW (by decide) ok_W_at.1 (Nat.le_of_ble_eq_true rfl) (fun h => h) ?_
  intro p e s m below meth c ct hlk hr hxt hnm hP ls hl
  have hx := ct.1
  have hb := ct.2.1
  have hS : va_S (cd_xA (fun _ => False) s) s.heap s.heap [] := va_S.rf
  refine lv_aload_n hx hb d_W_at_0 rfl (lk hl rfl) ?_
  refine cd_getW ct hP 0 2 (by decide) rfl fl_W_18 rfl d_W_at_1 ?_
  refine lv_iload_n hx hb d_W_at_4 rfl (lk hl rfl) ?_
  refine cd_lald ct hP 3 rfl i ⟨hi, by decide⟩ rfl d_W_at_5 ?_
  exact cd_lret ct hlk hr hS ⟨by decide, by decide⟩ rfl d_W_at_6
set_option maxHeartbeats 4000000 in
theorem c_W_cellAt (l : Launch) (G : cd_G) (a : Nat) (w : WS) (i : Nat) (hi : i < 160) : cd_Con l y_W_cellAt cw_W_cellAt (cd_rm 0 0 0 0) [.ref a, .int (nI i)] G (va_P G.1 cd_cls (wkS G a w)) (fun o _ => o = .returned (some (.int (w.1 i)))) (fun _ => False) := by
  obtain ⟨ce, fr, va, ve, op, pa, re, ma⟩ := w
  refine cd_ofW (by decide) ok_W_cellAt.1 (Nat.le_of_ble_eq_true rfl) (fun h => h) ?_
  intro p e s m below meth c ct hlk hr hxt hnm hP ls hl
  have hx := ct.1
  have hb := ct.2.1
  have hS : va_S (cd_xA (fun _ => False) s) s.heap s.heap [] := va_S.rf
  refine lv_aload_n hx hb d_W_cellAt_0 rfl (lk hl rfl) ?_
  refine cd_getW ct hP 0 0 (by decide) rfl fl_W_9 rfl d_W_cellAt_1 ?_
  refine lv_iload_n hx hb d_W_cellAt_4 rfl (lk hl rfl) ?_
  refine cd_iald ct hP 1 rfl i ⟨hi, by decide⟩ rfl d_W_cellAt_5 ?_
  exact cd_iret ct hlk hr hS ⟨by decide, by decide⟩ rfl d_W_cellAt_6
set_option maxHeartbeats 4000000 in
theorem c_W_many (l : Launch) (G : cd_G) (a : Nat) (w : WS) : cd_Con l y_W_many cw_W_many (cd_rm 0 0 0 0) [.ref a] G (va_P G.1 cd_cls (wkS G a w)) (fun o _ => o = .returned (some (.int (nI w.2.2.2.2.2.2.2)))) (fun _ => False) := by
  obtain ⟨ce, fr, va, ve, op, pa, re, ma⟩ := w
  refine cd_ofW (by decide) ok_W_many.1 (Nat.le_of_ble_eq_true rfl) (fun h => h) ?_
  intro p e s m below meth c ct hlk hr hxt hnm hP ls hl
  have hx := ct.1
  have hb := ct.2.1
  have hS : va_S (cd_xA (fun _ => False) s) s.heap s.heap [] := va_S.rf
  refine lv_aload_n hx hb d_W_many_0 rfl (lk hl rfl) ?_
  refine cd_getW ct hP 0 7 (by decide) rfl fl_W_36 rfl d_W_many_1 ?_
  exact cd_iret ct hlk hr hS ⟨by decide, by decide⟩ rfl d_W_many_4
end
section
/-! Work: small facts of its pure operations. -/
abbrev wCe (w : WS) : Nat → Int32 := w.1
abbrev wFr (w : WS) : Nat → Nat := w.2.1
abbrev wVa (w : WS) : Nat → Int64 := w.2.2.1
abbrev wVe (w : WS) : Nat → Int32 := w.2.2.2.1
abbrev wOp (w : WS) : Bool := w.2.2.2.2.1
abbrev wPa (w : WS) : Nat := w.2.2.2.2.2.1
abbrev wRe (w : WS) : Int32 := w.2.2.2.2.2.2.1
abbrev wMa (w : WS) : Nat := w.2.2.2.2.2.2.2
theorem fnd_some {ce : Nat → Int32} {k : Int32} {lo : Nat} : ∀ {n i : Nat}, fnd ce k lo n = some i → i < n ∧ lo ≤ i ∧ ce i = k ∧ ∀ j, i < j → j < n → ce j ≠ k
  | 0, i, h => by cases h
  | n + 1, i, h => by
    rw [fnd] at h
    split at h
    · cases h
    · split at h
      · rename_i h1 h2
        cases h
        exact ⟨by omega, by omega, h2, fun j h3 h4 => by omega⟩
      · rename_i h1 h2
        obtain ⟨a, b, c, d⟩ := fnd_some h
        refine ⟨by omega, b, c, fun j h3 h4 => ?_⟩
        by_cases hj : j = n
        · rw [hj]; exact h2
        · exact d j h3 (by omega)
theorem fnd_none {ce : Nat → Int32} {k : Int32} {lo : Nat} : ∀ {n : Nat}, fnd ce k lo n = none → ∀ j, lo ≤ j → j < n → ce j ≠ k
  | 0, h, j, _, hj => by omega
  | n + 1, h, j, h1, h2 => by
    rw [fnd] at h
    split at h
    · omega
    · split at h
      · cases h
      · rename_i h3 h4
        by_cases hj : j = n
        · rw [hj]; exact h4
        · exact fnd_none h j h1 (by omega)
theorem fI_m1 {r : Option Nat} (hr : ∀ i, r = some i → i < 2 ^ 31) : fI r = -1 ↔ r = none := by
  cases r with
  | none => exact ⟨fun _ => rfl, fun _ => rfl⟩
  | some i =>
    constructor
    · intro h
      have h1 := nI_toInt (hr i rfl)
      rw [show nI i = -1 from h] at h1
      have : (-1 : Int32).toInt = -1 := by decide
      omega
    · intro h; cases h
theorem fnd_lt {ce : Nat → Int32} {k : Int32} {lo n : Nat} (hn : n ≤ 160) : ∀ i, fnd ce k lo n = some i → i < 2 ^ 31 := fun i h => by have := (fnd_some h).1; omega
theorem stl_succ (re : Int32) (ve vs : Nat → Int32) (n : Nat) : stl re ve vs (n + 1) = (stl re ve vs n || (bit re n && decide (ve n ≠ vs n))) := by
  unfold stl
  rw [List.range_succ, List.any_append]
  simp
theorem stl_mono {re : Int32} {ve vs : Nat → Int32} {n m : Nat} (h : n ≤ m) (hs : stl re ve vs n = true) : stl re ve vs m = true := by
  unfold stl at hs ⊢
  rw [List.any_eq_true] at hs ⊢
  obtain ⟨x, h1, h2⟩ := hs
  exact ⟨x, List.mem_range.mpr (Nat.lt_of_lt_of_le (List.mem_range.mp h1) h), h2⟩
theorem ws_write_pa (w : WS) (k : Int32) (v : Int64) : wPa (ws_write w k v) = wPa w ∧ wFr (ws_write w k v) = wFr w := by
  obtain ⟨ce, fr, va, ve, op, pa, re, ma⟩ := w
  unfold ws_write
  cases h : fnd ce k (fr (pa - 1)) ma <;> simp [h]
theorem ws_write_ma (w : WS) (k : Int32) (v : Int64) : wMa w ≤ wMa (ws_write w k v) ∧ wMa (ws_write w k v) ≤ wMa w + 1 := by
  obtain ⟨ce, fr, va, ve, op, pa, re, ma⟩ := w
  unfold ws_write
  cases h : fnd ce k (fr (pa - 1)) ma <;> simp only [h] <;> constructor <;> (dsimp only [wMa]; omega)
theorem ws_kN_pa (w : WS) (b : Nat) : ∀ n, wPa (ws_kN w b n) = wPa w ∧ wFr (ws_kN w b n) = wFr w ∧ wMa (ws_kN w b n) ≤ wMa w + n
  | 0 => ⟨rfl, rfl, Nat.le_refl _⟩
  | n + 1 => by
    obtain ⟨h1, h2, h3⟩ := ws_kN_pa w b n
    have h4 := ws_write_pa (ws_kN w b n) ((ws_kN w b n).1 (b + n)) ((ws_kN w b n).2.2.1 (b + n))
    have h5 := ws_write_ma (ws_kN w b n) ((ws_kN w b n).1 (b + n)) ((ws_kN w b n).2.2.1 (b + n))
    refine ⟨h4.1.trans h1, h4.2.trans h2, ?_⟩
    show wMa (ws_write _ _ _) ≤ _
    omega
theorem cd_grow {D : va_G} {ws new : va_W} {H H1 : Heap} {h : Nat} (hP : va_P D cd_cls ws H) (hh : H.size = h) (ho : ∀ q, q < h → H1[q]? = H[q]?) (hN : va_P D cd_cls new H1) : va_P D cd_cls (ws ++ new) H1 :=
  (hP.kept fun k q hk => ho _ (hh ▸ (hP k q hk).lt)).app hN
-- Integer.bitCount
def us (x : Int32) (n : Int32) : Int32 := (x.toUInt32 >>> (n.toUInt32 &&& Int32.toUInt32 31)).toInt32
def bcI (x0 : Int32) : Int32 :=
  let x1 := x0 - (us x0 1 &&& 1431655765)
  let x2 := (x1 &&& 858993459) + (us x1 2 &&& 858993459)
  let x3 := (x2 + us x2 4) &&& 252645135
  let x4 := x3 + us x3 8
  let x5 := x4 + us x4 16
  x5 &&& 63
end
section
/-! Walks of Work, 2: write, look, stale, save, back, keep, written, the constructor; Integer.bitCount. Printed by prog/walk.py from walks/14.walkW2.walk. -/
set_option maxHeartbeats 4000000 in
theorem c_W_write (l : Launch) (G : cd_G) (a : Nat) (w : WS) (k : Int32) (v : Int64) (hz : cd_z G < a) (hpa : 1 ≤ wPa w ∧ wPa w ≤ 5) (hfr : wFr w (wPa w - 1) ≤ 160) (hma : wMa w ≤ 160) (hno : fnd (wCe w) k (wFr w (wPa w - 1)) (wMa w) = none → wMa w < 160) :
    cd_Con l y_W_write cw_W_write (cd_rm 1 0 0 23) [.ref a, .int k, .long v] G (va_P G.1 cd_cls (wkS G a w)) (fun o H => o = .returned none ∧ va_P G.1 cd_cls (wkS G a (ws_write w k v)) H) (rg a 5) := by
  obtain ⟨ce, fr, va, ve, op, pa, re, ma⟩ := w
  have hpa : 1 ≤ pa ∧ pa ≤ 5 := hpa
  have hfr : fr (pa - 1) ≤ 160 := hfr
  have hma : ma ≤ 160 := hma
  have hno : fnd ce k (fr (pa - 1)) ma = none → ma < 160 := hno
  refine cd_ofW (by decide) ok_W_write.1 (Nat.le_of_ble_eq_true rfl) (rg_z hz) ?_
  intro p e s m below meth c ct hlk hr hxt hnm hP ls hl
  have hx := ct.1
  have hb := ct.2.1
  have hS : va_S (cd_xA (rg a 5) s) s.heap s.heap [] := va_S.rf
  have hD := fun w => cd_Dx (s := s) (wk_D G a w) (fun _ h => h)
  refine lv_aload_n hx hb d_W_write_0 rfl (lk hl rfl) ?_
  refine lv_iload_n hx hb d_W_write_1 rfl (lk hl rfl) ?_
  refine lv_aload_n hx hb d_W_write_2 rfl (lk hl rfl) ?_
  refine cd_getW ct hP 0 1 (by decide) rfl fl_W_15 rfl d_W_write_3 ?_
  refine lv_aload_n hx hb d_W_write_6 rfl (lk hl rfl) ?_
  refine cd_getW ct hP 0 5 (by decide) rfl fl_W_29 rfl d_W_write_7 ?_
  refine lv_iconst (v := 1) hx hb d_W_write_10 (by decide) ?_
  refine lv_isub hx hb d_W_write_11 ?_
  refine cd_iald ct hP 2 rfl (pa - 1) ⟨by omega, by decide⟩ (by obtain ⟨pb, rfl⟩ : ∃ pb, pa = pb + 1 := ⟨pa - 1, by omega⟩; exact nI_pred pb) d_W_write_12 ?_
  refine cd_callV (As := [.int k, .int (nI (fr (pa - 1)))]) (rest := []) ct hS (c_W_find l G a (ce, fr, va, ve, op, pa, re, ma) k (fr (pa - 1)) (by omega) hma) cv_W_39 ⟨⟨by decide, by decide⟩, by decide, by decide⟩ (va_recv (q := (R_W, F_W, 8)) (q0 := 0) ct.2.2.2.2.2.1.1 hP rfl rfl) hP hl.1 rfl rfl (by decide) d_W_write_13 (fun _ _ h => h.elim) (fun v1 H1 locs1 hq hF hS => ?_) (fun _ _ _ h => by cases h)
  cases hq
  have hP := cd_keep0 hP hF
  generalize hf : fnd ce k (fr (pa - 1)) ma = r
  refine lv_istore hx hb d_W_write_16 hl (by decide) rfl (fun ls hl => ?_)
  refine lv_iload hx hb d_W_write_18 (lk hl rfl) ?_
  refine lv_iconst (v := -1) hx hb d_W_write_20 (by decide) ?_
  refine lv_icmp_ne (tgt := 45) hx hb d_W_write_21 (by decide) (fun hc => ?_) (fun hc => ?_)
  · have hi := fnd_lt (ce := ce) (k := k) (lo := fr (pa - 1)) hma
    rw [hf] at hi
    cases r with
    | none => exact absurd rfl hc
    | some i =>
      have hi2 := (fnd_some hf).1
      refine lv_aload_n hx hb d_W_write_45 rfl (lk hl rfl) ?_
      refine cd_getW ct hP 0 2 (by decide) rfl fl_W_18 rfl d_W_write_46 ?_
      refine lv_iload hx hb d_W_write_49 (lk hl rfl) ?_
      refine lv_lload_n hx hb d_W_write_51 rfl (lk hl rfl) ?_
      refine cd_last ct hP (hD (ce, fr, va, ve, op, pa, re, ma)) hS 3 rfl i ⟨by omega, by decide⟩ rfl d_W_write_52 (fun H locs hP hz1 hq hS => ?_)
      refine cd_vret ct hlk hr hS ⟨by decide, by decide⟩ ⟨rfl, ?_⟩ d_W_write_53
      unfold ws_write
      simp only [hf]
      exact hP
  · have hr0 : r = none := (fI_m1 (fun i hi => fnd_lt (ce := ce) (k := k) (lo := fr (pa - 1)) hma i (hf.trans hi))).mp hc
    subst hr0
    have hlt := hno hf
    refine lv_aload_n hx hb d_W_write_24 rfl (lk hl rfl) ?_
    refine lv_dup hx hb d_W_write_25 rfl ?_
    refine cd_getW ct hP 0 7 (by decide) rfl fl_W_36 rfl d_W_write_26 ?_
    refine lv_dup_x1 hx hb d_W_write_29 rfl rfl ?_
    refine lv_iconst (v := 1) hx hb d_W_write_30 (by decide) ?_
    refine lv_iadd hx hb d_W_write_31 ?_
    refine cd_put in_W rfl t_W t_W_ok n_W ct hP (hD (ce, fr, va, ve, op, pa, re, ma)) hS 0 7 (by decide) rfl fl_W_36 (Or.inl rfl) rfl rfl (Nat.le_of_ble_eq_true rfl) d_W_write_32 (fun H locs hP hz1 hq hS => ?_)
    have hP : va_P G.1 cd_cls (wk G a ce fr va ve op pa re (ma + 1)) H := by rw [nI_1] at hP; exact hP
    refine lv_istore hx hb d_W_write_35 hl (by decide) rfl (fun ls hl => ?_)
    refine lv_aload_n hx hb d_W_write_37 rfl (lk hl rfl) ?_
    refine cd_getW ct hP 0 0 (by decide) rfl fl_W_9 rfl d_W_write_38 ?_
    refine lv_iload hx hb d_W_write_41 (lk hl rfl) ?_
    refine lv_iload_n hx hb d_W_write_43 rfl (lk hl rfl) ?_
    refine cd_iast ct hP (hD (ce, fr, va, ve, op, pa, re, ma + 1)) hS 1 rfl ma ⟨hlt, by decide⟩ rfl d_W_write_44 (fun H locs hP hz1 hq hS => ?_)
    have hP : va_P G.1 cd_cls (wk G a (upd ce ma k) fr va ve op pa re (ma + 1)) H := hP
    refine lv_aload_n hx hb d_W_write_45 rfl (lk hl rfl) ?_
    refine cd_getW ct hP 0 2 (by decide) rfl fl_W_18 rfl d_W_write_46 ?_
    refine lv_iload hx hb d_W_write_49 (lk hl rfl) ?_
    refine lv_lload_n hx hb d_W_write_51 rfl (lk hl rfl) ?_
    refine cd_last ct hP (hD (upd ce ma k, fr, va, ve, op, pa, re, ma + 1)) hS 3 rfl ma ⟨hlt, by decide⟩ rfl d_W_write_52 (fun H locs hP hz1 hq hS => ?_)
    refine cd_vret ct hlk hr hS ⟨by decide, by decide⟩ ⟨rfl, ?_⟩ d_W_write_53
    unfold ws_write
    simp only [hf]
    exact hP
set_option maxHeartbeats 4000000 in
theorem c_W_look (l : Launch) (G : cd_G) (a : Nat) (w : WS) (k : Nat) (now : Int32) (hz : cd_z G < a) (hk : k < 32) :
    cd_Con l y_W_look cw_W_look (cd_rm 0 0 0 0) [.ref a, .int (nI k), .int now] G (va_P G.1 cd_cls (wkS G a w)) (fun o H => o = .returned none ∧ va_P G.1 cd_cls (wkS G a (ws_look w k now)) H) (rg a 5) := by
  obtain ⟨ce, fr, va, ve, op, pa, re, ma⟩ := w
  refine cd_ofW (by decide) ok_W_look.1 (Nat.le_of_ble_eq_true rfl) (rg_z hz) ?_
  intro p e s m below meth c ct hlk hr hxt hnm hP ls hl
  have hx := ct.1
  have hb := ct.2.1
  have hS : va_S (cd_xA (rg a 5) s) s.heap s.heap [] := va_S.rf
  have hD := fun w => cd_Dx (s := s) (wk_D G a w) (fun _ h => h)
  refine lv_aload_n hx hb d_W_look_0 rfl (lk hl rfl) ?_
  refine cd_getW ct hP 0 6 (by decide) rfl fl_W_33 rfl d_W_look_1 ?_
  refine lv_iload_n hx hb d_W_look_4 rfl (lk hl rfl) ?_
  refine lv_ishr hx hb d_W_look_5 ?_
  refine lv_iconst (v := 1) hx hb d_W_look_6 (by decide) ?_
  refine lv_iand hx hb d_W_look_7 ?_
  refine lv_iconst (v := 1) hx hb d_W_look_8 (by decide) ?_
  refine lv_icmp_ne (tgt := 13) hx hb d_W_look_9 (by decide) (fun hc => ?_) (fun hc => ?_)
  · have hbit : ¬ bit re k = true := by unfold bit; simpa using hc
    refine lv_aload_n hx hb d_W_look_13 rfl (lk hl rfl) ?_
    refine lv_dup hx hb d_W_look_14 rfl ?_
    refine cd_getW ct hP 0 6 (by decide) rfl fl_W_33 rfl d_W_look_15 ?_
    refine lv_iconst (v := 1) hx hb d_W_look_18 (by decide) ?_
    refine lv_iload_n hx hb d_W_look_19 rfl (lk hl rfl) ?_
    refine lv_ishl hx hb d_W_look_20 ?_
    refine lv_ior hx hb d_W_look_21 ?_
    refine cd_put in_W rfl t_W t_W_ok n_W ct hP (hD (ce, fr, va, ve, op, pa, re, ma)) hS 0 6 (by decide) rfl fl_W_33 (Or.inl rfl) rfl rfl (Nat.le_of_ble_eq_true rfl) d_W_look_22 (fun H locs hP hz1 hq hS => ?_)
    have hP : va_P G.1 cd_cls (wk G a ce fr va ve op pa (re ||| (1 <<< (nI k &&& 31))) ma) H := hP
    refine lv_aload_n hx hb d_W_look_25 rfl (lk hl rfl) ?_
    refine cd_getW ct hP 0 3 (by decide) rfl fl_W_22 rfl d_W_look_26 ?_
    refine lv_iload_n hx hb d_W_look_29 rfl (lk hl rfl) ?_
    refine lv_iload_n hx hb d_W_look_30 rfl (lk hl rfl) ?_
    refine cd_iast ct hP (hD (ce, fr, va, ve, op, pa, re ||| (1 <<< (nI k &&& 31)), ma)) hS 4 rfl k ⟨hk, by decide⟩ rfl d_W_look_31 (fun H locs hP hz1 hq hS => ?_)
    refine cd_vret ct hlk hr hS ⟨by decide, by decide⟩ ⟨rfl, ?_⟩ d_W_look_32
    unfold ws_look
    simp only [hbit]
    exact hP
  · have hbit : bit re k = true := by unfold bit; simpa using hc
    refine cd_vret ct hlk hr hS ⟨by decide, by decide⟩ ⟨rfl, ?_⟩ d_W_look_12
    unfold ws_look
    simp only [hbit]
    exact hP
set_option maxHeartbeats 4000000 in
theorem c_W_save (l : Launch) (G : cd_G) (a : Nat) (w : WS) (hz : cd_z G < a) (hpa : wPa w < 5) :
    cd_Con l y_W_save cw_W_save (cd_rm 0 0 0 0) [.ref a] G (va_P G.1 cd_cls (wkS G a w)) (fun o H => o = .returned none ∧ va_P G.1 cd_cls (wkS G a (ws_save w)) H) (rg a 5) := by
  obtain ⟨ce, fr, va, ve, op, pa, re, ma⟩ := w
  have hpa : pa < 5 := hpa
  refine cd_ofW (by decide) ok_W_save.1 (Nat.le_of_ble_eq_true rfl) (rg_z hz) ?_
  intro p e s m below meth c ct hlk hr hxt hnm hP ls hl
  have hx := ct.1
  have hb := ct.2.1
  have hS : va_S (cd_xA (rg a 5) s) s.heap s.heap [] := va_S.rf
  have hD := fun w => cd_Dx (s := s) (wk_D G a w) (fun _ h => h)
  refine lv_aload_n hx hb d_W_save_0 rfl (lk hl rfl) ?_
  refine cd_getW ct hP 0 1 (by decide) rfl fl_W_15 rfl d_W_save_1 ?_
  refine lv_aload_n hx hb d_W_save_4 rfl (lk hl rfl) ?_
  refine lv_dup hx hb d_W_save_5 rfl ?_
  refine cd_getW ct hP 0 5 (by decide) rfl fl_W_29 rfl d_W_save_6 ?_
  refine lv_dup_x1 hx hb d_W_save_9 rfl rfl ?_
  refine lv_iconst (v := 1) hx hb d_W_save_10 (by decide) ?_
  refine lv_iadd hx hb d_W_save_11 ?_
  refine cd_put in_W rfl t_W t_W_ok n_W ct hP (hD (ce, fr, va, ve, op, pa, re, ma)) hS 0 5 (by decide) rfl fl_W_29 (Or.inl rfl) rfl rfl (Nat.le_of_ble_eq_true rfl) d_W_save_12 (fun H locs hP hz1 hq hS => ?_)
  have hP : va_P G.1 cd_cls (wk G a ce fr va ve op (pa + 1) re ma) H := by rw [nI_1] at hP; exact hP
  refine lv_aload_n hx hb d_W_save_15 rfl (lk hl rfl) ?_
  refine cd_getW ct hP 0 7 (by decide) rfl fl_W_36 rfl d_W_save_16 ?_
  refine cd_iast ct hP (hD (ce, fr, va, ve, op, pa + 1, re, ma)) hS 2 rfl pa ⟨hpa, by decide⟩ rfl d_W_save_19 (fun H locs hP hz1 hq hS => ?_)
  refine cd_vret ct hlk hr hS ⟨by decide, by decide⟩ ⟨rfl, ?_⟩ d_W_save_20
  rw [cd_upn] at hP
  exact hP
set_option maxHeartbeats 4000000 in
theorem c_W_back (l : Launch) (G : cd_G) (a : Nat) (w : WS) (hz : cd_z G < a) (hpa : 1 ≤ wPa w ∧ wPa w ≤ 5) :
    cd_Con l y_W_back cw_W_back (cd_rm 0 0 0 0) [.ref a] G (va_P G.1 cd_cls (wkS G a w)) (fun o H => o = .returned none ∧ va_P G.1 cd_cls (wkS G a (ws_back w)) H) (rg a 5) := by
  obtain ⟨ce, fr, va, ve, op, pa, re, ma⟩ := w
  have hpa : 1 ≤ pa ∧ pa ≤ 5 := hpa
  refine cd_ofW (by decide) ok_W_back.1 (Nat.le_of_ble_eq_true rfl) (rg_z hz) ?_
  intro p e s m below meth c ct hlk hr hxt hnm hP ls hl
  have hx := ct.1
  have hb := ct.2.1
  have hS : va_S (cd_xA (rg a 5) s) s.heap s.heap [] := va_S.rf
  have hD := fun w => cd_Dx (s := s) (wk_D G a w) (fun _ h => h)
  have hp1 : nI pa - 1 = nI (pa - 1) := by obtain ⟨pb, rfl⟩ : ∃ pb, pa = pb + 1 := ⟨pa - 1, by omega⟩; exact nI_pred pb
  refine lv_aload_n hx hb d_W_back_0 rfl (lk hl rfl) ?_
  refine lv_aload_n hx hb d_W_back_1 rfl (lk hl rfl) ?_
  refine cd_getW ct hP 0 1 (by decide) rfl fl_W_15 rfl d_W_back_2 ?_
  refine lv_aload_n hx hb d_W_back_5 rfl (lk hl rfl) ?_
  refine lv_dup hx hb d_W_back_6 rfl ?_
  refine cd_getW ct hP 0 5 (by decide) rfl fl_W_29 rfl d_W_back_7 ?_
  refine lv_iconst (v := 1) hx hb d_W_back_10 (by decide) ?_
  refine lv_isub hx hb d_W_back_11 ?_
  refine cd_ti hp1 ?_
  refine lv_dup_x1 hx hb d_W_back_12 rfl rfl ?_
  refine cd_put in_W rfl t_W t_W_ok n_W ct hP (hD (ce, fr, va, ve, op, pa, re, ma)) hS 0 5 (by decide) rfl fl_W_29 (Or.inl rfl) rfl rfl (Nat.le_of_ble_eq_true rfl) d_W_back_13 (fun H locs hP hz1 hq hS => ?_)
  have hP : va_P G.1 cd_cls (wk G a ce fr va ve op (pa - 1) re ma) H := hP
  refine cd_iald ct hP 2 rfl (pa - 1) ⟨by omega, by decide⟩ rfl d_W_back_16 ?_
  refine cd_put in_W rfl t_W t_W_ok n_W ct hP (hD (ce, fr, va, ve, op, pa - 1, re, ma)) hS 0 7 (by decide) rfl fl_W_36 (Or.inl rfl) rfl rfl (Nat.le_of_ble_eq_true rfl) d_W_back_17 (fun H locs hP hz1 hq hS => ?_)
  exact cd_vret ct hlk hr hS ⟨by decide, by decide⟩ ⟨rfl, hP⟩ d_W_back_20

theorem w_stale_loop {p : Program} {l : Launch} {e : Env} {R : Room} {s : State} {m : MethodId} {args : Array Value} {below : List Frame} {meth : Method} {c : Code} {H : Heap} {locs : List Loc} {cells slots : Nat} {Q : State → Prop} {G : cd_G} {A : Nat → Prop} {a v : Nat} {ce : Nat → Int32} {fr : Nat → Nat} {va : Nat → Int64} {ve vs : Nat → Int32} {op : Bool} {pa : Nat} {re : Int32} {ma : Nat}
    (ct : cd_Ct G p s m args c b_W_stale "CommitDesk$Work" 3 A) (hP : va_P G.1 cd_cls (wk G a ce fr va ve op pa re ma) H) (hV : va_P G.1 cd_cls [(v, .inl (cd_cI G, 32, .inl vs))] H)
    (k1 : stl re ve vs 32 = true → ∀ ls, W p l e R s m args below meth c H locs cells slots Q (F0 m 33 ls [.int 1])) (k0 : stl re ve vs 32 = false → ∀ ls, W p l e R s m args below meth c H locs cells slots Q (F0 m 41 ls [.int 0])) :
    ∀ j k : Nat, k + j = 32 → stl re ve vs k = false → ∀ ls, lv_has ls 3 [(0, .ref a), (1, .ref v), (2, .int (nI k))] → W p l e R s m args below meth c H locs cells slots Q (F0 m 2 ls []) := by
  have hx := ct.1
  have hb := ct.2.1
  intro j
  induction j with
  | zero =>
    intro k hk hs ls hl
    have hk : k = 32 := by omega
    subst hk
    refine lv_iload_n hx hb d_W_stale_2 rfl (lk hl rfl) ?_
    refine lv_bipush (v := 32) hx hb d_W_stale_3 (by decide) ?_
    refine lv_icmp_ge (tgt := 40) hx hb d_W_stale_5 (by decide) (fun hc => ?_) (fun hc => absurd (by decide) hc)
    refine lv_iconst (v := 0) hx hb d_W_stale_40 (by decide) ?_
    exact k0 hs ls
  | succ j ih =>
    intro k hk hs ls hl
    have hlt : k < 32 := by omega
    refine lv_iload_n hx hb d_W_stale_2 rfl (lk hl rfl) ?_
    refine lv_bipush (v := 32) hx hb d_W_stale_3 (by decide) ?_
    refine lv_icmp_ge (tgt := 40) hx hb d_W_stale_5 (by decide) (fun hc => absurd hc (nI_ge (b := 32) hlt (by decide))) (fun hc => ?_)
    have next : (bit re k && decide (ve k ≠ vs k)) = false → W p l e R s m args below meth c H locs cells slots Q (F0 m 34 ls []) := by
      intro hno
      refine cd_iinc hx hb d_W_stale_34 hl rfl (v := nI (k + 1)) (nI_1 k) (by decide) rfl (fun ls hl => ?_)
      refine lv_goto (tgt := 2) hx hb d_W_stale_37 (by decide) ?_
      exact ih (k + 1) (by omega) (by rw [stl_succ, hs, hno]; rfl) ls (lre hl _ rfl)
    refine lv_aload_n hx hb d_W_stale_8 rfl (lk hl rfl) ?_
    refine cd_getW ct hP 0 6 (by decide) rfl fl_W_33 rfl d_W_stale_9 ?_
    refine lv_iload_n hx hb d_W_stale_12 rfl (lk hl rfl) ?_
    refine lv_ishr hx hb d_W_stale_13 ?_
    refine lv_iconst (v := 1) hx hb d_W_stale_14 (by decide) ?_
    refine lv_iand hx hb d_W_stale_15 ?_
    refine lv_iconst (v := 1) hx hb d_W_stale_16 (by decide) ?_
    refine lv_icmp_ne (tgt := 34) hx hb d_W_stale_17 (by decide) (fun hc => ?_) (fun hc => ?_)
    · have hbit : bit re k = false := by unfold bit; simpa using hc
      exact next (by rw [hbit]; rfl)
    have hbit : bit re k = true := by unfold bit; simpa using hc
    refine lv_aload_n hx hb d_W_stale_20 rfl (lk hl rfl) ?_
    refine cd_getW ct hP 0 3 (by decide) rfl fl_W_22 rfl d_W_stale_21 ?_
    refine lv_iload_n hx hb d_W_stale_24 rfl (lk hl rfl) ?_
    refine cd_iald ct hP 4 rfl k ⟨hlt, by decide⟩ rfl d_W_stale_25 ?_
    refine lv_aload_n hx hb d_W_stale_26 rfl (lk hl rfl) ?_
    refine lv_iload_n hx hb d_W_stale_27 rfl (lk hl rfl) ?_
    refine cd_iald ct hV 0 rfl k ⟨hlt, by decide⟩ rfl d_W_stale_28 ?_
    refine lv_icmp_eq (tgt := 34) hx hb d_W_stale_29 (by decide) (fun he => ?_) (fun he => ?_)
    · exact next (by rw [decide_eq_false (not_not_intro he), Bool.and_false])
    refine lv_iconst (v := 1) hx hb d_W_stale_32 (by decide) ?_
    exact k1 (stl_mono (n := k + 1) (by omega) (by rw [stl_succ, hbit, decide_eq_true he]; simp)) ls
set_option maxHeartbeats 4000000 in
theorem c_W_stale (l : Launch) (G : cd_G) (a v : Nat) (w : WS) (vs : Nat → Int32) :
    cd_Con l y_W_stale cw_W_stale (cd_rm 0 0 0 0) [.ref a, .ref v] G (fun H => va_P G.1 cd_cls (wkS G a w) H ∧ va_P G.1 cd_cls [(v, .inl (cd_cI G, 32, .inl vs))] H) (fun o _ => o = .returned (some (.int (cd_bi (stl (wRe w) (wVe w) vs 32))))) (fun _ => False) := by
  obtain ⟨ce, fr, va, ve, op, pa, re, ma⟩ := w
  refine cd_ofW (by decide) ok_W_stale.1 (Nat.le_of_ble_eq_true rfl) (fun h => h) ?_
  intro p e s m below meth c ct hlk hr hxt hnm hP ls hl
  have hx := ct.1
  have hb := ct.2.1
  have hS : va_S (cd_xA (fun _ => False) s) s.heap s.heap [] := va_S.rf
  obtain ⟨hP, hV⟩ := hP
  refine lv_iconst (v := 0) hx hb d_W_stale_0 (by decide) ?_
  refine lv_istore_n hx hb d_W_stale_1 rfl hl (by decide) rfl (fun ls hl => ?_)
  refine w_stale_loop ct hP hV (fun h ls => ?_) (fun h ls => ?_) 32 0 rfl rfl ls (lre hl _ rfl)
  · exact cd_zret ct hlk hr hS ⟨by decide, by decide⟩ rfl (by show _ = Outcome.returned (some (.int (cd_bi (stl re ve vs 32)))); rw [h]; rfl) d_W_stale_33
  · exact cd_zret ct hlk hr hS ⟨by decide, by decide⟩ rfl (by show _ = Outcome.returned (some (.int (cd_bi (stl re ve vs 32)))); rw [h]; rfl) d_W_stale_41
theorem w_keep_loop {p : Program} {l : Launch} {e : Env} {s : State} {m : MethodId} {args : Array Value} {below : List Frame} {meth : Method} {c : Code} {Q : State → Prop} {G : cd_G} {A : Nat → Prop} {a b ma : Nat} {w : WS} {R : Room}
    (ct : cd_Ct G p s m args c b_W_keep "CommitDesk$Work" 4 A) (hA : ∀ q, rg a 5 q → A q) (hz : cd_z G < a) (hR : 2 ≤ R.frames ∧ 47 ≤ R.locals) (hpa : 1 ≤ wPa w ∧ wPa w ≤ 5) (hfr : wFr w (wPa w - 1) ≤ 160) (hwb : wMa w = b) (hma : ma ≤ 160)
    (kk : ∀ H locs, va_P G.1 cd_cls (wkS G a (ws_kN w b (ma - b))) H → va_S (cd_xA A s) s.heap H locs → ∀ ls, W p l e R s m args below meth c H locs 0 0 Q (F0 m 56 ls [])) :
    ∀ j n : Nat, b + n + j = ma → ∀ H locs ls, va_P G.1 cd_cls (wkS G a (ws_kN w b n)) H → va_S (cd_xA A s) s.heap H locs → lv_has ls 4 [(0, .ref a), (1, .int (nI b)), (2, .int (nI ma)), (3, .int (nI (b + n)))] → W p l e R s m args below meth c H locs 0 0 Q (F0 m 29 ls []) := by
  have hx := ct.1
  have hb := ct.2.1
  intro j
  induction j with
  | zero =>
    intro n hn H locs ls hP hS hl
    refine lv_iload_n hx hb d_W_keep_29 rfl (lk hl rfl) ?_
    refine lv_iload_n hx hb d_W_keep_30 rfl (lk hl rfl) ?_
    refine lv_icmp_ge (tgt := 56) hx hb d_W_keep_31 (by decide) (fun hc => ?_) (fun hc => absurd (nI_le (by omega) (by omega)) hc)
    have hn2 : n = ma - b := by omega
    subst hn2
    exact kk H locs hP hS ls
  | succ j ih =>
    intro n hn H locs ls hP hS hl
    refine lv_iload_n hx hb d_W_keep_29 rfl (lk hl rfl) ?_
    refine lv_iload_n hx hb d_W_keep_30 rfl (lk hl rfl) ?_
    refine lv_icmp_ge (tgt := 56) hx hb d_W_keep_31 (by decide) (fun hc => absurd hc (nI_ge (by omega) (by omega))) (fun hc => ?_)
    have hk := ws_kN_pa w b n
    have key : ∀ w' : WS, w' = ws_kN w b n → W p l e R s m args below meth c H locs 0 0 Q (F0 m 34 ls []) := by
      intro w' hw'
      obtain ⟨ce, fr, va, ve, op, pa, re, mb⟩ := w'
      rw [← hw'] at hP hk
      obtain ⟨hk1, hk2, hk3⟩ := hk
      have hk1 : pa = wPa w := hk1
      have hk2 : fr = wFr w := hk2
      have hk3 : mb ≤ wMa w + n := hk3
      have hP : va_P G.1 cd_cls (wk G a ce fr va ve op pa re mb) H := hP
      refine lv_aload_n hx hb d_W_keep_34 rfl (lk hl rfl) ?_
      refine lv_aload_n hx hb d_W_keep_35 rfl (lk hl rfl) ?_
      refine cd_getW ct hP 0 0 (by decide) rfl fl_W_9 rfl d_W_keep_36 ?_
      refine lv_iload_n hx hb d_W_keep_39 rfl (lk hl rfl) ?_
      refine cd_iald ct hP 1 rfl (b + n) ⟨by omega, by decide⟩ rfl d_W_keep_40 ?_
      refine lv_aload_n hx hb d_W_keep_41 rfl (lk hl rfl) ?_
      refine cd_getW ct hP 0 2 (by decide) rfl fl_W_18 rfl d_W_keep_42 ?_
      refine lv_iload_n hx hb d_W_keep_45 rfl (lk hl rfl) ?_
      refine cd_lald ct hP 3 rfl (b + n) ⟨by omega, by decide⟩ rfl d_W_keep_46 ?_
      refine cd_callV (As := [.int (ce (b + n)), .long (va (b + n))]) (rest := []) ct hS (c_W_write l G a (ce, fr, va, ve, op, pa, re, mb) (ce (b + n)) (va (b + n)) hz (by show 1 ≤ pa ∧ pa ≤ 5; rw [hk1]; exact hpa) (by show fr (pa - 1) ≤ 160; rw [hk1, hk2]; exact hfr) (by show mb ≤ 160; omega) (fun _ => by show mb < 160; omega)) cv_W_43 ⟨⟨by show 1 + 1 ≤ _; omega, by show 8 + (5 + 11) + 23 ≤ _; omega⟩, Nat.zero_le _, Nat.zero_le _⟩ (va_recv (q := (R_W, F_W, 8)) (q0 := 0) ct.2.2.2.2.2.1.1 hP rfl rfl) hP hl.1 rfl rfl (by decide) d_W_keep_47 (fun q _ h => Or.inl (hA q h)) (fun v1 H1 locs1 hq hF hS => ?_) (fun _ _ _ h => by cases h.1)
      obtain ⟨hq, hP⟩ := hq
      cases hq
      refine cd_iinc hx hb d_W_keep_50 hl rfl (v := nI (b + (n + 1))) (nI_1 (b + n)) (by decide) rfl (fun ls hl => ?_)
      refine lv_goto (tgt := 29) hx hb d_W_keep_53 (by decide) ?_
      refine ih (n + 1) (by omega) H1 locs1 ls ?_ hS (lre hl _ rfl)
      show va_P G.1 cd_cls (wkS G a (ws_write (ws_kN w b n) ((ws_kN w b n).1 (b + n)) ((ws_kN w b n).2.2.1 (b + n)))) H1
      rw [← hw']
      exact hP
    exact key _ rfl
set_option maxHeartbeats 4000000 in
theorem c_W_keep (l : Launch) (G : cd_G) (a : Nat) (w : WS) (hz : cd_z G < a) (hpa : 2 ≤ wPa w ∧ wPa w ≤ 5) (hfr : wFr w (wPa w - 2) ≤ 160 ∧ wFr w (wPa w - 1) ≤ wMa w) (hma : wMa w ≤ 160) :
    cd_Con l y_W_keep cw_W_keep (cd_rm 2 0 0 47) [.ref a] G (va_P G.1 cd_cls (wkS G a w)) (fun o H => o = .returned none ∧ va_P G.1 cd_cls (wkS G a (ws_keep w)) H) (rg a 5) := by
  obtain ⟨ce, fr, va, ve, op, pa, re, ma⟩ := w
  have hpa : 2 ≤ pa ∧ pa ≤ 5 := hpa
  have hfr : fr (pa - 2) ≤ 160 ∧ fr (pa - 1) ≤ ma := hfr
  have hma : ma ≤ 160 := hma
  refine cd_ofW (by decide) ok_W_keep.1 (Nat.le_of_ble_eq_true rfl) (rg_z hz) ?_
  intro p e s m below meth c ct hlk hr hxt hnm hP ls hl
  have hx := ct.1
  have hb := ct.2.1
  have hS : va_S (cd_xA (rg a 5) s) s.heap s.heap [] := va_S.rf
  have hD := fun w => cd_Dx (s := s) (wk_D G a w) (fun _ h => h)
  have hp1 : nI pa - 1 = nI (pa - 1) := by obtain ⟨pb, rfl⟩ : ∃ pb, pa = pb + 1 := ⟨pa - 1, by omega⟩; exact nI_pred pb
  refine lv_aload_n hx hb d_W_keep_0 rfl (lk hl rfl) ?_
  refine cd_getW ct hP 0 1 (by decide) rfl fl_W_15 rfl d_W_keep_1 ?_
  refine lv_aload_n hx hb d_W_keep_4 rfl (lk hl rfl) ?_
  refine lv_dup hx hb d_W_keep_5 rfl ?_
  refine cd_getW ct hP 0 5 (by decide) rfl fl_W_29 rfl d_W_keep_6 ?_
  refine lv_iconst (v := 1) hx hb d_W_keep_9 (by decide) ?_
  refine lv_isub hx hb d_W_keep_10 ?_
  refine cd_ti hp1 ?_
  refine lv_dup_x1 hx hb d_W_keep_11 rfl rfl ?_
  refine cd_put in_W rfl t_W t_W_ok n_W ct hP (hD (ce, fr, va, ve, op, pa, re, ma)) hS 0 5 (by decide) rfl fl_W_29 (Or.inl rfl) rfl rfl (Nat.le_of_ble_eq_true rfl) d_W_keep_12 (fun H locs hP hz1 hq hS => ?_)
  have hP : va_P G.1 cd_cls (wk G a ce fr va ve op (pa - 1) re ma) H := hP
  refine cd_iald ct hP 2 rfl (pa - 1) ⟨by omega, by decide⟩ rfl d_W_keep_15 ?_
  refine lv_istore_n hx hb d_W_keep_16 rfl hl (by decide) rfl (fun ls hl => ?_)
  refine lv_aload_n hx hb d_W_keep_17 rfl (lk hl rfl) ?_
  refine cd_getW ct hP 0 7 (by decide) rfl fl_W_36 rfl d_W_keep_18 ?_
  refine lv_istore_n hx hb d_W_keep_21 rfl hl (by decide) rfl (fun ls hl => ?_)
  refine lv_aload_n hx hb d_W_keep_22 rfl (lk hl rfl) ?_
  refine lv_iload_n hx hb d_W_keep_23 rfl (lk hl rfl) ?_
  refine cd_put in_W rfl t_W t_W_ok n_W ct hP (hD (ce, fr, va, ve, op, pa - 1, re, ma)) hS 0 7 (by decide) rfl fl_W_36 (Or.inl rfl) rfl rfl (Nat.le_of_ble_eq_true rfl) d_W_keep_24 (fun H locs hP hz1 hq hS => ?_)
  have hP : va_P G.1 cd_cls (wk G a ce fr va ve op (pa - 1) re (fr (pa - 1))) H := hP
  refine lv_iload_n hx hb d_W_keep_27 rfl (lk hl rfl) ?_
  refine lv_istore_n hx hb d_W_keep_28 rfl hl (by decide) rfl (fun ls hl => ?_)
  refine w_keep_loop (w := (ce, fr, va, ve, op, pa - 1, re, fr (pa - 1))) (b := fr (pa - 1)) (ma := ma) ct (fun _ h => h) hz ⟨by decide, by decide⟩ (by show 1 ≤ pa - 1 ∧ pa - 1 ≤ 5; omega) (by show fr (pa - 1 - 1) ≤ 160; rw [show pa - 1 - 1 = pa - 2 by omega]; exact hfr.1) rfl hma (fun H locs hP hS ls => ?_) (ma - fr (pa - 1)) 0 (by omega) H locs ls hP hS (lre hl _ rfl)
  exact cd_vret ct hlk hr hS ⟨by decide, by decide⟩ ⟨rfl, hP⟩ d_W_keep_56
set_option maxHeartbeats 4000000 in
theorem c_I_bitCount (l : Launch) (G : cd_G) (x : Int32) : cd_Con l y_I_bitCount cw_I_bitCount (cd_rm 0 0 0 0) [.int x] G (fun _ => True) (fun o _ => o = .returned (some (.int (bcI x)))) (fun _ => False) := by
  refine cd_ofW (by decide) ok_I_bitCount.1 (Nat.le_of_ble_eq_true rfl) (fun h => h) ?_
  intro p e s m below meth c ct hlk hr hxt hnm hP ls hl
  have hx := ct.1
  have hb := ct.2.1
  have hS : va_S (cd_xA (fun _ => False) s) s.heap s.heap [] := va_S.rf
  refine lv_iload_n hx hb d_I_bitCount_0 rfl (lk hl rfl) ?_
  refine lv_iload_n hx hb d_I_bitCount_1 rfl (lk hl rfl) ?_
  refine lv_iconst (v := 1) hx hb d_I_bitCount_2 (by decide) ?_
  refine lv_iushr hx hb d_I_bitCount_3 rfl ?_
  refine lv_ldcw hx hb ct.2.2.1 (ct.2.2.2.2.1 _ kc_I_265) d_I_bitCount_4 ?_
  refine lv_iand hx hb d_I_bitCount_7 ?_
  refine lv_isub hx hb d_I_bitCount_8 ?_
  refine lv_topi (fun x1 e1 => ?_)
  refine lv_istore_n hx hb d_I_bitCount_9 rfl hl (by decide) rfl (fun ls hl => ?_)
  refine lv_iload_n hx hb d_I_bitCount_10 rfl (lk hl rfl) ?_
  refine lv_ldcw hx hb ct.2.2.1 (ct.2.2.2.2.1 _ kc_I_266) d_I_bitCount_11 ?_
  refine lv_iand hx hb d_I_bitCount_14 ?_
  refine lv_iload_n hx hb d_I_bitCount_15 rfl (lk hl rfl) ?_
  refine lv_iconst (v := 2) hx hb d_I_bitCount_16 (by decide) ?_
  refine lv_iushr hx hb d_I_bitCount_17 rfl ?_
  refine lv_ldcw hx hb ct.2.2.1 (ct.2.2.2.2.1 _ kc_I_266) d_I_bitCount_18 ?_
  refine lv_iand hx hb d_I_bitCount_21 ?_
  refine lv_iadd hx hb d_I_bitCount_22 ?_
  refine lv_topi (fun x2 e2 => ?_)
  refine lv_istore_n hx hb d_I_bitCount_23 rfl hl (by decide) rfl (fun ls hl => ?_)
  refine lv_iload_n hx hb d_I_bitCount_24 rfl (lk hl rfl) ?_
  refine lv_iload_n hx hb d_I_bitCount_25 rfl (lk hl rfl) ?_
  refine lv_iconst (v := 4) hx hb d_I_bitCount_26 (by decide) ?_
  refine lv_iushr hx hb d_I_bitCount_27 rfl ?_
  refine lv_iadd hx hb d_I_bitCount_28 ?_
  refine lv_ldcw hx hb ct.2.2.1 (ct.2.2.2.2.1 _ kc_I_267) d_I_bitCount_29 ?_
  refine lv_iand hx hb d_I_bitCount_32 ?_
  refine lv_topi (fun x3 e3 => ?_)
  refine lv_istore_n hx hb d_I_bitCount_33 rfl hl (by decide) rfl (fun ls hl => ?_)
  refine lv_iload_n hx hb d_I_bitCount_34 rfl (lk hl rfl) ?_
  refine lv_iload_n hx hb d_I_bitCount_35 rfl (lk hl rfl) ?_
  refine lv_bipush (v := 8) hx hb d_I_bitCount_36 (by decide) ?_
  refine lv_iushr hx hb d_I_bitCount_38 rfl ?_
  refine lv_iadd hx hb d_I_bitCount_39 ?_
  refine lv_topi (fun x4 e4 => ?_)
  refine lv_istore_n hx hb d_I_bitCount_40 rfl hl (by decide) rfl (fun ls hl => ?_)
  refine lv_iload_n hx hb d_I_bitCount_41 rfl (lk hl rfl) ?_
  refine lv_iload_n hx hb d_I_bitCount_42 rfl (lk hl rfl) ?_
  refine lv_bipush (v := 16) hx hb d_I_bitCount_43 (by decide) ?_
  refine lv_iushr hx hb d_I_bitCount_45 rfl ?_
  refine lv_iadd hx hb d_I_bitCount_46 ?_
  refine lv_topi (fun x5 e5 => ?_)
  refine lv_istore_n hx hb d_I_bitCount_47 rfl hl (by decide) rfl (fun ls hl => ?_)
  refine lv_iload_n hx hb d_I_bitCount_48 rfl (lk hl rfl) ?_
  refine lv_bipush (v := 63) hx hb d_I_bitCount_49 (by decide) ?_
  refine lv_iand hx hb d_I_bitCount_51 ?_
  refine cd_iret ct hlk hr hS ⟨by decide, by decide⟩ ?_ d_I_bitCount_52
  subst e1 e2 e3 e4 e5
  rfl
theorem w_written_loop {p : Program} {l : Launch} {e : Env} {R : Room} {s : State} {m : MethodId} {args : Array Value} {below : List Frame} {meth : Method} {c : Code} {H : Heap} {locs : List Loc} {cells slots : Nat} {Q : State → Prop} {G : cd_G} {A : Nat → Prop} {a : Nat} {ce : Nat → Int32} {fr : Nat → Nat} {va : Nat → Int64} {ve : Nat → Int32} {op : Bool} {pa : Nat} {re : Int32} {ma : Nat}
    (ct : cd_Ct G p s m args c b_W_written "CommitDesk$Work" 3 A) (hP : va_P G.1 cd_cls (wk G a ce fr va ve op pa re ma) H) (hma : ma ≤ 160)
    (kk : ∀ ls, lv_has ls 3 [(1, .int (orN ce ma))] → W p l e R s m args below meth c H locs cells slots Q (F0 m 29 ls [])) :
    ∀ j k : Nat, k + j = ma → ∀ ls, lv_has ls 3 [(0, .ref a), (1, .int (orN ce k)), (2, .int (nI k))] → W p l e R s m args below meth c H locs cells slots Q (F0 m 4 ls []) := by
  have hx := ct.1
  have hb := ct.2.1
  intro j
  induction j with
  | zero =>
    intro k hk ls hl
    have hk : k = ma := by omega
    subst hk
    refine lv_iload_n hx hb d_W_written_4 rfl (lk hl rfl) ?_
    refine lv_aload_n hx hb d_W_written_5 rfl (lk hl rfl) ?_
    refine cd_getW ct hP 0 7 (by decide) rfl fl_W_36 rfl d_W_written_6 ?_
    refine lv_icmp_ge (tgt := 29) hx hb d_W_written_9 (by decide) (fun hc => ?_) (fun hc => absurd (nI_le (Nat.le_refl _) (by omega)) hc)
    exact kk ls (lre hl _ rfl)
  | succ j ih =>
    intro k hk ls hl
    refine lv_iload_n hx hb d_W_written_4 rfl (lk hl rfl) ?_
    refine lv_aload_n hx hb d_W_written_5 rfl (lk hl rfl) ?_
    refine cd_getW ct hP 0 7 (by decide) rfl fl_W_36 rfl d_W_written_6 ?_
    refine lv_icmp_ge (tgt := 29) hx hb d_W_written_9 (by decide) (fun hc => absurd hc (nI_ge (by omega) (by omega))) (fun hc => ?_)
    refine lv_iload_n hx hb d_W_written_12 rfl (lk hl rfl) ?_
    refine lv_iconst (v := 1) hx hb d_W_written_13 (by decide) ?_
    refine lv_aload_n hx hb d_W_written_14 rfl (lk hl rfl) ?_
    refine cd_getW ct hP 0 0 (by decide) rfl fl_W_9 rfl d_W_written_15 ?_
    refine lv_iload_n hx hb d_W_written_18 rfl (lk hl rfl) ?_
    refine cd_iald ct hP 1 rfl k ⟨by omega, by decide⟩ rfl d_W_written_19 ?_
    refine lv_ishl hx hb d_W_written_20 ?_
    refine lv_ior hx hb d_W_written_21 ?_
    refine lv_istore_n hx hb d_W_written_22 rfl hl (by decide) rfl (fun ls hl => ?_)
    refine cd_iinc hx hb d_W_written_23 hl rfl (v := nI (k + 1)) (nI_1 k) (by decide) rfl (fun ls hl => ?_)
    refine lv_goto (tgt := 4) hx hb d_W_written_26 (by decide) ?_
    exact ih (k + 1) (by omega) ls (lre hl _ rfl)
set_option maxHeartbeats 4000000 in
theorem c_W_written (l : Launch) (G : cd_G) (a : Nat) (w : WS) (hma : wMa w ≤ 160) :
    cd_Con l y_W_written cw_W_written (cd_rm 1 0 0 20) [.ref a] G (va_P G.1 cd_cls (wkS G a w)) (fun o _ => o = .returned (some (.int (bcI (orN (wCe w) (wMa w)))))) (fun _ => False) := by
  obtain ⟨ce, fr, va, ve, op, pa, re, ma⟩ := w
  refine cd_ofW (by decide) ok_W_written.1 (Nat.le_of_ble_eq_true rfl) (fun h => h) ?_
  intro p e s m below meth c ct hlk hr hxt hnm hP ls hl
  have hx := ct.1
  have hb := ct.2.1
  have hS : va_S (cd_xA (fun _ => False) s) s.heap s.heap [] := va_S.rf
  refine lv_iconst (v := 0) hx hb d_W_written_0 (by decide) ?_
  refine lv_istore_n hx hb d_W_written_1 rfl hl (by decide) rfl (fun ls hl => ?_)
  refine lv_iconst (v := 0) hx hb d_W_written_2 (by decide) ?_
  refine lv_istore_n hx hb d_W_written_3 rfl hl (by decide) rfl (fun ls hl => ?_)
  refine w_written_loop ct hP hma (fun ls hl => ?_) ma 0 (by omega) ls (lre hl _ rfl)
  refine lv_iload_n hx hb d_W_written_29 rfl (lk hl rfl) ?_
  refine cd_callS (As := [.int (orN ce ma)]) (rest := []) ct hS (c_I_bitCount l G (orN ce ma)) cs_W_47 ⟨⟨by decide, by decide⟩, by decide, by decide⟩ trivial hl.1 rfl rfl (by decide) d_W_written_30 (fun _ _ h => h.elim) (fun v H1 locs1 hq hF hS => ?_) (fun _ _ _ h => by cases h)
  cases hq
  exact cd_iret ct hlk hr hS ⟨by decide, by decide⟩ rfl d_W_written_33
def ws_0 : WS := (fun _ => 0, fun _ => 0, fun _ => 0, fun _ => 0, false, 0, 0, 0)
set_option maxHeartbeats 4000000 in
theorem c_W_init (l : Launch) (G : cd_G) (a : Nat) (hz : cd_z G < a) :
    cd_Con l y_W_init cw_W_init (cd_rm 1 4 357 12) [.ref a] G (fun H => H.size = a + 1 ∧ va_P G.1 cd_cls [(a, .inr (0, [.null, .null, .null, .null, .int 0, .int 0, .int 0, .int 0]))] H) (fun o H => o = .returned none ∧ H.size = a + 5 ∧ va_P G.1 cd_cls (wkS G a ws_0) H) (rg a 1) := by
  refine cd_ofW (by decide) ok_W_init.1 (Nat.le_of_ble_eq_true rfl) (rg_z hz) ?_
  intro p e s m below meth c ct hlk hr hxt hnm hP ls hl
  have hx := ct.1
  have hb := ct.2.1
  obtain ⟨hsz, hP⟩ := hP
  have hS : va_S (cd_xA (rg a 1) s) s.heap s.heap [] := va_S.rf
  have hDx : ∀ (ws : va_W), ws.map (fun q => q.1) = (List.range ws.length).map (fun i => a + i) → va_D (cd_xA (rg a 1) s) ws := fun ws h => (cd_cons a h).weaken (fun _ q _ hq => by
    by_cases h1 : q.1 = a
    · exact Or.inl ⟨by omega, by omega⟩
    · exact Or.inr (by have := hq.1; omega))
  refine lv_aload_n hx hb d_W_init_0 rfl (lk hl rfl) ?_
  refine W.objInit hx hb ct.2.2.1 (ct.2.2.2.2.1 _ ob_W_3) (ct.2.2.2.2.1 _ ob_inst) (ct.2.2.2.2.1 _ ob_code) rfl (by rw [ct.2.2.2.1]; exact hl.1) rfl d_W_init_1 (Nat.le_of_ble_eq_true rfl) (Nat.le_of_ble_eq_true rfl) ?_
  refine W.eq (g2 := F0 m 4 ls []) rfl ?_
  refine lv_aload_n hx hb d_W_init_4 rfl (lk hl rfl) ?_
  refine lv_sipush (v := 160) hx hb d_W_init_5 (by decide) ?_
  refine cd_newa (atype := .int) (ty := .int) (h := a + 1) (a0 := (160, .inl (fun _ => 0))) ct rfl ac_int 0 rfl (by intro C h; cases h) hS hsz (fun _ => rfl) (by decide) rfl (by decide) (by decide) (by decide) d_W_init_8 (fun H hN hz1 ho hS => ?_)
  have hP := cd_grow hP hsz ho hN
  have hsz := hz1
  refine cd_put in_W rfl t_W t_W_ok n_W ct hP (hDx _ rfl) hS 0 0 (by decide) rfl fl_W_9 (Or.inr ⟨rfl, hnm, rfl⟩) rfl rfl (Nat.le_of_ble_eq_true rfl) d_W_init_10 (fun H locs hP hz1 hq hS => ?_)
  have hsz := hz1.trans hsz
  refine lv_aload_n hx hb d_W_init_13 rfl (lk hl rfl) ?_
  refine lv_iconst (v := 5) hx hb d_W_init_14 (by decide) ?_
  refine cd_newa (atype := .int) (ty := .int) (h := a + 2) (a0 := (5, .inl (fun _ => 0))) ct rfl ac_int 0 rfl (by intro C h; cases h) hS hsz (fun _ => rfl) (by decide) rfl (by decide) (by decide) (by decide) d_W_init_15 (fun H hN hz1 ho hS => ?_)
  have hP := cd_grow hP hsz ho hN
  have hsz := hz1
  refine cd_put in_W rfl t_W t_W_ok n_W ct hP (hDx _ rfl) hS 0 1 (by decide) rfl fl_W_15 (Or.inr ⟨rfl, hnm, rfl⟩) rfl rfl (Nat.le_of_ble_eq_true rfl) d_W_init_17 (fun H locs hP hz1 hq hS => ?_)
  have hsz := hz1.trans hsz
  refine lv_aload_n hx hb d_W_init_20 rfl (lk hl rfl) ?_
  refine lv_sipush (v := 160) hx hb d_W_init_21 (by decide) ?_
  refine cd_newa (atype := .long) (ty := .long) (h := a + 3) (a0 := (160, .inr (.inl (fun _ => 0)))) ct rfl ac_long 1 rfl (by intro C h; cases h) hS hsz (fun _ => rfl) (by decide) rfl (by decide) (by decide) (by decide) d_W_init_24 (fun H hN hz1 ho hS => ?_)
  have hP := cd_grow hP hsz ho hN
  have hsz := hz1
  refine cd_put in_W rfl t_W t_W_ok n_W ct hP (hDx _ rfl) hS 0 2 (by decide) rfl fl_W_18 (Or.inr ⟨rfl, hnm, rfl⟩) rfl rfl (Nat.le_of_ble_eq_true rfl) d_W_init_26 (fun H locs hP hz1 hq hS => ?_)
  have hsz := hz1.trans hsz
  refine lv_aload_n hx hb d_W_init_29 rfl (lk hl rfl) ?_
  refine lv_bipush (v := 32) hx hb d_W_init_30 (by decide) ?_
  refine cd_newa (atype := .int) (ty := .int) (h := a + 4) (a0 := (32, .inl (fun _ => 0))) ct rfl ac_int 0 rfl (by intro C h; cases h) hS hsz (fun _ => rfl) (by decide) rfl (by decide) (by decide) (by decide) d_W_init_32 (fun H hN hz1 ho hS => ?_)
  have hP := cd_grow hP hsz ho hN
  have hsz := hz1
  refine cd_put in_W rfl t_W t_W_ok n_W ct hP (hDx _ rfl) hS 0 3 (by decide) rfl fl_W_22 (Or.inr ⟨rfl, hnm, rfl⟩) rfl rfl (Nat.le_of_ble_eq_true rfl) d_W_init_34 (fun H locs hP hz1 hq hS => ?_)
  have hsz := hz1.trans hsz
  exact cd_vret ct hlk hr hS ⟨by decide, by decide⟩ ⟨rfl, hsz, hP⟩ d_W_init_37
end
section
/-! CommitDesk: its cells, its pure operations. -/
def ixO (x : Int32) (n : Nat) : Option Nat := if x < 0 then none else if nI n ≤ x then none else some x.toNatClampNeg
theorem ixO_some {x : Int32} {n j : Nat} (hn : n < 2 ^ 31) (h : ixO x n = some j) : j < n ∧ x = nI j := by
  unfold ixO at h
  split at h
  · cases h
  · split at h
    · cases h
    · rename_i h1 h2
      obtain ⟨i, hi, hi2, -, hc, -⟩ := pk_mu h1 h2 hn
      cases h
      rw [hc]
      exact ⟨hi, hi2⟩
theorem ixO_nI {n j : Nat} (hn : n < 2 ^ 31) (h : j < n) : ixO (nI j) n = some j := by
  unfold ixO
  rw [if_neg (nI_pos (by omega)), if_neg (nI_ge h hn), nI_clamp (by omega)]
theorem ixO_lt {x : Int32} {n : Nat} (h : x < 0) : ixO x n = none := by unfold ixO; rw [if_pos h]
theorem ixO_ge {x : Int32} {n : Nat} (h0 : ¬ x < 0) (h : nI n ≤ x) : ixO x n = none := by unfold ixO; rw [if_neg h0, if_pos h]
theorem ixO_in {x : Int32} {n : Nat} (h0 : ¬ x < 0) (h : ¬ nI n ≤ x) : ixO x n = some x.toNatClampNeg := by unfold ixO; rw [if_neg h0, if_neg h]
/-- cells, versions, done, stale, the works -/
abbrev DS : Type := (Nat → Int64) × (Nat → Int32) × Int32 × Int32 × (Nat → WS)
def dk (G : cd_G) (d : Nat) (cl : Nat → Int64) (vs : Nat → Int32) (dn st : Int32) : va_W :=
  [(d, .inr (1, [.ref (d + 1), .ref (d + 2), .ref (d + 3), .int dn, .int st])), (d + 1, .inl (cd_cL G, 32, .inr (.inl cl))), (d + 2, .inl (cd_cI G, 32, .inl vs)), (d + 3, .inl (cd_cW G, 8, .inr (.inr (.inr (.inr (fun t => some (d + 4 + 5 * t)))))))]
def wA (d t : Nat) : Nat := d + 4 + 5 * t
def dkW (G : cd_G) (d : Nat) (w : Nat → WS) (H : Heap) : Prop := ∀ t, t < 8 → va_P G.1 cd_cls (wkS G (wA d t) (w t)) H
def dkP (G : cd_G) (d : Nat) (S : DS) (H : Heap) : Prop := match S with
  | (cl, vs, dn, st, w) => va_P G.1 cd_cls (dk G d cl vs dn st) H ∧ dkW G d w H
theorem dk_D (G : cd_G) (d : Nat) (cl : Nat → Int64) (vs : Nat → Int32) (dn st : Int32) : va_D (rg d 4) (dk G d cl vs dn st) := cd_cons d rfl
theorem dk_in {d : Nat} : ∀ q, rg d 4 q → rg d 44 q := fun q h => ⟨h.1, by have := h.2; omega⟩
theorem dk_inW {d t : Nat} (ht : t < 8) : ∀ q, rg (wA d t) 5 q → rg d 44 q := fun q h => by
  have h1 := h.1
  have h2 := h.2
  unfold wA at h1 h2
  exact ⟨by omega, by omega⟩
theorem dkW_same {G : cd_G} {d : Nat} {w : Nat → WS} {H H1 : Heap} (h : dkW G d w H) (hF : ∀ q, rg (d + 4) 40 q → H1[q]? = H[q]?) : dkW G d w H1 := fun t ht =>
  (h t ht).kept fun k q hk => hF _ (by
    have h1 := (wk_D G (wA d t) (w t)).2 k q hk
    have h2 := h1.1
    have h3 := h1.2
    unfold wA at h2 h3
    exact ⟨by omega, by omega⟩)
theorem dkW_set {G : cd_G} {d t : Nat} {w : Nat → WS} {w' : WS} {H H1 : Heap} (h : dkW G d w H) (ht : t < 8) (hF : cd_FR (rg (wA d t) 5) H H1) (hN : va_P G.1 cd_cls (wkS G (wA d t) w') H1) : dkW G d (va_up w t w') H1 := by
  intro i hi
  by_cases hit : i = t
  · subst hit
    rw [show va_up w i w' i = w' by simp [va_up]]
    exact hN
  · rw [show va_up w t w' i = w i by simp [va_up, hit]]
    refine cd_keep (h i hi) hF fun k q hk hq => ?_
    have h1 := (wk_D G (wA d i) (w i)).2 k q hk
    have h2 := h1.1
    have h3 := h1.2
    have h4 := hq.1
    have h5 := hq.2
    unfold wA at h2 h3 h4 h5
    omega
theorem dk_keepW {G : cd_G} {d t : Nat} {cl : Nat → Int64} {vs : Nat → Int32} {dn st : Int32} {H H1 : Heap} (h : va_P G.1 cd_cls (dk G d cl vs dn st) H) (hF : cd_FR (rg (wA d t) 5) H H1) : va_P G.1 cd_cls (dk G d cl vs dn st) H1 :=
  cd_keep h hF fun k q hk hq => by
    have h1 := (dk_D G d cl vs dn st).2 k q hk
    have h2 := h1.2
    have h4 := hq.1
    unfold wA at h4
    omega
theorem dkW_q {G : cd_G} {d a : Nat} {w : Nat → WS} {H H1 : Heap} (h : dkW G d w H) (ha : a < d + 4) (hq : ∀ q, q ≠ a → H1[q]? = H[q]?) : dkW G d w H1 := dkW_same h fun q h1 => hq q (by have := h1.1; omega)
theorem dk_qW {G : cd_G} {d a : Nat} {cl : Nat → Int64} {vs : Nat → Int32} {dn st : Int32} {H H1 : Heap} (h : va_P G.1 cd_cls (dk G d cl vs dn st) H) (ha : d + 4 ≤ a) (hq : ∀ q, q ≠ a → H1[q]? = H[q]?) : va_P G.1 cd_cls (dk G d cl vs dn st) H1 :=
  h.kept fun k q hk => hq _ (by have h2 := ((dk_D G d cl vs dn st).2 k q hk).2; omega)
theorem dkW_same0 {G : cd_G} {d : Nat} {w : Nat → WS} {H H1 : Heap} (h : dkW G d w H) (hF : cd_FR (fun _ => False) H H1) : dkW G d w H1 := fun t ht => cd_keep0 (h t ht) hF
theorem dkP_same0 {G : cd_G} {d : Nat} {S : DS} {H H1 : Heap} (h : dkP G d S H) (hF : cd_FR (fun _ => False) H H1) : dkP G d S H1 := by
  obtain ⟨cl, vs, dn, st, w⟩ := S
  exact ⟨cd_keep0 h.1 hF, dkW_same0 h.2 hF⟩
theorem up_same {α : Type} (f : Nat → α) (i : Nat) : va_up f i (f i) = f := by
  funext j
  by_cases h : j = i <;> simp [va_up, h]
-- outcomes: a value, or an exception by its place in cd_cls
abbrev DR : Type := Option Value ⊕ Nat
def dOut (G : cd_G) (r : DR) (o : Outcome) (H : Heap) : Prop := match r with
  | .inl v => o = .returned v
  | .inr k => ∃ a, o = .threw a ∧ va_P G.1 cd_cls [(a, .inr (k, []))] H
/-- bounds of an open work -/
def WB (w : WS) : Prop := (1 ≤ wPa w ∧ wPa w ≤ 5) ∧ wMa w ≤ 160 ∧ (∀ j, j < wPa w → wFr w j ≤ wMa w) ∧ (∀ k, k < 32 → fnd (wCe w) (nI k) (wFr w (wPa w - 1)) (wMa w) = none → wMa w < 160) ∧ (∀ i, i < wMa w → ∃ j, j < 32 ∧ wCe w i = nI j)
def ws_shut (w : WS) : WS := match w with
  | (ce, fr, va, ve, _, pa, re, ma) => (ce, fr, va, ve, false, pa, re, ma)
def dS_w (S : DS) (j : Nat) (w' : WS) : DS := match S with
  | (cl, vs, dn, st, w) => (cl, vs, dn, st, va_up w j w')
abbrev dCl (S : DS) : Nat → Int64 := S.1
abbrev dVs (S : DS) : Nat → Int32 := S.2.1
abbrev dDn (S : DS) : Int32 := S.2.2.1
abbrev dSt (S : DS) : Int32 := S.2.2.2.1
abbrev dW (S : DS) : Nat → WS := S.2.2.2.2
def dOpen (t : Int32) (S : DS) (f : Nat → DR × DS) : DR × DS := match ixO t 8 with
  | none => (.inr 3, S)
  | some j => if wOp (dW S j) = true then f j else (.inr 4, S)
def dStl (S : DS) (j : Nat) : Bool := stl (wRe (dW S j)) (wVe (dW S j)) (dVs S) 32
def dOver (S : DS) (j : Nat) : DS := match S with
  | (cl, vs, dn, st, w) => (cl, vs, dn, st + 1, va_up w j (ws_shut (w j)))
def d_begin (t : Int32) (S : DS) : DR × DS := match ixO t 8 with
  | none => (.inr 3, S)
  | some j => if wOp (dW S j) = true then (.inr 4, S) else (.inl none, dS_w S j (ws_begin (dW S j)))
def d_rd (k : Int32) (i : Nat) (S : DS) (j : Nat) : DR × DS := match fnd (wCe (dW S j)) k 0 (wMa (dW S j)) with
  | some q => (.inl (some (.long (wVa (dW S j) q))), S)
  | none => if dStl S j = true then (.inr 6, dOver S j) else (.inl (some (.long (dCl S i))), dS_w S j (ws_look (dW S j) i (dVs S i)))
def d_read (t k : Int32) (S : DS) : DR × DS := match ixO t 8 with
  | none => (.inr 3, S)
  | some _ => match ixO k 32 with
    | none => (.inr 5, S)
    | some i => dOpen t S (d_rd k i S)
def d_write (t k : Int32) (v : Int64) (S : DS) : DR × DS := match ixO t 8 with
  | none => (.inr 3, S)
  | some _ => match ixO k 32 with
    | none => (.inr 5, S)
    | some _ => dOpen t S fun j => (.inl none, dS_w S j (ws_write (dW S j) k v))
def d_save (t : Int32) (S : DS) : DR × DS := dOpen t S fun j => if wPa (dW S j) < 5 then (.inl (some (.int (nI (wPa (dW S j) + 1)))), dS_w S j (ws_save (dW S j))) else (.inr 6, S)
def d_back (t : Int32) (S : DS) : DR × DS := dOpen t S fun j => if 1 < wPa (dW S j) then (.inl none, dS_w S j (ws_back (dW S j))) else (.inr 6, S)
def d_keep (t : Int32) (S : DS) : DR × DS := dOpen t S fun j => if 1 < wPa (dW S j) then (.inl none, dS_w S j (ws_keep (dW S j))) else (.inr 6, S)
def d_leave (t : Int32) (S : DS) : DR × DS := dOpen t S fun j => (.inl none, dS_w S j (ws_shut (dW S j)))
def dPut (c : (Nat → Int64) × (Nat → Int32)) (k : Nat) (v : Int64) : (Nat → Int64) × (Nat → Int32) := (vp_updL c.1 k v, upd c.2 k (c.2 k + 1))
/-- of several entries of a cell the last one -/
def dPuts (w : WS) (c : (Nat → Int64) × (Nat → Int32)) : Nat → (Nat → Int64) × (Nat → Int32)
  | 0 => c
  | n + 1 => if fnd (wCe w) (wCe w n) 0 (wMa w) = some n then dPut (dPuts w c n) (wCe w n).toNatClampNeg (wVa w n) else dPuts w c n
def d_done (t : Int32) (S : DS) : DR × DS := dOpen t S fun j => if dStl S j = true then (.inl (some (.int 0)), dOver S j) else
  (.inl (some (.int 1)), ((dPuts (dW S j) (dCl S, dVs S) (wMa (dW S j))).1, (dPuts (dW S j) (dCl S, dVs S) (wMa (dW S j))).2, dDn S + 1, dSt S, va_up (dW S) j (ws_shut (dW S j))))
def d_set (k : Int32) (v : Int64) (S : DS) : DR × DS := match ixO k 32 with
  | none => (.inr 5, S)
  | some i => (.inl none, ((dPut (dCl S, dVs S) i v).1, (dPut (dCl S, dVs S) i v).2, dDn S, dSt S, dW S))
def d_cell (k : Int32) (S : DS) : DR × DS := match ixO k 32 with
  | none => (.inr 5, S)
  | some i => (.inl (some (.long (dCl S i))), S)
def d_changed (k : Int32) (S : DS) : DR × DS := match ixO k 32 with
  | none => (.inr 5, S)
  | some i => (.inl (some (.int (dVs S i))), S)
def d_count (t what : Int32) (S : DS) : DR × DS := match ixO what 4 with
  | none => (.inr 3, S)
  | some h => dOpen t S fun j => (.inl (some (.int (if h = 0 then bcI (wRe (dW S j)) else if h = 1 then bcI (orN (wCe (dW S j)) (wMa (dW S j))) else if h = 2 then nI (wPa (dW S j)) else cd_bi (dStl S j)))), S)
def opN (w : Nat → WS) : Nat → Nat
  | 0 => 0
  | n + 1 => if wOp (w n) = true then opN w n + 1 else opN w n
def d_all (what : Int32) (S : DS) : DR × DS := match ixO what 3 with
  | none => (.inr 3, S)
  | some h => (.inl (some (.int (if h = 0 then nI (opN (dW S) 8) else if h = 1 then dDn S else dSt S))), S)
end
section
/-! Walks of CommitDesk, 1: good, there, can, work, open, isFresh, put. Printed by prog/walk.py from walks/16.walkD1.walk. -/
set_option maxHeartbeats 4000000 in
theorem c_D_good (l : Launch) (hfl : l.flags = flags0) (G : cd_G) (b : Bool) : cd_Con l y_D_good cw_D_good (cd_rm 6 1 6 81) [.int (cd_bi b)] G (fun _ => True) (fun o H => dOut G (if b = true then .inl none else .inr 3) o H) (fun _ => False) := by
  refine cd_ofW (by decide) ok_D_good.1 (Nat.le_of_ble_eq_true rfl) (fun h => h) ?_
  intro p e s m below meth c ct hlk hr hxt hnm hP ls hl
  have hx := ct.1
  have hb := ct.2.1
  have hS : va_S (cd_xA (fun _ => False) s) s.heap s.heap [] := va_S.rf
  refine lv_iload_n hx hb d_D_good_0 rfl (lk hl rfl) ?_
  refine lv_if_ne (tgt := 12) hx hb d_D_good_1 (by decide) (fun hc => ?_) (fun hc => ?_)
  · have hb1 : b = true := by cases b <;> first | rfl | exact absurd rfl hc
    subst hb1
    exact cd_vret ct hlk hr hS ⟨by decide, by decide⟩ rfl d_D_good_12
  · have hb1 : b = false := by cases b <;> first | rfl | exact absurd hc (by decide)
    subst hb1
    exact cd_throw (k := 3) ct hlk hfl hxt hS x_24 ⟨by decide, by decide, by decide, by decide⟩ ⟨by decide, by decide⟩ hl.1 (fun _ h => by cases h) d_D_good_4 d_D_good_7 d_D_good_8 d_D_good_11 (fun a H1 _ hP _ => ⟨a, rfl, hP⟩)
set_option maxHeartbeats 4000000 in
theorem c_D_can (l : Launch) (hfl : l.flags = flags0) (G : cd_G) (b : Bool) : cd_Con l y_D_can cw_D_can (cd_rm 6 1 6 81) [.int (cd_bi b)] G (fun _ => True) (fun o H => dOut G (if b = true then .inl none else .inr 6) o H) (fun _ => False) := by
  refine cd_ofW (by decide) ok_D_can.1 (Nat.le_of_ble_eq_true rfl) (fun h => h) ?_
  intro p e s m below meth c ct hlk hr hxt hnm hP ls hl
  have hx := ct.1
  have hb := ct.2.1
  have hS : va_S (cd_xA (fun _ => False) s) s.heap s.heap [] := va_S.rf
  refine lv_iload_n hx hb d_D_can_0 rfl (lk hl rfl) ?_
  refine lv_if_ne (tgt := 12) hx hb d_D_can_1 (by decide) (fun hc => ?_) (fun hc => ?_)
  · have hb1 : b = true := by cases b <;> first | rfl | exact absurd rfl hc
    subst hb1
    exact cd_vret ct hlk hr hS ⟨by decide, by decide⟩ rfl d_D_can_12
  · have hb1 : b = false := by cases b <;> first | rfl | exact absurd hc (by decide)
    subst hb1
    exact cd_throw (k := 6) ct hlk hfl hxt hS x_30 ⟨by decide, by decide, by decide, by decide⟩ ⟨by decide, by decide⟩ hl.1 (fun _ h => by cases h) d_D_can_4 d_D_can_7 d_D_can_8 d_D_can_11 (fun a H1 _ hP _ => ⟨a, rfl, hP⟩)
set_option maxHeartbeats 4000000 in
theorem c_D_there (l : Launch) (hfl : l.flags = flags0) (G : cd_G) (k : Int32) : cd_Con l y_D_there cw_D_there (cd_rm 6 1 6 81) [.int k] G (fun _ => True) (fun o H => dOut G (if ixO k 32 = none then .inr 5 else .inl none) o H) (fun _ => False) := by
  refine cd_ofW (by decide) ok_D_there.1 (Nat.le_of_ble_eq_true rfl) (fun h => h) ?_
  intro p e s m below meth c ct hlk hr hxt hnm hP ls hl
  have hx := ct.1
  have hb := ct.2.1
  have hS : va_S (cd_xA (fun _ => False) s) s.heap s.heap [] := va_S.rf
  have thr : ixO k 32 = none → W p l e (cd_rm 6 1 6 81) s m [Value.int k].toArray below meth c s.heap [] 0 0 (cd_CQ below s (fun _ => False) (fun o H => dOut G (if ixO k 32 = none then .inr 5 else .inl none) o H) 1 6) (F0 m 10 ls []) := by
    intro h
    rw [h]
    exact cd_throw (k := 5) ct hlk hfl hxt hS x_27 ⟨by decide, by decide, by decide, by decide⟩ ⟨by decide, by decide⟩ hl.1 (fun _ h => by cases h) d_D_there_10 d_D_there_13 d_D_there_14 d_D_there_17 (fun a H1 _ hP _ => ⟨a, rfl, hP⟩)
  refine lv_iload_n hx hb d_D_there_0 rfl (lk hl rfl) ?_
  refine lv_if_lt (tgt := 10) hx hb d_D_there_1 (by decide) (fun hc => ?_) (fun hc => ?_)
  · exact thr (ixO_lt hc)
  refine lv_iload_n hx hb d_D_there_4 rfl (lk hl rfl) ?_
  refine lv_bipush (v := 32) hx hb d_D_there_5 (by decide) ?_
  refine lv_icmp_lt (tgt := 18) hx hb d_D_there_7 (by decide) (fun hc2 => ?_) (fun hc2 => ?_)
  · refine cd_vret ct hlk hr hS ⟨by decide, by decide⟩ ?_ d_D_there_18
    rw [ixO_in hc (show ¬ nI 32 ≤ k from Int32.not_le.mpr hc2), if_neg (by intro h; cases h)]
    rfl
  · exact thr (ixO_ge hc (Int32.not_lt.mp hc2))
set_option maxHeartbeats 4000000 in
theorem c_D_work (l : Launch) (hfl : l.flags = flags0) (G : cd_G) (d : Nat) (S : DS) (t : Int32) : cd_Con l y_D_work cw_D_work (cd_rm 7 1 6 101) [.ref d, .int t] G (dkP G d S) (fun o H => dOut G (match ixO t 8 with | none => .inr 3 | some j => .inl (some (.ref (wA d j)))) o H) (fun _ => False) := by
  obtain ⟨cl, vs, dn, st, w⟩ := S
  refine cd_ofW (by decide) ok_D_work.1 (Nat.le_of_ble_eq_true rfl) (fun h => h) ?_
  intro p e s m below meth c ct hlk hr hxt hnm hP ls hl
  have hx := ct.1
  have hb := ct.2.1
  have hS : va_S (cd_xA (fun _ => False) s) s.heap s.heap [] := va_S.rf
  obtain ⟨hP, hPW⟩ := hP
  have bad : ixO t 8 = none → W p l e (cd_rm 7 1 6 101) s m [Value.ref d, Value.int t].toArray below meth c s.heap [] 0 0 (cd_CQ below s (fun _ => False) (fun o H => dOut G (match ixO t 8 with | none => .inr 3 | some j => .inl (some (.ref (wA d j)))) o H) 1 6) (F0 m 14 ls []) := by
    intro h
    rw [h]
    refine lv_iconst (v := 0) hx hb d_D_work_14 (by decide) ?_
    refine cd_callS (As := [.int (cd_bi false)]) (rest := []) ct hS (c_D_good l hfl G false) cs_D_33 ⟨⟨by decide, by decide⟩, by decide, by decide⟩ trivial hl.1 rfl rfl (by decide) d_D_work_15 (fun _ _ h => h.elim) (fun v H1 locs1 hq hF hS => ?_) (fun a H1 locs1 hq hF hS => ?_)
    · obtain ⟨a, h, -⟩ := hq
      cases h
    · exact cd_out hlk hxt hS ⟨by decide, by decide⟩ hq
  refine lv_iload_n hx hb d_D_work_0 rfl (lk hl rfl) ?_
  refine lv_if_lt (tgt := 14) hx hb d_D_work_1 (by decide) (fun hc => ?_) (fun hc => ?_)
  · exact bad (ixO_lt hc)
  refine lv_iload_n hx hb d_D_work_4 rfl (lk hl rfl) ?_
  refine lv_bipush (v := 8) hx hb d_D_work_5 (by decide) ?_
  refine lv_icmp_ge (tgt := 14) hx hb d_D_work_7 (by decide) (fun hc2 => ?_) (fun hc2 => ?_)
  · exact bad (ixO_ge hc hc2)
  obtain ⟨j, hj, rfl, -⟩ := pk_mu (L := 8) hc hc2 (by decide)
  rw [ixO_nI (by decide) hj]
  refine lv_iconst (v := 1) hx hb d_D_work_10 (by decide) ?_
  refine lv_goto (tgt := 15) hx hb d_D_work_11 (by decide) ?_
  refine cd_callS (As := [.int (cd_bi true)]) (rest := []) ct hS (c_D_good l hfl G true) cs_D_33 ⟨⟨by decide, by decide⟩, by decide, by decide⟩ trivial hl.1 rfl rfl (by decide) d_D_work_15 (fun _ _ h => h.elim) (fun v H1 locs1 hq hF hS => ?_) (fun a H1 locs1 hq hF hS => by cases hq)
  cases hq
  have hP := cd_keep0 hP hF
  refine lv_aload_n hx hb d_D_work_18 rfl (lk hl rfl) ?_
  refine cd_getD ct hP 0 2 (by decide) rfl fl_D_19 rfl d_D_work_19 ?_
  refine lv_iload_n hx hb d_D_work_22 rfl (lk hl rfl) ?_
  refine cd_aald ct hP 3 rfl j ⟨hj, by decide⟩ rfl rfl d_D_work_23 ?_
  exact cd_aret ct hlk hr hS ⟨by decide, by decide⟩ rfl d_D_work_24
set_option maxHeartbeats 4000000 in
theorem c_D_open (l : Launch) (hfl : l.flags = flags0) (G : cd_G) (d : Nat) (S : DS) (t : Int32) : cd_Con l y_D_open cw_D_open (cd_rm 8 2 12 122) [.ref d, .int t] G (dkP G d S) (fun o H => dOut G (match ixO t 8 with | none => .inr 3 | some j => if wOp (dW S j) = true then .inl (some (.ref (wA d j))) else .inr 4) o H) (fun _ => False) := by
  obtain ⟨cl, vs, dn, st, w⟩ := S
  refine cd_ofW (by decide) ok_D_open.1 (Nat.le_of_ble_eq_true rfl) (fun h => h) ?_
  intro p e s m below meth c ct hlk hr hxt hnm hP ls hl
  have hx := ct.1
  have hb := ct.2.1
  have hS : va_S (cd_xA (fun _ => False) s) s.heap s.heap [] := va_S.rf
  have hP0 := hP
  obtain ⟨hP, hPW⟩ := hP
  refine lv_aload_n hx hb d_D_open_0 rfl (lk hl rfl) ?_
  refine lv_iload_n hx hb d_D_open_1 rfl (lk hl rfl) ?_
  refine cd_callV (As := [.int t]) (rest := []) ct hS (c_D_work l hfl G d (cl, vs, dn, st, w) t) cv_D_37 ⟨⟨by decide, by decide⟩, by decide, by decide⟩ (va_recv (q := (R_D, F_D, 5)) (q0 := 0) ct.2.2.2.2.2.1.1 hP rfl rfl) hP0 hl.1 rfl rfl (by decide) d_D_open_2 (fun _ _ h => h.elim) (fun v H1 locs1 hq hF hS => ?_) (fun a H1 locs1 hq hF hS => ?_)
  · cases hix : ixO t 8 with
    | none =>
      rw [hix] at hq
      obtain ⟨a, h, -⟩ := hq
      cases h
    | some j =>
      rw [hix] at hq
      cases hq
      have hj := (ixO_some (by decide) hix).1
      have hPj := cd_keep0 (hPW j hj) hF
      rcases hw : w j with ⟨ce, fr, va, ve, op, pa, re, ma⟩
      have hw2 : dW ((cl, vs, dn, st, w) : DS) j = (ce, fr, va, ve, op, pa, re, ma) := hw
      rw [hw] at hPj
      have hPj : va_P G.1 cd_cls (wk G (wA d j) ce fr va ve op pa re ma) H1 := hPj
      refine lv_astore_n hx hb d_D_open_5 rfl hl (by decide) rfl (fun ls hl => ?_)
      refine lv_aload_n hx hb d_D_open_6 rfl (lk hl rfl) ?_
      refine cd_getW ct hPj 0 4 (by decide) rfl fl_D_41 rfl d_D_open_7 ?_
      refine lv_if_ne (tgt := 21) hx hb d_D_open_10 (by decide) (fun hc => ?_) (fun hc => ?_)
      · have ho : op = true := by cases op <;> first | rfl | exact absurd rfl hc
        subst ho
        refine lv_aload_n hx hb d_D_open_21 rfl (lk hl rfl) ?_
        refine cd_aret ct hlk hr hS ⟨by decide, by decide⟩ ?_ d_D_open_22
        simp only [hw2]
        rfl
      · have ho : op = false := by cases op <;> first | rfl | exact absurd hc (by decide)
        subst ho
        refine cd_throw (k := 4) ct hlk hfl hxt hS x_45 ⟨by decide, by decide, by decide, by decide⟩ ⟨by decide, by decide⟩ hl.1 (fun q hq => (hS.2.2 q hq).elim (fun h => h.elim) (fun h => h)) d_D_open_13 d_D_open_16 d_D_open_17 d_D_open_20 (fun a H1 _ hP _ => ?_)
        simp only [hw2]
        exact ⟨a, rfl, hP⟩
  · cases hix : ixO t 8 with
    | none =>
      rw [hix] at hq
      exact cd_out hlk hxt hS ⟨by decide, by decide⟩ hq
    | some j =>
      rw [hix] at hq
      cases hq
set_option maxHeartbeats 4000000 in
theorem c_D_isFresh (l : Launch) (G : cd_G) (d : Nat) (S : DS) (j : Nat) (hj : j < 8) (hz : cd_z G < d) : cd_Con l y_D_isFresh cw_D_isFresh (cd_rm 1 0 0 22) [.ref d, .ref (wA d j)] G (dkP G d S) (fun o H => o = .returned (some (.int (cd_bi (!dStl S j)))) ∧ dkP G d (if dStl S j = true then dOver S j else S) H) (rg d 44) := by
  obtain ⟨cl, vs, dn, st, w⟩ := S
  refine cd_ofW (by decide) ok_D_isFresh.1 (Nat.le_of_ble_eq_true rfl) (rg_z hz) ?_
  intro p e s m below meth c ct hlk hr hxt hnm hP ls hl
  have hx := ct.1
  have hb := ct.2.1
  have hS : va_S (cd_xA (rg d 44) s) s.heap s.heap [] := va_S.rf
  obtain ⟨hP, hPW⟩ := hP
  refine lv_aload_n hx hb d_D_isFresh_0 rfl (lk hl rfl) ?_
  refine lv_aload_n hx hb d_D_isFresh_1 rfl (lk hl rfl) ?_
  refine cd_getD ct hP 0 1 (by decide) rfl fl_D_13 rfl d_D_isFresh_2 ?_
  refine cd_callV (As := [.ref (d + 2)]) (rest := []) ct hS (c_W_stale l G (wA d j) (d + 2) (w j) vs) cv_D_76 ⟨⟨by decide, by decide⟩, by decide, by decide⟩ (va_recv (q := (R_W, F_W, 8)) (q0 := 0) ct.2.2.2.2.2.1.1 (hPW j hj) rfl rfl) ⟨hPW j hj, hP.sub [2] rfl⟩ hl.1 rfl rfl (by decide) d_D_isFresh_5 (fun _ _ h => h.elim) (fun v H1 locs1 hq hF hS => ?_) (fun a H1 locs1 hq hF hS => by cases hq)
  cases hq
  have hP := cd_keep0 hP hF
  have hPW := dkW_same0 hPW hF
  have hs0 : dStl ((cl, vs, dn, st, w) : DS) j = stl (wRe (w j)) (wVe (w j)) vs 32 := rfl
  cases hst : stl (wRe (w j)) (wVe (w j)) vs 32 with
  | false =>
    rw [hs0, hst]
    refine lv_if_ne (tgt := 13) hx hb d_D_isFresh_8 (by decide) (fun hc => absurd rfl hc) (fun hc => ?_)
    refine lv_iconst (v := 1) hx hb d_D_isFresh_11 (by decide) ?_
    exact cd_zret ct hlk hr hS ⟨by decide, by decide⟩ rfl ⟨rfl, hP, hPW⟩ d_D_isFresh_12
  | true =>
    rw [hs0, hst]
    refine lv_if_ne (tgt := 13) hx hb d_D_isFresh_8 (by decide) (fun hc => ?_) (fun hc => absurd hc (by decide))
    have hPj := hPW j hj
    have hov : dOver ((cl, vs, dn, st, w) : DS) j = (cl, vs, dn, st + 1, va_up w j (ws_shut (w j))) := rfl
    rw [hov]
    rcases hw : w j with ⟨ce, fr, va, ve, op, pa, re, ma⟩
    rw [hw] at hPj
    refine lv_aload_n hx hb d_D_isFresh_13 rfl (lk hl rfl) ?_
    refine lv_iconst (v := 0) hx hb d_D_isFresh_14 (by decide) ?_
    refine cd_put in_W rfl t_W t_W_ok n_W ct hPj (cd_Dx (wk_D G (wA d j) (ce, fr, va, ve, op, pa, re, ma)) (dk_inW hj)) hS 0 4 (by decide) rfl fl_D_41 (Or.inl rfl) rfl rfl (Nat.le_of_ble_eq_true rfl) d_D_isFresh_15 (fun H locs hPj hz1 hq hS => ?_)
    have hPW := dkW_set (w' := ws_shut (ce, fr, va, ve, op, pa, re, ma)) hPW hj ⟨by omega, fun q _ h => hq q (fun e => h ⟨by omega, by omega⟩)⟩ hPj
    have hP := dk_qW hP (by unfold wA; omega) hq
    refine lv_aload_n hx hb d_D_isFresh_18 rfl (lk hl rfl) ?_
    refine lv_dup hx hb d_D_isFresh_19 rfl ?_
    refine cd_getD ct hP 0 4 (by decide) rfl fl_D_80 rfl d_D_isFresh_20 ?_
    refine lv_iconst (v := 1) hx hb d_D_isFresh_23 (by decide) ?_
    refine lv_iadd hx hb d_D_isFresh_24 ?_
    refine cd_put in_D rfl t_D t_D_ok n_D ct hP (cd_Dx (dk_D G d cl vs dn st) dk_in) hS 0 4 (by decide) rfl fl_D_80 (Or.inl rfl) rfl rfl (Nat.le_of_ble_eq_true rfl) d_D_isFresh_25 (fun H locs hP hz1 hq hS => ?_)
    have hPW := dkW_q hPW (by omega) hq
    refine lv_iconst (v := 0) hx hb d_D_isFresh_28 (by decide) ?_
    exact cd_zret ct hlk hr hS ⟨by decide, by decide⟩ rfl ⟨rfl, hP, hPW⟩ d_D_isFresh_29
set_option maxHeartbeats 4000000 in
theorem c_D_put (l : Launch) (G : cd_G) (d : Nat) (S : DS) (k : Nat) (v : Int64) (hk : k < 32) (hz : cd_z G < d) : cd_Con l y_D_put cw_D_put (cd_rm 0 0 0 0) [.ref d, .int (nI k), .long v] G (dkP G d S) (fun o H => o = .returned none ∧ dkP G d ((dPut (dCl S, dVs S) k v).1, (dPut (dCl S, dVs S) k v).2, dDn S, dSt S, dW S) H) (rg d 44) := by
  obtain ⟨cl, vs, dn, st, w⟩ := S
  refine cd_ofW (by decide) ok_D_put.1 (Nat.le_of_ble_eq_true rfl) (rg_z hz) ?_
  intro p e s m below meth c ct hlk hr hxt hnm hP ls hl
  have hx := ct.1
  have hb := ct.2.1
  have hS : va_S (cd_xA (rg d 44) s) s.heap s.heap [] := va_S.rf
  obtain ⟨hP, hPW⟩ := hP
  refine lv_aload_n hx hb d_D_put_0 rfl (lk hl rfl) ?_
  refine cd_getD ct hP 0 0 (by decide) rfl fl_D_9 rfl d_D_put_1 ?_
  refine lv_iload_n hx hb d_D_put_4 rfl (lk hl rfl) ?_
  refine lv_lload_n hx hb d_D_put_5 rfl (lk hl rfl) ?_
  refine cd_last ct hP (cd_Dx (dk_D G d cl vs dn st) dk_in) hS 1 rfl k ⟨hk, by decide⟩ rfl d_D_put_6 (fun H locs hP hz1 hq hS => ?_)
  have hPW := dkW_q hPW (by omega) hq
  have hP : va_P G.1 cd_cls (dk G d (vp_updL cl k v) vs dn st) H := hP
  refine lv_aload_n hx hb d_D_put_7 rfl (lk hl rfl) ?_
  refine cd_getD ct hP 0 1 (by decide) rfl fl_D_13 rfl d_D_put_8 ?_
  refine lv_iload_n hx hb d_D_put_11 rfl (lk hl rfl) ?_
  refine lv_dup2_11 hx hb d_D_put_12 rfl rfl ?_
  refine cd_iald ct hP 2 rfl k ⟨hk, by decide⟩ rfl d_D_put_13 ?_
  refine lv_iconst (v := 1) hx hb d_D_put_14 (by decide) ?_
  refine lv_iadd hx hb d_D_put_15 ?_
  refine cd_iast ct hP (cd_Dx (dk_D G d (vp_updL cl k v) vs dn st) dk_in) hS 2 rfl k ⟨hk, by decide⟩ rfl d_D_put_16 (fun H locs hP hz1 hq hS => ?_)
  have hPW := dkW_q hPW (by omega) hq
  exact cd_vret ct hlk hr hS ⟨by decide, by decide⟩ ⟨rfl, hP, hPW⟩ d_D_put_17
end
section
/-! CommitDesk: calls of its own helpers, as rows. -/
section DkCalls
variable {p : Program} {l : Launch} {e : Env} {R : Room} {s : State} {m : MethodId} {args : Array Value} {below : List Frame} {meth : Method} {c : Code} {H : Heap} {locs : List Loc} {cells slots : Nat} {Q : State → Prop}
variable {G : cd_G} {cc : ByteArray} {nL : Nat} {A : Nat → Prop} {pc : Nat} {ls : Array Slot} {rest : List Value} {d : Nat} {S : DS} {t k : Int32}
def dFail (t : Int32) (S : DS) (k : Nat) : Prop := (ixO t 8 = none ∧ k = 3) ∨ ∃ j, ixO t 8 = some j ∧ wOp (dW S j) = false ∧ k = 4
theorem dOpen_fail {f : Nat → DR × DS} {k : Nat} (h : dFail t S k) : dOpen t S f = (.inr k, S) := by
  unfold dOpen
  rcases h with ⟨h, rfl⟩ | ⟨j, h, h2, rfl⟩
  · rw [h]
  · rw [h]; simp only [h2]; rfl
theorem dOpen_ok {f : Nat → DR × DS} {j : Nat} (h : ixO t 8 = some j) (h2 : wOp (dW S j) = true) : dOpen t S f = f j := by
  unfold dOpen
  rw [h]; simp only [h2]; rfl
theorem dk_recv (ct : cd_Ct G p s m args c cc "CommitDesk" nL A) (hP : dkP G d S H) : ∃ cell : Cell, H[d]? = some cell ∧ cell.vm.isStatics = false ∧ s.vm.findClass "CommitDesk" = some cell.cls := by
  obtain ⟨cl, vs, dn, st, w⟩ := S
  exact va_recv (q := (R_D, F_D, 5)) (q0 := 0) ct.2.2.2.2.2.1.1 hP.1 rfl rfl
theorem dk_recvW {own : String} (ct : cd_Ct G p s m args c cc own nL A) {a : Nat} {w : WS} (hP : va_P G.1 cd_cls (wkS G a w) H) : ∃ cell : Cell, H[a]? = some cell ∧ cell.vm.isStatics = false ∧ s.vm.findClass "CommitDesk$Work" = some cell.cls := by
  obtain ⟨ce, fr, va, ve, op, pa, re, ma⟩ := w
  exact va_recv (q := (R_W, F_W, 8)) (q0 := 0) ct.2.2.2.2.2.1.1 hP rfl rfl
theorem dk_open (hfl : l.flags = flags0) (ct : cd_Ct G p s m args c cc "CommitDesk" nL A) (hS : va_S (cd_xA A s) s.heap H locs) (hP : dkP G d S H) (hR : (9 ≤ R.frames ∧ 144 ≤ R.locals) ∧ cells + 2 ≤ R.cells ∧ slots + 12 ≤ R.slots) (hsz : ls.size = nL) (hW : (rest.map fun v => v.category).sum ≤ 8) (hdg : decode cc pc = .ok (.invokevirtual 55, 3))
    (kr : ∀ (j : Nat) (H1 : Heap) (locs1 : List Loc), ixO t 8 = some j → j < 8 → wOp (dW S j) = true → dkP G d S H1 → va_S (cd_xA A s) s.heap H1 locs1 → W p l e R s m args below meth c H1 locs1 (cells + 2) (slots + 12) Q (F0 m (pc + 3) ls (.ref (wA d j) :: rest)))
    (kt : ∀ (k a : Nat) (H1 : Heap) (locs1 : List Loc), dFail t S k → va_P G.1 cd_cls [(a, .inr (k, []))] H1 → dkP G d S H1 → va_S (cd_xA A s) s.heap H1 locs1 → cd_WT p l e R s m args below meth c H1 locs1 (cells + 2) (slots + 12) Q (F0 m pc ls rest) a) :
    W p l e R s m args below meth c H locs cells slots Q (F0 m pc ls (.int t :: .ref d :: rest)) := by
  refine cd_callV (As := [.int t]) (rest := rest) ct hS (c_D_open l hfl G d S t) cv_D_55 ⟨⟨hR.1.1, by show 8 + (3 + 11) + 122 ≤ R.locals; omega⟩, hR.2⟩ (dk_recv ct hP) hP hsz rfl rfl hW hdg (fun _ _ h => h.elim) (fun v H1 locs1 hq hF hS => ?_) (fun a H1 locs1 hq hF hS => ?_)
  · cases hix : ixO t 8 with
    | none => rw [hix] at hq; obtain ⟨a, h, -⟩ := hq; cases h
    | some j =>
      rw [hix] at hq
      cases hop : wOp (dW S j) with
      | false => simp only [hop] at hq; obtain ⟨a, h, -⟩ := hq; cases h
      | true =>
        simp only [hop] at hq
        cases hq
        exact kr j H1 locs1 hix (ixO_some (by decide) hix).1 hop (dkP_same0 hP hF) hS
  · cases hix : ixO t 8 with
    | none =>
      rw [hix] at hq
      obtain ⟨b, h, hX⟩ := hq
      cases h
      exact kt 3 a H1 locs1 (Or.inl ⟨hix, rfl⟩) hX (dkP_same0 hP hF) hS
    | some j =>
      rw [hix] at hq
      cases hop : wOp (dW S j) with
      | true => simp only [hop] at hq; cases hq
      | false =>
        simp only [hop] at hq
        obtain ⟨b, h, hX⟩ := hq
        cases h
        exact kt 4 a H1 locs1 (Or.inr ⟨j, hix, hop, rfl⟩) hX (dkP_same0 hP hF) hS
theorem dk_work (hfl : l.flags = flags0) (ct : cd_Ct G p s m args c cc "CommitDesk" nL A) (hS : va_S (cd_xA A s) s.heap H locs) (hP : dkP G d S H) (hR : (8 ≤ R.frames ∧ 122 ≤ R.locals) ∧ cells + 1 ≤ R.cells ∧ slots + 6 ≤ R.slots) (hsz : ls.size = nL) (hW : (rest.map fun v => v.category).sum ≤ 8) (hdg : decode cc pc = .ok (.invokevirtual 37, 3))
    (kr : ∀ (j : Nat) (H1 : Heap) (locs1 : List Loc), ixO t 8 = some j → j < 8 → dkP G d S H1 → cd_FR (fun _ => False) H H1 → va_S (cd_xA A s) s.heap H1 locs1 → W p l e R s m args below meth c H1 locs1 (cells + 1) (slots + 6) Q (F0 m (pc + 3) ls (.ref (wA d j) :: rest)))
    (kt : ∀ (a : Nat) (H1 : Heap) (locs1 : List Loc), ixO t 8 = none → va_P G.1 cd_cls [(a, .inr (3, []))] H1 → dkP G d S H1 → va_S (cd_xA A s) s.heap H1 locs1 → cd_WT p l e R s m args below meth c H1 locs1 (cells + 1) (slots + 6) Q (F0 m pc ls rest) a) :
    W p l e R s m args below meth c H locs cells slots Q (F0 m pc ls (.int t :: .ref d :: rest)) := by
  refine cd_callV (As := [.int t]) (rest := rest) ct hS (c_D_work l hfl G d S t) cv_D_37 ⟨⟨hR.1.1, by show 8 + (2 + 11) + 101 ≤ R.locals; omega⟩, hR.2⟩ (dk_recv ct hP) hP hsz rfl rfl hW hdg (fun _ _ h => h.elim) (fun v H1 locs1 hq hF hS => ?_) (fun a H1 locs1 hq hF hS => ?_)
  · cases hix : ixO t 8 with
    | none => rw [hix] at hq; obtain ⟨a, h, -⟩ := hq; cases h
    | some j =>
      rw [hix] at hq
      cases hq
      exact kr j H1 locs1 hix (ixO_some (by decide) hix).1 (dkP_same0 hP hF) hF hS
  · cases hix : ixO t 8 with
    | none =>
      rw [hix] at hq
      obtain ⟨b, h, hX⟩ := hq
      cases h
      exact kt a H1 locs1 hix hX (dkP_same0 hP hF) hS
    | some j => rw [hix] at hq; cases hq
theorem dk_there (hfl : l.flags = flags0) (ct : cd_Ct G p s m args c cc "CommitDesk" nL A) (hS : va_S (cd_xA A s) s.heap H locs) (hP : dkP G d S H) (hR : (7 ≤ R.frames ∧ 101 ≤ R.locals) ∧ cells + 1 ≤ R.cells ∧ slots + 6 ≤ R.slots) (hsz : ls.size = nL) (hW : (rest.map fun v => v.category).sum ≤ 8) (hdg : decode cc pc = .ok (.invokestatic 51, 3))
    (kr : ∀ (i : Nat) (H1 : Heap) (locs1 : List Loc), ixO k 32 = some i → i < 32 → k = nI i → dkP G d S H1 → va_S (cd_xA A s) s.heap H1 locs1 → W p l e R s m args below meth c H1 locs1 (cells + 1) (slots + 6) Q (F0 m (pc + 3) ls rest))
    (kt : ∀ (a : Nat) (H1 : Heap) (locs1 : List Loc), ixO k 32 = none → va_P G.1 cd_cls [(a, .inr (5, []))] H1 → dkP G d S H1 → va_S (cd_xA A s) s.heap H1 locs1 → cd_WT p l e R s m args below meth c H1 locs1 (cells + 1) (slots + 6) Q (F0 m pc ls rest) a) :
    W p l e R s m args below meth c H locs cells slots Q (F0 m pc ls (.int k :: rest)) := by
  refine cd_callS (As := [.int k]) (rest := rest) ct hS (c_D_there l hfl G k) cs_D_51 ⟨⟨hR.1.1, by show 8 + (1 + 11) + 81 ≤ R.locals; omega⟩, hR.2⟩ trivial hsz rfl rfl hW hdg (fun _ _ h => h.elim) (fun v H1 locs1 hq hF hS => ?_) (fun a H1 locs1 hq hF hS => ?_)
  · cases hix : ixO k 32 with
    | none => rw [if_pos hix] at hq; obtain ⟨a, h, -⟩ := hq; cases h
    | some j =>
      rw [if_neg (by rw [hix]; intro h; cases h)] at hq
      cases hq
      exact kr j H1 locs1 hix (ixO_some (by decide) hix).1 (ixO_some (by decide) hix).2 (dkP_same0 hP hF) hS
  · cases hix : ixO k 32 with
    | none =>
      rw [if_pos hix] at hq
      obtain ⟨b, h, hX⟩ := hq
      cases h
      exact kt a H1 locs1 hix hX (dkP_same0 hP hF) hS
    | some j => rw [if_neg (by rw [hix]; intro h; cases h)] at hq; cases hq
theorem dk_good (hfl : l.flags = flags0) (ct : cd_Ct G p s m args c cc "CommitDesk" nL A) (hS : va_S (cd_xA A s) s.heap H locs) (hP : dkP G d S H) (hR : (7 ≤ R.frames ∧ 101 ≤ R.locals) ∧ cells + 1 ≤ R.cells ∧ slots + 6 ≤ R.slots) (hsz : ls.size = nL) (hW : (rest.map fun v => v.category).sum ≤ 8) (hdg : decode cc pc = .ok (.invokestatic 33, 3)) (b : Bool) {x : Int32} (hxb : x = cd_bi b)
    (kr : ∀ (H1 : Heap) (locs1 : List Loc), b = true → dkP G d S H1 → va_S (cd_xA A s) s.heap H1 locs1 → W p l e R s m args below meth c H1 locs1 (cells + 1) (slots + 6) Q (F0 m (pc + 3) ls rest))
    (kt : ∀ (a : Nat) (H1 : Heap) (locs1 : List Loc), b = false → va_P G.1 cd_cls [(a, .inr (3, []))] H1 → dkP G d S H1 → va_S (cd_xA A s) s.heap H1 locs1 → cd_WT p l e R s m args below meth c H1 locs1 (cells + 1) (slots + 6) Q (F0 m pc ls rest) a) :
    W p l e R s m args below meth c H locs cells slots Q (F0 m pc ls (.int x :: rest)) := by
  subst hxb
  refine cd_callS (As := [.int (cd_bi b)]) (rest := rest) ct hS (c_D_good l hfl G b) cs_D_33 ⟨⟨hR.1.1, by show 8 + (1 + 11) + 81 ≤ R.locals; omega⟩, hR.2⟩ trivial hsz rfl rfl hW hdg (fun _ _ h => h.elim) (fun v H1 locs1 hq hF hS => ?_) (fun a H1 locs1 hq hF hS => ?_)
  · cases b with
    | false => obtain ⟨a, h, -⟩ := hq; cases h
    | true => cases hq; exact kr H1 locs1 rfl (dkP_same0 hP hF) hS
  · cases b with
    | true => cases hq
    | false =>
      obtain ⟨b, h, hX⟩ := hq
      cases h
      exact kt a H1 locs1 rfl hX (dkP_same0 hP hF) hS
theorem dk_can (hfl : l.flags = flags0) (ct : cd_Ct G p s m args c cc "CommitDesk" nL A) (hS : va_S (cd_xA A s) s.heap H locs) (hP : dkP G d S H) (hR : (7 ≤ R.frames ∧ 101 ≤ R.locals) ∧ cells + 1 ≤ R.cells ∧ slots + 6 ≤ R.slots) (hsz : ls.size = nL) (hW : (rest.map fun v => v.category).sum ≤ 8) (hdg : decode cc pc = .ok (.invokestatic 69, 3)) (b : Bool) {x : Int32} (hxb : x = cd_bi b)
    (kr : ∀ (H1 : Heap) (locs1 : List Loc), b = true → dkP G d S H1 → va_S (cd_xA A s) s.heap H1 locs1 → W p l e R s m args below meth c H1 locs1 (cells + 1) (slots + 6) Q (F0 m (pc + 3) ls rest))
    (kt : ∀ (a : Nat) (H1 : Heap) (locs1 : List Loc), b = false → va_P G.1 cd_cls [(a, .inr (6, []))] H1 → dkP G d S H1 → va_S (cd_xA A s) s.heap H1 locs1 → cd_WT p l e R s m args below meth c H1 locs1 (cells + 1) (slots + 6) Q (F0 m pc ls rest) a) :
    W p l e R s m args below meth c H locs cells slots Q (F0 m pc ls (.int x :: rest)) := by
  subst hxb
  refine cd_callS (As := [.int (cd_bi b)]) (rest := rest) ct hS (c_D_can l hfl G b) cs_D_69 ⟨⟨hR.1.1, by show 8 + (1 + 11) + 81 ≤ R.locals; omega⟩, hR.2⟩ trivial hsz rfl rfl hW hdg (fun _ _ h => h.elim) (fun v H1 locs1 hq hF hS => ?_) (fun a H1 locs1 hq hF hS => ?_)
  · cases b with
    | false => obtain ⟨a, h, -⟩ := hq; cases h
    | true => cases hq; exact kr H1 locs1 rfl (dkP_same0 hP hF) hS
  · cases b with
    | true => cases hq
    | false =>
      obtain ⟨b, h, hX⟩ := hq
      cases h
      exact kt a H1 locs1 rfl hX (dkP_same0 hP hF) hS
/-- a call of a method of Work on the work j -/
theorem dk_callW {j : Nat} (hj : j < 8) (ct : cd_Ct G p s m args c cc "CommitDesk" nL A) (hAd : ∀ q, rg d 44 q → A q) (hS : va_S (cd_xA A s) s.heap H locs) (hP : dkP G d S H) {y : MethodName} {cw : Cond} {bytes : ByteArray} {maxL n index : Nat} {ret : Option FieldType} {hh : List (Nat × Nat × Nat × Nat)} {rm : Room} {As st0 : List Value} {w' : WS} {v : Option Value} {A1 : Nat → Prop}
    (hM : cd_Con l y cw rm (.ref (wA d j) :: As) G (va_P G.1 cd_cls (wkS G (wA d j) (dW S j))) (fun o H => o = .returned v ∧ va_P G.1 cd_cls (wkS G (wA d j) w') H) (rg (wA d j) 5))
    (ok : cd_okB y cw bytes maxL ret hh n ∧ Cond.methodLink "CommitDesk" index y ∈ cd_TB ∧ Cond.instanceMethod y ∈ cd_TB ∧ Cond.selects "CommitDesk$Work" y y ∈ cd_TB)
    (hrm : (rm.frames + 1 ≤ R.frames ∧ 8 + (maxL + 11) + rm.locals ≤ R.locals) ∧ cells + rm.cells ≤ R.cells ∧ slots + rm.slots ≤ R.slots) (hsz : ls.size = nL) (hn : As.length = n) (hst : st0 = As.reverse ++ .ref (wA d j) :: rest) (hW : (rest.map fun v => v.category).sum ≤ 8) (hdg : decode cc pc = .ok (.invokevirtual index, 3))
    (kr : ∀ (H1 : Heap) (locs1 : List Loc), dkP G d (dS_w S j w') H1 → va_S (cd_xA A s) s.heap H1 locs1 → W p l e R s m args below meth c H1 locs1 (cells + rm.cells) (slots + rm.slots) Q (F0 m (pc + 3) ls (v.toList ++ rest))) :
    W p l e R s m args below meth c H locs cells slots Q (F0 m pc ls st0) := by
  obtain ⟨cl, vs, dn, st, w⟩ := S
  refine cd_callV ct hS hM ok hrm (dk_recvW ct (hP.2 j hj)) (hP.2 j hj) hsz hn hst hW hdg (fun q _ h => Or.inl (hAd q (dk_inW hj q h))) (fun v H1 locs1 hq hF hS => ?_) (fun a H1 locs1 hq hF hS => by cases hq.1)
  obtain ⟨h, hN⟩ := hq
  cases h
  exact kr H1 locs1 ⟨dk_keepW hP.1 hF, dkW_set hP.2 hj hF hN⟩ hS
/-- the same for a method that only answers -/
theorem dk_askW {j : Nat} (hj : j < 8) (ct : cd_Ct G p s m args c cc "CommitDesk" nL A) (hS : va_S (cd_xA A s) s.heap H locs) (hP : dkP G d S H) {y : MethodName} {cw : Cond} {bytes : ByteArray} {maxL n index : Nat} {ret : Option FieldType} {hh : List (Nat × Nat × Nat × Nat)} {rm : Room} {As st0 : List Value} {v : Option Value} {Pre : Heap → Prop}
    (hM : cd_Con l y cw rm (.ref (wA d j) :: As) G Pre (fun o _ => o = .returned v) (fun _ => False)) (hpre : Pre H)
    (ok : cd_okB y cw bytes maxL ret hh n ∧ Cond.methodLink "CommitDesk" index y ∈ cd_TB ∧ Cond.instanceMethod y ∈ cd_TB ∧ Cond.selects "CommitDesk$Work" y y ∈ cd_TB)
    (hrm : (rm.frames + 1 ≤ R.frames ∧ 8 + (maxL + 11) + rm.locals ≤ R.locals) ∧ cells + rm.cells ≤ R.cells ∧ slots + rm.slots ≤ R.slots) (hsz : ls.size = nL) (hn : As.length = n) (hst : st0 = As.reverse ++ .ref (wA d j) :: rest) (hW : (rest.map fun v => v.category).sum ≤ 8) (hdg : decode cc pc = .ok (.invokevirtual index, 3))
    (kr : ∀ (H1 : Heap) (locs1 : List Loc), dkP G d S H1 → va_S (cd_xA A s) s.heap H1 locs1 → W p l e R s m args below meth c H1 locs1 (cells + rm.cells) (slots + rm.slots) Q (F0 m (pc + 3) ls (v.toList ++ rest))) :
    W p l e R s m args below meth c H locs cells slots Q (F0 m pc ls st0) := by
  obtain ⟨cl, vs, dn, st, w⟩ := S
  refine cd_callV ct hS hM ok hrm (dk_recvW ct (hP.2 j hj)) hpre hsz hn hst hW hdg (fun _ _ h => h.elim) (fun v H1 locs1 hq hF hS => ?_) (fun a H1 locs1 hq hF hS => by cases hq)
  cases hq
  exact kr H1 locs1 (dkP_same0 hP hF) hS
end DkCalls
end
section
/-! Walks of CommitDesk, 2: its public methods. Printed by prog/walk.py from walks/18.walkD2.walk. -/
abbrev rmD : Room := cd_rm 9 6 36 144
def dOK (S : DS) : Prop := ∀ j, j < 8 → wOp (dW S j) = true → WB (dW S j)
def dPost (G : cd_G) (d : Nat) (r : DR × DS) (o : Outcome) (H : Heap) : Prop := dOut G r.1 o H ∧ dkP G d r.2 H
theorem dk_Wof {G : cd_G} {d j : Nat} {S : DS} {H : Heap} (hj : j < 8) (hP : dkP G d S H) : va_P G.1 cd_cls (wkS G (wA d j) (dW S j)) H := by
  obtain ⟨cl, vs, dn, st, w⟩ := S
  exact hP.2 j hj
theorem wA_z {z d j : Nat} (hz : z < d) : z < wA d j := by unfold wA; omega
theorem cd_Ct.none {G : cd_G} {p : Program} {s : State} {m : MethodId} {args : Array Value} {c : Code} {cc : ByteArray} {own : String} {nL : Nat} {A : Nat → Prop} (h : cd_Ct G p s m args c cc own nL A) : cd_Ct G p s m args c cc own nL (fun _ => False) := ⟨h.1, h.2.1, h.2.2.1, h.2.2.2.1, h.2.2.2.2.1, h.2.2.2.2.2.1, fun h => h⟩
theorem cd_S_up {s : State} {A : Nat → Prop} {H : Heap} {locs : List Loc} (h : va_S (cd_xA (fun _ => False) s) s.heap H locs) : va_S (cd_xA A s) s.heap H locs :=
  ⟨h.1, fun q h1 h2 => h.2.1 q h1 (fun h3 => h2 (h3.elim (fun h => h.elim) Or.inr)), fun q hq => (h.2.2 q hq).elim (fun h => h.elim) Or.inr⟩
theorem cd_S_new {s : State} {H : Heap} {locs : List Loc} (h : va_S (cd_xA (fun _ => False) s) s.heap H locs) : ∀ q ∈ locs, s.heap.size ≤ q.base := fun q hq => (h.2.2 q hq).elim (fun h => h.elim) (fun h => h)
theorem dPost_thr {G : cd_G} {d a k : Nat} {S : DS} {r : DR × DS} {H : Heap} (e : r = (.inr k, S)) (hX : va_P G.1 cd_cls [(a, .inr (k, []))] H) (hP : dkP G d S H) : dPost G d r (.threw a) H := by rw [e]; exact ⟨⟨a, rfl, hX⟩, hP⟩
theorem dPost_ret {G : cd_G} {d : Nat} {v : Option Value} {S : DS} {r : DR × DS} {H : Heap} (e : r = (.inl v, S)) (hP : dkP G d S H) : dPost G d r (.returned v) H := by rw [e]; exact ⟨rfl, hP⟩
theorem d_save_eq (t : Int32) (S : DS) : d_save t S = dOpen t S fun j => if wPa (dW S j) < 5 then (.inl (some (.int (nI (wPa (dW S j) + 1)))), dS_w S j (ws_save (dW S j))) else (.inr 6, S) := rfl
theorem d_back_eq (t : Int32) (S : DS) : d_back t S = dOpen t S fun j => if 1 < wPa (dW S j) then (.inl none, dS_w S j (ws_back (dW S j))) else (.inr 6, S) := rfl
theorem d_keep_eq (t : Int32) (S : DS) : d_keep t S = dOpen t S fun j => if 1 < wPa (dW S j) then (.inl none, dS_w S j (ws_keep (dW S j))) else (.inr 6, S) := rfl
theorem d_leave_eq (t : Int32) (S : DS) : d_leave t S = dOpen t S fun j => (.inl none, dS_w S j (ws_shut (dW S j))) := rfl
theorem d_done_eq (t : Int32) (S : DS) : d_done t S = dOpen t S fun j => if dStl S j = true then (.inl (some (.int 0)), dOver S j) else
  (.inl (some (.int 1)), ((dPuts (dW S j) (dCl S, dVs S) (wMa (dW S j))).1, (dPuts (dW S j) (dCl S, dVs S) (wMa (dW S j))).2, dDn S + 1, dSt S, va_up (dW S) j (ws_shut (dW S j)))) := rfl
set_option maxHeartbeats 4000000 in
theorem c_D_begin (l : Launch) (hfl : l.flags = flags0) (G : cd_G) (d : Nat) (S : DS) (t : Int32) (hz : cd_z G < d) : cd_Con l y_D_begin cw_D_begin rmD [.ref d, .int t] G (dkP G d S) (dPost G d (d_begin t S)) (rg d 44) := by
  refine cd_ofW (by decide) ok_D_begin.1 (Nat.le_of_ble_eq_true rfl) (rg_z hz) ?_
  intro p e s m below meth c ct hlk hr hxt hnm hP ls hl
  have hx := ct.1
  have hb := ct.2.1
  have hS : va_S (cd_xA (rg d 44) s) s.heap s.heap [] := va_S.rf
  have hP0 := hP
  have hS0 : va_S (cd_xA (fun _ => False) s) s.heap s.heap [] := va_S.rf
  refine lv_aload_n hx hb d_D_begin_0 rfl (lk hl rfl) ?_
  refine lv_iload_n hx hb d_D_begin_1 rfl (lk hl rfl) ?_
  refine dk_work hfl ct.none hS0 hP ⟨⟨by decide, by decide⟩, by decide, by decide⟩ hl.1 (by decide) d_D_begin_2 (fun j H1 locs1 hix hj hP hF hS0 => ?_) (fun a H1 locs1 hix hX hP hS => ?_)
  · have e1 : d_begin t S = if wOp (dW S j) = true then (.inr 4, S) else (.inl none, dS_w S j (ws_begin (dW S j))) := by unfold d_begin; rw [hix]
    have hS := cd_S_up (A := rg d 44) hS0
    have hPj := dk_Wof hj hP
    rcases hw : dW S j with ⟨ce, fr, va, ve, op, pa, re, ma⟩
    rw [hw] at hPj e1
    have hPj : va_P G.1 cd_cls (wk G (wA d j) ce fr va ve op pa re ma) H1 := hPj
    refine lv_astore_n hx hb d_D_begin_5 rfl hl (by decide) rfl (fun ls hl => ?_)
    refine lv_aload_n hx hb d_D_begin_6 rfl (lk hl rfl) ?_
    refine cd_getW ct hPj 0 4 (by decide) rfl fl_D_41 rfl d_D_begin_7 ?_
    refine lv_if_eq (tgt := 21) hx hb d_D_begin_10 (by decide) (fun hc => ?_) (fun hc => ?_)
    · have ho : op = false := (cd_bi_0 op).mp hc
      subst ho
      rw [if_neg (by intro h; cases h)] at e1
      refine lv_aload_n hx hb d_D_begin_21 rfl (lk hl rfl) ?_
      refine dk_callW (As := []) (rest := []) (A1 := rg d 44) hj ct (fun _ h => h) hS hP (c_W_begin l G (wA d j) (dW S j) (wA_z hz)) cv_D_48 ⟨⟨by decide, by decide⟩, by decide, by decide⟩ hl.1 rfl rfl (by decide) d_D_begin_22 (fun H1 locs1 hP hS => ?_)
      rw [hw] at hP
      exact cd_vret ct hlk hr hS ⟨by decide, by decide⟩ (dPost_ret e1 hP) d_D_begin_25
    · have ho : op = true := by cases op <;> first | rfl | exact absurd rfl hc
      subst ho
      rw [if_pos rfl] at e1
      exact cd_throw (k := 4) ct hlk hfl hxt hS x_45 ⟨by decide, by decide, by decide, by decide⟩ ⟨by decide, by decide⟩ hl.1 (cd_S_new hS0) d_D_begin_13 d_D_begin_16 d_D_begin_17 d_D_begin_20 (fun a H1 _ hX hF0 => dPost_thr e1 hX (dkP_same0 hP0 hF0))
  · exact cd_out hlk hxt (cd_S_up hS) ⟨by decide, by decide⟩ (dPost_thr (by unfold d_begin; rw [hix]) hX hP)
set_option maxHeartbeats 4000000 in
theorem c_D_read (l : Launch) (hfl : l.flags = flags0) (G : cd_G) (d : Nat) (S : DS) (t k : Int32) (hz : cd_z G < d) (hok : dOK S) : cd_Con l y_D_read cw_D_read rmD [.ref d, .int t, .int k] G (dkP G d S) (dPost G d (d_read t k S)) (rg d 44) := by
  refine cd_ofW (by decide) ok_D_read.1 (Nat.le_of_ble_eq_true rfl) (rg_z hz) ?_
  intro p e s m below meth c ct hlk hr hxt hnm hP ls hl
  have hx := ct.1
  have hb := ct.2.1
  have hS : va_S (cd_xA (rg d 44) s) s.heap s.heap [] := va_S.rf
  refine lv_aload_n hx hb d_D_read_0 rfl (lk hl rfl) ?_
  refine lv_iload_n hx hb d_D_read_1 rfl (lk hl rfl) ?_
  refine dk_work hfl ct hS hP ⟨⟨by decide, by decide⟩, by decide, by decide⟩ hl.1 (by decide) d_D_read_2 (fun j H1 locs1 hix hj hP hF hS => ?_) (fun a H1 locs1 hix hX hP hS => ?_)
  case refine_2 => exact cd_out hlk hxt hS ⟨by decide, by decide⟩ (dPost_thr (by simp only [d_read, hix]) hX hP)
  refine lv_pop hx hb d_D_read_5 rfl ?_
  refine lv_iload_n hx hb d_D_read_6 rfl (lk hl rfl) ?_
  refine dk_there hfl ct hS hP ⟨⟨by decide, by decide⟩, by decide, by decide⟩ hl.1 (by decide) d_D_read_7 (fun i H1 locs1 hik hi hki hP hS => ?_) (fun a H1 locs1 hik hX hP hS => ?_)
  case refine_2 => exact cd_out hlk hxt hS ⟨by decide, by decide⟩ (dPost_thr (by simp only [d_read, hix, hik]) hX hP)
  have e1 : d_read t k S = dOpen t S (d_rd k i S) := by simp only [d_read, hix, hik]
  refine lv_aload_n hx hb d_D_read_10 rfl (lk hl rfl) ?_
  refine lv_iload_n hx hb d_D_read_11 rfl (lk hl rfl) ?_
  refine dk_open hfl ct hS hP ⟨⟨by decide, by decide⟩, by decide, by decide⟩ hl.1 (by decide) d_D_read_12 (fun j H1 locs1 hix hj hop hP hS => ?_) (fun k2 a H1 locs1 hf hX hP hS => ?_)
  case refine_2 => exact cd_out hlk hxt hS ⟨by decide, by decide⟩ (dPost_thr (e1.trans (dOpen_fail hf)) hX hP)
  rw [dOpen_ok hix hop] at e1
  unfold d_rd at e1
  have hB := hok j hj hop
  refine lv_astore_n hx hb d_D_read_15 rfl hl (by decide) rfl (fun ls hl => ?_)
  refine lv_aload_n hx hb d_D_read_16 rfl (lk hl rfl) ?_
  refine lv_iload_n hx hb d_D_read_17 rfl (lk hl rfl) ?_
  refine dk_askW (As := [.int k]) (rest := []) hj ct hS hP (c_W_last l G (wA d j) (dW S j) k hB.2.1) (dk_Wof hj hP) cv_D_57 ⟨⟨by decide, by decide⟩, by decide, by decide⟩ hl.1 rfl rfl (by decide) d_D_read_18 (fun H1 locs1 hP hS => ?_)
  generalize hf : fnd (wCe (dW S j)) k 0 (wMa (dW S j)) = r at e1
  refine lv_istore hx hb d_D_read_21 hl (by decide) rfl (fun ls hl => ?_)
  refine lv_iload hx hb d_D_read_23 (lk hl rfl) ?_
  refine lv_iconst (v := -1) hx hb d_D_read_25 (by decide) ?_
  refine lv_icmp_eq (tgt := 36) hx hb d_D_read_26 (by decide) (fun hc => ?_) (fun hc => ?_)
  · have hr0 : r = none := (fI_m1 (fun q hq => fnd_lt hB.2.1 q (hf.trans hq))).mp hc
    subst hr0
    refine lv_aload_n hx hb d_D_read_36 rfl (lk hl rfl) ?_
    refine lv_aload_n hx hb d_D_read_37 rfl (lk hl rfl) ?_
    refine cd_callV (As := [.ref (wA d j)]) (rest := []) ct hS (c_D_isFresh l G d S j hj hz) cv_D_65 ⟨⟨by decide, by decide⟩, by decide, by decide⟩ (dk_recv ct hP) hP hl.1 rfl rfl (by decide) d_D_read_38 (fun q _ h => Or.inl h) (fun v H1 locs1 hq hF hS => ?_) (fun a H1 locs1 hq hF hS => by cases hq.1)
    obtain ⟨hq, hP⟩ := hq
    cases hq
    cases hst : dStl S j with
    | true =>
      rw [hst, if_pos rfl] at hP
      simp only [hst, if_true] at e1
      refine dk_can hfl ct hS hP ⟨⟨by decide, by decide⟩, by decide, by decide⟩ hl.1 (by decide) d_D_read_41 false rfl (fun H1 locs1 hb hP hS => by cases hb) (fun a H1 locs1 hb hX hP hS => ?_)
      exact cd_out hlk hxt hS ⟨by decide, by decide⟩ (dPost_thr e1 hX hP)
    | false =>
      rw [hst, if_neg (by decide)] at hP
      simp only [hst] at e1
      rw [if_neg (by decide)] at e1
      refine dk_can hfl ct hS hP ⟨⟨by decide, by decide⟩, by decide, by decide⟩ hl.1 (by decide) d_D_read_41 true rfl (fun H1 locs1 hb1 hP hS => ?_) (fun a H1 locs1 hb hX hP hS => by cases hb)
      obtain ⟨cl, vs, dn, st, w⟩ := S
      refine lv_aload_n hx hb d_D_read_44 rfl (lk hl rfl) ?_
      refine lv_iload_n hx hb d_D_read_45 rfl (lk hl rfl) ?_
      refine lv_aload_n hx hb d_D_read_46 rfl (lk hl rfl) ?_
      refine cd_getD ct hP.1 0 1 (by decide) rfl fl_D_13 rfl d_D_read_47 ?_
      refine lv_iload_n hx hb d_D_read_50 rfl (lk hl rfl) ?_
      refine cd_iald ct hP.1 2 rfl i ⟨hi, by decide⟩ hki d_D_read_51 ?_
      refine dk_callW (As := [.int k, .int (vs i)]) (rest := []) (A1 := rg d 44) hj ct (fun _ h => h) hS hP (by rw [hki]; exact c_W_look l G (wA d j) (w j) i (vs i) (wA_z hz) hi) cv_D_72 ⟨⟨by decide, by decide⟩, by decide, by decide⟩ hl.1 rfl rfl (by decide) d_D_read_52 (fun H1 locs1 hP hS => ?_)
      refine lv_aload_n hx hb d_D_read_55 rfl (lk hl rfl) ?_
      refine cd_getD ct hP.1 0 0 (by decide) rfl fl_D_9 rfl d_D_read_56 ?_
      refine lv_iload_n hx hb d_D_read_59 rfl (lk hl rfl) ?_
      refine cd_lald ct hP.1 1 rfl i ⟨hi, by decide⟩ hki d_D_read_60 ?_
      exact cd_lret ct hlk hr hS ⟨by decide, by decide⟩ (dPost_ret e1 hP) d_D_read_61
  · cases r with
    | none => exact absurd rfl hc
    | some q =>
      have hq1 := (fnd_some hf).1
      refine lv_aload_n hx hb d_D_read_29 rfl (lk hl rfl) ?_
      refine lv_iload hx hb d_D_read_30 (lk hl rfl) ?_
      refine dk_askW (As := [.int (nI q)]) (rest := []) hj ct hS hP (c_W_at l G (wA d j) (dW S j) q (by have := hB.2.1; omega)) (dk_Wof hj hP) cv_D_61 ⟨⟨by decide, by decide⟩, by decide, by decide⟩ hl.1 rfl rfl (by decide) d_D_read_32 (fun H1 locs1 hP hS => ?_)
      exact cd_lret ct hlk hr hS ⟨by decide, by decide⟩ (dPost_ret e1 hP) d_D_read_35
set_option maxHeartbeats 4000000 in
theorem c_D_write (l : Launch) (hfl : l.flags = flags0) (G : cd_G) (d : Nat) (S : DS) (t k : Int32) (v : Int64) (hz : cd_z G < d) (hok : dOK S) : cd_Con l y_D_write cw_D_write rmD [.ref d, .int t, .int k, .long v] G (dkP G d S) (dPost G d (d_write t k v S)) (rg d 44) := by
  refine cd_ofW (by decide) ok_D_write.1 (Nat.le_of_ble_eq_true rfl) (rg_z hz) ?_
  intro p e s m below meth c ct hlk hr hxt hnm hP ls hl
  have hx := ct.1
  have hb := ct.2.1
  have hS : va_S (cd_xA (rg d 44) s) s.heap s.heap [] := va_S.rf
  refine lv_aload_n hx hb d_D_write_0 rfl (lk hl rfl) ?_
  refine lv_iload_n hx hb d_D_write_1 rfl (lk hl rfl) ?_
  refine dk_work hfl ct hS hP ⟨⟨by decide, by decide⟩, by decide, by decide⟩ hl.1 (by decide) d_D_write_2 (fun j H1 locs1 hix hj hP hF hS => ?_) (fun a H1 locs1 hix hX hP hS => ?_)
  case refine_2 => exact cd_out hlk hxt hS ⟨by decide, by decide⟩ (dPost_thr (by simp only [d_write, hix]) hX hP)
  refine lv_pop hx hb d_D_write_5 rfl ?_
  refine lv_iload_n hx hb d_D_write_6 rfl (lk hl rfl) ?_
  refine dk_there hfl ct hS hP ⟨⟨by decide, by decide⟩, by decide, by decide⟩ hl.1 (by decide) d_D_write_7 (fun i H1 locs1 hik hi hki hP hS => ?_) (fun a H1 locs1 hik hX hP hS => ?_)
  case refine_2 => exact cd_out hlk hxt hS ⟨by decide, by decide⟩ (dPost_thr (by simp only [d_write, hix, hik]) hX hP)
  have e1 : d_write t k v S = dOpen t S fun j => (.inl none, dS_w S j (ws_write (dW S j) k v)) := by simp only [d_write, hix, hik]
  refine lv_aload_n hx hb d_D_write_10 rfl (lk hl rfl) ?_
  refine lv_iload_n hx hb d_D_write_11 rfl (lk hl rfl) ?_
  refine dk_open hfl ct hS hP ⟨⟨by decide, by decide⟩, by decide, by decide⟩ hl.1 (by decide) d_D_write_12 (fun j H1 locs1 hix hj hop hP hS => ?_) (fun k2 a H1 locs1 hf hX hP hS => ?_)
  case refine_2 => exact cd_out hlk hxt hS ⟨by decide, by decide⟩ (dPost_thr (e1.trans (dOpen_fail hf)) hX hP)
  rw [dOpen_ok hix hop] at e1
  have hB := hok j hj hop
  refine lv_iload_n hx hb d_D_write_15 rfl (lk hl rfl) ?_
  refine lv_lload_n hx hb d_D_write_16 rfl (lk hl rfl) ?_
  refine dk_callW (As := [.int k, .long v]) (rest := []) (A1 := rg d 44) hj ct (fun _ h => h) hS hP (c_W_write l G (wA d j) (dW S j) k v (wA_z hz) hB.1 (Nat.le_trans (hB.2.2.1 _ (by have := hB.1.1; omega)) hB.2.1) hB.2.1 (by rw [hki]; exact hB.2.2.2.1 i hi)) cv_D_83 ⟨⟨by decide, by decide⟩, by decide, by decide⟩ hl.1 rfl rfl (by decide) d_D_write_17 (fun H1 locs1 hP hS => ?_)
  exact cd_vret ct hlk hr hS ⟨by decide, by decide⟩ (dPost_ret e1 hP) d_D_write_20
set_option maxHeartbeats 4000000 in
theorem c_D_save (l : Launch) (hfl : l.flags = flags0) (G : cd_G) (d : Nat) (S : DS) (t : Int32) (hz : cd_z G < d) (hok : dOK S) : cd_Con l y_D_save cw_D_save rmD [.ref d, .int t] G (dkP G d S) (dPost G d (d_save t S)) (rg d 44) := by
  refine cd_ofW (by decide) ok_D_save.1 (Nat.le_of_ble_eq_true rfl) (rg_z hz) ?_
  intro p e s m below meth c ct hlk hr hxt hnm hP ls hl
  have hx := ct.1
  have hb := ct.2.1
  have hS : va_S (cd_xA (rg d 44) s) s.heap s.heap [] := va_S.rf
  have e1 := d_save_eq t S
  refine lv_aload_n hx hb d_D_save_0 rfl (lk hl rfl) ?_
  refine lv_iload_n hx hb d_D_save_1 rfl (lk hl rfl) ?_
  refine dk_open hfl ct hS hP ⟨⟨by decide, by decide⟩, by decide, by decide⟩ hl.1 (by decide) d_D_save_2 (fun j H1 locs1 hix hj hop hP hS => ?_) (fun k2 a H1 locs1 hf hX hP hS => ?_)
  case refine_2 => exact cd_out hlk hxt hS ⟨by decide, by decide⟩ (dPost_thr (e1.trans (dOpen_fail hf)) hX hP)
  rw [dOpen_ok hix hop] at e1
  have hB := hok j hj hop
  have hPj := dk_Wof hj hP
  have hcall := c_W_save l G (wA d j) (dW S j) (wA_z hz)
  rcases hw : dW S j with ⟨ce, fr, va, ve, op, pa, re, ma⟩
  rw [hw] at hPj e1 hB
  have hPj : va_P G.1 cd_cls (wk G (wA d j) ce fr va ve op pa re ma) H1 := hPj
  have hpa : 1 ≤ pa ∧ pa ≤ 5 := hB.1
  have e1 : d_save t S = if pa < 5 then (.inl (some (.int (nI (pa + 1)))), dS_w S j (ws_save (ce, fr, va, ve, op, pa, re, ma))) else (.inr 6, S) := e1
  refine lv_astore_n hx hb d_D_save_5 rfl hl (by decide) rfl (fun ls hl => ?_)
  refine lv_aload_n hx hb d_D_save_6 rfl (lk hl rfl) ?_
  refine cd_getW ct hPj 0 5 (by decide) rfl fl_D_87 rfl d_D_save_7 ?_
  refine lv_iconst (v := 5) hx hb d_D_save_10 (by decide) ?_
  refine lv_icmp_ge (tgt := 18) hx hb d_D_save_11 (by decide) (fun hc => ?_) (fun hc => ?_)
  · have hge : ¬ pa < 5 := fun h => nI_ge (b := 5) h (by decide) hc
    rw [if_neg hge] at e1
    refine lv_iconst (v := 0) hx hb d_D_save_18 (by decide) ?_
    refine dk_can hfl ct hS hP ⟨⟨by decide, by decide⟩, by decide, by decide⟩ hl.1 (by decide) d_D_save_19 false rfl (fun H1 locs1 hb hP hS => by cases hb) (fun a H1 locs1 hb hX hP hS => ?_)
    exact cd_out hlk hxt hS ⟨by decide, by decide⟩ (dPost_thr e1 hX hP)
  · have hlt : pa < 5 := Nat.not_le.mp fun h => hc (nI_le (a := 5) h (by omega))
    rw [if_pos hlt] at e1
    refine lv_iconst (v := 1) hx hb d_D_save_14 (by decide) ?_
    refine lv_goto (tgt := 19) hx hb d_D_save_15 (by decide) ?_
    refine dk_can hfl ct hS hP ⟨⟨by decide, by decide⟩, by decide, by decide⟩ hl.1 (by decide) d_D_save_19 true rfl (fun H1 locs1 hb1 hP hS => ?_) (fun a H1 locs1 hb hX hP hS => by cases hb)
    refine lv_aload_n hx hb d_D_save_22 rfl (lk hl rfl) ?_
    refine dk_callW (As := []) (rest := []) (A1 := rg d 44) hj ct (fun _ h => h) hS hP (hcall (by rw [hw]; exact hlt)) cv_D_90 ⟨⟨by decide, by decide⟩, by decide, by decide⟩ hl.1 rfl rfl (by decide) d_D_save_23 (fun H1 locs1 hP hS => ?_)
    rw [hw] at hP
    have hPj := dk_Wof hj hP
    have hup : dW (dS_w S j (ws_save (ce, fr, va, ve, op, pa, re, ma))) j = ws_save (ce, fr, va, ve, op, pa, re, ma) := by obtain ⟨cl, vs, dn, st, w⟩ := S; simp [dS_w, dW, va_up]
    rw [hup] at hPj
    have hPj : va_P G.1 cd_cls (wk G (wA d j) ce (va_up fr pa ma) va ve op (pa + 1) re ma) H1 := hPj
    refine lv_aload_n hx hb d_D_save_26 rfl (lk hl rfl) ?_
    refine cd_getW ct hPj 0 5 (by decide) rfl fl_D_87 rfl d_D_save_27 ?_
    exact cd_iret ct hlk hr hS ⟨by decide, by decide⟩ (dPost_ret e1 hP) d_D_save_30
set_option maxHeartbeats 4000000 in
theorem c_D_back (l : Launch) (hfl : l.flags = flags0) (G : cd_G) (d : Nat) (S : DS) (t : Int32) (hz : cd_z G < d) (hok : dOK S) : cd_Con l y_D_back cw_D_back rmD [.ref d, .int t] G (dkP G d S) (dPost G d (d_back t S)) (rg d 44) := by
  refine cd_ofW (by decide) ok_D_back.1 (Nat.le_of_ble_eq_true rfl) (rg_z hz) ?_
  intro p e s m below meth c ct hlk hr hxt hnm hP ls hl
  have hx := ct.1
  have hb := ct.2.1
  have hS : va_S (cd_xA (rg d 44) s) s.heap s.heap [] := va_S.rf
  have e1 := d_back_eq t S
  refine lv_aload_n hx hb d_D_back_0 rfl (lk hl rfl) ?_
  refine lv_iload_n hx hb d_D_back_1 rfl (lk hl rfl) ?_
  refine dk_open hfl ct hS hP ⟨⟨by decide, by decide⟩, by decide, by decide⟩ hl.1 (by decide) d_D_back_2 (fun j H1 locs1 hix hj hop hP hS => ?_) (fun k2 a H1 locs1 hf hX hP hS => ?_)
  case refine_2 => exact cd_out hlk hxt hS ⟨by decide, by decide⟩ (dPost_thr (e1.trans (dOpen_fail hf)) hX hP)
  rw [dOpen_ok hix hop] at e1
  have hB := hok j hj hop
  have hPj := dk_Wof hj hP
  have hcall := c_W_back l G (wA d j) (dW S j) (wA_z hz) hB.1
  rcases hw : dW S j with ⟨ce, fr, va, ve, op, pa, re, ma⟩
  rw [hw] at hPj hB
  have hPj : va_P G.1 cd_cls (wk G (wA d j) ce fr va ve op pa re ma) H1 := hPj
  have hpa : 1 ≤ pa ∧ pa ≤ 5 := hB.1
  have hpw : wPa (dW S j) = pa := by rw [hw]
  rw [hpw] at e1
  refine lv_astore_n hx hb d_D_back_5 rfl hl (by decide) rfl (fun ls hl => ?_)
  refine lv_aload_n hx hb d_D_back_6 rfl (lk hl rfl) ?_
  refine cd_getW ct hPj 0 5 (by decide) rfl fl_D_87 rfl d_D_back_7 ?_
  refine lv_iconst (v := 1) hx hb d_D_back_10 (by decide) ?_
  refine lv_icmp_le (tgt := 18) hx hb d_D_back_11 (by decide) (fun hc => ?_) (fun hc => ?_)
  · have hge : ¬ 1 < pa := fun h => nI_ge (a := 1) h (by omega) hc
    rw [if_neg hge] at e1
    refine lv_iconst (v := 0) hx hb d_D_back_18 (by decide) ?_
    refine dk_can hfl ct hS hP ⟨⟨by decide, by decide⟩, by decide, by decide⟩ hl.1 (by decide) d_D_back_19 false rfl (fun H1 locs1 hb hP hS => by cases hb) (fun a H1 locs1 hb hX hP hS => ?_)
    exact cd_out hlk hxt hS ⟨by decide, by decide⟩ (dPost_thr e1 hX hP)
  · have hlt : 1 < pa := Nat.not_le.mp fun h => hc (nI_le (b := 1) h (by decide))
    rw [if_pos hlt] at e1
    refine lv_iconst (v := 1) hx hb d_D_back_14 (by decide) ?_
    refine lv_goto (tgt := 19) hx hb d_D_back_15 (by decide) ?_
    refine dk_can hfl ct hS hP ⟨⟨by decide, by decide⟩, by decide, by decide⟩ hl.1 (by decide) d_D_back_19 true rfl (fun H1 locs1 hb1 hP hS => ?_) (fun a H1 locs1 hb hX hP hS => by cases hb)
    refine lv_aload_n hx hb d_D_back_22 rfl (lk hl rfl) ?_
    refine dk_callW (As := []) (rest := []) (A1 := rg d 44) hj ct (fun _ h => h) hS hP hcall cv_D_93 ⟨⟨by decide, by decide⟩, by decide, by decide⟩ hl.1 rfl rfl (by decide) d_D_back_23 (fun H1 locs1 hP hS => ?_)
    exact cd_vret ct hlk hr hS ⟨by decide, by decide⟩ (dPost_ret e1 hP) d_D_back_26
set_option maxHeartbeats 4000000 in
theorem c_D_keep (l : Launch) (hfl : l.flags = flags0) (G : cd_G) (d : Nat) (S : DS) (t : Int32) (hz : cd_z G < d) (hok : dOK S) : cd_Con l y_D_keep cw_D_keep rmD [.ref d, .int t] G (dkP G d S) (dPost G d (d_keep t S)) (rg d 44) := by
  refine cd_ofW (by decide) ok_D_keep.1 (Nat.le_of_ble_eq_true rfl) (rg_z hz) ?_
  intro p e s m below meth c ct hlk hr hxt hnm hP ls hl
  have hx := ct.1
  have hb := ct.2.1
  have hS : va_S (cd_xA (rg d 44) s) s.heap s.heap [] := va_S.rf
  have e1 := d_keep_eq t S
  refine lv_aload_n hx hb d_D_keep_0 rfl (lk hl rfl) ?_
  refine lv_iload_n hx hb d_D_keep_1 rfl (lk hl rfl) ?_
  refine dk_open hfl ct hS hP ⟨⟨by decide, by decide⟩, by decide, by decide⟩ hl.1 (by decide) d_D_keep_2 (fun j H1 locs1 hix hj hop hP hS => ?_) (fun k2 a H1 locs1 hf hX hP hS => ?_)
  case refine_2 => exact cd_out hlk hxt hS ⟨by decide, by decide⟩ (dPost_thr (e1.trans (dOpen_fail hf)) hX hP)
  rw [dOpen_ok hix hop] at e1
  have hB := hok j hj hop
  have hPj := dk_Wof hj hP
  have hcall : 1 < wPa (dW S j) → _ := fun h => c_W_keep l G (wA d j) (dW S j) (wA_z hz) ⟨h, hB.1.2⟩ ⟨Nat.le_trans (hB.2.2.1 _ (by omega)) hB.2.1, hB.2.2.1 _ (by omega)⟩ hB.2.1
  rcases hw : dW S j with ⟨ce, fr, va, ve, op, pa, re, ma⟩
  rw [hw] at hPj hB
  have hPj : va_P G.1 cd_cls (wk G (wA d j) ce fr va ve op pa re ma) H1 := hPj
  have hpa : 1 ≤ pa ∧ pa ≤ 5 := hB.1
  have hpw : wPa (dW S j) = pa := by rw [hw]
  rw [hpw] at e1
  refine lv_astore_n hx hb d_D_keep_5 rfl hl (by decide) rfl (fun ls hl => ?_)
  refine lv_aload_n hx hb d_D_keep_6 rfl (lk hl rfl) ?_
  refine cd_getW ct hPj 0 5 (by decide) rfl fl_D_87 rfl d_D_keep_7 ?_
  refine lv_iconst (v := 1) hx hb d_D_keep_10 (by decide) ?_
  refine lv_icmp_le (tgt := 18) hx hb d_D_keep_11 (by decide) (fun hc => ?_) (fun hc => ?_)
  · have hge : ¬ 1 < pa := fun h => nI_ge (a := 1) h (by omega) hc
    rw [if_neg hge] at e1
    refine lv_iconst (v := 0) hx hb d_D_keep_18 (by decide) ?_
    refine dk_can hfl ct hS hP ⟨⟨by decide, by decide⟩, by decide, by decide⟩ hl.1 (by decide) d_D_keep_19 false rfl (fun H1 locs1 hb hP hS => by cases hb) (fun a H1 locs1 hb hX hP hS => ?_)
    exact cd_out hlk hxt hS ⟨by decide, by decide⟩ (dPost_thr e1 hX hP)
  · have hlt : 1 < pa := Nat.not_le.mp fun h => hc (nI_le (b := 1) h (by decide))
    rw [if_pos hlt] at e1
    refine lv_iconst (v := 1) hx hb d_D_keep_14 (by decide) ?_
    refine lv_goto (tgt := 19) hx hb d_D_keep_15 (by decide) ?_
    refine dk_can hfl ct hS hP ⟨⟨by decide, by decide⟩, by decide, by decide⟩ hl.1 (by decide) d_D_keep_19 true rfl (fun H1 locs1 hb1 hP hS => ?_) (fun a H1 locs1 hb hX hP hS => by cases hb)
    refine lv_aload_n hx hb d_D_keep_22 rfl (lk hl rfl) ?_
    refine dk_callW (As := []) (rest := []) (A1 := rg d 44) hj ct (fun _ h => h) hS hP (hcall (by rw [hpw]; exact hlt)) cv_D_96 ⟨⟨by decide, by decide⟩, by decide, by decide⟩ hl.1 rfl rfl (by decide) d_D_keep_23 (fun H1 locs1 hP hS => ?_)
    exact cd_vret ct hlk hr hS ⟨by decide, by decide⟩ (dPost_ret e1 hP) d_D_keep_26
end
section
/-! Walks of CommitDesk, 3: leave, set, cell, changed, done, count, all, the constructor. Printed by prog/walk.py from walks/19.walkD3.walk. -/
theorem dS_put {G : cd_G} {d j : Nat} {S : DS} {w' : WS} {H H1 : Heap} {a : Nat} (hj : j < 8) (ha : a = wA d j) (hP : dkP G d S H) (hz : H1.size = H.size) (hq : ∀ q, q ≠ a → H1[q]? = H[q]?) (hN : va_P G.1 cd_cls (wkS G (wA d j) w') H1) : dkP G d (dS_w S j w') H1 := by
  obtain ⟨cl, vs, dn, st, w⟩ := S
  subst ha
  exact ⟨dk_qW hP.1 (by unfold wA; omega) hq, dkW_set hP.2 hj ⟨by omega, fun q _ h => hq q (fun e => h ⟨by omega, by omega⟩)⟩ hN⟩
set_option maxHeartbeats 4000000 in
theorem c_D_leave (l : Launch) (hfl : l.flags = flags0) (G : cd_G) (d : Nat) (S : DS) (t : Int32) (hz : cd_z G < d) : cd_Con l y_D_leave cw_D_leave rmD [.ref d, .int t] G (dkP G d S) (dPost G d (d_leave t S)) (rg d 44) := by
  refine cd_ofW (by decide) ok_D_leave.1 (Nat.le_of_ble_eq_true rfl) (rg_z hz) ?_
  intro p e s m below meth c ct hlk hr hxt hnm hP ls hl
  have hx := ct.1
  have hb := ct.2.1
  have hS : va_S (cd_xA (rg d 44) s) s.heap s.heap [] := va_S.rf
  have e1 := d_leave_eq t S
  refine lv_aload_n hx hb d_D_leave_0 rfl (lk hl rfl) ?_
  refine lv_iload_n hx hb d_D_leave_1 rfl (lk hl rfl) ?_
  refine dk_open hfl ct hS hP ⟨⟨by decide, by decide⟩, by decide, by decide⟩ hl.1 (by decide) d_D_leave_2 (fun j H1 locs1 hix hj hop hP hS => ?_) (fun k2 a H1 locs1 hf hX hP hS => ?_)
  case refine_2 => exact cd_out hlk hxt hS ⟨by decide, by decide⟩ (dPost_thr (e1.trans (dOpen_fail hf)) hX hP)
  rw [dOpen_ok hix hop] at e1
  have hPj := dk_Wof hj hP
  rcases hw : dW S j with ⟨ce, fr, va, ve, op, pa, re, ma⟩
  rw [hw] at hPj e1
  have hPj : va_P G.1 cd_cls (wk G (wA d j) ce fr va ve op pa re ma) H1 := hPj
  refine lv_iconst (v := 0) hx hb d_D_leave_5 (by decide) ?_
  refine cd_put in_W rfl t_W t_W_ok n_W ct hPj (cd_Dx (wk_D G (wA d j) (ce, fr, va, ve, op, pa, re, ma)) (dk_inW hj)) hS 0 4 (by decide) rfl fl_D_41 (Or.inl rfl) rfl rfl (Nat.le_of_ble_eq_true rfl) d_D_leave_6 (fun H locs hPj hz1 hq hS => ?_)
  exact cd_vret ct hlk hr hS ⟨by decide, by decide⟩ (dPost_ret e1 (dS_put (w' := ws_shut (ce, fr, va, ve, op, pa, re, ma)) hj rfl hP hz1 hq hPj)) d_D_leave_9
set_option maxHeartbeats 4000000 in
theorem c_D_set (l : Launch) (hfl : l.flags = flags0) (G : cd_G) (d : Nat) (S : DS) (k : Int32) (v : Int64) (hz : cd_z G < d) : cd_Con l y_D_set cw_D_set rmD [.ref d, .int k, .long v] G (dkP G d S) (dPost G d (d_set k v S)) (rg d 44) := by
  refine cd_ofW (by decide) ok_D_set.1 (Nat.le_of_ble_eq_true rfl) (rg_z hz) ?_
  intro p e s m below meth c ct hlk hr hxt hnm hP ls hl
  have hx := ct.1
  have hb := ct.2.1
  have hS : va_S (cd_xA (rg d 44) s) s.heap s.heap [] := va_S.rf
  refine lv_iload_n hx hb d_D_set_0 rfl (lk hl rfl) ?_
  refine dk_there hfl ct hS hP ⟨⟨by decide, by decide⟩, by decide, by decide⟩ hl.1 (by decide) d_D_set_1 (fun i H1 locs1 hik hi hki hP hS => ?_) (fun a H1 locs1 hik hX hP hS => ?_)
  case refine_2 => exact cd_out hlk hxt hS ⟨by decide, by decide⟩ (dPost_thr (by simp only [d_set, hik]) hX hP)
  refine lv_aload_n hx hb d_D_set_4 rfl (lk hl rfl) ?_
  refine lv_iload_n hx hb d_D_set_5 rfl (lk hl rfl) ?_
  refine lv_lload_n hx hb d_D_set_6 rfl (lk hl rfl) ?_
  refine cd_callV (As := [.int k, .long v]) (rest := []) ct hS (by rw [hki]; exact c_D_put l G d S i v hi hz) cv_D_109 ⟨⟨by decide, by decide⟩, by decide, by decide⟩ (dk_recv ct hP) hP hl.1 rfl rfl (Nat.le_of_ble_eq_true rfl) d_D_set_7 (fun q _ h => Or.inl h) (fun v H1 locs1 hq hF hS => ?_) (fun a H1 locs1 hq hF hS => by cases hq.1)
  obtain ⟨hq, hP⟩ := hq
  cases hq
  exact cd_vret ct hlk hr hS ⟨by decide, by decide⟩ (dPost_ret (by simp only [d_set, hik]) hP) d_D_set_10
set_option maxHeartbeats 4000000 in
theorem c_D_cell (l : Launch) (hfl : l.flags = flags0) (G : cd_G) (d : Nat) (S : DS) (k : Int32) (hz : cd_z G < d) : cd_Con l y_D_cell cw_D_cell rmD [.ref d, .int k] G (dkP G d S) (dPost G d (d_cell k S)) (rg d 44) := by
  refine cd_ofW (by decide) ok_D_cell.1 (Nat.le_of_ble_eq_true rfl) (rg_z hz) ?_
  intro p e s m below meth c ct hlk hr hxt hnm hP ls hl
  have hx := ct.1
  have hb := ct.2.1
  have hS : va_S (cd_xA (rg d 44) s) s.heap s.heap [] := va_S.rf
  refine lv_iload_n hx hb d_D_cell_0 rfl (lk hl rfl) ?_
  refine dk_there hfl ct hS hP ⟨⟨by decide, by decide⟩, by decide, by decide⟩ hl.1 (by decide) d_D_cell_1 (fun i H1 locs1 hik hi hki hP hS => ?_) (fun a H1 locs1 hik hX hP hS => ?_)
  case refine_2 => exact cd_out hlk hxt hS ⟨by decide, by decide⟩ (dPost_thr (by simp only [d_cell, hik]) hX hP)
  obtain ⟨cl, vs, dn, st, w⟩ := S
  refine lv_aload_n hx hb d_D_cell_4 rfl (lk hl rfl) ?_
  refine cd_getD ct hP.1 0 0 (by decide) rfl fl_D_9 rfl d_D_cell_5 ?_
  refine lv_iload_n hx hb d_D_cell_8 rfl (lk hl rfl) ?_
  refine cd_lald ct hP.1 1 rfl i ⟨hi, by decide⟩ hki d_D_cell_9 ?_
  exact cd_lret ct hlk hr hS ⟨by decide, by decide⟩ (dPost_ret (by simp only [d_cell, hik]) hP) d_D_cell_10
set_option maxHeartbeats 4000000 in
theorem c_D_changed (l : Launch) (hfl : l.flags = flags0) (G : cd_G) (d : Nat) (S : DS) (k : Int32) (hz : cd_z G < d) : cd_Con l y_D_changed cw_D_changed rmD [.ref d, .int k] G (dkP G d S) (dPost G d (d_changed k S)) (rg d 44) := by
  refine cd_ofW (by decide) ok_D_changed.1 (Nat.le_of_ble_eq_true rfl) (rg_z hz) ?_
  intro p e s m below meth c ct hlk hr hxt hnm hP ls hl
  have hx := ct.1
  have hb := ct.2.1
  have hS : va_S (cd_xA (rg d 44) s) s.heap s.heap [] := va_S.rf
  refine lv_iload_n hx hb d_D_changed_0 rfl (lk hl rfl) ?_
  refine dk_there hfl ct hS hP ⟨⟨by decide, by decide⟩, by decide, by decide⟩ hl.1 (by decide) d_D_changed_1 (fun i H1 locs1 hik hi hki hP hS => ?_) (fun a H1 locs1 hik hX hP hS => ?_)
  case refine_2 => exact cd_out hlk hxt hS ⟨by decide, by decide⟩ (dPost_thr (by simp only [d_changed, hik]) hX hP)
  obtain ⟨cl, vs, dn, st, w⟩ := S
  refine lv_aload_n hx hb d_D_changed_4 rfl (lk hl rfl) ?_
  refine cd_getD ct hP.1 0 1 (by decide) rfl fl_D_13 rfl d_D_changed_5 ?_
  refine lv_iload_n hx hb d_D_changed_8 rfl (lk hl rfl) ?_
  refine cd_iald ct hP.1 2 rfl i ⟨hi, by decide⟩ hki d_D_changed_9 ?_
  exact cd_iret ct hlk hr hS ⟨by decide, by decide⟩ (dPost_ret (by simp only [d_changed, hik]) hP) d_D_changed_10
set_option maxHeartbeats 4000000 in
theorem c_D_count (l : Launch) (hfl : l.flags = flags0) (G : cd_G) (d : Nat) (S : DS) (t what : Int32) (hz : cd_z G < d) (hok : dOK S) : cd_Con l y_D_count cw_D_count rmD [.ref d, .int t, .int what] G (dkP G d S) (dPost G d (d_count t what S)) (rg d 44) := by
  refine cd_ofW (by decide) ok_D_count.1 (Nat.le_of_ble_eq_true rfl) (rg_z hz) ?_
  intro p e s m below meth c ct hlk hr hxt hnm hP ls hl
  have hx := ct.1
  have hb := ct.2.1
  have hS : va_S (cd_xA (rg d 44) s) s.heap s.heap [] := va_S.rf
  have bad : ixO what 4 = none → W p l e rmD s m [Value.ref d, Value.int t, Value.int what].toArray below meth c s.heap [] 0 0 (cd_CQ below s (rg d 44) (dPost G d (d_count t what S)) rmD.cells rmD.slots) (F0 m 13 ls []) := by
    intro h
    refine lv_iconst (v := 0) hx hb d_D_count_13 (by decide) ?_
    refine dk_good hfl ct hS hP ⟨⟨by decide, by decide⟩, by decide, by decide⟩ hl.1 (by decide) d_D_count_14 false rfl (fun H1 locs1 hb hP hS => by cases hb) (fun a H1 locs1 hb hX hP hS => ?_)
    exact cd_out hlk hxt hS ⟨by decide, by decide⟩ (dPost_thr (by simp only [d_count, h]) hX hP)
  refine lv_iload_n hx hb d_D_count_0 rfl (lk hl rfl) ?_
  refine lv_if_lt (tgt := 13) hx hb d_D_count_1 (by decide) (fun hc => ?_) (fun hc => ?_)
  · exact bad (ixO_lt hc)
  refine lv_iload_n hx hb d_D_count_4 rfl (lk hl rfl) ?_
  refine lv_iconst (v := 4) hx hb d_D_count_5 (by decide) ?_
  refine lv_icmp_ge (tgt := 13) hx hb d_D_count_6 (by decide) (fun hc2 => ?_) (fun hc2 => ?_)
  · exact bad (ixO_ge hc hc2)
  obtain ⟨h, hh, rfl, -⟩ := pk_mu (L := 4) hc hc2 (by decide)
  have hih := ixO_nI (n := 4) (by decide) hh
  refine lv_iconst (v := 1) hx hb d_D_count_9 (by decide) ?_
  refine lv_goto (tgt := 14) hx hb d_D_count_10 (by decide) ?_
  refine dk_good hfl ct hS hP ⟨⟨by decide, by decide⟩, by decide, by decide⟩ hl.1 (by decide) d_D_count_14 true rfl (fun H1 locs1 hb1 hP hS => ?_) (fun a H1 locs1 hb hX hP hS => by cases hb)
  have e1 : d_count t (nI h) S = dOpen t S fun j => (.inl (some (.int (if h = 0 then bcI (wRe (dW S j)) else if h = 1 then bcI (orN (wCe (dW S j)) (wMa (dW S j))) else if h = 2 then nI (wPa (dW S j)) else cd_bi (dStl S j)))), S) := by simp only [d_count, hih]
  refine lv_aload_n hx hb d_D_count_17 rfl (lk hl rfl) ?_
  refine lv_iload_n hx hb d_D_count_18 rfl (lk hl rfl) ?_
  refine dk_open hfl ct hS hP ⟨⟨by decide, by decide⟩, by decide, by decide⟩ hl.1 (by decide) d_D_count_19 (fun j H1 locs1 hix hj hop hP hS => ?_) (fun k2 a H1 locs1 hf hX hP hS => ?_)
  case refine_2 => exact cd_out hlk hxt hS ⟨by decide, by decide⟩ (dPost_thr (e1.trans (dOpen_fail hf)) hX hP)
  rw [dOpen_ok hix hop] at e1
  have hB := hok j hj hop
  have hPj := dk_Wof hj hP
  refine lv_astore_n hx hb d_D_count_22 rfl hl (by decide) rfl (fun ls hl => ?_)
  refine lv_iload_n hx hb d_D_count_23 rfl (lk hl rfl) ?_
  refine lv_if_ne (tgt := 37) hx hb d_D_count_24 (by decide) (fun h0 => ?_) (fun h0 => ?_)
  · have h0 : ¬ h = 0 := fun e => h0 (by rw [e]; rfl)
    rw [if_neg h0] at e1
    refine lv_iload_n hx hb d_D_count_37 rfl (lk hl rfl) ?_
    refine lv_iconst (v := 1) hx hb d_D_count_38 (by decide) ?_
    refine lv_icmp_ne (tgt := 49) hx hb d_D_count_39 (by decide) (fun h1 => ?_) (fun h1 => ?_)
    · have h1 : ¬ h = 1 := fun e => h1 (by rw [e]; rfl)
      rw [if_neg h1] at e1
      refine lv_iload_n hx hb d_D_count_49 rfl (lk hl rfl) ?_
      refine lv_iconst (v := 2) hx hb d_D_count_50 (by decide) ?_
      refine lv_icmp_ne (tgt := 61) hx hb d_D_count_51 (by decide) (fun h2 => ?_) (fun h2 => ?_)
      · have h2 : ¬ h = 2 := fun e => h2 (by rw [e]; rfl)
        rw [if_neg h2] at e1
        obtain ⟨cl, vs, dn, st, w⟩ := S
        refine lv_aload_n hx hb d_D_count_61 rfl (lk hl rfl) ?_
        refine lv_aload_n hx hb d_D_count_62 rfl (lk hl rfl) ?_
        refine cd_getD ct hP.1 0 1 (by decide) rfl fl_D_13 rfl d_D_count_63 ?_
        refine dk_askW (As := [.ref (d + 2)]) (rest := []) hj ct hS hP (c_W_stale l G (wA d j) (d + 2) (w j) vs) ⟨hPj, hP.1.sub [2] rfl⟩ cv_D_76 ⟨⟨by decide, by decide⟩, by decide, by decide⟩ hl.1 rfl rfl (Nat.le_of_ble_eq_true rfl) d_D_count_66 (fun H1 locs1 hP hS => ?_)
        have hs0 : dStl ((cl, vs, dn, st, w) : DS) j = stl (wRe (w j)) (wVe (w j)) vs 32 := rfl
        rw [hs0] at e1
        refine lv_if_eq (tgt := 76) hx hb d_D_count_69 (by decide) (fun h3 => ?_) (fun h3 => ?_)
        · rw [(cd_bi_0 _).mp h3] at e1
          refine lv_iconst (v := 0) hx hb d_D_count_76 (by decide) ?_
          exact cd_iret ct hlk hr hS ⟨by decide, by decide⟩ (dPost_ret e1 hP) d_D_count_77
        · rw [show stl (wRe (w j)) (wVe (w j)) vs 32 = true by cases h9 : stl (wRe (w j)) (wVe (w j)) vs 32 <;> first | rfl | exact absurd (by show cd_bi (stl (wRe (w j)) (wVe (w j)) vs 32) = 0; rw [h9]; rfl) h3] at e1
          refine lv_iconst (v := 1) hx hb d_D_count_72 (by decide) ?_
          refine lv_goto (tgt := 77) hx hb d_D_count_73 (by decide) ?_
          exact cd_iret ct hlk hr hS ⟨by decide, by decide⟩ (dPost_ret e1 hP) d_D_count_77
      · have h2 : h = 2 := (nI_eq (by omega) (by decide)).mp h2
        rw [if_pos h2] at e1
        rcases hw : dW S j with ⟨ce, fr, va, ve, op, pa, re, ma⟩
        rw [hw] at hPj e1
        have hPj : va_P G.1 cd_cls (wk G (wA d j) ce fr va ve op pa re ma) _ := hPj
        refine lv_aload_n hx hb d_D_count_54 rfl (lk hl rfl) ?_
        refine cd_getW ct hPj 0 5 (by decide) rfl fl_D_87 rfl d_D_count_55 ?_
        refine lv_goto (tgt := 77) hx hb d_D_count_58 (by decide) ?_
        exact cd_iret ct hlk hr hS ⟨by decide, by decide⟩ (dPost_ret e1 hP) d_D_count_77
    · have h1 : h = 1 := (nI_eq (by omega) (by decide)).mp h1
      rw [if_pos h1] at e1
      refine lv_aload_n hx hb d_D_count_42 rfl (lk hl rfl) ?_
      refine dk_askW (As := []) (rest := []) hj ct hS hP (c_W_written l G (wA d j) (dW S j) hB.2.1) hPj cv_D_120 ⟨⟨by decide, by decide⟩, by decide, by decide⟩ hl.1 rfl rfl (Nat.le_of_ble_eq_true rfl) d_D_count_43 (fun H1 locs1 hP hS => ?_)
      refine lv_goto (tgt := 77) hx hb d_D_count_46 (by decide) ?_
      exact cd_iret ct hlk hr hS ⟨by decide, by decide⟩ (dPost_ret e1 hP) d_D_count_77
  · have h0 : h = 0 := (nI_eq (by omega) (by decide)).mp h0
    rw [if_pos h0] at e1
    rcases hw : dW S j with ⟨ce, fr, va, ve, op, pa, re, ma⟩
    rw [hw] at hPj e1
    have hPj : va_P G.1 cd_cls (wk G (wA d j) ce fr va ve op pa re ma) _ := hPj
    refine lv_aload_n hx hb d_D_count_27 rfl (lk hl rfl) ?_
    refine cd_getW ct hPj 0 6 (by decide) rfl fl_D_112 rfl d_D_count_28 ?_
    refine cd_callS (As := [.int re]) (rest := []) ct hS (c_I_bitCount l G re) cs_D_115 ⟨⟨by decide, by decide⟩, by decide, by decide⟩ trivial hl.1 rfl rfl (Nat.le_of_ble_eq_true rfl) d_D_count_31 (fun _ _ h => h.elim) (fun v H1 locs1 hq hF hS => ?_) (fun _ _ _ h => by cases h)
    cases hq
    refine lv_goto (tgt := 77) hx hb d_D_count_34 (by decide) ?_
    exact cd_iret ct hlk hr hS ⟨by decide, by decide⟩ (dPost_ret e1 (dkP_same0 hP hF)) d_D_count_77
theorem d_all_loop {p : Program} {l : Launch} {e : Env} {R : Room} {s : State} {m : MethodId} {args : Array Value} {below : List Frame} {meth : Method} {c : Code} {H : Heap} {locs : List Loc} {cells slots : Nat} {Q : State → Prop} {G : cd_G} {A : Nat → Prop} {d : Nat} {cl : Nat → Int64} {vs : Nat → Int32} {dn st what : Int32} {w : Nat → WS}
    (ct : cd_Ct G p s m args c b_D_all "CommitDesk" 4 A) (hP : dkP G d (cl, vs, dn, st, w) H)
    (kk : ∀ ls, lv_has ls 4 [(0, .ref d), (1, .int what), (2, .int (nI (opN w 8)))] → W p l e R s m args below meth c H locs cells slots Q (F0 m 48 ls [])) :
    ∀ j k : Nat, k + j = 8 → ∀ ls, lv_has ls 4 [(0, .ref d), (1, .int what), (2, .int (nI (opN w k))), (3, .int (nI k))] → W p l e R s m args below meth c H locs cells slots Q (F0 m 21 ls []) := by
  have hx := ct.1
  have hb := ct.2.1
  intro j
  induction j with
  | zero =>
    intro k hk ls hl
    have hk : k = 8 := by omega
    subst hk
    refine lv_iload_n hx hb d_D_all_21 rfl (lk hl rfl) ?_
    refine lv_bipush (v := 8) hx hb d_D_all_22 (by decide) ?_
    refine lv_icmp_ge (tgt := 48) hx hb d_D_all_24 (by decide) (fun hc => ?_) (fun hc => absurd (by decide) hc)
    exact kk ls (lre hl _ rfl)
  | succ j ih =>
    intro k hk ls hl
    have hlt : k < 8 := by omega
    have hPj := hP.2 k hlt
    rcases hw : w k with ⟨ce, fr, va, ve, op, pa, re, ma⟩
    rw [hw] at hPj
    have hPj : va_P G.1 cd_cls (wk G (wA d k) ce fr va ve op pa re ma) H := hPj
    refine lv_iload_n hx hb d_D_all_21 rfl (lk hl rfl) ?_
    refine lv_bipush (v := 8) hx hb d_D_all_22 (by decide) ?_
    refine lv_icmp_ge (tgt := 48) hx hb d_D_all_24 (by decide) (fun hc => absurd hc (nI_ge (b := 8) hlt (by decide))) (fun hc => ?_)
    refine lv_aload_n hx hb d_D_all_27 rfl (lk hl rfl) ?_
    refine cd_getD ct hP.1 0 2 (by decide) rfl fl_D_19 rfl d_D_all_28 ?_
    refine lv_iload_n hx hb d_D_all_31 rfl (lk hl rfl) ?_
    refine cd_aald ct hP.1 3 rfl k ⟨hlt, by decide⟩ rfl (b := wA d k) rfl d_D_all_32 ?_
    refine cd_getW ct hPj 0 4 (by decide) rfl fl_D_41 rfl d_D_all_33 ?_
    refine lv_if_eq (tgt := 42) hx hb d_D_all_36 (by decide) (fun h3 => ?_) (fun h3 => ?_)
    · have ho : op = false := (cd_bi_0 op).mp h3
      subst ho
      refine cd_iinc hx hb d_D_all_42 hl rfl (v := nI (k + 1)) (nI_1 k) (by decide) rfl (fun ls hl => ?_)
      refine lv_goto (tgt := 21) hx hb d_D_all_45 (by decide) ?_
      have hN : opN w (k + 1) = opN w k := by rw [opN, hw]; rfl
      exact ih (k + 1) (by omega) ls (by rw [hN]; exact lre hl _ rfl)
    · have ho : op = true := by cases op <;> first | rfl | exact absurd rfl h3
      subst ho
      refine cd_iinc hx hb d_D_all_39 hl rfl (v := nI (opN w k + 1)) (nI_1 _) (by decide) rfl (fun ls hl => ?_)
      refine cd_iinc hx hb d_D_all_42 hl rfl (v := nI (k + 1)) (nI_1 k) (by decide) rfl (fun ls hl => ?_)
      refine lv_goto (tgt := 21) hx hb d_D_all_45 (by decide) ?_
      have hN : opN w (k + 1) = opN w k + 1 := by rw [opN, hw]; rfl
      exact ih (k + 1) (by omega) ls (by rw [hN]; exact lre hl _ rfl)
set_option maxHeartbeats 4000000 in
theorem c_D_all (l : Launch) (hfl : l.flags = flags0) (G : cd_G) (d : Nat) (S : DS) (what : Int32) (hz : cd_z G < d) : cd_Con l y_D_all cw_D_all rmD [.ref d, .int what] G (dkP G d S) (dPost G d (d_all what S)) (rg d 44) := by
  refine cd_ofW (by decide) ok_D_all.1 (Nat.le_of_ble_eq_true rfl) (rg_z hz) ?_
  intro p e s m below meth c ct hlk hr hxt hnm hP ls hl
  have hx := ct.1
  have hb := ct.2.1
  have hS : va_S (cd_xA (rg d 44) s) s.heap s.heap [] := va_S.rf
  have bad : ixO what 3 = none → W p l e rmD s m [Value.ref d, Value.int what].toArray below meth c s.heap [] 0 0 (cd_CQ below s (rg d 44) (dPost G d (d_all what S)) rmD.cells rmD.slots) (F0 m 13 ls []) := by
    intro h
    refine lv_iconst (v := 0) hx hb d_D_all_13 (by decide) ?_
    refine dk_good hfl ct hS hP ⟨⟨by decide, by decide⟩, by decide, by decide⟩ hl.1 (by decide) d_D_all_14 false rfl (fun H1 locs1 hb hP hS => by cases hb) (fun a H1 locs1 hb hX hP hS => ?_)
    exact cd_out hlk hxt hS ⟨by decide, by decide⟩ (dPost_thr (by simp only [d_all, h]) hX hP)
  refine lv_iload_n hx hb d_D_all_0 rfl (lk hl rfl) ?_
  refine lv_if_lt (tgt := 13) hx hb d_D_all_1 (by decide) (fun hc => ?_) (fun hc => ?_)
  · exact bad (ixO_lt hc)
  refine lv_iload_n hx hb d_D_all_4 rfl (lk hl rfl) ?_
  refine lv_iconst (v := 3) hx hb d_D_all_5 (by decide) ?_
  refine lv_icmp_ge (tgt := 13) hx hb d_D_all_6 (by decide) (fun hc2 => ?_) (fun hc2 => ?_)
  · exact bad (ixO_ge hc hc2)
  obtain ⟨h, hh, rfl, -⟩ := pk_mu (L := 3) hc hc2 (by decide)
  have hih := ixO_nI (n := 3) (by decide) hh
  refine lv_iconst (v := 1) hx hb d_D_all_9 (by decide) ?_
  refine lv_goto (tgt := 14) hx hb d_D_all_10 (by decide) ?_
  refine dk_good hfl ct hS hP ⟨⟨by decide, by decide⟩, by decide, by decide⟩ hl.1 (by decide) d_D_all_14 true rfl (fun H1 locs1 hb1 hP hS => ?_) (fun a H1 locs1 hb hX hP hS => by cases hb)
  obtain ⟨cl, vs, dn, st, w⟩ := S
  have e1 : d_all (nI h) (cl, vs, dn, st, w) = (.inl (some (.int (if h = 0 then nI (opN w 8) else if h = 1 then dn else st))), (cl, vs, dn, st, w)) := by simp only [d_all, hih]
  refine lv_iconst (v := 0) hx hb d_D_all_17 (by decide) ?_
  refine lv_istore_n hx hb d_D_all_18 rfl hl (by decide) rfl (fun ls hl => ?_)
  refine lv_iconst (v := 0) hx hb d_D_all_19 (by decide) ?_
  refine lv_istore_n hx hb d_D_all_20 rfl hl (by decide) rfl (fun ls hl => ?_)
  refine d_all_loop (what := nI h) ct hP (fun ls hl => ?_) 8 0 rfl ls (lre hl _ rfl)
  refine lv_iload_n hx hb d_D_all_48 rfl (lk hl rfl) ?_
  refine lv_if_ne (tgt := 56) hx hb d_D_all_49 (by decide) (fun h0 => ?_) (fun h0 => ?_)
  · have h0 : ¬ h = 0 := fun e => h0 (by rw [e]; rfl)
    rw [if_neg h0] at e1
    refine lv_iload_n hx hb d_D_all_56 rfl (lk hl rfl) ?_
    refine lv_iconst (v := 1) hx hb d_D_all_57 (by decide) ?_
    refine lv_icmp_ne (tgt := 68) hx hb d_D_all_58 (by decide) (fun h1 => ?_) (fun h1 => ?_)
    · have h1 : ¬ h = 1 := fun e => h1 (by rw [e]; rfl)
      rw [if_neg h1] at e1
      refine lv_aload_n hx hb d_D_all_68 rfl (lk hl rfl) ?_
      refine cd_getD ct hP.1 0 4 (by decide) rfl fl_D_80 rfl d_D_all_69 ?_
      exact cd_iret ct hlk hr hS ⟨by decide, by decide⟩ (dPost_ret e1 hP) d_D_all_72
    · have h1 : h = 1 := (nI_eq (by omega) (by decide)).mp h1
      rw [if_pos h1] at e1
      refine lv_aload_n hx hb d_D_all_61 rfl (lk hl rfl) ?_
      refine cd_getD ct hP.1 0 3 (by decide) rfl fl_D_99 rfl d_D_all_62 ?_
      refine lv_goto (tgt := 72) hx hb d_D_all_65 (by decide) ?_
      exact cd_iret ct hlk hr hS ⟨by decide, by decide⟩ (dPost_ret e1 hP) d_D_all_72
  · have h0 : h = 0 := (nI_eq (by omega) (by decide)).mp h0
    rw [if_pos h0] at e1
    refine lv_iload_n hx hb d_D_all_52 rfl (lk hl rfl) ?_
    refine lv_goto (tgt := 72) hx hb d_D_all_53 (by decide) ?_
    exact cd_iret ct hlk hr hS ⟨by decide, by decide⟩ (dPost_ret e1 hP) d_D_all_72
theorem d_done_loop {p : Program} {l : Launch} {e : Env} {R : Room} {s : State} {m : MethodId} {args : Array Value} {below : List Frame} {meth : Method} {c : Code} {cells slots : Nat} {Q : State → Prop} {G : cd_G} {A : Nat → Prop} {d j : Nat} {dn st : Int32} {w : Nat → WS} {w0 : WS} {c0 : (Nat → Int64) × (Nat → Int32)}
    (hj : j < 8) (hz : cd_z G < d) (hA : ∀ q, rg d 44 q → A q) (ct : cd_Ct G p s m args c b_D_done "CommitDesk" 4 A) (hR : 9 ≤ R.frames ∧ 144 ≤ R.locals ∧ cells ≤ R.cells ∧ slots ≤ R.slots) (hw1 : wCe (w j) = wCe w0 ∧ wVa (w j) = wVa w0 ∧ wMa (w j) = wMa w0) (hma : wMa w0 ≤ 160) (hce : ∀ i, i < wMa w0 → ∃ j, j < 32 ∧ wCe w0 i = nI j)
    (kk : ∀ H locs, dkP G d ((dPuts w0 c0 (wMa w0)).1, (dPuts w0 c0 (wMa w0)).2, dn, st, w) H → va_S (cd_xA A s) s.heap H locs → ∀ ls, W p l e R s m args below meth c H locs cells slots Q (F0 m 74 ls [])) :
    ∀ i n : Nat, n + i = wMa w0 → ∀ H locs ls, dkP G d ((dPuts w0 c0 n).1, (dPuts w0 c0 n).2, dn, st, w) H → va_S (cd_xA A s) s.heap H locs → lv_has ls 4 [(0, .ref d), (2, .ref (wA d j)), (3, .int (nI n))] → W p l e R s m args below meth c H locs cells slots Q (F0 m 33 ls []) := by
  have hx := ct.1
  have hb := ct.2.1
  obtain ⟨hwc, hwv, hwm⟩ := hw1
  intro i
  induction i with
  | zero =>
    intro n hn H locs ls hP hS hl
    have hn : n = wMa w0 := by omega
    subst hn
    refine lv_iload_n hx hb d_D_done_33 rfl (lk hl rfl) ?_
    refine lv_aload_n hx hb d_D_done_34 rfl (lk hl rfl) ?_
    refine dk_askW (As := []) (rest := [.int (nI (wMa w0))]) hj ct hS hP (c_W_many l G (wA d j) (w j)) (hP.2 j hj) cv_D_102 ⟨⟨by show 0 + 1 ≤ _; omega, by show 8 + (1 + 11) + 0 ≤ _; omega⟩, hR.2.2⟩ hl.1 rfl rfl (Nat.le_of_ble_eq_true rfl) d_D_done_35 (fun H1 locs1 hP hS => ?_)
    rw [show (w j).2.2.2.2.2.2.2 = wMa w0 from hwm]
    refine lv_icmp_ge (tgt := 74) hx hb d_D_done_38 (by decide) (fun hc => ?_) (fun hc => absurd (nI_le (Nat.le_refl _) (by omega)) hc)
    exact kk H1 locs1 hP hS ls
  | succ i ih =>
    intro n hn H locs ls hP hS hl
    have hlt : n < wMa w0 := by omega
    refine lv_iload_n hx hb d_D_done_33 rfl (lk hl rfl) ?_
    refine lv_aload_n hx hb d_D_done_34 rfl (lk hl rfl) ?_
    refine dk_askW (As := []) (rest := [.int (nI n)]) hj ct hS hP (c_W_many l G (wA d j) (w j)) (hP.2 j hj) cv_D_102 ⟨⟨by show 0 + 1 ≤ _; omega, by show 8 + (1 + 11) + 0 ≤ _; omega⟩, hR.2.2⟩ hl.1 rfl rfl (Nat.le_of_ble_eq_true rfl) d_D_done_35 (fun H1 locs1 hP hS => ?_)
    rw [show (w j).2.2.2.2.2.2.2 = wMa w0 from hwm]
    refine lv_icmp_ge (tgt := 74) hx hb d_D_done_38 (by decide) (fun hc => absurd hc (nI_ge hlt (by omega))) (fun hc => ?_)
    refine lv_aload_n hx hb d_D_done_41 rfl (lk hl rfl) ?_
    refine lv_aload_n hx hb d_D_done_42 rfl (lk hl rfl) ?_
    refine lv_iload_n hx hb d_D_done_43 rfl (lk hl rfl) ?_
    refine dk_askW (As := [.int (nI n)]) (rest := [.ref (wA d j)]) hj ct hS hP (c_W_cellAt l G (wA d j) (w j) n (by omega)) (hP.2 j hj) cv_D_106 ⟨⟨by show 0 + 1 ≤ _; omega, by show 8 + (2 + 11) + 0 ≤ _; omega⟩, hR.2.2⟩ hl.1 rfl rfl (Nat.le_of_ble_eq_true rfl) d_D_done_44 (fun H1 locs1 hP hS => ?_)
    rw [show (w j).1 = wCe w0 from hwc]
    refine dk_askW (As := [.int (wCe w0 n)]) (rest := []) hj ct hS hP (c_W_last l G (wA d j) (w j) (wCe w0 n) (by show wMa (w j) ≤ 160; rw [hwm]; exact hma)) (hP.2 j hj) cv_D_57 ⟨⟨by show 1 + 1 ≤ _; omega, by show 8 + (2 + 11) + 23 ≤ _; omega⟩, hR.2.2⟩ hl.1 rfl rfl (Nat.le_of_ble_eq_true rfl) d_D_done_47 (fun H1 locs1 hP hS => ?_)
    rw [show (w j).1 = wCe w0 from hwc, show (w j).2.2.2.2.2.2.2 = wMa w0 from hwm]
    have next : ∀ H locs, dkP G d ((dPuts w0 c0 (n + 1)).1, (dPuts w0 c0 (n + 1)).2, dn, st, w) H → va_S (cd_xA A s) s.heap H locs → W p l e R s m args below meth c H locs cells slots Q (F0 m 68 ls []) := by
      intro H locs hP hS
      refine cd_iinc hx hb d_D_done_68 hl rfl (v := nI (n + 1)) (nI_1 n) (by decide) rfl (fun ls hl => ?_)
      refine lv_goto (tgt := 33) hx hb d_D_done_71 (by decide) ?_
      exact ih (n + 1) (by omega) H locs ls hP hS (lre hl _ rfl)
    have hfl : ∀ q, fnd (wCe w0) (wCe w0 n) 0 (wMa w0) = some q → q < 2 ^ 31 := fnd_lt hma
    refine lv_iload_n hx hb d_D_done_50 rfl (lk hl rfl) ?_
    refine lv_icmp_ne (tgt := 68) hx hb d_D_done_51 (by decide) (fun hc => ?_) (fun hc => ?_)
    · have hno : ¬ fnd (wCe w0) (wCe w0 n) 0 (wMa w0) = some n := fun h => hc (by rw [h]; rfl)
      refine next H1 locs1 ?_ hS
      rw [dPuts, if_neg hno]
      exact hP
    have hyes : fnd (wCe w0) (wCe w0 n) 0 (wMa w0) = some n := by
      cases hf : fnd (wCe w0) (wCe w0 n) 0 (wMa w0) with
      | none =>
        rw [hf] at hc
        exact absurd ((fI_m1 (r := some n) (fun i hi => by cases hi; omega)).mp hc.symm) (by intro h; cases h)
      | some q =>
        rw [hf] at hc
        rw [(nI_eq (hfl q hf) (by omega)).mp hc]
    obtain ⟨kc, hkc, hke⟩ := hce n hlt
    refine lv_aload_n hx hb d_D_done_54 rfl (lk hl rfl) ?_
    refine lv_aload_n hx hb d_D_done_55 rfl (lk hl rfl) ?_
    refine lv_iload_n hx hb d_D_done_56 rfl (lk hl rfl) ?_
    refine dk_askW (As := [.int (nI n)]) (rest := [.ref d]) hj ct hS hP (c_W_cellAt l G (wA d j) (w j) n (by omega)) (hP.2 j hj) cv_D_106 ⟨⟨by show 0 + 1 ≤ _; omega, by show 8 + (2 + 11) + 0 ≤ _; omega⟩, hR.2.2⟩ hl.1 rfl rfl (Nat.le_of_ble_eq_true rfl) d_D_done_57 (fun H1 locs1 hP hS => ?_)
    rw [show (w j).1 = wCe w0 from hwc]
    refine lv_aload_n hx hb d_D_done_60 rfl (lk hl rfl) ?_
    refine lv_iload_n hx hb d_D_done_61 rfl (lk hl rfl) ?_
    refine dk_askW (As := [.int (nI n)]) (rest := [.int (wCe w0 n), .ref d]) hj ct hS hP (c_W_at l G (wA d j) (w j) n (by omega)) (hP.2 j hj) cv_D_61 ⟨⟨by show 0 + 1 ≤ _; omega, by show 8 + (2 + 11) + 0 ≤ _; omega⟩, hR.2.2⟩ hl.1 rfl rfl (Nat.le_of_ble_eq_true rfl) d_D_done_62 (fun H1 locs1 hP hS => ?_)
    rw [show (w j).2.2.1 = wVa w0 from hwv]
    have hput := c_D_put l G d ((dPuts w0 c0 n).1, (dPuts w0 c0 n).2, dn, st, w) kc (wVa w0 n) hkc hz
    rw [← hke] at hput
    refine cd_callV (As := [.int (wCe w0 n), .long (wVa w0 n)]) (rest := []) ct hS hput cv_D_109 ⟨⟨by show 0 + 1 ≤ _; omega, by show 8 + (4 + 11) + 0 ≤ _; omega⟩, hR.2.2⟩ (dk_recv ct hP) hP hl.1 rfl rfl (Nat.le_of_ble_eq_true rfl) d_D_done_65 (fun q _ h => Or.inl (hA q h)) (fun v H1 locs1 hq hF hS => ?_) (fun a H1 locs1 hq hF hS => by cases hq.1)
    obtain ⟨hq, hP⟩ := hq
    cases hq
    refine next H1 locs1 ?_ hS
    rw [dPuts, if_pos hyes, hke, nI_clamp (by omega)]
    exact hP
set_option maxHeartbeats 4000000 in
theorem c_D_done (l : Launch) (hfl : l.flags = flags0) (G : cd_G) (d : Nat) (S : DS) (t : Int32) (hz : cd_z G < d) (hok : dOK S) : cd_Con l y_D_done cw_D_done rmD [.ref d, .int t] G (dkP G d S) (dPost G d (d_done t S)) (rg d 44) := by
  refine cd_ofW (by decide) ok_D_done.1 (Nat.le_of_ble_eq_true rfl) (rg_z hz) ?_
  intro p e s m below meth c ct hlk hr hxt hnm hP ls hl
  have hx := ct.1
  have hb := ct.2.1
  have hS : va_S (cd_xA (rg d 44) s) s.heap s.heap [] := va_S.rf
  have e1 := d_done_eq t S
  refine lv_aload_n hx hb d_D_done_0 rfl (lk hl rfl) ?_
  refine lv_iload_n hx hb d_D_done_1 rfl (lk hl rfl) ?_
  refine dk_open hfl ct hS hP ⟨⟨by decide, by decide⟩, by decide, by decide⟩ hl.1 (by decide) d_D_done_2 (fun j H1 locs1 hix hj hop hP hS => ?_) (fun k2 a H1 locs1 hf hX hP hS => ?_)
  case refine_2 => exact cd_out hlk hxt hS ⟨by decide, by decide⟩ (dPost_thr (e1.trans (dOpen_fail hf)) hX hP)
  rw [dOpen_ok hix hop] at e1
  have hB := hok j hj hop
  refine lv_astore_n hx hb d_D_done_5 rfl hl (by decide) rfl (fun ls hl => ?_)
  refine lv_aload_n hx hb d_D_done_6 rfl (lk hl rfl) ?_
  refine lv_aload_n hx hb d_D_done_7 rfl (lk hl rfl) ?_
  refine cd_callV (As := [.ref (wA d j)]) (rest := []) ct hS (c_D_isFresh l G d S j hj hz) cv_D_65 ⟨⟨by decide, by decide⟩, by decide, by decide⟩ (dk_recv ct hP) hP hl.1 rfl rfl (Nat.le_of_ble_eq_true rfl) d_D_done_8 (fun q _ h => Or.inl h) (fun v H1 locs1 hq hF hS => ?_) (fun a H1 locs1 hq hF hS => by cases hq.1)
  obtain ⟨hq, hP⟩ := hq
  cases hq
  cases hst : dStl S j with
  | true =>
    rw [hst, if_pos rfl] at hP e1
    refine lv_if_ne (tgt := 16) hx hb d_D_done_11 (by decide) (fun hc => absurd rfl hc) (fun hc => ?_)
    refine lv_iconst (v := 0) hx hb d_D_done_14 (by decide) ?_
    exact cd_zret ct hlk hr hS ⟨by decide, by decide⟩ rfl (dPost_ret e1 hP) d_D_done_15
  | false =>
    rw [hst, if_neg (by decide)] at hP e1
    refine lv_if_ne (tgt := 16) hx hb d_D_done_11 (by decide) (fun hc => ?_) (fun hc => absurd hc (by decide))
    obtain ⟨cl, vs, dn, st, w⟩ := S
    have hPj := hP.2 j hj
    rcases hw : w j with ⟨ce, fr, va, ve, op, pa, re, ma⟩
    rw [hw] at hPj
    refine lv_aload_n hx hb d_D_done_16 rfl (lk hl rfl) ?_
    refine lv_iconst (v := 0) hx hb d_D_done_17 (by decide) ?_
    refine cd_put in_W rfl t_W t_W_ok n_W ct hPj (cd_Dx (wk_D G (wA d j) (ce, fr, va, ve, op, pa, re, ma)) (dk_inW hj)) hS 0 4 (by decide) rfl fl_D_41 (Or.inl rfl) rfl rfl (Nat.le_of_ble_eq_true rfl) d_D_done_18 (fun H locs hPj hz1 hq hS => ?_)
    have hP := dS_put (w' := ws_shut (w j)) hj rfl hP hz1 hq (by rw [hw]; exact hPj)
    have hP : va_P G.1 cd_cls (dk G d cl vs dn st) H ∧ dkW G d (va_up w j (ws_shut (w j))) H := hP
    refine lv_aload_n hx hb d_D_done_21 rfl (lk hl rfl) ?_
    refine lv_dup hx hb d_D_done_22 rfl ?_
    refine cd_getD ct hP.1 0 3 (by decide) rfl fl_D_99 rfl d_D_done_23 ?_
    refine lv_iconst (v := 1) hx hb d_D_done_26 (by decide) ?_
    refine lv_iadd hx hb d_D_done_27 ?_
    refine cd_put in_D rfl t_D t_D_ok n_D ct hP.1 (cd_Dx (dk_D G d cl vs dn st) dk_in) hS 0 3 (by decide) rfl fl_D_99 (Or.inl rfl) rfl rfl (Nat.le_of_ble_eq_true rfl) d_D_done_28 (fun H locs hPd hz1 hq hS => ?_)
    have hP : dkP G d (cl, vs, dn + 1, st, va_up w j (ws_shut (w j))) H := ⟨hPd, dkW_q hP.2 (by omega) hq⟩
    have hup : va_up w j (ws_shut (w j)) j = ws_shut (w j) := by simp [va_up]
    refine lv_iconst (v := 0) hx hb d_D_done_31 (by decide) ?_
    refine lv_istore_n hx hb d_D_done_32 rfl hl (by decide) rfl (fun ls hl => ?_)
    refine d_done_loop (w0 := w j) (c0 := (cl, vs)) (dn := dn + 1) (st := st) (w := va_up w j (ws_shut (w j))) hj hz (fun _ h => h) ct ⟨by decide, by decide, by decide, by decide⟩ (by rw [hup, hw]; exact ⟨rfl, rfl, rfl⟩) hB.2.1 hB.2.2.2.2 (fun H locs hP hS ls => ?_) (wMa (w j)) 0 (by omega) H locs ls hP hS (lre hl _ rfl)
    refine lv_iconst (v := 1) hx hb d_D_done_74 (by decide) ?_
    exact cd_zret ct hlk hr hS ⟨by decide, by decide⟩ rfl (dPost_ret e1 hP) d_D_done_75
end
section
/-! Walks of CommitDesk, 4: the constructor. Printed by prog/walk.py from walks/20.walkD4.walk. -/
theorem arr_ext {cA : ClassId} {n : Nat} {f g : Nat → Value} (h : ∀ j, j < n → f j = g j) : arrV cA n f = arrV cA n g := by
  unfold arrV
  congr 2
  funext j
  exact h j.val j.isLt
section CdAnew
variable {p : Program} {l : Launch} {e : Env} {R : Room} {s : State} {m : MethodId} {args : Array Value} {below : List Frame} {meth : Method} {c : Code} {H : Heap} {locs : List Loc} {cells slots : Nat} {Q : State → Prop}
variable {G : cd_G} {cc : ByteArray} {own : String} {nL : Nat} {A : Nat → Prop} {pc : Nat} {ls : Array Slot} {rest : List Value} {index : Nat}
theorem cd_anew (ct : cd_Ct G p s m args c cc own nL A) (hcl : Cond.classLink own index "CommitDesk$Work" ∈ cd_TB) (hS : va_S (cd_xA A s) s.heap H locs) {h : Nat} (hh : H.size = h) {n : Int32} {N' : Nat} (hn : ¬ n < 0) (hN : n.toNatClampNeg = N') (hbytes : N' * 4 ≤ 536870912) (hcells : cells + 1 ≤ R.cells) (hslots : slots + N' ≤ R.slots) (hdg : decode cc pc = .ok (.anewarray index, 3))
    (kk : ∀ (H1 : Heap), va_P G.1 cd_cls [(h, .inl (cd_cW G, N', .inr (.inr (.inr (.inr (fun _ => none))))))] H1 → H1.size = h + 1 → (∀ q, q < h → H1[q]? = H[q]?) → va_S (cd_xA A s) s.heap H1 locs →
      W p l e R s m args below meth c H1 locs (cells + 1) (slots + N') Q (F0 m (pc + 3) ls (.ref h :: rest))) : W p l e R s m args below meth c H locs cells slots Q (F0 m pc ls (.int n :: rest)) := by
  subst hN
  subst hh
  refine W.anew ct.1 ct.2.1 ct.2.2.1 (ct.2.2.2.2.1 _ hcl) (ct.2.2.2.2.1 _ ao_W) rfl hdg rfl hn hbytes hcells hslots fun cA kA comp f1 f2 f3 f4 => ?_
  obtain ⟨kB, cB, g1, g2, g3, g4⟩ := (ct.2.2.2.2.2.1.1.2 3 (cd_cW G, .object "CommitDesk$Work") rfl).2
  cases f1.symm.trans g4
  refine kk _ (fun k x hx => ?_) (by rw [Array.size_push]) (fun q hq => by rw [Array.getElem?_push, if_neg (Nat.ne_of_lt hq)]) ⟨Nat.le_trans hS.1 (by rw [Array.size_push]; omega), fun x h1 h2 => by rw [Array.getElem?_push, if_neg (Nat.ne_of_lt (Nat.lt_of_lt_of_le h1 hS.1))]; exact hS.2.1 x h1 h2, hS.2.2⟩
  have hz : k < 1 := (List.getElem?_eq_some_iff.mp hx).1
  rw [show k = 0 by omega] at hx
  cases hx
  show (H.push _)[H.size]? = some (vp_cell _ _)
  rw [vp_cell_q, Array.getElem?_push_size, ← arrV_new]
  rfl
end CdAnew
def dS_0 : DS := (fun _ => 0, fun _ => 0, 0, 0, fun _ => ws_0)
def dk0 (G : cd_G) (d n : Nat) : va_W :=
  [(d, .inr (1, [.ref (d + 1), .ref (d + 2), .ref (d + 3), .int 0, .int 0])), (d + 1, .inl (cd_cL G, 32, .inr (.inl (fun _ => 0)))), (d + 2, .inl (cd_cI G, 32, .inl (fun _ => 0))), (d + 3, .inl (cd_cW G, 8, .inr (.inr (.inr (.inr (fun t => if t < n then some (d + 4 + 5 * t) else none))))))]
theorem dk0_end {G : cd_G} {d : Nat} {H : Heap} (h : va_P G.1 cd_cls (dk0 G d 8) H) : va_P G.1 cd_cls (dk G d (fun _ => 0) (fun _ => 0) 0 0) H := by
  intro k q hk
  match k, hk with
  | 0, hk => exact h 0 q hk
  | 1, hk => exact h 1 q hk
  | 2, hk => exact h 2 q hk
  | 3, hk =>
    cases hk
    have h3 := h 3 _ rfl
    show H[d + 3]? = some (vp_cell _ _)
    refine Eq.trans h3 (congrArg some ?_)
    show vp_cell (cd_cW G) (8, .inr (.inr (.inr (.inr (fun t => if t < 8 then some (d + 4 + 5 * t) else none))))) = vp_cell (cd_cW G) (8, .inr (.inr (.inr (.inr (fun t => some (d + 4 + 5 * t))))))
    rw [vp_cell_q, vp_cell_q]
    refine arr_ext fun j hj => ?_
    rw [if_pos hj]
theorem d_init_loop {p : Program} {l : Launch} {e : Env} {R : Room} {s : State} {m : MethodId} {args : Array Value} {below : List Frame} {meth : Method} {c : Code} {Q : State → Prop} {G : cd_G} {d : Nat}
    (ct : cd_Ct G p s m args c b_D_init "CommitDesk" 2 (rg d 1)) (hz : cd_z G < d) (hs0 : s.heap.size = d + 1) (hR : 2 ≤ R.frames ∧ 32 ≤ R.locals ∧ 43 ≤ R.cells ∧ 2992 ≤ R.slots)
    (kk : ∀ H locs ls, H.size = d + 44 → va_P G.1 cd_cls (dk0 G d 8) H → dkW G d (fun _ => ws_0) H → va_S (cd_xA (rg d 1) s) s.heap H locs → W p l e R s m args below meth c H locs 43 2992 Q (F0 m 56 ls [])) :
    ∀ j n : Nat, n + j = 8 → ∀ H locs ls, H.size = d + 4 + 5 * n → va_P G.1 cd_cls (dk0 G d n) H → (∀ t, t < n → va_P G.1 cd_cls (wkS G (wA d t) ws_0) H) → va_S (cd_xA (rg d 1) s) s.heap H locs → lv_has ls 2 [(0, .ref d), (1, .int (nI n))] → W p l e R s m args below meth c H locs (3 + 5 * n) (72 + 365 * n) Q (F0 m 31 ls []) := by
  have hx := ct.1
  have hb := ct.2.1
  intro j
  induction j with
  | zero =>
    intro n hn H locs ls hsz hP hPW hS hl
    have hn : n = 8 := by omega
    subst hn
    refine lv_iload_n hx hb d_D_init_31 rfl (lk hl rfl) ?_
    refine lv_bipush (v := 8) hx hb d_D_init_32 (by decide) ?_
    refine lv_icmp_ge (tgt := 56) hx hb d_D_init_34 (by decide) (fun hc => ?_) (fun hc => absurd (by decide) hc)
    exact kk H locs ls hsz hP hPW hS
  | succ j ih =>
    intro n hn H locs ls hsz hP hPW hS hl
    have hlt : n < 8 := by omega
    refine lv_iload_n hx hb d_D_init_31 rfl (lk hl rfl) ?_
    refine lv_bipush (v := 8) hx hb d_D_init_32 (by decide) ?_
    refine lv_icmp_ge (tgt := 56) hx hb d_D_init_34 (by decide) (fun hc => absurd hc (nI_ge (b := 8) hlt (by decide))) (fun hc => ?_)
    refine lv_aload_n hx hb d_D_init_37 rfl (lk hl rfl) ?_
    refine cd_getD ct hP 0 2 (by decide) rfl fl_D_19 rfl d_D_init_38 ?_
    refine lv_iload_n hx hb d_D_init_41 rfl (lk hl rfl) ?_
    refine cd_new (ci := 0) (fs := [.null, .null, .null, .null, .int 0, .int 0, .int 0, .int 0]) in_W rfl t_W t_W_ok ct ⟨cl_D_17, it_W, tw_2⟩ hS hsz (fun j hj => by rcases (show j = 0 ∨ j = 1 ∨ j = 2 ∨ j = 3 ∨ j = 4 ∨ j = 5 ∨ j = 6 ∨ j = 7 by omega) with rfl | rfl | rfl | rfl | rfl | rfl | rfl | rfl <;> rfl) (by omega) (by omega) d_D_init_42 (fun H1 hN hz1 ho hS => ?_)
    have hP := hP.kept (H1 := H1) (fun k q hk => ho _ (hsz ▸ (hP k q hk).lt))
    have hPW : ∀ t, t < n → va_P G.1 cd_cls (wkS G (wA d t) ws_0) H1 := fun t ht => (hPW t ht).kept (fun k q hk => ho _ (hsz ▸ (hPW t ht k q hk).lt))
    refine lv_dup hx hb d_D_init_45 rfl ?_
    refine cd_callI (b := d + 4 + 5 * n) (As := []) (rest := [.ref (d + 4 + 5 * n), .int (nI n), .ref (d + 3)]) ct hS (c_W_init l G (d + 4 + 5 * n) (by omega)) ci_D_23 ⟨⟨by show 1 + 1 ≤ _; omega, by show 8 + (1 + 11) + 12 ≤ _; omega⟩, by show _ + 4 ≤ _; omega, by show _ + 357 ≤ _; omega⟩ ⟨hz1, hN⟩ hl.1 rfl rfl (Nat.le_of_ble_eq_true rfl) d_D_init_46 (fun q _ h => Or.inr (by have := h.1; omega)) (fun v H2 locs2 hq hF hS => ?_) (fun _ _ _ h => by cases h.1)
    obtain ⟨hq, hsz2, hN⟩ := hq
    cases hq
    have hP := cd_keep hP hF (fun k q hk h => by
      have h1 := (cd_cons (ws := dk0 G d n) d rfl).2 k q hk
      have h2 := h1.2
      have h3 := h.1
      have h4 : (dk0 G d n).length = 4 := rfl
      omega)
    have hPW : ∀ t, t < n + 1 → va_P G.1 cd_cls (wkS G (wA d t) ws_0) H2 := fun t ht => by
      by_cases htn : t = n
      · rw [htn]; exact hN
      · refine cd_keep (hPW t (by omega)) hF (fun k q hk h => ?_)
        have h1 := ((wk_D G (wA d t) ws_0).2 k q hk).2
        have h3 := h.1
        unfold wA at h1
        omega
    refine cd_aast ct hP ((cd_cons (ws := dk0 G d n) d rfl).weaken (fun k q _ h => by
      by_cases h1 : q.1 = d
      · exact Or.inl ⟨by omega, by omega⟩
      · exact Or.inr (by have := h.1; omega))) hS 3 rfl n ⟨hlt, by decide⟩ (hN 0 _ rfl) rfl d_D_init_49 (fun H locs hP hz3 hq hS => ?_)
    have hP : va_P G.1 cd_cls (dk0 G d (n + 1)) H := by
      have e1 : va_up (fun t => if t < n then some (d + 4 + 5 * t) else none) n (some (d + 4 + 5 * n)) = fun t => if t < n + 1 then some (d + 4 + 5 * t) else none := by
        funext t
        by_cases h1 : t = n
        · simp [va_up, h1]
        · by_cases h2 : t < n
          · simp [va_up, h1, h2, Nat.lt_succ_of_lt h2]
          · simp [va_up, h1, h2, show ¬ t < n + 1 by omega]
      have hP : va_P G.1 cd_cls [(d, .inr (1, [.ref (d + 1), .ref (d + 2), .ref (d + 3), .int 0, .int 0])), (d + 1, .inl (cd_cL G, 32, .inr (.inl (fun _ => 0)))), (d + 2, .inl (cd_cI G, 32, .inl (fun _ => 0))), (d + 3, .inl (cd_cW G, 8, .inr (.inr (.inr (.inr (va_up (fun t => if t < n then some (d + 4 + 5 * t) else none) n (some (d + 4 + 5 * n))))))))] H := hP
      rw [e1] at hP
      exact hP
    have hPW : ∀ t, t < n + 1 → va_P G.1 cd_cls (wkS G (wA d t) ws_0) H := fun t ht => cd_keepq (hPW t ht) hq (fun k q hk => by
      have h1 := ((wk_D G (wA d t) ws_0).2 k q hk).1
      unfold wA at h1
      omega)
    refine cd_iinc hx hb d_D_init_50 hl rfl (v := nI (n + 1)) (nI_1 n) (by decide) rfl (fun ls hl => ?_)
    refine lv_goto (tgt := 31) hx hb d_D_init_53 (by decide) ?_
    refine W.widen (k := 3 + 5 * (n + 1)) (n := 72 + 365 * (n + 1)) (by show _ + 1 + 4 ≤ _; omega) (by show _ + 8 + 357 ≤ _; omega) ?_
    exact ih (n + 1) (by omega) H locs ls (by omega) hP hPW hS (lre hl _ rfl)
set_option maxHeartbeats 4000000 in
theorem c_D_init (l : Launch) (G : cd_G) (d : Nat) (hz : cd_z G < d) :
    cd_Con l y_D_init cw_D_init (cd_rm 2 43 2992 32) [.ref d] G (fun H => H.size = d + 1 ∧ va_P G.1 cd_cls [(d, .inr (1, [.null, .null, .null, .int 0, .int 0]))] H) (fun o H => o = .returned none ∧ H.size = d + 44 ∧ dkP G d dS_0 H) (rg d 1) := by
  refine cd_ofW (by decide) ok_D_init.1 (Nat.le_of_ble_eq_true rfl) (rg_z hz) ?_
  intro p e s m below meth c ct hlk hr hxt hnm hP ls hl
  have hx := ct.1
  have hb := ct.2.1
  have hS : va_S (cd_xA (rg d 1) s) s.heap s.heap [] := va_S.rf
  obtain ⟨hsz, hP⟩ := hP
  have hs0 := hsz
  have hDx : ∀ (ws : va_W), ws.map (fun q => q.1) = (List.range ws.length).map (fun i => d + i) → va_D (cd_xA (rg d 1) s) ws := fun ws h => (cd_cons d h).weaken (fun _ q _ hq => by
    by_cases h1 : q.1 = d
    · exact Or.inl ⟨by omega, by omega⟩
    · exact Or.inr (by have := hq.1; omega))
  refine lv_aload_n hx hb d_D_init_0 rfl (lk hl rfl) ?_
  refine W.objInit hx hb ct.2.2.1 (ct.2.2.2.2.1 _ ob_D_1) (ct.2.2.2.2.1 _ ob_inst) (ct.2.2.2.2.1 _ ob_code) rfl (by rw [ct.2.2.2.1]; exact hl.1) rfl d_D_init_1 (Nat.le_of_ble_eq_true rfl) (Nat.le_of_ble_eq_true rfl) ?_
  refine W.eq (g2 := F0 m 4 ls []) rfl ?_
  refine lv_aload_n hx hb d_D_init_4 rfl (lk hl rfl) ?_
  refine lv_bipush (v := 32) hx hb d_D_init_5 (by decide) ?_
  refine cd_newa (atype := .long) (ty := .long) (h := d + 1) (a0 := (32, .inr (.inl (fun _ => 0)))) ct rfl ac_long 1 rfl (by intro C h; cases h) hS hsz (fun _ => rfl) (by decide) rfl (by decide) (by decide) (by decide) d_D_init_7 (fun H hN hz1 ho hS => ?_)
  have hP := cd_grow hP hsz ho hN
  have hsz := hz1
  refine cd_put in_D rfl t_D t_D_ok n_D ct hP (hDx _ rfl) hS 0 0 (by decide) rfl fl_D_9 (Or.inr ⟨rfl, hnm, rfl⟩) rfl rfl (Nat.le_of_ble_eq_true rfl) d_D_init_9 (fun H locs hP hz1 hq hS => ?_)
  have hsz := hz1.trans hsz
  refine lv_aload_n hx hb d_D_init_12 rfl (lk hl rfl) ?_
  refine lv_bipush (v := 32) hx hb d_D_init_13 (by decide) ?_
  refine cd_newa (atype := .int) (ty := .int) (h := d + 2) (a0 := (32, .inl (fun _ => 0))) ct rfl ac_int 0 rfl (by intro C h; cases h) hS hsz (fun _ => rfl) (by decide) rfl (by decide) (by decide) (by decide) d_D_init_15 (fun H hN hz1 ho hS => ?_)
  have hP := cd_grow hP hsz ho hN
  have hsz := hz1
  refine cd_put in_D rfl t_D t_D_ok n_D ct hP (hDx _ rfl) hS 0 1 (by decide) rfl fl_D_13 (Or.inr ⟨rfl, hnm, rfl⟩) rfl rfl (Nat.le_of_ble_eq_true rfl) d_D_init_17 (fun H locs hP hz1 hq hS => ?_)
  have hsz := hz1.trans hsz
  refine lv_aload_n hx hb d_D_init_20 rfl (lk hl rfl) ?_
  refine lv_bipush (v := 8) hx hb d_D_init_21 (by decide) ?_
  refine cd_anew (h := d + 3) (N' := 8) ct cl_D_17 hS hsz (by decide) rfl (by decide) (by decide) (by decide) d_D_init_23 (fun H hN hz1 ho hS => ?_)
  have hP := cd_grow hP hsz ho hN
  have hsz := hz1
  refine cd_put in_D rfl t_D t_D_ok n_D ct hP (hDx _ rfl) hS 0 2 (by decide) rfl fl_D_19 (Or.inr ⟨rfl, hnm, rfl⟩) rfl rfl (Nat.le_of_ble_eq_true rfl) d_D_init_26 (fun H locs hP hz1 hq hS => ?_)
  have hsz := hz1.trans hsz
  refine lv_iconst (v := 0) hx hb d_D_init_29 (by decide) ?_
  refine lv_istore_n hx hb d_D_init_30 rfl hl (by decide) rfl (fun ls hl => ?_)
  refine d_init_loop ct hz hs0 ⟨by decide, by decide, by decide, by decide⟩ (fun H locs ls hsz hP hPW hS => ?_) 8 0 rfl H locs ls (by omega) (by
    have e1 : (fun t => if t < 0 then some (d + 4 + 5 * t) else none) = (fun _ => none : Nat → Option Nat) := by funext t; simp
    unfold dk0
    rw [e1]
    exact hP) (fun t ht => by omega) hS (lre hl _ rfl)
  exact cd_vret ct hlk hr hS ⟨by decide, by decide⟩ ⟨rfl, hsz, dk0_end hP, hPW⟩ d_D_init_56
end
section
/-! CommitDeskModel: its cells, its pure operations. -/
/-- cells, wrote, changes, parts, seen, has, read, open, done, stale -/
abbrev MC : Type := (Nat → Int64) × (Nat → Int64) × (Nat → Int32) × (Nat → Nat) × (Nat → Int32) × (Nat → Bool) × (Nat → Bool) × (Nat → Bool) × Int32 × Int32
def md (G : cd_G) (g : Nat) (er : Int32) (cl wr : Nat → Int64) (ch : Nat → Int32) (pa : Nat → Nat) (se : Nat → Int32) (ha rd op : Nat → Bool) (dn st : Int32) : va_W :=
  [(g, .inr (2, [.int er, .ref (g + 1), .ref (g + 2), .ref (g + 3), .ref (g + 4), .ref (g + 5), .ref (g + 6), .ref (g + 7), .ref (g + 8), .int dn, .int st])),
   (g + 1, .inl (cd_cL G, 32, .inr (.inl cl))), (g + 2, .inl (cd_cL G, 1280, .inr (.inl wr))), (g + 3, .inl (cd_cI G, 32, .inl ch)), (g + 4, .inl (cd_cI G, 8, .inl (fun j => nI (pa j)))), (g + 5, .inl (cd_cI G, 256, .inl se)),
   (g + 6, .inl (cd_cZ G, 1280, .inl (fun j => cd_bi (ha j)))), (g + 7, .inl (cd_cZ G, 256, .inl (fun j => cd_bi (rd j)))), (g + 8, .inl (cd_cZ G, 8, .inl (fun j => cd_bi (op j))))]
def mdS (G : cd_G) (g : Nat) (er : Int32) (M : MC) : va_W := match M with
  | (cl, wr, ch, pa, se, ha, rd, op, dn, st) => md G g er cl wr ch pa se ha rd op dn st
theorem md_D (G : cd_G) (g : Nat) (er : Int32) (M : MC) : va_D (rg g 9) (mdS G g er M) := by
  obtain ⟨cl, wr, ch, pa, se, ha, rd, op, dn, st⟩ := M
  exact cd_cons g rfl
abbrev mCl (M : MC) : Nat → Int64 := M.1
abbrev mWr (M : MC) : Nat → Int64 := M.2.1
abbrev mCh (M : MC) : Nat → Int32 := M.2.2.1
abbrev mPa (M : MC) : Nat → Nat := M.2.2.2.1
abbrev mSe (M : MC) : Nat → Int32 := M.2.2.2.2.1
abbrev mHa (M : MC) : Nat → Bool := M.2.2.2.2.2.1
abbrev mRd (M : MC) : Nat → Bool := M.2.2.2.2.2.2.1
abbrev mOp (M : MC) : Nat → Bool := M.2.2.2.2.2.2.2.1
abbrev mDn (M : MC) : Int32 := M.2.2.2.2.2.2.2.2.1
abbrev mSt (M : MC) : Int32 := M.2.2.2.2.2.2.2.2.2
def lix (j p k : Nat) : Nat := (5 * j + p - 1) * 32 + k
theorem lix_lt {j p k : Nat} (hj : j < 8) (hp : 1 ≤ p ∧ p ≤ 5) (hk : k < 32) : lix j p k < 1280 := by unfold lix; omega
def mStl (M : MC) (j n : Nat) : Bool := (List.range n).any fun k => mRd M (32 * j + k) && decide (mSe M (32 * j + k) ≠ mCh M k)
def clr (f : Nat → Bool) (lo n : Nat) : Nat → Bool := fun q => if lo ≤ q ∧ q < lo + n then false else f q
def cntN (f : Nat → Bool) : Nat → Nat
  | 0 => 0
  | n + 1 => if f n = true then cntN f n + 1 else cntN f n
def mPuts (M : MC) (j p : Nat) : Nat → (Nat → Int64) × (Nat → Int32)
  | 0 => (mCl M, mCh M)
  | n + 1 => if mHa M (lix j p n) = true then dPut (mPuts M j p n) n (mWr M (lix j p n)) else mPuts M j p n
def m_begin (t : Int32) (M : MC) : Int32 × MC := match ixO t 8 with
  | none => (1, M)
  | some j => if mOp M j = true then (2, M) else match M with
    | (cl, wr, ch, pa, se, ha, rd, op, dn, st) => (0, (cl, wr, ch, va_up pa j 1, se, clr ha (160 * j) 32, clr rd (32 * j) 32, va_up op j true, dn, st))
def mShut (M : MC) (j : Nat) : MC := match M with
  | (cl, wr, ch, pa, se, ha, rd, op, dn, st) => (cl, wr, ch, pa, se, ha, rd, va_up op j false, dn, st)
def mOver (M : MC) (j : Nat) : MC := match M with
  | (cl, wr, ch, pa, se, ha, rd, op, dn, st) => (cl, wr, ch, pa, se, ha, rd, va_up op j false, dn, st + 1)
def mLook (M : MC) (j i : Nat) : MC := match M with
  | (cl, wr, ch, pa, se, ha, rd, op, dn, st) => (cl, wr, ch, pa, if rd (32 * j + i) = true then se else upd se (32 * j + i) (ch i), ha, va_up rd (32 * j + i) true, op, dn, st)
def m_read (t k : Int32) (M : MC) : Int32 × Int64 × MC := match ixO t 8 with
  | none => (1, 0, M)
  | some j => match ixO k 32 with
    | none => (2, 0, M)
    | some i => if mOp M j = true then
        (if mHa M (lix j (mPa M j) i) = true then (0, mWr M (lix j (mPa M j) i), M) else if mStl M j 32 = true then (4, 0, mOver M j) else (0, mCl M i, mLook M j i))
      else (3, 0, M)
def mWrite (M : MC) (q : Nat) (v : Int64) : MC := match M with
  | (cl, wr, ch, pa, se, ha, rd, op, dn, st) => (cl, vp_updL wr q v, ch, pa, se, va_up ha q true, rd, op, dn, st)
def m_write (t k : Int32) (v : Int64) (M : MC) : Int32 × MC := match ixO t 8 with
  | none => (1, M)
  | some j => match ixO k 32 with
    | none => (2, M)
    | some i => if mOp M j = true then (0, mWrite M (lix j (mPa M j) i) v) else (3, M)
def mCopy (M : MC) (sp dp : Nat) : MC := match M with
  | (cl, wr, ch, pa, se, ha, rd, op, dn, st) => (cl, va_cpy wr wr sp dp 32, ch, pa, se, va_cpy ha ha sp dp 32, rd, op, dn, st)
def mPart (M : MC) (j p : Nat) : MC := match M with
  | (cl, wr, ch, pa, se, ha, rd, op, dn, st) => (cl, wr, ch, va_up pa j p, se, ha, rd, op, dn, st)
def m_save (t : Int32) (M : MC) : Int32 × Int32 × MC := match ixO t 8 with
  | none => (1, 0, M)
  | some j => if mOp M j = true then (if mPa M j = 5 then (3, 0, M) else (0, nI (mPa M j + 1), mCopy (mPart M j (mPa M j + 1)) (lix j (mPa M j) 0) (lix j (mPa M j + 1) 0))) else (2, 0, M)
def m_back (t : Int32) (M : MC) : Int32 × MC := match ixO t 8 with
  | none => (1, M)
  | some j => if mOp M j = true then (if mPa M j = 1 then (3, M) else (0, mPart M j (mPa M j - 1))) else (2, M)
def m_keep (t : Int32) (M : MC) : Int32 × MC := match ixO t 8 with
  | none => (1, M)
  | some j => if mOp M j = true then (if mPa M j = 1 then (3, M) else (0, mCopy (mPart M j (mPa M j - 1)) (lix j (mPa M j) 0) (lix j (mPa M j - 1) 0))) else (2, M)
def m_done (t : Int32) (M : MC) : Int32 × Bool × MC := match ixO t 8 with
  | none => (1, false, M)
  | some j => if mOp M j = true then (if mStl M j 32 = true then (0, false, mOver M j) else match M with
      | (cl, wr, ch, pa, se, ha, rd, op, dn, st) => (0, true, ((mPuts M j (mPa M j) 32).1, wr, (mPuts M j (mPa M j) 32).2, pa, se, ha, rd, va_up op j false, dn + 1, st))) else (2, false, M)
def m_leave (t : Int32) (M : MC) : Int32 × MC := match ixO t 8 with
  | none => (1, M)
  | some j => if mOp M j = true then (0, mShut M j) else (2, M)
def m_set (k : Int32) (v : Int64) (M : MC) : Int32 × MC := match ixO k 32 with
  | none => (1, M)
  | some i => match M with
    | (cl, wr, ch, pa, se, ha, rd, op, dn, st) => (0, ((dPut (cl, ch) i v).1, wr, (dPut (cl, ch) i v).2, pa, se, ha, rd, op, dn, st))
def m_cell (k : Int32) (M : MC) : Int32 × Int64 := match ixO k 32 with
  | none => (1, 0)
  | some i => (0, mCl M i)
def m_changed (k : Int32) (M : MC) : Int32 × Int32 := match ixO k 32 with
  | none => (1, 0)
  | some i => (0, mCh M i)
def mCnt (M : MC) (j h : Nat) : Int32 := if h = 0 then nI (cntN (fun k => mRd M (32 * j + k)) 32) else if h = 1 then nI (cntN (fun k => mHa M (lix j (mPa M j) k)) 32) else if h = 2 then nI (mPa M j) else cd_bi (mStl M j 32)
def m_count (t what : Int32) (M : MC) : Int32 × Int32 := match ixO t 8 with
  | none => (1, 0)
  | some j => match ixO what 4 with
    | none => (1, 0)
    | some h => if mOp M j = true then (0, mCnt M j h) else (2, 0)
def m_all (what : Int32) (M : MC) : Int32 × Int32 := match ixO what 3 with
  | none => (1, 0)
  | some h => (0, if h = 0 then nI (cntN (mOp M) 8) else if h = 1 then mDn M else mSt M)
/-- the parts of an open one are from 1 to 5 -/
def mOK (M : MC) : Prop := ∀ j, j < 8 → mOp M j = true → 1 ≤ mPa M j ∧ mPa M j ≤ 5
theorem md_recv {p : Program} {s : State} {m : MethodId} {args : Array Value} {c : Code} {G : cd_G} {cc : ByteArray} {own : String} {nL : Nat} {A : Nat → Prop} {H : Heap} {g : Nat} {er : Int32} {M : MC} (ct : cd_Ct G p s m args c cc own nL A) (hP : va_P G.1 cd_cls (mdS G g er M) H) : ∃ cell : Cell, H[g]? = some cell ∧ cell.vm.isStatics = false ∧ s.vm.findClass "CommitDeskModel" = some cell.cls := by
  obtain ⟨cl, wr, ch, pa, se, ha, rd, op, dn, st⟩ := M
  exact va_recv (q := (R_M, F_M, 11)) (q0 := 0) ct.2.2.2.2.2.1.1 hP rfl rfl
theorem mStl_succ (M : MC) (j n : Nat) : mStl M j (n + 1) = (mStl M j n || (mRd M (32 * j + n) && decide (mSe M (32 * j + n) ≠ mCh M n))) := by
  unfold mStl
  rw [List.range_succ, List.any_append]
  simp
theorem mStl_mono {M : MC} {j n m : Nat} (h : n ≤ m) (hs : mStl M j n = true) : mStl M j m = true := by
  unfold mStl at hs ⊢
  rw [List.any_eq_true] at hs ⊢
  obtain ⟨x, h1, h2⟩ := hs
  exact ⟨x, List.mem_range.mpr (Nat.lt_of_lt_of_le (List.mem_range.mp h1) h), h2⟩
theorem i64_ix {x : Int32} {n : Nat} (hn2 : n + 1 < 2 ^ 31) : ((0 : Int64) ≤ x.toInt64 ∧ x.toInt64 ≤ lN n) ↔ (ixO x (n + 1)).isSome = true := by
  have h0 : (lN n).toInt = (n : Int) := lN_toInt (by omega)
  rw [Int64.le_iff_toInt_le, Int64.le_iff_toInt_le, Int32.toInt_toInt64, h0, Int64.toInt_zero]
  unfold ixO
  by_cases h1 : x < 0
  · rw [if_pos h1]
    rw [Int32.lt_iff_toInt_lt, Int32.toInt_zero] at h1
    simp only [Option.isSome_none, Bool.false_eq_true, iff_false]
    omega
  · rw [if_neg h1]
    rw [Int32.lt_iff_toInt_lt, Int32.toInt_zero] at h1
    by_cases h2 : nI (n + 1) ≤ x
    · rw [if_pos h2]
      rw [Int32.le_iff_toInt_le, nI_toInt hn2] at h2
      simp only [Option.isSome_none, Bool.false_eq_true, iff_false]
      omega
    · rw [if_neg h2]
      rw [Int32.le_iff_toInt_le, nI_toInt hn2] at h2
      simp only [Option.isSome_some, iff_true]
      omega
theorem cd_upb (f : Nat → Bool) (i : Nat) (b : Bool) : (fun k => cd_bi (va_up f i b k)) = fun k => cd_bi (va_up f i b k) := rfl
theorem nI_mul (a b : Nat) : nI a * nI b = nI (a * b) := pk_mul a b
end
section
/-! Walks of CommitDeskModel, 1: its helpers. Printed by prog/walk.py from walks/22.walkM1.walk. -/
set_option maxHeartbeats 4000000 in
theorem c_M_thrown (l : Launch) (G : cd_G) (g : Nat) (er : Int32) (M : MC) : cd_Con l y_M_thrown cw_M_thrown (cd_rm 0 0 0 0) [.ref g] G (va_P G.1 cd_cls (mdS G g er M)) (fun o _ => o = .returned (some (.int er))) (fun _ => False) := by
  obtain ⟨cl, wr, ch, pa, se, ha, rd, op, dn, st⟩ := M
  refine cd_ofW (by decide) ok_M_thrown.1 (Nat.le_of_ble_eq_true rfl) (fun h => h) ?_
  intro p e s m below meth c ct hlk hr hxt hnm hP ls hl
  have hx := ct.1
  have hb := ct.2.1
  have hS : va_S (cd_xA (fun _ => False) s) s.heap s.heap [] := va_S.rf
  refine lv_aload_n hx hb d_M_thrown_0 rfl (lk hl rfl) ?_
  refine cd_getM ct hP 0 0 (by decide) rfl fl_M_36 rfl d_M_thrown_1 ?_
  exact cd_iret ct hlk hr hS ⟨by decide, by decide⟩ rfl d_M_thrown_4
set_option maxHeartbeats 4000000 in
theorem c_M_in (l : Launch) (G : cd_G) (v a b : Int64) : cd_Con l y_M_in cw_M_in (cd_rm 0 0 0 0) [.long v, .long a, .long b] G (fun _ => True) (fun o _ => o = .returned (some (.int (cd_bi (decide (a ≤ v ∧ v ≤ b)))))) (fun _ => False) := by
  refine cd_ofW (by decide) ok_M_in.1 (Nat.le_of_ble_eq_true rfl) (fun h => h) ?_
  intro p e s m below meth c ct hlk hr hxt hnm hP ls hl
  have hx := ct.1
  have hb := ct.2.1
  have hS : va_S (cd_xA (fun _ => False) s) s.heap s.heap [] := va_S.rf
  refine lv_lload_n hx hb d_M_in_0 rfl (lk hl rfl) ?_
  refine lv_lload_n hx hb d_M_in_1 rfl (lk hl rfl) ?_
  refine W.lcmp hx hb d_M_in_2 ?_
  refine lv_if_lt (tgt := 17) hx hb d_M_in_3 (by decide) (fun hc => ?_) (fun hc => ?_)
  · have hno : ¬ (a ≤ v ∧ v ≤ b) := fun h => absurd h.1 (Int64.not_le.mpr ((lg_cmp_lt v a).mp hc))
    refine lv_iconst (v := 0) hx hb d_M_in_17 (by decide) ?_
    exact cd_zret ct hlk hr hS ⟨by decide, by decide⟩ rfl (by rw [decide_eq_false hno]; rfl) d_M_in_18
  refine lv_lload_n hx hb d_M_in_6 rfl (lk hl rfl) ?_
  refine lv_lload hx hb d_M_in_7 (lk hl rfl) ?_
  refine W.lcmp hx hb d_M_in_9 ?_
  refine lv_if_gt (tgt := 17) hx hb d_M_in_10 (by decide) (fun hc2 => ?_) (fun hc2 => ?_)
  · have hno : ¬ (a ≤ v ∧ v ≤ b) := fun h => absurd h.2 (Int64.not_le.mpr ((lg_cmp_gt v b).mp hc2))
    refine lv_iconst (v := 0) hx hb d_M_in_17 (by decide) ?_
    exact cd_zret ct hlk hr hS ⟨by decide, by decide⟩ rfl (by rw [decide_eq_false hno]; rfl) d_M_in_18
  · have hyes : a ≤ v ∧ v ≤ b := ⟨Int64.not_lt.mp (fun h => hc ((lg_cmp_lt v a).mpr h)), Int64.not_lt.mp (fun h => hc2 ((lg_cmp_gt v b).mpr h))⟩
    refine lv_iconst (v := 1) hx hb d_M_in_13 (by decide) ?_
    refine lv_goto (tgt := 18) hx hb d_M_in_14 (by decide) ?_
    exact cd_zret ct hlk hr hS ⟨by decide, by decide⟩ rfl (by rw [decide_eq_true hyes]; rfl) d_M_in_18
set_option maxHeartbeats 4000000 in
theorem c_M_isOne (l : Launch) (G : cd_G) (t : Int32) : cd_Con l y_M_isOne cw_M_isOne (cd_rm 1 0 0 25) [.int t] G (fun _ => True) (fun o _ => o = .returned (some (.int (cd_bi (ixO t 8).isSome)))) (fun _ => False) := by
  refine cd_ofW (by decide) ok_M_isOne.1 (Nat.le_of_ble_eq_true rfl) (fun h => h) ?_
  intro p e s m below meth c ct hlk hr hxt hnm hP ls hl
  have hx := ct.1
  have hb := ct.2.1
  have hS : va_S (cd_xA (fun _ => False) s) s.heap s.heap [] := va_S.rf
  refine lv_iload_n hx hb d_M_isOne_0 rfl (lk hl rfl) ?_
  refine lv_i2l hx hb d_M_isOne_1 rfl ?_
  refine lv_lconst (v := 0) hx hb d_M_isOne_2 (by decide) ?_
  refine lv_ldc2 hx hb ct.2.2.1 (ct.2.2.2.2.1 _ kc_M_40) d_M_isOne_3 ?_
  refine cd_callS (As := [.long t.toInt64, .long 0, .long 7]) (rest := []) ct hS (c_M_in l G t.toInt64 0 7) cs_M_42 ⟨⟨by decide, by decide⟩, by decide, by decide⟩ trivial hl.1 rfl rfl (Nat.le_of_ble_eq_true rfl) d_M_isOne_6 (fun _ _ h => h.elim) (fun v H1 locs1 hq hF hS => ?_) (fun _ _ _ h => by cases h)
  cases hq
  have e1 : decide ((0 : Int64) ≤ t.toInt64 ∧ t.toInt64 ≤ 7) = (ixO t 8).isSome := by
    cases h : (ixO t 8).isSome with
    | true => exact decide_eq_true ((i64_ix (n := 7) (by decide)).mpr h)
    | false => exact decide_eq_false (fun h2 => by rw [(i64_ix (n := 7) (by decide)).mp h2] at h; cases h)
  rw [e1]
  exact cd_zret ct hlk hr hS ⟨by decide, by decide⟩ (cd_bi_n _) rfl d_M_isOne_9
set_option maxHeartbeats 4000000 in
theorem c_M_isCell (l : Launch) (G : cd_G) (t : Int32) : cd_Con l y_M_isCell cw_M_isCell (cd_rm 1 0 0 25) [.int t] G (fun _ => True) (fun o _ => o = .returned (some (.int (cd_bi (ixO t 32).isSome)))) (fun _ => False) := by
  refine cd_ofW (by decide) ok_M_isCell.1 (Nat.le_of_ble_eq_true rfl) (fun h => h) ?_
  intro p e s m below meth c ct hlk hr hxt hnm hP ls hl
  have hx := ct.1
  have hb := ct.2.1
  have hS : va_S (cd_xA (fun _ => False) s) s.heap s.heap [] := va_S.rf
  refine lv_iload_n hx hb d_M_isCell_0 rfl (lk hl rfl) ?_
  refine lv_i2l hx hb d_M_isCell_1 rfl ?_
  refine lv_lconst (v := 0) hx hb d_M_isCell_2 (by decide) ?_
  refine lv_ldc2 hx hb ct.2.2.1 (ct.2.2.2.2.1 _ kc_M_46) d_M_isCell_3 ?_
  refine cd_callS (As := [.long t.toInt64, .long 0, .long 31]) (rest := []) ct hS (c_M_in l G t.toInt64 0 31) cs_M_42 ⟨⟨by decide, by decide⟩, by decide, by decide⟩ trivial hl.1 rfl rfl (Nat.le_of_ble_eq_true rfl) d_M_isCell_6 (fun _ _ h => h.elim) (fun v H1 locs1 hq hF hS => ?_) (fun _ _ _ h => by cases h)
  cases hq
  have e1 : decide ((0 : Int64) ≤ t.toInt64 ∧ t.toInt64 ≤ 31) = (ixO t 32).isSome := by
    cases h : (ixO t 32).isSome with
    | true => exact decide_eq_true ((i64_ix (n := 31) (by decide)).mpr h)
    | false => exact decide_eq_false (fun h2 => by rw [(i64_ix (n := 31) (by decide)).mp h2] at h; cases h)
  rw [e1]
  exact cd_zret ct hlk hr hS ⟨by decide, by decide⟩ (cd_bi_n _) rfl d_M_isCell_9
/-- with no error yet: the error is 'code' where 'is' -/
def erI (b : Bool) (code : Int32) : Int32 := if b = true then code else 0
set_option maxHeartbeats 4000000 in
theorem c_M_fails (l : Launch) (G : cd_G) (g : Nat) (M : MC) (b : Bool) (code : Int32) (hcode : ¬ code = 0) (hz : cd_z G < g) : cd_Con l y_M_fails cw_M_fails (cd_rm 0 0 0 0) [.ref g, .int (cd_bi b), .int code] G (va_P G.1 cd_cls (mdS G g 0 M)) (fun o H => o = .returned (some (.int (cd_bi b))) ∧ va_P G.1 cd_cls (mdS G g (erI b code) M) H) (rg g 9) := by
  obtain ⟨cl, wr, ch, pa, se, ha, rd, op, dn, st⟩ := M
  refine cd_ofW (by decide) ok_M_fails.1 (Nat.le_of_ble_eq_true rfl) (rg_z hz) ?_
  intro p e s m below meth c ct hlk hr hxt hnm hP ls hl
  have hx := ct.1
  have hb := ct.2.1
  have hS : va_S (cd_xA (rg g 9) s) s.heap s.heap [] := va_S.rf
  refine lv_iload_n hx hb d_M_fails_0 rfl (lk hl rfl) ?_
  refine lv_if_eq (tgt := 16) hx hb d_M_fails_1 (by decide) (fun hc => ?_) (fun hc => ?_)
  · have hb0 : b = false := (cd_bi_0 b).mp hc
    subst hb0
    refine lv_aload_n hx hb d_M_fails_16 rfl (lk hl rfl) ?_
    refine cd_getM ct hP 0 0 (by decide) rfl fl_M_36 rfl d_M_fails_17 ?_
    refine lv_if_eq (tgt := 27) hx hb d_M_fails_20 (by decide) (fun hc => ?_) (fun hc => absurd rfl hc)
    refine lv_iconst (v := 0) hx hb d_M_fails_27 (by decide) ?_
    exact cd_zret ct hlk hr hS ⟨by decide, by decide⟩ rfl ⟨rfl, hP⟩ d_M_fails_28
  · have hb0 : b = true := by cases b <;> first | rfl | exact absurd rfl hc
    subst hb0
    refine lv_aload_n hx hb d_M_fails_4 rfl (lk hl rfl) ?_
    refine cd_getM ct hP 0 0 (by decide) rfl fl_M_36 rfl d_M_fails_5 ?_
    refine lv_if_ne (tgt := 16) hx hb d_M_fails_8 (by decide) (fun hc => absurd rfl hc) (fun hc => ?_)
    refine lv_aload_n hx hb d_M_fails_11 rfl (lk hl rfl) ?_
    refine lv_iload_n hx hb d_M_fails_12 rfl (lk hl rfl) ?_
    refine cd_put in_M rfl t_M t_M_ok n_M ct hP (cd_Dx (md_D G g 0 (cl, wr, ch, pa, se, ha, rd, op, dn, st)) (fun _ h => h)) hS 0 0 (by decide) rfl fl_M_36 (Or.inl rfl) rfl rfl (Nat.le_of_ble_eq_true rfl) d_M_fails_13 (fun H locs hP hz1 hq hS => ?_)
    have hP : va_P G.1 cd_cls (md G g code cl wr ch pa se ha rd op dn st) H := hP
    refine lv_aload_n hx hb d_M_fails_16 rfl (lk hl rfl) ?_
    refine cd_getM ct hP 0 0 (by decide) rfl fl_M_36 rfl d_M_fails_17 ?_
    refine lv_if_eq (tgt := 27) hx hb d_M_fails_20 (by decide) (fun hc => absurd hc hcode) (fun hc => ?_)
    refine lv_iconst (v := 1) hx hb d_M_fails_23 (by decide) ?_
    refine lv_goto (tgt := 28) hx hb d_M_fails_24 (by decide) ?_
    exact cd_zret ct hlk hr hS ⟨by decide, by decide⟩ rfl ⟨rfl, hP⟩ d_M_fails_28
set_option maxHeartbeats 4000000 in
theorem c_M_last (l : Launch) (G : cd_G) (g : Nat) (er : Int32) (M : MC) (j k : Nat) (hj : j < 8) (hp : 1 ≤ mPa M j) : cd_Con l y_M_last cw_M_last (cd_rm 0 0 0 0) [.ref g, .int (nI j), .int (nI k)] G (va_P G.1 cd_cls (mdS G g er M)) (fun o _ => o = .returned (some (.int (nI (lix j (mPa M j) k))))) (fun _ => False) := by
  obtain ⟨cl, wr, ch, pa, se, ha, rd, op, dn, st⟩ := M
  have hp : 1 ≤ pa j := hp
  refine cd_ofW (by decide) ok_M_last.1 (Nat.le_of_ble_eq_true rfl) (fun h => h) ?_
  intro p e s m below meth c ct hlk hr hxt hnm hP ls hl
  have hx := ct.1
  have hb := ct.2.1
  have hS : va_S (cd_xA (fun _ => False) s) s.heap s.heap [] := va_S.rf
  refine lv_iconst (v := 5) hx hb d_M_last_0 (by decide) ?_
  refine lv_iload_n hx hb d_M_last_1 rfl (lk hl rfl) ?_
  refine lv_imul hx hb d_M_last_2 ?_
  refine lv_aload_n hx hb d_M_last_3 rfl (lk hl rfl) ?_
  refine cd_getM ct hP 0 4 (by decide) rfl fl_M_20 rfl d_M_last_4 ?_
  refine lv_iload_n hx hb d_M_last_7 rfl (lk hl rfl) ?_
  refine cd_iald ct hP 4 rfl j ⟨hj, by decide⟩ rfl d_M_last_8 ?_
  refine lv_iadd hx hb d_M_last_9 ?_
  refine lv_iconst (v := 1) hx hb d_M_last_10 (by decide) ?_
  refine lv_isub hx hb d_M_last_11 ?_
  refine lv_bipush (v := 32) hx hb d_M_last_12 (by decide) ?_
  refine lv_imul hx hb d_M_last_14 ?_
  refine lv_iload_n hx hb d_M_last_15 rfl (lk hl rfl) ?_
  refine lv_iadd hx hb d_M_last_16 ?_
  refine cd_iret ct hlk hr hS ⟨by decide, by decide⟩ ?_ d_M_last_17
  show Outcome.returned (some (Value.int ((((5 : Int32) * nI j + nI (pa j) - 1) * 32) + nI k))) = Outcome.returned (some (.int (nI (lix j (pa j) k))))
  have e1 : (((5 : Int32) * nI j + nI (pa j) - 1) * 32) + nI k = nI (lix j (pa j) k) := by
    have a1 : (5 : Int32) * nI j = nI (5 * j) := nI_mul 5 j
    rw [a1, nI_add]
    obtain ⟨x, hx⟩ : ∃ x, 5 * j + pa j = x + 1 := ⟨5 * j + pa j - 1, by omega⟩
    rw [hx, nI_pred]
    have a2 : nI x * 32 = nI (x * 32) := nI_mul x 32
    rw [a2, nI_add]
    unfold lix
    rw [hx]
    rfl
  rw [e1]
theorem m_stale_loop {p : Program} {l : Launch} {e : Env} {R : Room} {s : State} {m : MethodId} {args : Array Value} {below : List Frame} {meth : Method} {c : Code} {H : Heap} {locs : List Loc} {cells slots : Nat} {Q : State → Prop} {G : cd_G} {A : Nat → Prop} {g j : Nat} {er : Int32} {cl wr : Nat → Int64} {ch : Nat → Int32} {pa : Nat → Nat} {se : Nat → Int32} {ha rd op : Nat → Bool} {dn st : Int32}
    (hj : j < 8) (ct : cd_Ct G p s m args c b_M_isStale "CommitDeskModel" 3 A) (hP : va_P G.1 cd_cls (md G g er cl wr ch pa se ha rd op dn st) H)
    (k1 : mStl (cl, wr, ch, pa, se, ha, rd, op, dn, st) j 32 = true → ∀ ls, W p l e R s m args below meth c H locs cells slots Q (F0 m 43 ls [.int 1])) (k0 : mStl (cl, wr, ch, pa, se, ha, rd, op, dn, st) j 32 = false → ∀ ls, W p l e R s m args below meth c H locs cells slots Q (F0 m 51 ls [.int 0])) :
    ∀ i k : Nat, k + i = 32 → mStl (cl, wr, ch, pa, se, ha, rd, op, dn, st) j k = false → ∀ ls, lv_has ls 3 [(0, .ref g), (1, .int (nI j)), (2, .int (nI k))] → W p l e R s m args below meth c H locs cells slots Q (F0 m 2 ls []) := by
  have hx := ct.1
  have hb := ct.2.1
  intro i
  induction i with
  | zero =>
    intro k hk hs ls hl
    have hk : k = 32 := by omega
    subst hk
    refine lv_iload_n hx hb d_M_isStale_2 rfl (lk hl rfl) ?_
    refine lv_bipush (v := 32) hx hb d_M_isStale_3 (by decide) ?_
    refine lv_icmp_ge (tgt := 50) hx hb d_M_isStale_5 (by decide) (fun hc => ?_) (fun hc => absurd (by decide) hc)
    refine lv_iconst (v := 0) hx hb d_M_isStale_50 (by decide) ?_
    exact k0 hs ls
  | succ i ih =>
    intro k hk hs ls hl
    have hlt : k < 32 := by omega
    have e32 : (32 : Int32) * nI j + nI k = nI (32 * j + k) := by rw [show (32 : Int32) * nI j = nI (32 * j) from nI_mul 32 j, nI_add]
    refine lv_iload_n hx hb d_M_isStale_2 rfl (lk hl rfl) ?_
    refine lv_bipush (v := 32) hx hb d_M_isStale_3 (by decide) ?_
    refine lv_icmp_ge (tgt := 50) hx hb d_M_isStale_5 (by decide) (fun hc => absurd hc (nI_ge (b := 32) hlt (by decide))) (fun hc => ?_)
    have next : (rd (32 * j + k) && decide (se (32 * j + k) ≠ ch k)) = false → W p l e R s m args below meth c H locs cells slots Q (F0 m 44 ls []) := by
      intro hno
      refine cd_iinc hx hb d_M_isStale_44 hl rfl (v := nI (k + 1)) (nI_1 k) (by decide) rfl (fun ls hl => ?_)
      refine lv_goto (tgt := 2) hx hb d_M_isStale_47 (by decide) ?_
      exact ih (k + 1) (by omega) (by rw [mStl_succ, hs]; exact hno) ls (lre hl _ rfl)
    refine lv_aload_n hx hb d_M_isStale_8 rfl (lk hl rfl) ?_
    refine cd_getM ct hP 0 7 (by decide) rfl fl_M_30 rfl d_M_isStale_9 ?_
    refine lv_bipush (v := 32) hx hb d_M_isStale_12 (by decide) ?_
    refine lv_iload_n hx hb d_M_isStale_14 rfl (lk hl rfl) ?_
    refine lv_imul hx hb d_M_isStale_15 ?_
    refine lv_iload_n hx hb d_M_isStale_16 rfl (lk hl rfl) ?_
    refine lv_iadd hx hb d_M_isStale_17 ?_
    refine cd_zald ct hP 7 rfl (32 * j + k) ⟨by omega, by decide⟩ e32 d_M_isStale_18 ?_
    refine lv_if_eq (tgt := 44) hx hb d_M_isStale_19 (by decide) (fun hc => ?_) (fun hc => ?_)
    · exact next (by rw [(cd_bi_0 _).mp hc]; rfl)
    have hbit : rd (32 * j + k) = true := by cases h : rd (32 * j + k) <;> first | rfl | exact absurd (by rw [h]; rfl) hc
    refine lv_aload_n hx hb d_M_isStale_22 rfl (lk hl rfl) ?_
    refine cd_getM ct hP 0 5 (by decide) rfl fl_M_23 rfl d_M_isStale_23 ?_
    refine lv_bipush (v := 32) hx hb d_M_isStale_26 (by decide) ?_
    refine lv_iload_n hx hb d_M_isStale_28 rfl (lk hl rfl) ?_
    refine lv_imul hx hb d_M_isStale_29 ?_
    refine lv_iload_n hx hb d_M_isStale_30 rfl (lk hl rfl) ?_
    refine lv_iadd hx hb d_M_isStale_31 ?_
    refine cd_iald ct hP 5 rfl (32 * j + k) ⟨by omega, by decide⟩ e32 d_M_isStale_32 ?_
    refine lv_aload_n hx hb d_M_isStale_33 rfl (lk hl rfl) ?_
    refine cd_getM ct hP 0 3 (by decide) rfl fl_M_16 rfl d_M_isStale_34 ?_
    refine lv_iload_n hx hb d_M_isStale_37 rfl (lk hl rfl) ?_
    refine cd_iald ct hP 3 rfl k ⟨hlt, by decide⟩ rfl d_M_isStale_38 ?_
    refine lv_icmp_eq (tgt := 44) hx hb d_M_isStale_39 (by decide) (fun he => ?_) (fun he => ?_)
    · exact next (by rw [decide_eq_false (not_not_intro he), Bool.and_false])
    refine lv_iconst (v := 1) hx hb d_M_isStale_42 (by decide) ?_
    refine k1 (mStl_mono (n := k + 1) (by omega) ?_) ls
    rw [mStl_succ]
    show (_ || (rd (32 * j + k) && decide (se (32 * j + k) ≠ ch k))) = true
    rw [hbit, decide_eq_true he]
    simp
set_option maxHeartbeats 4000000 in
theorem c_M_isStale (l : Launch) (G : cd_G) (g : Nat) (er : Int32) (M : MC) (j : Nat) (hj : j < 8) :
    cd_Con l y_M_isStale cw_M_isStale (cd_rm 0 0 0 0) [.ref g, .int (nI j)] G (va_P G.1 cd_cls (mdS G g er M)) (fun o _ => o = .returned (some (.int (cd_bi (mStl M j 32))))) (fun _ => False) := by
  obtain ⟨cl, wr, ch, pa, se, ha, rd, op, dn, st⟩ := M
  refine cd_ofW (by decide) ok_M_isStale.1 (Nat.le_of_ble_eq_true rfl) (fun h => h) ?_
  intro p e s m below meth c ct hlk hr hxt hnm hP ls hl
  have hx := ct.1
  have hb := ct.2.1
  have hS : va_S (cd_xA (fun _ => False) s) s.heap s.heap [] := va_S.rf
  refine lv_iconst (v := 0) hx hb d_M_isStale_0 (by decide) ?_
  refine lv_istore_n hx hb d_M_isStale_1 rfl hl (by decide) rfl (fun ls hl => ?_)
  refine m_stale_loop hj ct hP (fun h ls => ?_) (fun h ls => ?_) 32 0 rfl rfl ls (lre hl _ rfl)
  · exact cd_zret ct hlk hr hS ⟨by decide, by decide⟩ rfl (by rw [h]; rfl) d_M_isStale_43
  · exact cd_zret ct hlk hr hS ⟨by decide, by decide⟩ rfl (by rw [h]; rfl) d_M_isStale_51
def mPut (M : MC) (k : Nat) (v : Int64) : MC := match M with
  | (cl, wr, ch, pa, se, ha, rd, op, dn, st) => ((dPut (cl, ch) k v).1, wr, (dPut (cl, ch) k v).2, pa, se, ha, rd, op, dn, st)
set_option maxHeartbeats 4000000 in
theorem c_M_change (l : Launch) (G : cd_G) (g : Nat) (er : Int32) (M : MC) (k : Nat) (v : Int64) (hk : k < 32) (hz : cd_z G < g) : cd_Con l y_M_change cw_M_change (cd_rm 0 0 0 0) [.ref g, .int (nI k), .long v] G (va_P G.1 cd_cls (mdS G g er M)) (fun o H => o = .returned none ∧ va_P G.1 cd_cls (mdS G g er (mPut M k v)) H) (rg g 9) := by
  obtain ⟨cl, wr, ch, pa, se, ha, rd, op, dn, st⟩ := M
  refine cd_ofW (by decide) ok_M_change.1 (Nat.le_of_ble_eq_true rfl) (rg_z hz) ?_
  intro p e s m below meth c ct hlk hr hxt hnm hP ls hl
  have hx := ct.1
  have hb := ct.2.1
  have hS : va_S (cd_xA (rg g 9) s) s.heap s.heap [] := va_S.rf
  refine lv_aload_n hx hb d_M_change_0 rfl (lk hl rfl) ?_
  refine cd_getM ct hP 0 1 (by decide) rfl fl_M_9 rfl d_M_change_1 ?_
  refine lv_iload_n hx hb d_M_change_4 rfl (lk hl rfl) ?_
  refine lv_lload_n hx hb d_M_change_5 rfl (lk hl rfl) ?_
  refine cd_last ct hP (cd_Dx (md_D G g er (cl, wr, ch, pa, se, ha, rd, op, dn, st)) (fun _ h => h)) hS 1 rfl k ⟨hk, by decide⟩ rfl d_M_change_6 (fun H locs hP hz1 hq hS => ?_)
  have hP : va_P G.1 cd_cls (md G g er (vp_updL cl k v) wr ch pa se ha rd op dn st) H := hP
  refine lv_aload_n hx hb d_M_change_7 rfl (lk hl rfl) ?_
  refine cd_getM ct hP 0 3 (by decide) rfl fl_M_16 rfl d_M_change_8 ?_
  refine lv_iload_n hx hb d_M_change_11 rfl (lk hl rfl) ?_
  refine lv_dup2_11 hx hb d_M_change_12 rfl rfl ?_
  refine cd_iald ct hP 3 rfl k ⟨hk, by decide⟩ rfl d_M_change_13 ?_
  refine lv_iconst (v := 1) hx hb d_M_change_14 (by decide) ?_
  refine lv_iadd hx hb d_M_change_15 ?_
  refine cd_iast ct hP (cd_Dx (md_D G g er (vp_updL cl k v, wr, ch, pa, se, ha, rd, op, dn, st)) (fun _ h => h)) hS 3 rfl k ⟨hk, by decide⟩ rfl d_M_change_16 (fun H locs hP hz1 hq hS => ?_)
  exact cd_vret ct hlk hr hS ⟨by decide, by decide⟩ ⟨rfl, hP⟩ d_M_change_17
theorem cpy_succ {α : Type} (f g : Nat → α) (sp dp n : Nat) : va_up (va_cpy f g sp dp n) (dp + n) (f (sp + n)) = va_cpy f g sp dp (n + 1) := by
  funext q
  by_cases h : q = dp + n
  · subst h
    simp only [va_up, if_true, va_cpy]
    rw [if_pos ⟨by omega, by omega⟩]
    congr 1
    omega
  · simp only [va_up, if_neg h, va_cpy]
    by_cases h2 : dp ≤ q ∧ q < dp + n
    · rw [if_pos h2, if_pos ⟨h2.1, by omega⟩]
    · rw [if_neg h2, if_neg (fun h3 => h2 ⟨h3.1, by omega⟩)]
theorem cpy_updL (f g : Nat → Int64) (sp dp n : Nat) : vp_updL (va_cpy f g sp dp n) (dp + n) (f (sp + n)) = va_cpy f g sp dp (n + 1) := cpy_succ f g sp dp n
theorem cpy_0 {α : Type} (f g : Nat → α) (sp dp : Nat) : va_cpy f g sp dp 0 = g := by
  funext q
  simp only [va_cpy]
  rw [if_neg (by omega)]
theorem cpy_far {α : Type} {f : Nat → α} {sp dp n k : Nat} (h : sp + 32 ≤ dp ∨ dp + 32 ≤ sp) (hn : n ≤ 32) (hk : k < 32) : va_cpy f f sp dp n (sp + k) = f (sp + k) := by
  simp only [va_cpy]
  rw [if_neg (by omega)]
theorem m_copy_loop {p : Program} {l : Launch} {e : Env} {R : Room} {s : State} {m : MethodId} {args : Array Value} {below : List Frame} {meth : Method} {c : Code} {cells slots : Nat} {Q : State → Prop} {G : cd_G} {A : Nat → Prop} {g sp dp : Nat} {er : Int32} {cl wr : Nat → Int64} {ch : Nat → Int32} {pa : Nat → Nat} {se : Nat → Int32} {ha rd op : Nat → Bool} {dn st : Int32}
    (hA : ∀ q, rg g 9 q → A q) (hsp : sp + 32 ≤ 1280) (hdp : dp + 32 ≤ 1280) (hfar : sp + 32 ≤ dp ∨ dp + 32 ≤ sp) (ct : cd_Ct G p s m args c b_M_copy "CommitDeskModel" 4 A)
    (kk : ∀ H locs, va_P G.1 cd_cls (md G g er cl (va_cpy wr wr sp dp 32) ch pa se (va_cpy ha ha sp dp 32) rd op dn st) H → va_S (cd_xA A s) s.heap H locs → ∀ ls, W p l e R s m args below meth c H locs cells slots Q (F0 m 46 ls [])) :
    ∀ i k : Nat, k + i = 32 → ∀ H locs ls, va_P G.1 cd_cls (md G g er cl (va_cpy wr wr sp dp k) ch pa se (va_cpy ha ha sp dp k) rd op dn st) H → va_S (cd_xA A s) s.heap H locs → lv_has ls 4 [(0, .ref g), (1, .int (nI sp)), (2, .int (nI dp)), (3, .int (nI k))] → W p l e R s m args below meth c H locs cells slots Q (F0 m 2 ls []) := by
  have hx := ct.1
  have hb := ct.2.1
  have hD := fun M => cd_Dx (s := s) (A := A) (md_D G g er M) hA
  intro i
  induction i with
  | zero =>
    intro k hk H locs ls hP hS hl
    have hk : k = 32 := by omega
    subst hk
    refine lv_iload_n hx hb d_M_copy_2 rfl (lk hl rfl) ?_
    refine lv_bipush (v := 32) hx hb d_M_copy_3 (by decide) ?_
    refine lv_icmp_ge (tgt := 46) hx hb d_M_copy_5 (by decide) (fun hc => ?_) (fun hc => absurd (by decide) hc)
    exact kk H locs hP hS ls
  | succ i ih =>
    intro k hk H locs ls hP hS hl
    have hlt : k < 32 := by omega
    refine lv_iload_n hx hb d_M_copy_2 rfl (lk hl rfl) ?_
    refine lv_bipush (v := 32) hx hb d_M_copy_3 (by decide) ?_
    refine lv_icmp_ge (tgt := 46) hx hb d_M_copy_5 (by decide) (fun hc => absurd hc (nI_ge (b := 32) hlt (by decide))) (fun hc => ?_)
    refine lv_aload_n hx hb d_M_copy_8 rfl (lk hl rfl) ?_
    refine cd_getM ct hP 0 6 (by decide) rfl fl_M_26 rfl d_M_copy_9 ?_
    refine lv_iload_n hx hb d_M_copy_12 rfl (lk hl rfl) ?_
    refine lv_iload_n hx hb d_M_copy_13 rfl (lk hl rfl) ?_
    refine lv_iadd hx hb d_M_copy_14 ?_
    refine lv_aload_n hx hb d_M_copy_15 rfl (lk hl rfl) ?_
    refine cd_getM ct hP 0 6 (by decide) rfl fl_M_26 rfl d_M_copy_16 ?_
    refine lv_iload_n hx hb d_M_copy_19 rfl (lk hl rfl) ?_
    refine lv_iload_n hx hb d_M_copy_20 rfl (lk hl rfl) ?_
    refine lv_iadd hx hb d_M_copy_21 ?_
    refine cd_zald ct hP 6 rfl (sp + k) ⟨by omega, by decide⟩ (nI_add sp k) d_M_copy_22 ?_
    refine cd_zast ct hP (hD (cl, va_cpy wr wr sp dp k, ch, pa, se, va_cpy ha ha sp dp k, rd, op, dn, st)) hS 6 rfl (dp + k) ⟨by omega, by decide⟩ (nI_add dp k) (ha (sp + k)) (by rw [cpy_far hfar (by omega) hlt]) d_M_copy_23 (fun H locs hP hz1 hq hS => ?_)
    have hP : va_P G.1 cd_cls (md G g er cl (va_cpy wr wr sp dp k) ch pa se (va_up (va_cpy ha ha sp dp k) (dp + k) (ha (sp + k))) rd op dn st) H := hP
    rw [cpy_succ] at hP
    refine lv_aload_n hx hb d_M_copy_24 rfl (lk hl rfl) ?_
    refine cd_getM ct hP 0 2 (by decide) rfl fl_M_13 rfl d_M_copy_25 ?_
    refine lv_iload_n hx hb d_M_copy_28 rfl (lk hl rfl) ?_
    refine lv_iload_n hx hb d_M_copy_29 rfl (lk hl rfl) ?_
    refine lv_iadd hx hb d_M_copy_30 ?_
    refine lv_aload_n hx hb d_M_copy_31 rfl (lk hl rfl) ?_
    refine cd_getM ct hP 0 2 (by decide) rfl fl_M_13 rfl d_M_copy_32 ?_
    refine lv_iload_n hx hb d_M_copy_35 rfl (lk hl rfl) ?_
    refine lv_iload_n hx hb d_M_copy_36 rfl (lk hl rfl) ?_
    refine lv_iadd hx hb d_M_copy_37 ?_
    refine cd_lald ct hP 2 rfl (sp + k) ⟨by omega, by decide⟩ (nI_add sp k) d_M_copy_38 ?_
    refine cd_tl (cpy_far hfar (by omega) hlt) ?_
    refine cd_last ct hP (hD (cl, va_cpy wr wr sp dp k, ch, pa, se, va_cpy ha ha sp dp (k + 1), rd, op, dn, st)) hS 2 rfl (dp + k) ⟨by omega, by decide⟩ (nI_add dp k) d_M_copy_39 (fun H locs hP hz1 hq hS => ?_)
    have hP : va_P G.1 cd_cls (md G g er cl (vp_updL (va_cpy wr wr sp dp k) (dp + k) (wr (sp + k))) ch pa se (va_cpy ha ha sp dp (k + 1)) rd op dn st) H := hP
    rw [cpy_updL] at hP
    refine cd_iinc hx hb d_M_copy_40 hl rfl (v := nI (k + 1)) (nI_1 k) (by decide) rfl (fun ls hl => ?_)
    refine lv_goto (tgt := 2) hx hb d_M_copy_43 (by decide) ?_
    exact ih (k + 1) (by omega) H locs ls hP hS (lre hl _ rfl)
set_option maxHeartbeats 4000000 in
theorem c_M_copy (l : Launch) (G : cd_G) (g : Nat) (er : Int32) (M : MC) (sp dp : Nat) (hsp : sp + 32 ≤ 1280) (hdp : dp + 32 ≤ 1280) (hfar : sp + 32 ≤ dp ∨ dp + 32 ≤ sp) (hz : cd_z G < g) : cd_Con l y_M_copy cw_M_copy (cd_rm 0 0 0 0) [.ref g, .int (nI sp), .int (nI dp)] G (va_P G.1 cd_cls (mdS G g er M)) (fun o H => o = .returned none ∧ va_P G.1 cd_cls (mdS G g er (mCopy M sp dp)) H) (rg g 9) := by
  obtain ⟨cl, wr, ch, pa, se, ha, rd, op, dn, st⟩ := M
  refine cd_ofW (by decide) ok_M_copy.1 (Nat.le_of_ble_eq_true rfl) (rg_z hz) ?_
  intro p e s m below meth c ct hlk hr hxt hnm hP ls hl
  have hx := ct.1
  have hb := ct.2.1
  have hS : va_S (cd_xA (rg g 9) s) s.heap s.heap [] := va_S.rf
  refine lv_iconst (v := 0) hx hb d_M_copy_0 (by decide) ?_
  refine lv_istore_n hx hb d_M_copy_1 rfl hl (by decide) rfl (fun ls hl => ?_)
  refine m_copy_loop (fun _ h => h) hsp hdp hfar ct (fun H locs hP hS ls => ?_) 32 0 rfl s.heap [] ls (by rw [cpy_0, cpy_0]; exact hP) hS (lre hl _ rfl)
  exact cd_vret ct hlk hr hS ⟨by decide, by decide⟩ ⟨rfl, hP⟩ d_M_copy_46
end
section
/-! CommitDeskModel: calls of its own helpers, as rows. -/
section MdCalls
variable {p : Program} {l : Launch} {e : Env} {R : Room} {s : State} {m : MethodId} {args : Array Value} {below : List Frame} {meth : Method} {c : Code} {H : Heap} {locs : List Loc} {cells slots : Nat} {Q : State → Prop}
variable {G : cd_G} {cc : ByteArray} {nL : Nat} {A : Nat → Prop} {pc : Nat} {ls : Array Slot} {rest : List Value} {g : Nat} {M : MC} {t er : Int32}
def mRm (R : Room) (cells slots : Nat) : Prop := 2 ≤ R.frames ∧ 45 ≤ R.locals ∧ cells ≤ R.cells ∧ slots ≤ R.slots
theorem md_fails (hz : cd_z G < g) (hA : ∀ q, rg g 9 q → A q) (ct : cd_Ct G p s m args c cc "CommitDeskModel" nL A) (hS : va_S (cd_xA A s) s.heap H locs) (hP : va_P G.1 cd_cls (mdS G g 0 M) H) (hR : mRm R cells slots) (hsz : ls.size = nL) {cv : Int32} (hcz : ¬ cv = 0) {x : Int32} (b : Bool) (hxb : x = cd_bi b) (hdg : decode cc pc = .ok (.invokevirtual 52, 3))
    (kk : ∀ H1 locs1, va_P G.1 cd_cls (mdS G g (erI b cv) M) H1 → va_S (cd_xA A s) s.heap H1 locs1 → W p l e R s m args below meth c H1 locs1 cells slots Q (F0 m (pc + 3) ls [.int (cd_bi b)])) :
    W p l e R s m args below meth c H locs cells slots Q (F0 m pc ls [.int cv, .int x, .ref g]) := by
  subst hxb
  refine cd_callV (As := [.int (cd_bi b), .int cv]) (rest := []) ct hS (c_M_fails l G g M b cv hcz hz) cv_M_52 ⟨⟨by show 0 + 1 ≤ _; have := hR.1; omega, by show 8 + (3 + 11) + 0 ≤ _; have := hR.2.1; omega⟩, hR.2.2⟩ (md_recv ct hP) hP hsz rfl rfl (Nat.le_of_ble_eq_true rfl) hdg (fun q _ h => Or.inl (hA q h)) (fun v H1 locs1 hq hF hS => ?_) (fun _ _ _ h => by cases h.1)
  obtain ⟨hq, hP⟩ := hq
  cases hq
  exact kk H1 locs1 hP hS
/-- 'fails(!x, cv)' -/
theorem md_neg (hz : cd_z G < g) (hA : ∀ q, rg g 9 q → A q) (ct : cd_Ct G p s m args c cc "CommitDeskModel" nL A) (hS : va_S (cd_xA A s) s.heap H locs) (hP : va_P G.1 cd_cls (mdS G g 0 M) H) (hR : mRm R cells slots) (hsz : ls.size = nL) {code : Int} {cv : Int32} (hcv : Int32.ofInt code = cv) (hcz : ¬ cv = 0) (b : Bool)
    (h1 : decode cc pc = .ok (.ifCond .ne 7, 3)) (h2 : decode cc (pc + 3) = .ok (.iconst 1, 1)) (h3 : decode cc (pc + 4) = .ok (.goto 4, 3)) (h4 : decode cc (pc + 7) = .ok (.iconst 0, 1)) (h5 : decode cc (pc + 8) = .ok (.iconst code, 1)) (h6 : decode cc (pc + 9) = .ok (.invokevirtual 52, 3))
    (kk : ∀ H1 locs1, va_P G.1 cd_cls (mdS G g (erI (!b) cv) M) H1 → va_S (cd_xA A s) s.heap H1 locs1 → W p l e R s m args below meth c H1 locs1 cells slots Q (F0 m (pc + 12) ls [.int (cd_bi (!b))])) :
    W p l e R s m args below meth c H locs cells slots Q (F0 m pc ls [.int (cd_bi b), .ref g]) := by
  refine lv_if_ne (tgt := pc + 7) ct.1 ct.2.1 h1 (by omega) (fun hc => ?_) (fun hc => ?_)
  · have hb : b = true := by cases b <;> first | rfl | exact absurd rfl hc
    subst hb
    refine lv_iconst (v := 0) ct.1 ct.2.1 h4 (by decide) ?_
    refine lv_iconst (v := cv) ct.1 ct.2.1 h5 hcv ?_
    exact md_fails (b := false) hz hA ct hS hP hR hsz hcz rfl h6 kk
  · have hb : b = false := (cd_bi_0 b).mp hc
    subst hb
    refine lv_iconst (v := 1) ct.1 ct.2.1 h2 (by decide) ?_
    refine lv_goto (tgt := pc + 8) ct.1 ct.2.1 h3 (by omega) ?_
    refine lv_iconst (v := cv) ct.1 ct.2.1 h5 hcv ?_
    exact md_fails (b := true) hz hA ct hS hP hR hsz hcz rfl h6 kk
theorem md_isOne (hz : cd_z G < g) (hA : ∀ q, rg g 9 q → A q) (ct : cd_Ct G p s m args c cc "CommitDeskModel" nL A) (hS : va_S (cd_xA A s) s.heap H locs) (hP : va_P G.1 cd_cls (mdS G g 0 M) H) (hR : mRm R cells slots) (hsz : ls.size = nL) {code : Int} {cv : Int32} (hcv : Int32.ofInt code = cv) (hcz : ¬ cv = 0)
    (h0 : decode cc pc = .ok (.invokestatic 48, 3)) (h1 : decode cc (pc + 3) = .ok (.ifCond .ne 7, 3)) (h2 : decode cc (pc + 6) = .ok (.iconst 1, 1)) (h3 : decode cc (pc + 7) = .ok (.goto 4, 3)) (h4 : decode cc (pc + 10) = .ok (.iconst 0, 1)) (h5 : decode cc (pc + 11) = .ok (.iconst code, 1)) (h6 : decode cc (pc + 12) = .ok (.invokevirtual 52, 3))
    (kk : ∀ H1 locs1, va_P G.1 cd_cls (mdS G g (erI (!(ixO t 8).isSome) cv) M) H1 → va_S (cd_xA A s) s.heap H1 locs1 → W p l e R s m args below meth c H1 locs1 cells slots Q (F0 m (pc + 15) ls [.int (cd_bi (!(ixO t 8).isSome))])) :
    W p l e R s m args below meth c H locs cells slots Q (F0 m pc ls [.int t, .ref g]) := by
  refine cd_callS (As := [.int t]) (rest := [.ref g]) ct hS (c_M_isOne l G t) cs_M_48 ⟨⟨by show 1 + 1 ≤ _; have := hR.1; omega, by show 8 + (1 + 11) + 25 ≤ _; have := hR.2.1; omega⟩, hR.2.2⟩ trivial hsz rfl rfl (Nat.le_of_ble_eq_true rfl) h0 (fun _ _ h => h.elim) (fun v H1 locs1 hq hF hS => ?_) (fun _ _ _ h => by cases h)
  cases hq
  exact md_neg hz hA ct hS (cd_keep0 hP hF) hR hsz hcv hcz _ h1 h2 h3 h4 h5 h6 kk
theorem md_isCell (hz : cd_z G < g) (hA : ∀ q, rg g 9 q → A q) (ct : cd_Ct G p s m args c cc "CommitDeskModel" nL A) (hS : va_S (cd_xA A s) s.heap H locs) (hP : va_P G.1 cd_cls (mdS G g 0 M) H) (hR : mRm R cells slots) (hsz : ls.size = nL) {code : Int} {cv : Int32} (hcv : Int32.ofInt code = cv) (hcz : ¬ cv = 0)
    (h0 : decode cc pc = .ok (.invokestatic 60, 3)) (h1 : decode cc (pc + 3) = .ok (.ifCond .ne 7, 3)) (h2 : decode cc (pc + 6) = .ok (.iconst 1, 1)) (h3 : decode cc (pc + 7) = .ok (.goto 4, 3)) (h4 : decode cc (pc + 10) = .ok (.iconst 0, 1)) (h5 : decode cc (pc + 11) = .ok (.iconst code, 1)) (h6 : decode cc (pc + 12) = .ok (.invokevirtual 52, 3))
    (kk : ∀ H1 locs1, va_P G.1 cd_cls (mdS G g (erI (!(ixO t 32).isSome) cv) M) H1 → va_S (cd_xA A s) s.heap H1 locs1 → W p l e R s m args below meth c H1 locs1 cells slots Q (F0 m (pc + 15) ls [.int (cd_bi (!(ixO t 32).isSome))])) :
    W p l e R s m args below meth c H locs cells slots Q (F0 m pc ls [.int t, .ref g]) := by
  refine cd_callS (As := [.int t]) (rest := [.ref g]) ct hS (c_M_isCell l G t) cs_M_60 ⟨⟨by show 1 + 1 ≤ _; have := hR.1; omega, by show 8 + (1 + 11) + 25 ≤ _; have := hR.2.1; omega⟩, hR.2.2⟩ trivial hsz rfl rfl (Nat.le_of_ble_eq_true rfl) h0 (fun _ _ h => h.elim) (fun v H1 locs1 hq hF hS => ?_) (fun _ _ _ h => by cases h)
  cases hq
  exact md_neg hz hA ct hS (cd_keep0 hP hF) hR hsz hcv hcz _ h1 h2 h3 h4 h5 h6 kk
theorem md_last (ct : cd_Ct G p s m args c cc "CommitDeskModel" nL A) (hS : va_S (cd_xA A s) s.heap H locs) (hP : va_P G.1 cd_cls (mdS G g er M) H) (hR : mRm R cells slots) (hsz : ls.size = nL) {j i : Nat} (hj : j < 8) (hp : 1 ≤ mPa M j) {x : Int32} (hxi : x = nI i) (hW : (rest.map fun v => v.category).sum ≤ 8) (hdg : decode cc pc = .ok (.invokevirtual 56, 3))
    (kk : ∀ H1 locs1, va_P G.1 cd_cls (mdS G g er M) H1 → va_S (cd_xA A s) s.heap H1 locs1 → W p l e R s m args below meth c H1 locs1 cells slots Q (F0 m (pc + 3) ls (.int (nI (lix j (mPa M j) i)) :: rest))) :
    W p l e R s m args below meth c H locs cells slots Q (F0 m pc ls (.int x :: .int (nI j) :: .ref g :: rest)) := by
  subst hxi
  refine cd_callV (As := [.int (nI j), .int (nI i)]) (rest := rest) ct hS (c_M_last l G g er M j i hj hp) cv_M_56 ⟨⟨by show 0 + 1 ≤ _; have := hR.1; omega, by show 8 + (3 + 11) + 0 ≤ _; have := hR.2.1; omega⟩, hR.2.2⟩ (md_recv ct hP) hP hsz rfl rfl hW hdg (fun _ _ h => h.elim) (fun v H1 locs1 hq hF hS => ?_) (fun _ _ _ h => by cases h)
  cases hq
  exact kk H1 locs1 (cd_keep0 hP hF) hS
theorem md_stale (ct : cd_Ct G p s m args c cc "CommitDeskModel" nL A) (hS : va_S (cd_xA A s) s.heap H locs) (hP : va_P G.1 cd_cls (mdS G g er M) H) (hR : mRm R cells slots) (hsz : ls.size = nL) {j : Nat} (hj : j < 8) (hdg : decode cc pc = .ok (.invokevirtual 63, 3))
    (kk : ∀ H1 locs1, va_P G.1 cd_cls (mdS G g er M) H1 → va_S (cd_xA A s) s.heap H1 locs1 → W p l e R s m args below meth c H1 locs1 cells slots Q (F0 m (pc + 3) ls [.int (cd_bi (mStl M j 32))])) :
    W p l e R s m args below meth c H locs cells slots Q (F0 m pc ls [.int (nI j), .ref g]) := by
  refine cd_callV (As := [.int (nI j)]) (rest := []) ct hS (c_M_isStale l G g er M j hj) cv_M_63 ⟨⟨by show 0 + 1 ≤ _; have := hR.1; omega, by show 8 + (3 + 11) + 0 ≤ _; have := hR.2.1; omega⟩, hR.2.2⟩ (md_recv ct hP) hP hsz rfl rfl (Nat.le_of_ble_eq_true rfl) hdg (fun _ _ h => h.elim) (fun v H1 locs1 hq hF hS => ?_) (fun _ _ _ h => by cases h)
  cases hq
  exact kk H1 locs1 (cd_keep0 hP hF) hS
/-- 'err = 0' at the begin of every operation -/
theorem md_zero (hA : ∀ q, rg g 9 q → A q) (ct : cd_Ct G p s m args c cc "CommitDeskModel" nL A) (hS : va_S (cd_xA A s) s.heap H locs) (hP : va_P G.1 cd_cls (mdS G g er M) H) (hl0 : ls[0]? = some (.val (.ref g))) (h0 : decode cc 0 = .ok (.aload_n 0, 1)) (h1 : decode cc 1 = .ok (.iconst 0, 1)) (h2 : decode cc 2 = .ok (.putfield 36, 3))
    (kk : ∀ H1 locs1, va_P G.1 cd_cls (mdS G g 0 M) H1 → va_S (cd_xA A s) s.heap H1 locs1 → W p l e R s m args below meth c H1 locs1 cells slots Q (F0 m 5 ls [])) :
    W p l e R s m args below meth c H locs cells slots Q (F0 m 0 ls []) := by
  refine lv_aload_n ct.1 ct.2.1 h0 rfl hl0 ?_
  refine lv_iconst (v := 0) ct.1 ct.2.1 h1 (by decide) ?_
  have hD := cd_Dx (s := s) (A := A) (md_D G g er M) hA
  obtain ⟨cl, wr, ch, pa, se, ha, rd, op, dn, st⟩ := M
  exact cd_put in_M rfl t_M t_M_ok n_M ct hP hD hS 0 0 (by decide) rfl fl_M_36 (Or.inl rfl) rfl rfl (Nat.le_of_ble_eq_true rfl) h2 (fun H locs hP hz1 hq hS => kk H locs hP hS)
end MdCalls
end
section
/-! Walks of CommitDeskModel, 2: its public methods. Printed by prog/mkM2.py and prog/walk.py. -/
abbrev rmM : Room := cd_rm 2 0 0 45
theorem md_Dx {G : cd_G} {g : Nat} {s : State} (er : Int32) (M : MC) : va_D (cd_xA (rg g 9) s) (mdS G g er M) := cd_Dx (md_D G g er M) (fun _ h => h)
set_option maxHeartbeats 4000000 in
theorem c_M_leave (l : Launch) (G : cd_G) (g : Nat) (er : Int32) (M : MC) (t : Int32) (hz : cd_z G < g) : cd_Con l y_M_leave cw_M_leave rmM [.ref g, .int t] G (va_P G.1 cd_cls (mdS G g er M)) (fun o H => o = .returned none ∧ va_P G.1 cd_cls (mdS G g (m_leave t M).1 (m_leave t M).2) H) (rg g 9) := by
  obtain ⟨cl, wr, ch, pa, se, ha, rd, op, dn, st⟩ := M
  refine cd_ofW (by decide) ok_M_leave.1 (Nat.le_of_ble_eq_true rfl) (rg_z hz) ?_
  intro p e s m below meth c ct hlk hr hxt hnm hP ls hl
  have hx := ct.1
  have hb := ct.2.1
  have hS : va_S (cd_xA (rg g 9) s) s.heap s.heap [] := va_S.rf
  refine md_zero (fun _ h => h) ct hS hP (lk hl rfl) d_M_leave_0 d_M_leave_1 d_M_leave_2 (fun H locs hP hS => ?_)
  refine lv_aload_n hx hb d_M_leave_5 rfl (lk hl rfl) ?_
  refine lv_iload_n hx hb d_M_leave_6 rfl (lk hl rfl) ?_
  refine md_isOne (t := t) hz (fun _ h => h) ct hS hP ⟨by decide, by decide, by decide, by decide⟩ hl.1 (cv := 1) (by decide) (by decide) d_M_leave_7 d_M_leave_10 d_M_leave_13 d_M_leave_14 d_M_leave_17 d_M_leave_18 d_M_leave_19 (fun H locs hP hS => ?_)
  cases hix : ixO t 8 with
  | none =>
    rw [hix] at hP
    have hP : va_P G.1 cd_cls (mdS G g 1 (cl, wr, ch, pa, se, ha, rd, op, dn, st)) H := hP
    have e1 : m_leave t (cl, wr, ch, pa, se, ha, rd, op, dn, st) = (1, (cl, wr, ch, pa, se, ha, rd, op, dn, st)) := by simp only [m_leave, hix]
    refine lv_if_ne (tgt := 47) hx hb d_M_leave_22 (by decide) (fun hc => ?_) (fun hc => absurd hc (by decide))
    exact cd_vret ct hlk hr hS ⟨by decide, by decide⟩ ⟨rfl, by rw [e1]; exact hP⟩ d_M_leave_47
  | some j =>
  rw [hix] at hP
  have hP : va_P G.1 cd_cls (mdS G g 0 (cl, wr, ch, pa, se, ha, rd, op, dn, st)) H := hP
  refine lv_if_ne (tgt := 47) hx hb d_M_leave_22 (by decide) (fun hc => absurd rfl hc) (fun hc => ?_)
  obtain ⟨hj, rfl⟩ := ixO_some (by decide) hix
  refine lv_aload_n hx hb d_M_leave_25 rfl (lk hl rfl) ?_
  refine lv_aload_n hx hb d_M_leave_26 rfl (lk hl rfl) ?_
  refine cd_getM ct hP 0 8 (by decide) rfl fl_M_33 rfl d_M_leave_27 ?_
  refine lv_iload_n hx hb d_M_leave_30 rfl (lk hl rfl) ?_
  refine cd_zald ct hP 8 rfl j ⟨hj, by decide⟩ rfl d_M_leave_31 ?_
  refine md_neg hz (fun _ h => h) ct hS hP ⟨by decide, by decide, by decide, by decide⟩ hl.1 (cv := 2) (by decide) (by decide) (op j) d_M_leave_32 d_M_leave_35 d_M_leave_36 d_M_leave_39 d_M_leave_40 d_M_leave_41 (fun H locs hP hS => ?_)
  cases hop : op j with
  | false =>
    rw [hop] at hP
    have hP : va_P G.1 cd_cls (mdS G g 2 (cl, wr, ch, pa, se, ha, rd, op, dn, st)) H := hP
    have hopM : mOp (cl, wr, ch, pa, se, ha, rd, op, dn, st) j = false := hop
    have e1 : m_leave (nI j) (cl, wr, ch, pa, se, ha, rd, op, dn, st) = (2, (cl, wr, ch, pa, se, ha, rd, op, dn, st)) := by simp [m_leave, hix, hopM]
    refine lv_if_eq (tgt := 48) hx hb d_M_leave_44 (by decide) (fun hc => absurd hc (by decide)) (fun hc => ?_)
    exact cd_vret ct hlk hr hS ⟨by decide, by decide⟩ ⟨rfl, by rw [e1]; exact hP⟩ d_M_leave_47
  | true =>
  rw [hop] at hP
  have hP : va_P G.1 cd_cls (mdS G g 0 (cl, wr, ch, pa, se, ha, rd, op, dn, st)) H := hP
  have hopM : mOp (cl, wr, ch, pa, se, ha, rd, op, dn, st) j = true := hop
  refine lv_if_eq (tgt := 48) hx hb d_M_leave_44 (by decide) (fun hc => ?_) (fun hc => absurd rfl hc)
  have e1 : m_leave (nI j) (cl, wr, ch, pa, se, ha, rd, op, dn, st) = (0, mShut (cl, wr, ch, pa, se, ha, rd, op, dn, st) j) := by simp [m_leave, hix, hopM]
  refine lv_aload_n hx hb d_M_leave_48 rfl (lk hl rfl) ?_
  refine cd_getM ct hP 0 8 (by decide) rfl fl_M_33 rfl d_M_leave_49 ?_
  refine lv_iload_n hx hb d_M_leave_52 rfl (lk hl rfl) ?_
  refine lv_iconst (v := 0) hx hb d_M_leave_53 (by decide) ?_
  refine cd_zast ct hP (md_Dx 0 (cl, wr, ch, pa, se, ha, rd, op, dn, st)) hS 8 rfl j ⟨hj, by decide⟩ rfl false rfl d_M_leave_54 (fun H locs hP hz1 hq hS => ?_)
  exact cd_vret ct hlk hr hS ⟨by decide, by decide⟩ ⟨rfl, by rw [e1]; exact hP⟩ d_M_leave_55
set_option maxHeartbeats 4000000 in
theorem c_M_back (l : Launch) (G : cd_G) (g : Nat) (er : Int32) (M : MC) (t : Int32) (hz : cd_z G < g) (hok : mOK M) : cd_Con l y_M_back cw_M_back rmM [.ref g, .int t] G (va_P G.1 cd_cls (mdS G g er M)) (fun o H => o = .returned none ∧ va_P G.1 cd_cls (mdS G g (m_back t M).1 (m_back t M).2) H) (rg g 9) := by
  obtain ⟨cl, wr, ch, pa, se, ha, rd, op, dn, st⟩ := M
  refine cd_ofW (by decide) ok_M_back.1 (Nat.le_of_ble_eq_true rfl) (rg_z hz) ?_
  intro p e s m below meth c ct hlk hr hxt hnm hP ls hl
  have hx := ct.1
  have hb := ct.2.1
  have hS : va_S (cd_xA (rg g 9) s) s.heap s.heap [] := va_S.rf
  refine md_zero (fun _ h => h) ct hS hP (lk hl rfl) d_M_back_0 d_M_back_1 d_M_back_2 (fun H locs hP hS => ?_)
  refine lv_aload_n hx hb d_M_back_5 rfl (lk hl rfl) ?_
  refine lv_iload_n hx hb d_M_back_6 rfl (lk hl rfl) ?_
  refine md_isOne (t := t) hz (fun _ h => h) ct hS hP ⟨by decide, by decide, by decide, by decide⟩ hl.1 (cv := 1) (by decide) (by decide) d_M_back_7 d_M_back_10 d_M_back_13 d_M_back_14 d_M_back_17 d_M_back_18 d_M_back_19 (fun H locs hP hS => ?_)
  cases hix : ixO t 8 with
  | none =>
    rw [hix] at hP
    have hP : va_P G.1 cd_cls (mdS G g 1 (cl, wr, ch, pa, se, ha, rd, op, dn, st)) H := hP
    have e1 : m_back t (cl, wr, ch, pa, se, ha, rd, op, dn, st) = (1, (cl, wr, ch, pa, se, ha, rd, op, dn, st)) := by simp only [m_back, hix]
    refine lv_if_ne (tgt := 70) hx hb d_M_back_22 (by decide) (fun hc => ?_) (fun hc => absurd hc (by decide))
    exact cd_vret ct hlk hr hS ⟨by decide, by decide⟩ ⟨rfl, by rw [e1]; exact hP⟩ d_M_back_70
  | some j =>
  rw [hix] at hP
  have hP : va_P G.1 cd_cls (mdS G g 0 (cl, wr, ch, pa, se, ha, rd, op, dn, st)) H := hP
  refine lv_if_ne (tgt := 70) hx hb d_M_back_22 (by decide) (fun hc => absurd rfl hc) (fun hc => ?_)
  obtain ⟨hj, rfl⟩ := ixO_some (by decide) hix
  refine lv_aload_n hx hb d_M_back_25 rfl (lk hl rfl) ?_
  refine lv_aload_n hx hb d_M_back_26 rfl (lk hl rfl) ?_
  refine cd_getM ct hP 0 8 (by decide) rfl fl_M_33 rfl d_M_back_27 ?_
  refine lv_iload_n hx hb d_M_back_30 rfl (lk hl rfl) ?_
  refine cd_zald ct hP 8 rfl j ⟨hj, by decide⟩ rfl d_M_back_31 ?_
  refine md_neg hz (fun _ h => h) ct hS hP ⟨by decide, by decide, by decide, by decide⟩ hl.1 (cv := 2) (by decide) (by decide) (op j) d_M_back_32 d_M_back_35 d_M_back_36 d_M_back_39 d_M_back_40 d_M_back_41 (fun H locs hP hS => ?_)
  cases hop : op j with
  | false =>
    rw [hop] at hP
    have hP : va_P G.1 cd_cls (mdS G g 2 (cl, wr, ch, pa, se, ha, rd, op, dn, st)) H := hP
    have hopM : mOp (cl, wr, ch, pa, se, ha, rd, op, dn, st) j = false := hop
    have e1 : m_back (nI j) (cl, wr, ch, pa, se, ha, rd, op, dn, st) = (2, (cl, wr, ch, pa, se, ha, rd, op, dn, st)) := by simp [m_back, hix, hopM]
    refine lv_if_ne (tgt := 70) hx hb d_M_back_44 (by decide) (fun hc => ?_) (fun hc => absurd hc (by decide))
    exact cd_vret ct hlk hr hS ⟨by decide, by decide⟩ ⟨rfl, by rw [e1]; exact hP⟩ d_M_back_70
  | true =>
  rw [hop] at hP
  have hP : va_P G.1 cd_cls (mdS G g 0 (cl, wr, ch, pa, se, ha, rd, op, dn, st)) H := hP
  have hopM : mOp (cl, wr, ch, pa, se, ha, rd, op, dn, st) j = true := hop
  refine lv_if_ne (tgt := 70) hx hb d_M_back_44 (by decide) (fun hc => absurd rfl hc) (fun hc => ?_)
  have hp := hok j hj hopM
  have hp : 1 ≤ pa j ∧ pa j ≤ 5 := hp
  refine lv_aload_n hx hb d_M_back_47 rfl (lk hl rfl) ?_
  refine lv_aload_n hx hb d_M_back_48 rfl (lk hl rfl) ?_
  refine cd_getM ct hP 0 4 (by decide) rfl fl_M_20 rfl d_M_back_49 ?_
  refine lv_iload_n hx hb d_M_back_52 rfl (lk hl rfl) ?_
  refine cd_iald ct hP 4 rfl j ⟨hj, by decide⟩ rfl d_M_back_53 ?_
  refine lv_iconst (v := 1) hx hb d_M_back_54 (by decide) ?_
  by_cases hpe : pa j = 1
  · rw [hpe]
    refine lv_icmp_ne (tgt := 62) hx hb d_M_back_55 (by decide) (fun hc => absurd rfl hc) (fun hc => ?_)
    refine lv_iconst (v := 1) hx hb d_M_back_58 (by decide) ?_
    refine lv_goto (tgt := 63) hx hb d_M_back_59 (by decide) ?_
    refine lv_iconst (v := 3) hx hb d_M_back_63 (by decide) ?_
    refine md_fails (b := true) hz (fun _ h => h) ct hS hP ⟨by decide, by decide, by decide, by decide⟩ hl.1 (cv := 3) (by decide) rfl d_M_back_64 (fun H locs hP hS => ?_)
    have hpM : mPa (cl, wr, ch, pa, se, ha, rd, op, dn, st) j = 1 := hpe
    have e1 : m_back (nI j) (cl, wr, ch, pa, se, ha, rd, op, dn, st) = (3, (cl, wr, ch, pa, se, ha, rd, op, dn, st)) := by simp [m_back, hix, hopM, hpM]
    refine lv_if_eq (tgt := 71) hx hb d_M_back_67 (by decide) (fun hc => absurd hc (by decide)) (fun hc => ?_)
    exact cd_vret ct hlk hr hS ⟨by decide, by decide⟩ ⟨rfl, by rw [e1]; exact hP⟩ d_M_back_70
  have hpM : ¬ mPa (cl, wr, ch, pa, se, ha, rd, op, dn, st) j = 1 := hpe
  refine lv_icmp_ne (tgt := 62) hx hb d_M_back_55 (by decide) (fun hc => ?_) (fun hc => absurd ((nI_eq (by omega) (by decide)).mp hc) hpe)
  refine lv_iconst (v := 0) hx hb d_M_back_62 (by decide) ?_
  refine lv_iconst (v := 3) hx hb d_M_back_63 (by decide) ?_
  refine md_fails (b := false) hz (fun _ h => h) ct hS hP ⟨by decide, by decide, by decide, by decide⟩ hl.1 (cv := 3) (by decide) rfl d_M_back_64 (fun H locs hP hS => ?_)
  have hP : va_P G.1 cd_cls (mdS G g 0 (cl, wr, ch, pa, se, ha, rd, op, dn, st)) H := hP
  refine lv_if_eq (tgt := 71) hx hb d_M_back_67 (by decide) (fun hc => ?_) (fun hc => absurd rfl hc)
  refine lv_aload_n hx hb d_M_back_71 rfl (lk hl rfl) ?_
  refine cd_getM ct hP 0 4 (by decide) rfl fl_M_20 rfl d_M_back_72 ?_
  refine lv_iload_n hx hb d_M_back_75 rfl (lk hl rfl) ?_
  refine lv_dup2_11 hx hb d_M_back_76 rfl rfl ?_
  refine cd_iald ct hP 4 rfl j ⟨hj, by decide⟩ rfl d_M_back_77 ?_
  refine lv_iconst (v := 1) hx hb d_M_back_78 (by decide) ?_
  refine lv_isub hx hb d_M_back_79 ?_
  refine cd_ti (y := nI (pa j - 1)) (by obtain ⟨pb, hpb⟩ : ∃ pb, pa j = pb + 1 := ⟨pa j - 1, by omega⟩; rw [hpb]; exact nI_pred pb) ?_
  refine cd_iast ct hP (md_Dx 0 (cl, wr, ch, pa, se, ha, rd, op, dn, st)) hS 4 rfl j ⟨hj, by decide⟩ rfl d_M_back_80 (fun H locs hP hz1 hq hS => ?_)
  have hP : va_P G.1 cd_cls (mdS G g 0 (mPart (cl, wr, ch, pa, se, ha, rd, op, dn, st) j (pa j - 1))) H := by
    have hP : va_P G.1 cd_cls [(g, .inr (2, [.int 0, .ref (g + 1), .ref (g + 2), .ref (g + 3), .ref (g + 4), .ref (g + 5), .ref (g + 6), .ref (g + 7), .ref (g + 8), .int dn, .int st])), (g + 1, .inl (cd_cL G, 32, .inr (.inl cl))), (g + 2, .inl (cd_cL G, 1280, .inr (.inl wr))), (g + 3, .inl (cd_cI G, 32, .inl ch)), (g + 4, .inl (cd_cI G, 8, .inl (upd (fun j => nI (pa j)) j (nI (pa j - 1))))), (g + 5, .inl (cd_cI G, 256, .inl se)), (g + 6, .inl (cd_cZ G, 1280, .inl (fun j => cd_bi (ha j)))), (g + 7, .inl (cd_cZ G, 256, .inl (fun j => cd_bi (rd j)))), (g + 8, .inl (cd_cZ G, 8, .inl (fun j => cd_bi (op j))))] H := hP
    rw [cd_upn] at hP
    exact hP
  have e1 : m_back (nI j) (cl, wr, ch, pa, se, ha, rd, op, dn, st) = (0, mPart (cl, wr, ch, pa, se, ha, rd, op, dn, st) j (pa j - 1)) := by simp [m_back, hix, hopM, hpM]
  exact cd_vret ct hlk hr hS ⟨by decide, by decide⟩ ⟨rfl, by rw [e1]; exact hP⟩ d_M_back_81
set_option maxHeartbeats 4000000 in
theorem c_M_keep (l : Launch) (G : cd_G) (g : Nat) (er : Int32) (M : MC) (t : Int32) (hz : cd_z G < g) (hok : mOK M) : cd_Con l y_M_keep cw_M_keep rmM [.ref g, .int t] G (va_P G.1 cd_cls (mdS G g er M)) (fun o H => o = .returned none ∧ va_P G.1 cd_cls (mdS G g (m_keep t M).1 (m_keep t M).2) H) (rg g 9) := by
  obtain ⟨cl, wr, ch, pa, se, ha, rd, op, dn, st⟩ := M
  refine cd_ofW (by decide) ok_M_keep.1 (Nat.le_of_ble_eq_true rfl) (rg_z hz) ?_
  intro p e s m below meth c ct hlk hr hxt hnm hP ls hl
  have hx := ct.1
  have hb := ct.2.1
  have hS : va_S (cd_xA (rg g 9) s) s.heap s.heap [] := va_S.rf
  refine md_zero (fun _ h => h) ct hS hP (lk hl rfl) d_M_keep_0 d_M_keep_1 d_M_keep_2 (fun H locs hP hS => ?_)
  refine lv_aload_n hx hb d_M_keep_5 rfl (lk hl rfl) ?_
  refine lv_iload_n hx hb d_M_keep_6 rfl (lk hl rfl) ?_
  refine md_isOne (t := t) hz (fun _ h => h) ct hS hP ⟨by decide, by decide, by decide, by decide⟩ hl.1 (cv := 1) (by decide) (by decide) d_M_keep_7 d_M_keep_10 d_M_keep_13 d_M_keep_14 d_M_keep_17 d_M_keep_18 d_M_keep_19 (fun H locs hP hS => ?_)
  cases hix : ixO t 8 with
  | none =>
    rw [hix] at hP
    have hP : va_P G.1 cd_cls (mdS G g 1 (cl, wr, ch, pa, se, ha, rd, op, dn, st)) H := hP
    have e1 : m_keep t (cl, wr, ch, pa, se, ha, rd, op, dn, st) = (1, (cl, wr, ch, pa, se, ha, rd, op, dn, st)) := by simp only [m_keep, hix]
    refine lv_if_ne (tgt := 70) hx hb d_M_keep_22 (by decide) (fun hc => ?_) (fun hc => absurd hc (by decide))
    exact cd_vret ct hlk hr hS ⟨by decide, by decide⟩ ⟨rfl, by rw [e1]; exact hP⟩ d_M_keep_70
  | some j =>
  rw [hix] at hP
  have hP : va_P G.1 cd_cls (mdS G g 0 (cl, wr, ch, pa, se, ha, rd, op, dn, st)) H := hP
  refine lv_if_ne (tgt := 70) hx hb d_M_keep_22 (by decide) (fun hc => absurd rfl hc) (fun hc => ?_)
  obtain ⟨hj, rfl⟩ := ixO_some (by decide) hix
  refine lv_aload_n hx hb d_M_keep_25 rfl (lk hl rfl) ?_
  refine lv_aload_n hx hb d_M_keep_26 rfl (lk hl rfl) ?_
  refine cd_getM ct hP 0 8 (by decide) rfl fl_M_33 rfl d_M_keep_27 ?_
  refine lv_iload_n hx hb d_M_keep_30 rfl (lk hl rfl) ?_
  refine cd_zald ct hP 8 rfl j ⟨hj, by decide⟩ rfl d_M_keep_31 ?_
  refine md_neg hz (fun _ h => h) ct hS hP ⟨by decide, by decide, by decide, by decide⟩ hl.1 (cv := 2) (by decide) (by decide) (op j) d_M_keep_32 d_M_keep_35 d_M_keep_36 d_M_keep_39 d_M_keep_40 d_M_keep_41 (fun H locs hP hS => ?_)
  cases hop : op j with
  | false =>
    rw [hop] at hP
    have hP : va_P G.1 cd_cls (mdS G g 2 (cl, wr, ch, pa, se, ha, rd, op, dn, st)) H := hP
    have hopM : mOp (cl, wr, ch, pa, se, ha, rd, op, dn, st) j = false := hop
    have e1 : m_keep (nI j) (cl, wr, ch, pa, se, ha, rd, op, dn, st) = (2, (cl, wr, ch, pa, se, ha, rd, op, dn, st)) := by simp [m_keep, hix, hopM]
    refine lv_if_ne (tgt := 70) hx hb d_M_keep_44 (by decide) (fun hc => ?_) (fun hc => absurd hc (by decide))
    exact cd_vret ct hlk hr hS ⟨by decide, by decide⟩ ⟨rfl, by rw [e1]; exact hP⟩ d_M_keep_70
  | true =>
  rw [hop] at hP
  have hP : va_P G.1 cd_cls (mdS G g 0 (cl, wr, ch, pa, se, ha, rd, op, dn, st)) H := hP
  have hopM : mOp (cl, wr, ch, pa, se, ha, rd, op, dn, st) j = true := hop
  refine lv_if_ne (tgt := 70) hx hb d_M_keep_44 (by decide) (fun hc => absurd rfl hc) (fun hc => ?_)
  have hp := hok j hj hopM
  have hp : 1 ≤ pa j ∧ pa j ≤ 5 := hp
  refine lv_aload_n hx hb d_M_keep_47 rfl (lk hl rfl) ?_
  refine lv_aload_n hx hb d_M_keep_48 rfl (lk hl rfl) ?_
  refine cd_getM ct hP 0 4 (by decide) rfl fl_M_20 rfl d_M_keep_49 ?_
  refine lv_iload_n hx hb d_M_keep_52 rfl (lk hl rfl) ?_
  refine cd_iald ct hP 4 rfl j ⟨hj, by decide⟩ rfl d_M_keep_53 ?_
  refine lv_iconst (v := 1) hx hb d_M_keep_54 (by decide) ?_
  by_cases hpe : pa j = 1
  · rw [hpe]
    refine lv_icmp_ne (tgt := 62) hx hb d_M_keep_55 (by decide) (fun hc => absurd rfl hc) (fun hc => ?_)
    refine lv_iconst (v := 1) hx hb d_M_keep_58 (by decide) ?_
    refine lv_goto (tgt := 63) hx hb d_M_keep_59 (by decide) ?_
    refine lv_iconst (v := 3) hx hb d_M_keep_63 (by decide) ?_
    refine md_fails (b := true) hz (fun _ h => h) ct hS hP ⟨by decide, by decide, by decide, by decide⟩ hl.1 (cv := 3) (by decide) rfl d_M_keep_64 (fun H locs hP hS => ?_)
    have hpM : mPa (cl, wr, ch, pa, se, ha, rd, op, dn, st) j = 1 := hpe
    have e1 : m_keep (nI j) (cl, wr, ch, pa, se, ha, rd, op, dn, st) = (3, (cl, wr, ch, pa, se, ha, rd, op, dn, st)) := by simp [m_keep, hix, hopM, hpM]
    refine lv_if_eq (tgt := 71) hx hb d_M_keep_67 (by decide) (fun hc => absurd hc (by decide)) (fun hc => ?_)
    exact cd_vret ct hlk hr hS ⟨by decide, by decide⟩ ⟨rfl, by rw [e1]; exact hP⟩ d_M_keep_70
  have hpM : ¬ mPa (cl, wr, ch, pa, se, ha, rd, op, dn, st) j = 1 := hpe
  refine lv_icmp_ne (tgt := 62) hx hb d_M_keep_55 (by decide) (fun hc => ?_) (fun hc => absurd ((nI_eq (by omega) (by decide)).mp hc) hpe)
  refine lv_iconst (v := 0) hx hb d_M_keep_62 (by decide) ?_
  refine lv_iconst (v := 3) hx hb d_M_keep_63 (by decide) ?_
  refine md_fails (b := false) hz (fun _ h => h) ct hS hP ⟨by decide, by decide, by decide, by decide⟩ hl.1 (cv := 3) (by decide) rfl d_M_keep_64 (fun H locs hP hS => ?_)
  have hP : va_P G.1 cd_cls (mdS G g 0 (cl, wr, ch, pa, se, ha, rd, op, dn, st)) H := hP
  refine lv_if_eq (tgt := 71) hx hb d_M_keep_67 (by decide) (fun hc => ?_) (fun hc => absurd rfl hc)
  refine lv_aload_n hx hb d_M_keep_71 rfl (lk hl rfl) ?_
  refine cd_getM ct hP 0 4 (by decide) rfl fl_M_20 rfl d_M_keep_72 ?_
  refine lv_iload_n hx hb d_M_keep_75 rfl (lk hl rfl) ?_
  refine lv_dup2_11 hx hb d_M_keep_76 rfl rfl ?_
  refine cd_iald ct hP 4 rfl j ⟨hj, by decide⟩ rfl d_M_keep_77 ?_
  refine lv_iconst (v := 1) hx hb d_M_keep_78 (by decide) ?_
  refine lv_isub hx hb d_M_keep_79 ?_
  refine cd_ti (y := nI (pa j - 1)) (by obtain ⟨pb, hpb⟩ : ∃ pb, pa j = pb + 1 := ⟨pa j - 1, by omega⟩; rw [hpb]; exact nI_pred pb) ?_
  refine cd_iast ct hP (md_Dx 0 (cl, wr, ch, pa, se, ha, rd, op, dn, st)) hS 4 rfl j ⟨hj, by decide⟩ rfl d_M_keep_80 (fun H locs hP hz1 hq hS => ?_)
  have hP : va_P G.1 cd_cls (mdS G g 0 (mPart (cl, wr, ch, pa, se, ha, rd, op, dn, st) j (pa j - 1))) H := by
    have hP : va_P G.1 cd_cls [(g, .inr (2, [.int 0, .ref (g + 1), .ref (g + 2), .ref (g + 3), .ref (g + 4), .ref (g + 5), .ref (g + 6), .ref (g + 7), .ref (g + 8), .int dn, .int st])), (g + 1, .inl (cd_cL G, 32, .inr (.inl cl))), (g + 2, .inl (cd_cL G, 1280, .inr (.inl wr))), (g + 3, .inl (cd_cI G, 32, .inl ch)), (g + 4, .inl (cd_cI G, 8, .inl (upd (fun j => nI (pa j)) j (nI (pa j - 1))))), (g + 5, .inl (cd_cI G, 256, .inl se)), (g + 6, .inl (cd_cZ G, 1280, .inl (fun j => cd_bi (ha j)))), (g + 7, .inl (cd_cZ G, 256, .inl (fun j => cd_bi (rd j)))), (g + 8, .inl (cd_cZ G, 8, .inl (fun j => cd_bi (op j))))] H := hP
    rw [cd_upn] at hP
    exact hP
  have e1 : m_keep (nI j) (cl, wr, ch, pa, se, ha, rd, op, dn, st) = (0, mCopy (mPart (cl, wr, ch, pa, se, ha, rd, op, dn, st) j (pa j - 1)) (lix j (pa j) 0) (lix j (pa j - 1) 0)) := by simp [m_keep, hix, hopM, hpM]
  have hpj : mPa (mPart (cl, wr, ch, pa, se, ha, rd, op, dn, st) j (pa j - 1)) j = pa j - 1 := by simp [mPart, mPa, va_up]
  refine lv_aload_n hx hb d_M_keep_81 rfl (lk hl rfl) ?_
  refine lv_aload_n hx hb d_M_keep_82 rfl (lk hl rfl) ?_
  refine lv_iload_n hx hb d_M_keep_83 rfl (lk hl rfl) ?_
  refine lv_iconst (v := 0) hx hb d_M_keep_84 (by decide) ?_
  refine md_last (j := j) (i := 0) ct hS hP ⟨by decide, by decide, by decide, by decide⟩ hl.1 hj (by rw [hpj]; omega) rfl (Nat.le_of_ble_eq_true rfl) d_M_keep_85 (fun H locs hP hS => ?_)
  rw [hpj]
  refine lv_bipush (v := 32) hx hb d_M_keep_88 (by decide) ?_
  refine lv_iadd hx hb d_M_keep_90 ?_
  refine cd_ti (y := nI (lix j (pa j) 0)) (by rw [show (32 : Int32) = nI 32 from rfl, nI_add]; congr 1; unfold lix; omega) ?_
  refine lv_aload_n hx hb d_M_keep_91 rfl (lk hl rfl) ?_
  refine lv_iload_n hx hb d_M_keep_92 rfl (lk hl rfl) ?_
  refine lv_iconst (v := 0) hx hb d_M_keep_93 (by decide) ?_
  refine md_last (j := j) (i := 0) ct hS hP ⟨by decide, by decide, by decide, by decide⟩ hl.1 hj (by rw [hpj]; omega) rfl (Nat.le_of_ble_eq_true rfl) d_M_keep_94 (fun H locs hP hS => ?_)
  rw [hpj]
  refine cd_callV (As := [.int (nI (lix j (pa j) 0)), .int (nI (lix j (pa j - 1) 0))]) (rest := []) ct hS (c_M_copy l G g 0 (mPart (cl, wr, ch, pa, se, ha, rd, op, dn, st) j (pa j - 1)) (lix j (pa j) 0) (lix j (pa j - 1) 0) (by unfold lix; omega) (by unfold lix; omega) (by unfold lix; omega) hz) cv_M_69 ⟨⟨by decide, by decide⟩, by decide, by decide⟩ (md_recv ct hP) hP hl.1 rfl rfl (Nat.le_of_ble_eq_true rfl) d_M_keep_97 (fun q _ h => Or.inl h) (fun v H1 locs1 hq hF hS => ?_) (fun _ _ _ h => by cases h.1)
  obtain ⟨hq, hP⟩ := hq
  cases hq
  exact cd_vret ct hlk hr hS ⟨by decide, by decide⟩ ⟨rfl, by rw [e1]; exact hP⟩ d_M_keep_100
set_option maxHeartbeats 4000000 in
theorem c_M_save (l : Launch) (G : cd_G) (g : Nat) (er : Int32) (M : MC) (t : Int32) (hz : cd_z G < g) (hok : mOK M) : cd_Con l y_M_save cw_M_save rmM [.ref g, .int t] G (va_P G.1 cd_cls (mdS G g er M)) (fun o H => o = .returned (some (.int (m_save t M).2.1)) ∧ va_P G.1 cd_cls (mdS G g (m_save t M).1 (m_save t M).2.2) H) (rg g 9) := by
  obtain ⟨cl, wr, ch, pa, se, ha, rd, op, dn, st⟩ := M
  refine cd_ofW (by decide) ok_M_save.1 (Nat.le_of_ble_eq_true rfl) (rg_z hz) ?_
  intro p e s m below meth c ct hlk hr hxt hnm hP ls hl
  have hx := ct.1
  have hb := ct.2.1
  have hS : va_S (cd_xA (rg g 9) s) s.heap s.heap [] := va_S.rf
  refine md_zero (fun _ h => h) ct hS hP (lk hl rfl) d_M_save_0 d_M_save_1 d_M_save_2 (fun H locs hP hS => ?_)
  refine lv_aload_n hx hb d_M_save_5 rfl (lk hl rfl) ?_
  refine lv_iload_n hx hb d_M_save_6 rfl (lk hl rfl) ?_
  refine md_isOne (t := t) hz (fun _ h => h) ct hS hP ⟨by decide, by decide, by decide, by decide⟩ hl.1 (cv := 1) (by decide) (by decide) d_M_save_7 d_M_save_10 d_M_save_13 d_M_save_14 d_M_save_17 d_M_save_18 d_M_save_19 (fun H locs hP hS => ?_)
  cases hix : ixO t 8 with
  | none =>
    rw [hix] at hP
    have hP : va_P G.1 cd_cls (mdS G g 1 (cl, wr, ch, pa, se, ha, rd, op, dn, st)) H := hP
    have e1 : m_save t (cl, wr, ch, pa, se, ha, rd, op, dn, st) = (1, 0, (cl, wr, ch, pa, se, ha, rd, op, dn, st)) := by simp only [m_save, hix]
    refine lv_if_ne (tgt := 70) hx hb d_M_save_22 (by decide) (fun hc => ?_) (fun hc => absurd hc (by decide))
    refine lv_iconst (v := 0) hx hb d_M_save_70 (by decide) ?_
    exact cd_iret ct hlk hr hS ⟨by decide, by decide⟩ ⟨by rw [e1], by rw [e1]; exact hP⟩ d_M_save_71
  | some j =>
  rw [hix] at hP
  have hP : va_P G.1 cd_cls (mdS G g 0 (cl, wr, ch, pa, se, ha, rd, op, dn, st)) H := hP
  refine lv_if_ne (tgt := 70) hx hb d_M_save_22 (by decide) (fun hc => absurd rfl hc) (fun hc => ?_)
  obtain ⟨hj, rfl⟩ := ixO_some (by decide) hix
  refine lv_aload_n hx hb d_M_save_25 rfl (lk hl rfl) ?_
  refine lv_aload_n hx hb d_M_save_26 rfl (lk hl rfl) ?_
  refine cd_getM ct hP 0 8 (by decide) rfl fl_M_33 rfl d_M_save_27 ?_
  refine lv_iload_n hx hb d_M_save_30 rfl (lk hl rfl) ?_
  refine cd_zald ct hP 8 rfl j ⟨hj, by decide⟩ rfl d_M_save_31 ?_
  refine md_neg hz (fun _ h => h) ct hS hP ⟨by decide, by decide, by decide, by decide⟩ hl.1 (cv := 2) (by decide) (by decide) (op j) d_M_save_32 d_M_save_35 d_M_save_36 d_M_save_39 d_M_save_40 d_M_save_41 (fun H locs hP hS => ?_)
  cases hop : op j with
  | false =>
    rw [hop] at hP
    have hP : va_P G.1 cd_cls (mdS G g 2 (cl, wr, ch, pa, se, ha, rd, op, dn, st)) H := hP
    have hopM : mOp (cl, wr, ch, pa, se, ha, rd, op, dn, st) j = false := hop
    have e1 : m_save (nI j) (cl, wr, ch, pa, se, ha, rd, op, dn, st) = (2, 0, (cl, wr, ch, pa, se, ha, rd, op, dn, st)) := by simp [m_save, hix, hopM]
    refine lv_if_ne (tgt := 70) hx hb d_M_save_44 (by decide) (fun hc => ?_) (fun hc => absurd hc (by decide))
    refine lv_iconst (v := 0) hx hb d_M_save_70 (by decide) ?_
    exact cd_iret ct hlk hr hS ⟨by decide, by decide⟩ ⟨by rw [e1], by rw [e1]; exact hP⟩ d_M_save_71
  | true =>
  rw [hop] at hP
  have hP : va_P G.1 cd_cls (mdS G g 0 (cl, wr, ch, pa, se, ha, rd, op, dn, st)) H := hP
  have hopM : mOp (cl, wr, ch, pa, se, ha, rd, op, dn, st) j = true := hop
  refine lv_if_ne (tgt := 70) hx hb d_M_save_44 (by decide) (fun hc => absurd rfl hc) (fun hc => ?_)
  have hp := hok j hj hopM
  have hp : 1 ≤ pa j ∧ pa j ≤ 5 := hp
  refine lv_aload_n hx hb d_M_save_47 rfl (lk hl rfl) ?_
  refine lv_aload_n hx hb d_M_save_48 rfl (lk hl rfl) ?_
  refine cd_getM ct hP 0 4 (by decide) rfl fl_M_20 rfl d_M_save_49 ?_
  refine lv_iload_n hx hb d_M_save_52 rfl (lk hl rfl) ?_
  refine cd_iald ct hP 4 rfl j ⟨hj, by decide⟩ rfl d_M_save_53 ?_
  refine lv_iconst (v := 5) hx hb d_M_save_54 (by decide) ?_
  by_cases hpe : pa j = 5
  · rw [hpe]
    refine lv_icmp_ne (tgt := 62) hx hb d_M_save_55 (by decide) (fun hc => absurd rfl hc) (fun hc => ?_)
    refine lv_iconst (v := 1) hx hb d_M_save_58 (by decide) ?_
    refine lv_goto (tgt := 63) hx hb d_M_save_59 (by decide) ?_
    refine lv_iconst (v := 3) hx hb d_M_save_63 (by decide) ?_
    refine md_fails (b := true) hz (fun _ h => h) ct hS hP ⟨by decide, by decide, by decide, by decide⟩ hl.1 (cv := 3) (by decide) rfl d_M_save_64 (fun H locs hP hS => ?_)
    have hpM : mPa (cl, wr, ch, pa, se, ha, rd, op, dn, st) j = 5 := hpe
    have e1 : m_save (nI j) (cl, wr, ch, pa, se, ha, rd, op, dn, st) = (3, 0, (cl, wr, ch, pa, se, ha, rd, op, dn, st)) := by simp [m_save, hix, hopM, hpM]
    refine lv_if_eq (tgt := 72) hx hb d_M_save_67 (by decide) (fun hc => absurd hc (by decide)) (fun hc => ?_)
    refine lv_iconst (v := 0) hx hb d_M_save_70 (by decide) ?_
    exact cd_iret ct hlk hr hS ⟨by decide, by decide⟩ ⟨by rw [e1], by rw [e1]; exact hP⟩ d_M_save_71
  have hpM : ¬ mPa (cl, wr, ch, pa, se, ha, rd, op, dn, st) j = 5 := hpe
  refine lv_icmp_ne (tgt := 62) hx hb d_M_save_55 (by decide) (fun hc => ?_) (fun hc => absurd ((nI_eq (by omega) (by decide)).mp hc) hpe)
  refine lv_iconst (v := 0) hx hb d_M_save_62 (by decide) ?_
  refine lv_iconst (v := 3) hx hb d_M_save_63 (by decide) ?_
  refine md_fails (b := false) hz (fun _ h => h) ct hS hP ⟨by decide, by decide, by decide, by decide⟩ hl.1 (cv := 3) (by decide) rfl d_M_save_64 (fun H locs hP hS => ?_)
  have hP : va_P G.1 cd_cls (mdS G g 0 (cl, wr, ch, pa, se, ha, rd, op, dn, st)) H := hP
  refine lv_if_eq (tgt := 72) hx hb d_M_save_67 (by decide) (fun hc => ?_) (fun hc => absurd rfl hc)
  refine lv_aload_n hx hb d_M_save_72 rfl (lk hl rfl) ?_
  refine cd_getM ct hP 0 4 (by decide) rfl fl_M_20 rfl d_M_save_73 ?_
  refine lv_iload_n hx hb d_M_save_76 rfl (lk hl rfl) ?_
  refine lv_dup2_11 hx hb d_M_save_77 rfl rfl ?_
  refine cd_iald ct hP 4 rfl j ⟨hj, by decide⟩ rfl d_M_save_78 ?_
  refine lv_iconst (v := 1) hx hb d_M_save_79 (by decide) ?_
  refine lv_iadd hx hb d_M_save_80 ?_
  refine cd_ti (nI_1 (pa j)) ?_
  refine cd_iast ct hP (md_Dx 0 (cl, wr, ch, pa, se, ha, rd, op, dn, st)) hS 4 rfl j ⟨hj, by decide⟩ rfl d_M_save_81 (fun H locs hP hz1 hq hS => ?_)
  have hP : va_P G.1 cd_cls (mdS G g 0 (mPart (cl, wr, ch, pa, se, ha, rd, op, dn, st) j (pa j + 1))) H := by
    have hP : va_P G.1 cd_cls [(g, .inr (2, [.int 0, .ref (g + 1), .ref (g + 2), .ref (g + 3), .ref (g + 4), .ref (g + 5), .ref (g + 6), .ref (g + 7), .ref (g + 8), .int dn, .int st])), (g + 1, .inl (cd_cL G, 32, .inr (.inl cl))), (g + 2, .inl (cd_cL G, 1280, .inr (.inl wr))), (g + 3, .inl (cd_cI G, 32, .inl ch)), (g + 4, .inl (cd_cI G, 8, .inl (upd (fun j => nI (pa j)) j (nI (pa j + 1))))), (g + 5, .inl (cd_cI G, 256, .inl se)), (g + 6, .inl (cd_cZ G, 1280, .inl (fun j => cd_bi (ha j)))), (g + 7, .inl (cd_cZ G, 256, .inl (fun j => cd_bi (rd j)))), (g + 8, .inl (cd_cZ G, 8, .inl (fun j => cd_bi (op j))))] H := hP
    rw [cd_upn] at hP
    exact hP
  have e1 : m_save (nI j) (cl, wr, ch, pa, se, ha, rd, op, dn, st) = (0, nI (pa j + 1), mCopy (mPart (cl, wr, ch, pa, se, ha, rd, op, dn, st) j (pa j + 1)) (lix j (pa j) 0) (lix j (pa j + 1) 0)) := by simp [m_save, hix, hopM, hpM]
  have hpj : mPa (mPart (cl, wr, ch, pa, se, ha, rd, op, dn, st) j (pa j + 1)) j = pa j + 1 := by simp [mPart, mPa, va_up]
  refine lv_aload_n hx hb d_M_save_82 rfl (lk hl rfl) ?_
  refine lv_aload_n hx hb d_M_save_83 rfl (lk hl rfl) ?_
  refine lv_iload_n hx hb d_M_save_84 rfl (lk hl rfl) ?_
  refine lv_iconst (v := 0) hx hb d_M_save_85 (by decide) ?_
  refine md_last (j := j) (i := 0) ct hS hP ⟨by decide, by decide, by decide, by decide⟩ hl.1 hj (by rw [hpj]; omega) rfl (Nat.le_of_ble_eq_true rfl) d_M_save_86 (fun H locs hP hS => ?_)
  rw [hpj]
  refine lv_bipush (v := 32) hx hb d_M_save_89 (by decide) ?_
  refine lv_isub hx hb d_M_save_91 ?_
  refine cd_ti (y := nI (lix j (pa j) 0)) (by rw [show (32 : Int32) = nI 32 from rfl, pk_sub (by unfold lix; omega)]; congr 1; unfold lix; omega) ?_
  refine lv_aload_n hx hb d_M_save_92 rfl (lk hl rfl) ?_
  refine lv_iload_n hx hb d_M_save_93 rfl (lk hl rfl) ?_
  refine lv_iconst (v := 0) hx hb d_M_save_94 (by decide) ?_
  refine md_last (j := j) (i := 0) ct hS hP ⟨by decide, by decide, by decide, by decide⟩ hl.1 hj (by rw [hpj]; omega) rfl (Nat.le_of_ble_eq_true rfl) d_M_save_95 (fun H locs hP hS => ?_)
  rw [hpj]
  refine cd_callV (As := [.int (nI (lix j (pa j) 0)), .int (nI (lix j (pa j + 1) 0))]) (rest := []) ct hS (c_M_copy l G g 0 (mPart (cl, wr, ch, pa, se, ha, rd, op, dn, st) j (pa j + 1)) (lix j (pa j) 0) (lix j (pa j + 1) 0) (by unfold lix; omega) (by unfold lix; omega) (by unfold lix; omega) hz) cv_M_69 ⟨⟨by decide, by decide⟩, by decide, by decide⟩ (md_recv ct hP) hP hl.1 rfl rfl (Nat.le_of_ble_eq_true rfl) d_M_save_98 (fun q _ h => Or.inl h) (fun v H1 locs1 hq hF hS => ?_) (fun _ _ _ h => by cases h.1)
  obtain ⟨hq, hP⟩ := hq
  cases hq
  refine lv_aload_n hx hb d_M_save_101 rfl (lk hl rfl) ?_
  refine cd_getM ct hP 0 4 (by decide) rfl fl_M_20 rfl d_M_save_102 ?_
  refine lv_iload_n hx hb d_M_save_105 rfl (lk hl rfl) ?_
  refine cd_iald ct hP 4 rfl j ⟨hj, by decide⟩ rfl d_M_save_106 ?_
  refine cd_ti (y := nI (pa j + 1)) (by simp [va_up]) ?_
  exact cd_iret ct hlk hr hS ⟨by decide, by decide⟩ ⟨by rw [e1], by rw [e1]; exact hP⟩ d_M_save_107
set_option maxHeartbeats 4000000 in
theorem c_M_set (l : Launch) (G : cd_G) (g : Nat) (er : Int32) (M : MC) (k : Int32) (v : Int64) (hz : cd_z G < g) : cd_Con l y_M_set cw_M_set rmM [.ref g, .int k, .long v] G (va_P G.1 cd_cls (mdS G g er M)) (fun o H => o = .returned none ∧ va_P G.1 cd_cls (mdS G g (m_set k v M).1 (m_set k v M).2) H) (rg g 9) := by
  obtain ⟨cl, wr, ch, pa, se, ha, rd, op, dn, st⟩ := M
  refine cd_ofW (by decide) ok_M_set.1 (Nat.le_of_ble_eq_true rfl) (rg_z hz) ?_
  intro p e s m below meth c ct hlk hr hxt hnm hP ls hl
  have hx := ct.1
  have hb := ct.2.1
  have hS : va_S (cd_xA (rg g 9) s) s.heap s.heap [] := va_S.rf
  refine md_zero (fun _ h => h) ct hS hP (lk hl rfl) d_M_set_0 d_M_set_1 d_M_set_2 (fun H locs hP hS => ?_)
  refine lv_aload_n hx hb d_M_set_5 rfl (lk hl rfl) ?_
  refine lv_iload_n hx hb d_M_set_6 rfl (lk hl rfl) ?_
  refine md_isCell (t := k) hz (fun _ h => h) ct hS hP ⟨by decide, by decide, by decide, by decide⟩ hl.1 (cv := 1) (by decide) (by decide) d_M_set_7 d_M_set_10 d_M_set_13 d_M_set_14 d_M_set_17 d_M_set_18 d_M_set_19 (fun H locs hP hS => ?_)
  cases hik : ixO k 32 with
  | none =>
    rw [hik] at hP
    have hP : va_P G.1 cd_cls (mdS G g 1 (cl, wr, ch, pa, se, ha, rd, op, dn, st)) H := hP
    have e1 : m_set k v (cl, wr, ch, pa, se, ha, rd, op, dn, st) = (1, (cl, wr, ch, pa, se, ha, rd, op, dn, st)) := by simp only [m_set, hik]
    refine lv_if_eq (tgt := 26) hx hb d_M_set_22 (by decide) (fun hc => absurd hc (by decide)) (fun hc => ?_)
    exact cd_vret ct hlk hr hS ⟨by decide, by decide⟩ ⟨rfl, by rw [e1]; exact hP⟩ d_M_set_25
  | some i =>
  rw [hik] at hP
  have hP : va_P G.1 cd_cls (mdS G g 0 (cl, wr, ch, pa, se, ha, rd, op, dn, st)) H := hP
  refine lv_if_eq (tgt := 26) hx hb d_M_set_22 (by decide) (fun hc => ?_) (fun hc => absurd rfl hc)
  obtain ⟨hi, rfl⟩ := ixO_some (by decide) hik
  have e1 : m_set (nI i) v (cl, wr, ch, pa, se, ha, rd, op, dn, st) = (0, mPut (cl, wr, ch, pa, se, ha, rd, op, dn, st) i v) := by simp only [m_set, hik]; rfl
  refine lv_aload_n hx hb d_M_set_26 rfl (lk hl rfl) ?_
  refine lv_iload_n hx hb d_M_set_27 rfl (lk hl rfl) ?_
  refine lv_lload_n hx hb d_M_set_28 rfl (lk hl rfl) ?_
  refine cd_callV (As := [.int (nI i), .long v]) (rest := []) ct hS (c_M_change l G g 0 (cl, wr, ch, pa, se, ha, rd, op, dn, st) i v hi hz) cv_M_73 ⟨⟨by decide, by decide⟩, by decide, by decide⟩ (md_recv ct hP) hP hl.1 rfl rfl (Nat.le_of_ble_eq_true rfl) d_M_set_29 (fun q _ h => Or.inl h) (fun v H1 locs1 hq hF hS => ?_) (fun _ _ _ h => by cases h.1)
  obtain ⟨hq, hP⟩ := hq
  cases hq
  exact cd_vret ct hlk hr hS ⟨by decide, by decide⟩ ⟨rfl, by rw [e1]; exact hP⟩ d_M_set_32
set_option maxHeartbeats 4000000 in
theorem c_M_cell (l : Launch) (G : cd_G) (g : Nat) (er : Int32) (M : MC) (k : Int32) (hz : cd_z G < g) : cd_Con l y_M_cell cw_M_cell rmM [.ref g, .int k] G (va_P G.1 cd_cls (mdS G g er M)) (fun o H => o = .returned (some (.long (m_cell k M).2)) ∧ va_P G.1 cd_cls (mdS G g (m_cell k M).1 M) H) (rg g 9) := by
  obtain ⟨cl, wr, ch, pa, se, ha, rd, op, dn, st⟩ := M
  refine cd_ofW (by decide) ok_M_cell.1 (Nat.le_of_ble_eq_true rfl) (rg_z hz) ?_
  intro p e s m below meth c ct hlk hr hxt hnm hP ls hl
  have hx := ct.1
  have hb := ct.2.1
  have hS : va_S (cd_xA (rg g 9) s) s.heap s.heap [] := va_S.rf
  refine md_zero (fun _ h => h) ct hS hP (lk hl rfl) d_M_cell_0 d_M_cell_1 d_M_cell_2 (fun H locs hP hS => ?_)
  refine lv_aload_n hx hb d_M_cell_5 rfl (lk hl rfl) ?_
  refine lv_iload_n hx hb d_M_cell_6 rfl (lk hl rfl) ?_
  refine md_isCell (t := k) hz (fun _ h => h) ct hS hP ⟨by decide, by decide, by decide, by decide⟩ hl.1 (cv := 1) (by decide) (by decide) d_M_cell_7 d_M_cell_10 d_M_cell_13 d_M_cell_14 d_M_cell_17 d_M_cell_18 d_M_cell_19 (fun H locs hP hS => ?_)
  cases hik : ixO k 32 with
  | none =>
    rw [hik] at hP
    have hP : va_P G.1 cd_cls (mdS G g 1 (cl, wr, ch, pa, se, ha, rd, op, dn, st)) H := hP
    have e1 : m_cell k (cl, wr, ch, pa, se, ha, rd, op, dn, st) = (1, 0) := by simp only [m_cell, hik]
    refine lv_if_eq (tgt := 29) hx hb d_M_cell_22 (by decide) (fun hc => absurd hc (by decide)) (fun hc => ?_)
    refine lv_lconst (v := 0) hx hb d_M_cell_25 (by decide) ?_
    refine lv_goto (tgt := 35) hx hb d_M_cell_26 (by decide) ?_
    exact cd_lret ct hlk hr hS ⟨by decide, by decide⟩ ⟨by rw [e1], by rw [e1]; exact hP⟩ d_M_cell_35
  | some i =>
  rw [hik] at hP
  have hP : va_P G.1 cd_cls (mdS G g 0 (cl, wr, ch, pa, se, ha, rd, op, dn, st)) H := hP
  refine lv_if_eq (tgt := 29) hx hb d_M_cell_22 (by decide) (fun hc => ?_) (fun hc => absurd rfl hc)
  obtain ⟨hi, rfl⟩ := ixO_some (by decide) hik
  have e1 : m_cell (nI i) (cl, wr, ch, pa, se, ha, rd, op, dn, st) = (0, cl i) := by simp only [m_cell, hik]
  refine lv_aload_n hx hb d_M_cell_29 rfl (lk hl rfl) ?_
  refine cd_getM ct hP 0 1 (by decide) rfl fl_M_9 rfl d_M_cell_30 ?_
  refine lv_iload_n hx hb d_M_cell_33 rfl (lk hl rfl) ?_
  refine cd_lald ct hP 1 rfl i ⟨hi, by decide⟩ rfl d_M_cell_34 ?_
  exact cd_lret ct hlk hr hS ⟨by decide, by decide⟩ ⟨by rw [e1], by rw [e1]; exact hP⟩ d_M_cell_35
set_option maxHeartbeats 4000000 in
theorem c_M_changed (l : Launch) (G : cd_G) (g : Nat) (er : Int32) (M : MC) (k : Int32) (hz : cd_z G < g) : cd_Con l y_M_changed cw_M_changed rmM [.ref g, .int k] G (va_P G.1 cd_cls (mdS G g er M)) (fun o H => o = .returned (some (.int (m_changed k M).2)) ∧ va_P G.1 cd_cls (mdS G g (m_changed k M).1 M) H) (rg g 9) := by
  obtain ⟨cl, wr, ch, pa, se, ha, rd, op, dn, st⟩ := M
  refine cd_ofW (by decide) ok_M_changed.1 (Nat.le_of_ble_eq_true rfl) (rg_z hz) ?_
  intro p e s m below meth c ct hlk hr hxt hnm hP ls hl
  have hx := ct.1
  have hb := ct.2.1
  have hS : va_S (cd_xA (rg g 9) s) s.heap s.heap [] := va_S.rf
  refine md_zero (fun _ h => h) ct hS hP (lk hl rfl) d_M_changed_0 d_M_changed_1 d_M_changed_2 (fun H locs hP hS => ?_)
  refine lv_aload_n hx hb d_M_changed_5 rfl (lk hl rfl) ?_
  refine lv_iload_n hx hb d_M_changed_6 rfl (lk hl rfl) ?_
  refine md_isCell (t := k) hz (fun _ h => h) ct hS hP ⟨by decide, by decide, by decide, by decide⟩ hl.1 (cv := 1) (by decide) (by decide) d_M_changed_7 d_M_changed_10 d_M_changed_13 d_M_changed_14 d_M_changed_17 d_M_changed_18 d_M_changed_19 (fun H locs hP hS => ?_)
  cases hik : ixO k 32 with
  | none =>
    rw [hik] at hP
    have hP : va_P G.1 cd_cls (mdS G g 1 (cl, wr, ch, pa, se, ha, rd, op, dn, st)) H := hP
    have e1 : m_changed k (cl, wr, ch, pa, se, ha, rd, op, dn, st) = (1, 0) := by simp only [m_changed, hik]
    refine lv_if_eq (tgt := 29) hx hb d_M_changed_22 (by decide) (fun hc => absurd hc (by decide)) (fun hc => ?_)
    refine lv_iconst (v := 0) hx hb d_M_changed_25 (by decide) ?_
    refine lv_goto (tgt := 35) hx hb d_M_changed_26 (by decide) ?_
    exact cd_iret ct hlk hr hS ⟨by decide, by decide⟩ ⟨by rw [e1], by rw [e1]; exact hP⟩ d_M_changed_35
  | some i =>
  rw [hik] at hP
  have hP : va_P G.1 cd_cls (mdS G g 0 (cl, wr, ch, pa, se, ha, rd, op, dn, st)) H := hP
  refine lv_if_eq (tgt := 29) hx hb d_M_changed_22 (by decide) (fun hc => ?_) (fun hc => absurd rfl hc)
  obtain ⟨hi, rfl⟩ := ixO_some (by decide) hik
  have e1 : m_changed (nI i) (cl, wr, ch, pa, se, ha, rd, op, dn, st) = (0, ch i) := by simp only [m_changed, hik]
  refine lv_aload_n hx hb d_M_changed_29 rfl (lk hl rfl) ?_
  refine cd_getM ct hP 0 3 (by decide) rfl fl_M_16 rfl d_M_changed_30 ?_
  refine lv_iload_n hx hb d_M_changed_33 rfl (lk hl rfl) ?_
  refine cd_iald ct hP 3 rfl i ⟨hi, by decide⟩ rfl d_M_changed_34 ?_
  exact cd_iret ct hlk hr hS ⟨by decide, by decide⟩ ⟨by rw [e1], by rw [e1]; exact hP⟩ d_M_changed_35
set_option maxHeartbeats 4000000 in
theorem c_M_write (l : Launch) (G : cd_G) (g : Nat) (er : Int32) (M : MC) (t k : Int32) (v : Int64) (hz : cd_z G < g) (hok : mOK M) : cd_Con l y_M_write cw_M_write rmM [.ref g, .int t, .int k, .long v] G (va_P G.1 cd_cls (mdS G g er M)) (fun o H => o = .returned none ∧ va_P G.1 cd_cls (mdS G g (m_write t k v M).1 (m_write t k v M).2) H) (rg g 9) := by
  obtain ⟨cl, wr, ch, pa, se, ha, rd, op, dn, st⟩ := M
  refine cd_ofW (by decide) ok_M_write.1 (Nat.le_of_ble_eq_true rfl) (rg_z hz) ?_
  intro p e s m below meth c ct hlk hr hxt hnm hP ls hl
  have hx := ct.1
  have hb := ct.2.1
  have hS : va_S (cd_xA (rg g 9) s) s.heap s.heap [] := va_S.rf
  refine md_zero (fun _ h => h) ct hS hP (lk hl rfl) d_M_write_0 d_M_write_1 d_M_write_2 (fun H locs hP hS => ?_)
  refine lv_aload_n hx hb d_M_write_5 rfl (lk hl rfl) ?_
  refine lv_iload_n hx hb d_M_write_6 rfl (lk hl rfl) ?_
  refine md_isOne (t := t) hz (fun _ h => h) ct hS hP ⟨by decide, by decide, by decide, by decide⟩ hl.1 (cv := 1) (by decide) (by decide) d_M_write_7 d_M_write_10 d_M_write_13 d_M_write_14 d_M_write_17 d_M_write_18 d_M_write_19 (fun H locs hP hS => ?_)
  cases hix : ixO t 8 with
  | none =>
    rw [hix] at hP
    have hP : va_P G.1 cd_cls (mdS G g 1 (cl, wr, ch, pa, se, ha, rd, op, dn, st)) H := hP
    have e1 : m_write t k v (cl, wr, ch, pa, se, ha, rd, op, dn, st) = (1, (cl, wr, ch, pa, se, ha, rd, op, dn, st)) := by simp only [m_write, hix]
    refine lv_if_ne (tgt := 67) hx hb d_M_write_22 (by decide) (fun hc => ?_) (fun hc => absurd hc (by decide))
    exact cd_vret ct hlk hr hS ⟨by decide, by decide⟩ ⟨rfl, by rw [e1]; exact hP⟩ d_M_write_67
  | some j =>
  rw [hix] at hP
  have hP : va_P G.1 cd_cls (mdS G g 0 (cl, wr, ch, pa, se, ha, rd, op, dn, st)) H := hP
  refine lv_if_ne (tgt := 67) hx hb d_M_write_22 (by decide) (fun hc => absurd rfl hc) (fun hc => ?_)
  obtain ⟨hj, rfl⟩ := ixO_some (by decide) hix
  refine lv_aload_n hx hb d_M_write_25 rfl (lk hl rfl) ?_
  refine lv_iload_n hx hb d_M_write_26 rfl (lk hl rfl) ?_
  refine md_isCell (t := k) hz (fun _ h => h) ct hS hP ⟨by decide, by decide, by decide, by decide⟩ hl.1 (cv := 2) (by decide) (by decide) d_M_write_27 d_M_write_30 d_M_write_33 d_M_write_34 d_M_write_37 d_M_write_38 d_M_write_39 (fun H locs hP hS => ?_)
  cases hik : ixO k 32 with
  | none =>
    rw [hik] at hP
    have hP : va_P G.1 cd_cls (mdS G g 2 (cl, wr, ch, pa, se, ha, rd, op, dn, st)) H := hP
    have e1 : m_write (nI j) k v (cl, wr, ch, pa, se, ha, rd, op, dn, st) = (2, (cl, wr, ch, pa, se, ha, rd, op, dn, st)) := by simp only [m_write, hix, hik]
    refine lv_if_ne (tgt := 67) hx hb d_M_write_42 (by decide) (fun hc => ?_) (fun hc => absurd hc (by decide))
    exact cd_vret ct hlk hr hS ⟨by decide, by decide⟩ ⟨rfl, by rw [e1]; exact hP⟩ d_M_write_67
  | some i =>
  rw [hik] at hP
  have hP : va_P G.1 cd_cls (mdS G g 0 (cl, wr, ch, pa, se, ha, rd, op, dn, st)) H := hP
  refine lv_if_ne (tgt := 67) hx hb d_M_write_42 (by decide) (fun hc => absurd rfl hc) (fun hc => ?_)
  obtain ⟨hi, rfl⟩ := ixO_some (by decide) hik
  refine lv_aload_n hx hb d_M_write_45 rfl (lk hl rfl) ?_
  refine lv_aload_n hx hb d_M_write_46 rfl (lk hl rfl) ?_
  refine cd_getM ct hP 0 8 (by decide) rfl fl_M_33 rfl d_M_write_47 ?_
  refine lv_iload_n hx hb d_M_write_50 rfl (lk hl rfl) ?_
  refine cd_zald ct hP 8 rfl j ⟨hj, by decide⟩ rfl d_M_write_51 ?_
  refine md_neg hz (fun _ h => h) ct hS hP ⟨by decide, by decide, by decide, by decide⟩ hl.1 (cv := 3) (by decide) (by decide) (op j) d_M_write_52 d_M_write_55 d_M_write_56 d_M_write_59 d_M_write_60 d_M_write_61 (fun H locs hP hS => ?_)
  cases hop : op j with
  | false =>
    rw [hop] at hP
    have hP : va_P G.1 cd_cls (mdS G g 3 (cl, wr, ch, pa, se, ha, rd, op, dn, st)) H := hP
    have hopM : mOp (cl, wr, ch, pa, se, ha, rd, op, dn, st) j = false := hop
    have e1 : m_write (nI j) (nI i) v (cl, wr, ch, pa, se, ha, rd, op, dn, st) = (3, (cl, wr, ch, pa, se, ha, rd, op, dn, st)) := by simp [m_write, hix, hik, hopM]
    refine lv_if_eq (tgt := 68) hx hb d_M_write_64 (by decide) (fun hc => absurd hc (by decide)) (fun hc => ?_)
    exact cd_vret ct hlk hr hS ⟨by decide, by decide⟩ ⟨rfl, by rw [e1]; exact hP⟩ d_M_write_67
  | true =>
  rw [hop] at hP
  have hP : va_P G.1 cd_cls (mdS G g 0 (cl, wr, ch, pa, se, ha, rd, op, dn, st)) H := hP
  have hopM : mOp (cl, wr, ch, pa, se, ha, rd, op, dn, st) j = true := hop
  refine lv_if_eq (tgt := 68) hx hb d_M_write_64 (by decide) (fun hc => ?_) (fun hc => absurd rfl hc)
  have e1 : m_write (nI j) (nI i) v (cl, wr, ch, pa, se, ha, rd, op, dn, st) = (0, mWrite (cl, wr, ch, pa, se, ha, rd, op, dn, st) (lix j (pa j) i) v) := by simp [m_write, hix, hik, hopM]
  have hp : 1 ≤ pa j ∧ pa j ≤ 5 := hok j hj hopM
  refine lv_aload_n hx hb d_M_write_68 rfl (lk hl rfl) ?_
  refine cd_getM ct hP 0 6 (by decide) rfl fl_M_26 rfl d_M_write_69 ?_
  refine lv_aload_n hx hb d_M_write_72 rfl (lk hl rfl) ?_
  refine lv_iload_n hx hb d_M_write_73 rfl (lk hl rfl) ?_
  refine lv_iload_n hx hb d_M_write_74 rfl (lk hl rfl) ?_
  refine md_last (j := j) (i := i) ct hS hP ⟨by decide, by decide, by decide, by decide⟩ hl.1 hj hp.1 rfl (Nat.le_of_ble_eq_true rfl) d_M_write_75 (fun H locs hP hS => ?_)
  refine lv_iconst (v := 1) hx hb d_M_write_78 (by decide) ?_
  refine cd_zast ct hP (md_Dx 0 (cl, wr, ch, pa, se, ha, rd, op, dn, st)) hS 6 rfl (lix j (pa j) i) ⟨lix_lt hj hp hi, by decide⟩ rfl true rfl d_M_write_79 (fun H locs hP hz1 hq hS => ?_)
  have hP : va_P G.1 cd_cls (mdS G g 0 (cl, wr, ch, pa, se, va_up ha (lix j (pa j) i) true, rd, op, dn, st)) H := hP
  refine lv_aload_n hx hb d_M_write_80 rfl (lk hl rfl) ?_
  refine cd_getM ct hP 0 2 (by decide) rfl fl_M_13 rfl d_M_write_81 ?_
  refine lv_aload_n hx hb d_M_write_84 rfl (lk hl rfl) ?_
  refine lv_iload_n hx hb d_M_write_85 rfl (lk hl rfl) ?_
  refine lv_iload_n hx hb d_M_write_86 rfl (lk hl rfl) ?_
  refine md_last (j := j) (i := i) ct hS hP ⟨by decide, by decide, by decide, by decide⟩ hl.1 hj hp.1 rfl (Nat.le_of_ble_eq_true rfl) d_M_write_87 (fun H locs hP hS => ?_)
  refine lv_lload_n hx hb d_M_write_90 rfl (lk hl rfl) ?_
  refine cd_last ct hP (md_Dx 0 (cl, wr, ch, pa, se, va_up ha (lix j (pa j) i) true, rd, op, dn, st)) hS 2 rfl (lix j (pa j) i) ⟨lix_lt hj hp hi, by decide⟩ rfl d_M_write_91 (fun H locs hP hz1 hq hS => ?_)
  exact cd_vret ct hlk hr hS ⟨by decide, by decide⟩ ⟨rfl, by rw [e1]; exact hP⟩ d_M_write_92
set_option maxHeartbeats 4000000 in
theorem c_M_read (l : Launch) (G : cd_G) (g : Nat) (er : Int32) (M : MC) (t k : Int32) (hz : cd_z G < g) (hok : mOK M) : cd_Con l y_M_read cw_M_read rmM [.ref g, .int t, .int k] G (va_P G.1 cd_cls (mdS G g er M)) (fun o H => o = .returned (some (.long (m_read t k M).2.1)) ∧ va_P G.1 cd_cls (mdS G g (m_read t k M).1 (m_read t k M).2.2) H) (rg g 9) := by
  obtain ⟨cl, wr, ch, pa, se, ha, rd, op, dn, st⟩ := M
  refine cd_ofW (by decide) ok_M_read.1 (Nat.le_of_ble_eq_true rfl) (rg_z hz) ?_
  intro p e s m below meth c ct hlk hr hxt hnm hP ls hl
  have hx := ct.1
  have hb := ct.2.1
  have hS : va_S (cd_xA (rg g 9) s) s.heap s.heap [] := va_S.rf
  refine md_zero (fun _ h => h) ct hS hP (lk hl rfl) d_M_read_0 d_M_read_1 d_M_read_2 (fun H locs hP hS => ?_)
  refine lv_aload_n hx hb d_M_read_5 rfl (lk hl rfl) ?_
  refine lv_iload_n hx hb d_M_read_6 rfl (lk hl rfl) ?_
  refine md_isOne (t := t) hz (fun _ h => h) ct hS hP ⟨by decide, by decide, by decide, by decide⟩ hl.1 (cv := 1) (by decide) (by decide) d_M_read_7 d_M_read_10 d_M_read_13 d_M_read_14 d_M_read_17 d_M_read_18 d_M_read_19 (fun H locs hP hS => ?_)
  cases hix : ixO t 8 with
  | none =>
    rw [hix] at hP
    have hP : va_P G.1 cd_cls (mdS G g 1 (cl, wr, ch, pa, se, ha, rd, op, dn, st)) H := hP
    have e1 : m_read t k (cl, wr, ch, pa, se, ha, rd, op, dn, st) = (1, 0, (cl, wr, ch, pa, se, ha, rd, op, dn, st)) := by simp only [m_read, hix]
    refine lv_if_ne (tgt := 67) hx hb d_M_read_22 (by decide) (fun hc => ?_) (fun hc => absurd hc (by decide))
    refine lv_lconst (v := 0) hx hb d_M_read_67 (by decide) ?_
    exact cd_lret ct hlk hr hS ⟨by decide, by decide⟩ ⟨by rw [e1], by rw [e1]; exact hP⟩ d_M_read_68
  | some j =>
  rw [hix] at hP
  have hP : va_P G.1 cd_cls (mdS G g 0 (cl, wr, ch, pa, se, ha, rd, op, dn, st)) H := hP
  refine lv_if_ne (tgt := 67) hx hb d_M_read_22 (by decide) (fun hc => absurd rfl hc) (fun hc => ?_)
  obtain ⟨hj, rfl⟩ := ixO_some (by decide) hix
  refine lv_aload_n hx hb d_M_read_25 rfl (lk hl rfl) ?_
  refine lv_iload_n hx hb d_M_read_26 rfl (lk hl rfl) ?_
  refine md_isCell (t := k) hz (fun _ h => h) ct hS hP ⟨by decide, by decide, by decide, by decide⟩ hl.1 (cv := 2) (by decide) (by decide) d_M_read_27 d_M_read_30 d_M_read_33 d_M_read_34 d_M_read_37 d_M_read_38 d_M_read_39 (fun H locs hP hS => ?_)
  cases hik : ixO k 32 with
  | none =>
    rw [hik] at hP
    have hP : va_P G.1 cd_cls (mdS G g 2 (cl, wr, ch, pa, se, ha, rd, op, dn, st)) H := hP
    have e1 : m_read (nI j) k (cl, wr, ch, pa, se, ha, rd, op, dn, st) = (2, 0, (cl, wr, ch, pa, se, ha, rd, op, dn, st)) := by simp only [m_read, hix, hik]
    refine lv_if_ne (tgt := 67) hx hb d_M_read_42 (by decide) (fun hc => ?_) (fun hc => absurd hc (by decide))
    refine lv_lconst (v := 0) hx hb d_M_read_67 (by decide) ?_
    exact cd_lret ct hlk hr hS ⟨by decide, by decide⟩ ⟨by rw [e1], by rw [e1]; exact hP⟩ d_M_read_68
  | some i =>
  rw [hik] at hP
  have hP : va_P G.1 cd_cls (mdS G g 0 (cl, wr, ch, pa, se, ha, rd, op, dn, st)) H := hP
  refine lv_if_ne (tgt := 67) hx hb d_M_read_42 (by decide) (fun hc => absurd rfl hc) (fun hc => ?_)
  obtain ⟨hi, rfl⟩ := ixO_some (by decide) hik
  refine lv_aload_n hx hb d_M_read_45 rfl (lk hl rfl) ?_
  refine lv_aload_n hx hb d_M_read_46 rfl (lk hl rfl) ?_
  refine cd_getM ct hP 0 8 (by decide) rfl fl_M_33 rfl d_M_read_47 ?_
  refine lv_iload_n hx hb d_M_read_50 rfl (lk hl rfl) ?_
  refine cd_zald ct hP 8 rfl j ⟨hj, by decide⟩ rfl d_M_read_51 ?_
  refine md_neg hz (fun _ h => h) ct hS hP ⟨by decide, by decide, by decide, by decide⟩ hl.1 (cv := 3) (by decide) (by decide) (op j) d_M_read_52 d_M_read_55 d_M_read_56 d_M_read_59 d_M_read_60 d_M_read_61 (fun H locs hP hS => ?_)
  cases hop : op j with
  | false =>
    rw [hop] at hP
    have hP : va_P G.1 cd_cls (mdS G g 3 (cl, wr, ch, pa, se, ha, rd, op, dn, st)) H := hP
    have hopM : mOp (cl, wr, ch, pa, se, ha, rd, op, dn, st) j = false := hop
    have e1 : m_read (nI j) (nI i) (cl, wr, ch, pa, se, ha, rd, op, dn, st) = (3, 0, (cl, wr, ch, pa, se, ha, rd, op, dn, st)) := by simp [m_read, hix, hik, hopM]
    refine lv_if_eq (tgt := 69) hx hb d_M_read_64 (by decide) (fun hc => absurd hc (by decide)) (fun hc => ?_)
    refine lv_lconst (v := 0) hx hb d_M_read_67 (by decide) ?_
    exact cd_lret ct hlk hr hS ⟨by decide, by decide⟩ ⟨by rw [e1], by rw [e1]; exact hP⟩ d_M_read_68
  | true =>
  rw [hop] at hP
  have hP : va_P G.1 cd_cls (mdS G g 0 (cl, wr, ch, pa, se, ha, rd, op, dn, st)) H := hP
  have hopM : mOp (cl, wr, ch, pa, se, ha, rd, op, dn, st) j = true := hop
  refine lv_if_eq (tgt := 69) hx hb d_M_read_64 (by decide) (fun hc => ?_) (fun hc => absurd rfl hc)
  have hp : 1 ≤ pa j ∧ pa j ≤ 5 := hok j hj hopM
  have e0 : m_read (nI j) (nI i) (cl, wr, ch, pa, se, ha, rd, op, dn, st) = if ha (lix j (pa j) i) = true then (0, wr (lix j (pa j) i), (cl, wr, ch, pa, se, ha, rd, op, dn, st)) else if mStl (cl, wr, ch, pa, se, ha, rd, op, dn, st) j 32 = true then (4, 0, mOver (cl, wr, ch, pa, se, ha, rd, op, dn, st) j) else (0, cl i, mLook (cl, wr, ch, pa, se, ha, rd, op, dn, st) j i) := by simp [m_read, hix, hik, hopM]
  refine lv_aload_n hx hb d_M_read_69 rfl (lk hl rfl) ?_
  refine cd_getM ct hP 0 6 (by decide) rfl fl_M_26 rfl d_M_read_70 ?_
  refine lv_aload_n hx hb d_M_read_73 rfl (lk hl rfl) ?_
  refine lv_iload_n hx hb d_M_read_74 rfl (lk hl rfl) ?_
  refine lv_iload_n hx hb d_M_read_75 rfl (lk hl rfl) ?_
  refine md_last (j := j) (i := i) ct hS hP ⟨by decide, by decide, by decide, by decide⟩ hl.1 hj hp.1 rfl (Nat.le_of_ble_eq_true rfl) d_M_read_76 (fun H locs hP hS => ?_)
  refine cd_zald ct hP 6 rfl (lix j (pa j) i) ⟨lix_lt hj hp hi, by decide⟩ rfl d_M_read_79 ?_
  refine lv_if_eq (tgt := 95) hx hb d_M_read_80 (by decide) (fun hc => ?_) (fun hc => ?_)
  case refine_2 =>
    have hha : ha (lix j (pa j) i) = true := by cases h : ha (lix j (pa j) i) <;> first | rfl | exact absurd (by rw [h]; rfl) hc
    have e1 := e0
    rw [if_pos hha] at e1
    refine lv_aload_n hx hb d_M_read_83 rfl (lk hl rfl) ?_
    refine cd_getM ct hP 0 2 (by decide) rfl fl_M_13 rfl d_M_read_84 ?_
    refine lv_aload_n hx hb d_M_read_87 rfl (lk hl rfl) ?_
    refine lv_iload_n hx hb d_M_read_88 rfl (lk hl rfl) ?_
    refine lv_iload_n hx hb d_M_read_89 rfl (lk hl rfl) ?_
    refine md_last (j := j) (i := i) ct hS hP ⟨by decide, by decide, by decide, by decide⟩ hl.1 hj hp.1 rfl (Nat.le_of_ble_eq_true rfl) d_M_read_90 (fun H locs hP hS => ?_)
    refine cd_lald ct hP 2 rfl (lix j (pa j) i) ⟨lix_lt hj hp hi, by decide⟩ rfl d_M_read_93 ?_
    exact cd_lret ct hlk hr hS ⟨by decide, by decide⟩ ⟨by rw [e1], by rw [e1]; exact hP⟩ d_M_read_94
  have hha : ¬ ha (lix j (pa j) i) = true := by rw [(cd_bi_0 _).mp hc]; decide
  rw [if_neg hha] at e0
  refine lv_aload_n hx hb d_M_read_95 rfl (lk hl rfl) ?_
  refine lv_iload_n hx hb d_M_read_96 rfl (lk hl rfl) ?_
  refine md_stale (j := j) ct hS hP ⟨by decide, by decide, by decide, by decide⟩ hl.1 hj d_M_read_97 (fun H locs hP hS => ?_)
  refine lv_if_eq (tgt := 129) hx hb d_M_read_100 (by decide) (fun hc => ?_) (fun hc => ?_)
  case refine_2 =>
    have hst : mStl (cl, wr, ch, pa, se, ha, rd, op, dn, st) j 32 = true := by cases h : mStl (cl, wr, ch, pa, se, ha, rd, op, dn, st) j 32 <;> first | rfl | exact absurd (by rw [h]; rfl) hc
    have e1 := e0
    rw [if_pos hst] at e1
    refine lv_aload_n hx hb d_M_read_103 rfl (lk hl rfl) ?_
    refine cd_getM ct hP 0 8 (by decide) rfl fl_M_33 rfl d_M_read_104 ?_
    refine lv_iload_n hx hb d_M_read_107 rfl (lk hl rfl) ?_
    refine lv_iconst (v := 0) hx hb d_M_read_108 (by decide) ?_
    refine cd_zast ct hP (md_Dx 0 (cl, wr, ch, pa, se, ha, rd, op, dn, st)) hS 8 rfl j ⟨hj, by decide⟩ rfl false rfl d_M_read_109 (fun H locs hP hz1 hq hS => ?_)
    have hP : va_P G.1 cd_cls (mdS G g 0 (cl, wr, ch, pa, se, ha, rd, va_up op j false, dn, st)) H := hP
    refine lv_aload_n hx hb d_M_read_110 rfl (lk hl rfl) ?_
    refine lv_dup hx hb d_M_read_111 rfl ?_
    refine cd_getM ct hP 0 10 (by decide) rfl fl_M_66 rfl d_M_read_112 ?_
    refine lv_iconst (v := 1) hx hb d_M_read_115 (by decide) ?_
    refine lv_iadd hx hb d_M_read_116 ?_
    refine cd_put in_M rfl t_M t_M_ok n_M ct hP (md_Dx 0 (cl, wr, ch, pa, se, ha, rd, va_up op j false, dn, st)) hS 0 10 (by decide) rfl fl_M_66 (Or.inl rfl) rfl rfl (Nat.le_of_ble_eq_true rfl) d_M_read_117 (fun H locs hP hz1 hq hS => ?_)
    have hP : va_P G.1 cd_cls (mdS G g 0 (mOver (cl, wr, ch, pa, se, ha, rd, op, dn, st) j)) H := hP
    refine lv_aload_n hx hb d_M_read_120 rfl (lk hl rfl) ?_
    refine lv_iconst (v := 1) hx hb d_M_read_121 (by decide) ?_
    refine lv_iconst (v := 4) hx hb d_M_read_122 (by decide) ?_
    refine md_fails (b := true) hz (fun _ h => h) ct hS hP ⟨by decide, by decide, by decide, by decide⟩ hl.1 (cv := 4) (by decide) rfl d_M_read_123 (fun H locs hP hS => ?_)
    refine lv_pop hx hb d_M_read_126 rfl ?_
    refine lv_lconst (v := 0) hx hb d_M_read_127 (by decide) ?_
    exact cd_lret ct hlk hr hS ⟨by decide, by decide⟩ ⟨by rw [e1], by rw [e1]; exact hP⟩ d_M_read_128
  have hst : ¬ mStl (cl, wr, ch, pa, se, ha, rd, op, dn, st) j 32 = true := by rw [(cd_bi_0 _).mp hc]; decide
  rw [if_neg hst] at e0
  have e32 : (32 : Int32) * nI j + nI i = nI (32 * j + i) := by rw [show (32 : Int32) * nI j = nI (32 * j) from nI_mul 32 j, nI_add]
  have fin : ∀ (se' : Nat → Int32) (H : Heap) (locs : List Loc), se' = (if rd (32 * j + i) = true then se else upd se (32 * j + i) (ch i)) → va_P G.1 cd_cls (mdS G g 0 (cl, wr, ch, pa, se', ha, rd, op, dn, st)) H → va_S (cd_xA (rg g 9) s) s.heap H locs → W p l e rmM s m [Value.ref g, .int (nI j), .int (nI i)].toArray below meth c H locs 0 0 (cd_CQ below s (rg g 9) (fun o H => o = .returned (some (.long (m_read (nI j) (nI i) (cl, wr, ch, pa, se, ha, rd, op, dn, st)).2.1)) ∧ va_P G.1 cd_cls (mdS G g (m_read (nI j) (nI i) (cl, wr, ch, pa, se, ha, rd, op, dn, st)).1 (m_read (nI j) (nI i) (cl, wr, ch, pa, se, ha, rd, op, dn, st)).2.2) H) 0 0) (F0 m 160 ls []) := by
    intro se' H locs hse hP hS
    refine lv_aload_n hx hb d_M_read_160 rfl (lk hl rfl) ?_
    refine cd_getM ct hP 0 7 (by decide) rfl fl_M_30 rfl d_M_read_161 ?_
    refine lv_bipush (v := 32) hx hb d_M_read_164 (by decide) ?_
    refine lv_iload_n hx hb d_M_read_166 rfl (lk hl rfl) ?_
    refine lv_imul hx hb d_M_read_167 ?_
    refine lv_iload_n hx hb d_M_read_168 rfl (lk hl rfl) ?_
    refine lv_iadd hx hb d_M_read_169 ?_
    refine lv_iconst (v := 1) hx hb d_M_read_170 (by decide) ?_
    refine cd_zast ct hP (md_Dx 0 (cl, wr, ch, pa, se', ha, rd, op, dn, st)) hS 7 rfl (32 * j + i) ⟨by omega, by decide⟩ e32 true rfl d_M_read_171 (fun H locs hP hz1 hq hS => ?_)
    have hP : va_P G.1 cd_cls (mdS G g 0 (cl, wr, ch, pa, se', ha, va_up rd (32 * j + i) true, op, dn, st)) H := hP
    refine lv_aload_n hx hb d_M_read_172 rfl (lk hl rfl) ?_
    refine cd_getM ct hP 0 1 (by decide) rfl fl_M_9 rfl d_M_read_173 ?_
    refine lv_iload_n hx hb d_M_read_176 rfl (lk hl rfl) ?_
    refine cd_lald ct hP 1 rfl i ⟨hi, by decide⟩ rfl d_M_read_177 ?_
    refine cd_lret ct hlk hr hS ⟨by decide, by decide⟩ ⟨by rw [e0], ?_⟩ d_M_read_178
    rw [e0]
    subst hse
    exact hP
  refine lv_aload_n hx hb d_M_read_129 rfl (lk hl rfl) ?_
  refine cd_getM ct hP 0 7 (by decide) rfl fl_M_30 rfl d_M_read_130 ?_
  refine lv_bipush (v := 32) hx hb d_M_read_133 (by decide) ?_
  refine lv_iload_n hx hb d_M_read_135 rfl (lk hl rfl) ?_
  refine lv_imul hx hb d_M_read_136 ?_
  refine lv_iload_n hx hb d_M_read_137 rfl (lk hl rfl) ?_
  refine lv_iadd hx hb d_M_read_138 ?_
  refine cd_zald ct hP 7 rfl (32 * j + i) ⟨by omega, by decide⟩ e32 d_M_read_139 ?_
  refine lv_if_ne (tgt := 160) hx hb d_M_read_140 (by decide) (fun hc => ?_) (fun hc => ?_)
  · have hrd : rd (32 * j + i) = true := by cases h : rd (32 * j + i) <;> first | rfl | exact absurd (by rw [h]; rfl) hc
    exact fin se _ _ (by rw [if_pos hrd]) hP hS
  · have hrd : ¬ rd (32 * j + i) = true := by rw [(cd_bi_0 _).mp hc]; decide
    refine lv_aload_n hx hb d_M_read_143 rfl (lk hl rfl) ?_
    refine cd_getM ct hP 0 5 (by decide) rfl fl_M_23 rfl d_M_read_144 ?_
    refine lv_bipush (v := 32) hx hb d_M_read_147 (by decide) ?_
    refine lv_iload_n hx hb d_M_read_149 rfl (lk hl rfl) ?_
    refine lv_imul hx hb d_M_read_150 ?_
    refine lv_iload_n hx hb d_M_read_151 rfl (lk hl rfl) ?_
    refine lv_iadd hx hb d_M_read_152 ?_
    refine lv_aload_n hx hb d_M_read_153 rfl (lk hl rfl) ?_
    refine cd_getM ct hP 0 3 (by decide) rfl fl_M_16 rfl d_M_read_154 ?_
    refine lv_iload_n hx hb d_M_read_157 rfl (lk hl rfl) ?_
    refine cd_iald ct hP 3 rfl i ⟨hi, by decide⟩ rfl d_M_read_158 ?_
    refine cd_iast ct hP (md_Dx 0 (cl, wr, ch, pa, se, ha, rd, op, dn, st)) hS 5 rfl (32 * j + i) ⟨by omega, by decide⟩ e32 d_M_read_159 (fun H locs hP hz1 hq hS => ?_)
    exact fin (upd se (32 * j + i) (ch i)) _ _ (by rw [if_neg hrd]) hP hS
end
section
/-! Walks of CommitDeskModel, 3: begin, done, count, all, the constructor. Printed by prog/mkM3.py and prog/walk.py. -/
theorem clr_succ (f : Nat → Bool) (lo n : Nat) : va_up (clr f lo n) (lo + n) false = clr f lo (n + 1) := by
  funext q
  by_cases h : q = lo + n
  · subst h
    simp only [va_up, if_true, clr]
    rw [if_pos ⟨by omega, by omega⟩]
  · simp only [va_up, if_neg h, clr]
    by_cases h2 : lo ≤ q ∧ q < lo + n
    · rw [if_pos h2, if_pos ⟨h2.1, by omega⟩]
    · rw [if_neg h2, if_neg (fun h3 => h2 ⟨h3.1, by omega⟩)]
theorem clr_0 (f : Nat → Bool) (lo : Nat) : clr f lo 0 = f := by
  funext q
  simp only [clr]
  rw [if_neg (by omega)]
theorem m_begin_loop {p : Program} {l : Launch} {e : Env} {R : Room} {s : State} {m : MethodId} {args : Array Value} {below : List Frame} {meth : Method} {c : Code} {cells slots : Nat} {Q : State → Prop} {G : cd_G} {A : Nat → Prop} {g j : Nat} {er : Int32} {cl wr : Nat → Int64} {ch : Nat → Int32} {pa : Nat → Nat} {se : Nat → Int32} {ha rd op : Nat → Bool} {dn st : Int32}
    (hj : j < 8) (hpj : pa j = 1) (hA : ∀ q, rg g 9 q → A q) (ct : cd_Ct G p s m args c b_M_begin "CommitDeskModel" 3 A) (hR : mRm R cells slots)
    (kk : ∀ H locs, va_P G.1 cd_cls (mdS G g er (cl, wr, ch, pa, se, clr ha (160 * j) 32, clr rd (32 * j) 32, op, dn, st)) H → va_S (cd_xA A s) s.heap H locs → ∀ ls, W p l e R s m args below meth c H locs cells slots Q (F0 m 92 ls [])) :
    ∀ i k : Nat, k + i = 32 → ∀ H locs ls, va_P G.1 cd_cls (mdS G g er (cl, wr, ch, pa, se, clr ha (160 * j) k, clr rd (32 * j) k, op, dn, st)) H → va_S (cd_xA A s) s.heap H locs → lv_has ls 3 [(0, .ref g), (1, .int (nI j)), (2, .int (nI k))] → W p l e R s m args below meth c H locs cells slots Q (F0 m 56 ls []) := by
  have hx := ct.1
  have hb := ct.2.1
  have hD := fun M => cd_Dx (s := s) (A := A) (md_D G g er M) hA
  intro i
  induction i with
  | zero =>
    intro k hk H locs ls hP hS hl
    have hk : k = 32 := by omega
    subst hk
    refine lv_iload_n hx hb d_M_begin_56 rfl (lk hl rfl) ?_
    refine lv_bipush (v := 32) hx hb d_M_begin_57 (by decide) ?_
    refine lv_icmp_ge (tgt := 92) hx hb d_M_begin_59 (by decide) (fun hc => ?_) (fun hc => absurd (by decide) hc)
    exact kk H locs hP hS ls
  | succ i ih =>
    intro k hk H locs ls hP hS hl
    have hlt : k < 32 := by omega
    have e32 : (32 : Int32) * nI j + nI k = nI (32 * j + k) := by rw [show (32 : Int32) * nI j = nI (32 * j) from nI_mul 32 j, nI_add]
    refine lv_iload_n hx hb d_M_begin_56 rfl (lk hl rfl) ?_
    refine lv_bipush (v := 32) hx hb d_M_begin_57 (by decide) ?_
    refine lv_icmp_ge (tgt := 92) hx hb d_M_begin_59 (by decide) (fun hc => absurd hc (nI_ge (b := 32) hlt (by decide))) (fun hc => ?_)
    refine lv_aload_n hx hb d_M_begin_62 rfl (lk hl rfl) ?_
    refine cd_getM ct hP 0 7 (by decide) rfl fl_M_30 rfl d_M_begin_63 ?_
    refine lv_bipush (v := 32) hx hb d_M_begin_66 (by decide) ?_
    refine lv_iload_n hx hb d_M_begin_68 rfl (lk hl rfl) ?_
    refine lv_imul hx hb d_M_begin_69 ?_
    refine lv_iload_n hx hb d_M_begin_70 rfl (lk hl rfl) ?_
    refine lv_iadd hx hb d_M_begin_71 ?_
    refine lv_iconst (v := 0) hx hb d_M_begin_72 (by decide) ?_
    refine cd_zast ct hP (hD (cl, wr, ch, pa, se, clr ha (160 * j) k, clr rd (32 * j) k, op, dn, st)) hS 7 rfl (32 * j + k) ⟨by omega, by decide⟩ e32 false rfl d_M_begin_73 (fun H locs hP hz1 hq hS => ?_)
    have hP : va_P G.1 cd_cls (mdS G g er (cl, wr, ch, pa, se, clr ha (160 * j) k, va_up (clr rd (32 * j) k) (32 * j + k) false, op, dn, st)) H := hP
    rw [clr_succ] at hP
    refine lv_aload_n hx hb d_M_begin_74 rfl (lk hl rfl) ?_
    refine cd_getM ct hP 0 6 (by decide) rfl fl_M_26 rfl d_M_begin_75 ?_
    refine lv_aload_n hx hb d_M_begin_78 rfl (lk hl rfl) ?_
    refine lv_iload_n hx hb d_M_begin_79 rfl (lk hl rfl) ?_
    refine lv_iload_n hx hb d_M_begin_80 rfl (lk hl rfl) ?_
    refine md_last (j := j) (i := k) ct hS hP hR hl.1 hj (by show 1 ≤ pa j; omega) rfl (Nat.le_of_ble_eq_true rfl) d_M_begin_81 (fun H locs hP hS => ?_)
    refine lv_iconst (v := 0) hx hb d_M_begin_84 (by decide) ?_
    refine cd_zast ct hP (hD (cl, wr, ch, pa, se, clr ha (160 * j) k, clr rd (32 * j) (k + 1), op, dn, st)) hS 6 rfl (160 * j + k) ⟨by omega, by decide⟩ (by show nI (lix j (pa j) k) = _; rw [hpj]; congr 1; unfold lix; omega) false rfl d_M_begin_85 (fun H locs hP hz1 hq hS => ?_)
    have hP : va_P G.1 cd_cls (mdS G g er (cl, wr, ch, pa, se, va_up (clr ha (160 * j) k) (160 * j + k) false, clr rd (32 * j) (k + 1), op, dn, st)) H := hP
    rw [clr_succ] at hP
    refine cd_iinc hx hb d_M_begin_86 hl rfl (v := nI (k + 1)) (nI_1 k) (by decide) rfl (fun ls hl => ?_)
    refine lv_goto (tgt := 56) hx hb d_M_begin_89 (by decide) ?_
    exact ih (k + 1) (by omega) H locs ls hP hS (lre hl _ rfl)
set_option maxHeartbeats 4000000 in
theorem c_M_begin (l : Launch) (G : cd_G) (g : Nat) (er : Int32) (M : MC) (t : Int32) (hz : cd_z G < g) : cd_Con l y_M_begin cw_M_begin rmM [.ref g, .int t] G (va_P G.1 cd_cls (mdS G g er M)) (fun o H => o = .returned none ∧ va_P G.1 cd_cls (mdS G g (m_begin t M).1 (m_begin t M).2) H) (rg g 9) := by
  obtain ⟨cl, wr, ch, pa, se, ha, rd, op, dn, st⟩ := M
  refine cd_ofW (by decide) ok_M_begin.1 (Nat.le_of_ble_eq_true rfl) (rg_z hz) ?_
  intro p e s m below meth c ct hlk hr hxt hnm hP ls hl
  have hx := ct.1
  have hb := ct.2.1
  have hS : va_S (cd_xA (rg g 9) s) s.heap s.heap [] := va_S.rf
  refine md_zero (fun _ h => h) ct hS hP (lk hl rfl) d_M_begin_0 d_M_begin_1 d_M_begin_2 (fun H locs hP hS => ?_)
  refine lv_aload_n hx hb d_M_begin_5 rfl (lk hl rfl) ?_
  refine lv_iload_n hx hb d_M_begin_6 rfl (lk hl rfl) ?_
  refine md_isOne (t := t) hz (fun _ h => h) ct hS hP ⟨by decide, by decide, by decide, by decide⟩ hl.1 (cv := 1) (by decide) (by decide) d_M_begin_7 d_M_begin_10 d_M_begin_13 d_M_begin_14 d_M_begin_17 d_M_begin_18 d_M_begin_19 (fun H locs hP hS => ?_)
  cases hix : ixO t 8 with
  | none =>
    rw [hix] at hP
    have hP : va_P G.1 cd_cls (mdS G g 1 (cl, wr, ch, pa, se, ha, rd, op, dn, st)) H := hP
    have e1 : m_begin t (cl, wr, ch, pa, se, ha, rd, op, dn, st) = (1, (cl, wr, ch, pa, se, ha, rd, op, dn, st)) := by simp only [m_begin, hix]
    refine lv_if_ne (tgt := 39) hx hb d_M_begin_22 (by decide) (fun hc => ?_) (fun hc => absurd hc (by decide))
    exact cd_vret ct hlk hr hS ⟨by decide, by decide⟩ ⟨rfl, by rw [e1]; exact hP⟩ d_M_begin_39
  | some j =>
  rw [hix] at hP
  have hP : va_P G.1 cd_cls (mdS G g 0 (cl, wr, ch, pa, se, ha, rd, op, dn, st)) H := hP
  refine lv_if_ne (tgt := 39) hx hb d_M_begin_22 (by decide) (fun hc => absurd rfl hc) (fun hc => ?_)
  obtain ⟨hj, rfl⟩ := ixO_some (by decide) hix
  refine lv_aload_n hx hb d_M_begin_25 rfl (lk hl rfl) ?_
  refine lv_aload_n hx hb d_M_begin_26 rfl (lk hl rfl) ?_
  refine cd_getM ct hP 0 8 (by decide) rfl fl_M_33 rfl d_M_begin_27 ?_
  refine lv_iload_n hx hb d_M_begin_30 rfl (lk hl rfl) ?_
  refine cd_zald ct hP 8 rfl j ⟨hj, by decide⟩ rfl d_M_begin_31 ?_
  refine lv_iconst (v := 2) hx hb d_M_begin_32 (by decide) ?_
  refine md_fails (b := op j) hz (fun _ h => h) ct hS hP ⟨by decide, by decide, by decide, by decide⟩ hl.1 (cv := 2) (by decide) rfl d_M_begin_33 (fun H locs hP hS => ?_)
  cases hop : op j with
  | true =>
    rw [hop] at hP
    have hP : va_P G.1 cd_cls (mdS G g 2 (cl, wr, ch, pa, se, ha, rd, op, dn, st)) H := hP
    have hopM : mOp (cl, wr, ch, pa, se, ha, rd, op, dn, st) j = true := hop
    have e1 : m_begin (nI j) (cl, wr, ch, pa, se, ha, rd, op, dn, st) = (2, (cl, wr, ch, pa, se, ha, rd, op, dn, st)) := by simp [m_begin, hix, hopM]
    refine lv_if_eq (tgt := 40) hx hb d_M_begin_36 (by decide) (fun hc => absurd hc (by decide)) (fun hc => ?_)
    exact cd_vret ct hlk hr hS ⟨by decide, by decide⟩ ⟨rfl, by rw [e1]; exact hP⟩ d_M_begin_39
  | false =>
  rw [hop] at hP
  have hP : va_P G.1 cd_cls (mdS G g 0 (cl, wr, ch, pa, se, ha, rd, op, dn, st)) H := hP
  have hopM : mOp (cl, wr, ch, pa, se, ha, rd, op, dn, st) j = false := hop
  have e1 : m_begin (nI j) (cl, wr, ch, pa, se, ha, rd, op, dn, st) = (0, (cl, wr, ch, va_up pa j 1, se, clr ha (160 * j) 32, clr rd (32 * j) 32, va_up op j true, dn, st)) := by simp [m_begin, hix, hopM]
  refine lv_if_eq (tgt := 40) hx hb d_M_begin_36 (by decide) (fun hc => ?_) (fun hc => absurd rfl hc)
  refine lv_aload_n hx hb d_M_begin_40 rfl (lk hl rfl) ?_
  refine cd_getM ct hP 0 8 (by decide) rfl fl_M_33 rfl d_M_begin_41 ?_
  refine lv_iload_n hx hb d_M_begin_44 rfl (lk hl rfl) ?_
  refine lv_iconst (v := 1) hx hb d_M_begin_45 (by decide) ?_
  refine cd_zast ct hP (md_Dx 0 (cl, wr, ch, pa, se, ha, rd, op, dn, st)) hS 8 rfl j ⟨hj, by decide⟩ rfl true rfl d_M_begin_46 (fun H locs hP hz1 hq hS => ?_)
  have hP : va_P G.1 cd_cls (mdS G g 0 (cl, wr, ch, pa, se, ha, rd, va_up op j true, dn, st)) H := hP
  refine lv_aload_n hx hb d_M_begin_47 rfl (lk hl rfl) ?_
  refine cd_getM ct hP 0 4 (by decide) rfl fl_M_20 rfl d_M_begin_48 ?_
  refine lv_iload_n hx hb d_M_begin_51 rfl (lk hl rfl) ?_
  refine lv_iconst (v := 1) hx hb d_M_begin_52 (by decide) ?_
  refine cd_iast ct hP (md_Dx 0 (cl, wr, ch, pa, se, ha, rd, va_up op j true, dn, st)) hS 4 rfl j ⟨hj, by decide⟩ rfl d_M_begin_53 (fun H locs hP hz1 hq hS => ?_)
  have hP : va_P G.1 cd_cls (mdS G g 0 (cl, wr, ch, va_up pa j 1, se, clr ha (160 * j) 0, clr rd (32 * j) 0, va_up op j true, dn, st)) H := by
    rw [clr_0, clr_0]
    have hP : va_P G.1 cd_cls [(g, .inr (2, [.int 0, .ref (g + 1), .ref (g + 2), .ref (g + 3), .ref (g + 4), .ref (g + 5), .ref (g + 6), .ref (g + 7), .ref (g + 8), .int dn, .int st])), (g + 1, .inl (cd_cL G, 32, .inr (.inl cl))), (g + 2, .inl (cd_cL G, 1280, .inr (.inl wr))), (g + 3, .inl (cd_cI G, 32, .inl ch)), (g + 4, .inl (cd_cI G, 8, .inl (upd (fun j => nI (pa j)) j (nI 1)))), (g + 5, .inl (cd_cI G, 256, .inl se)), (g + 6, .inl (cd_cZ G, 1280, .inl (fun j => cd_bi (ha j)))), (g + 7, .inl (cd_cZ G, 256, .inl (fun j => cd_bi (rd j)))), (g + 8, .inl (cd_cZ G, 8, .inl (fun k => cd_bi (va_up op j true k))))] H := hP
    rw [cd_upn] at hP
    exact hP
  refine lv_iconst (v := 0) hx hb d_M_begin_54 (by decide) ?_
  refine lv_istore_n hx hb d_M_begin_55 rfl hl (by decide) rfl (fun ls hl => ?_)
  refine m_begin_loop (pa := va_up pa j 1) hj (by simp [va_up]) (fun _ h => h) ct ⟨by decide, by decide, by decide, by decide⟩ (fun H locs hP hS ls => ?_) 32 0 rfl H locs ls hP hS (lre hl _ rfl)
  exact cd_vret ct hlk hr hS ⟨by decide, by decide⟩ ⟨rfl, by rw [e1]; exact hP⟩ d_M_begin_92
theorem m_done_loop {p : Program} {l : Launch} {e : Env} {R : Room} {s : State} {m : MethodId} {args : Array Value} {below : List Frame} {meth : Method} {c : Code} {cells slots : Nat} {Q : State → Prop} {G : cd_G} {A : Nat → Prop} {g j : Nat} {er : Int32} {cl wr : Nat → Int64} {ch : Nat → Int32} {pa : Nat → Nat} {se : Nat → Int32} {ha rd op : Nat → Bool} {dn st : Int32} {M : MC}
    (hM : mWr M = wr ∧ mHa M = ha) (hj : j < 8) (hp : 1 ≤ pa j ∧ pa j ≤ 5) (hz : cd_z G < g) (hA : ∀ q, rg g 9 q → A q) (ct : cd_Ct G p s m args c b_M_done "CommitDeskModel" 3 A) (hR : mRm R cells slots)
    (kk : ∀ H locs ls, lv_has ls 3 [(0, .ref g)] → va_P G.1 cd_cls (mdS G g er ((mPuts M j (pa j) 32).1, wr, (mPuts M j (pa j) 32).2, pa, se, ha, rd, op, dn, st)) H → va_S (cd_xA A s) s.heap H locs → W p l e R s m args below meth c H locs cells slots Q (F0 m 120 ls [])) :
    ∀ i k : Nat, k + i = 32 → ∀ H locs ls, va_P G.1 cd_cls (mdS G g er ((mPuts M j (pa j) k).1, wr, (mPuts M j (pa j) k).2, pa, se, ha, rd, op, dn, st)) H → va_S (cd_xA A s) s.heap H locs → lv_has ls 3 [(0, .ref g), (1, .int (nI j)), (2, .int (nI k))] → W p l e R s m args below meth c H locs cells slots Q (F0 m 78 ls []) := by
  have hx := ct.1
  have hb := ct.2.1
  obtain ⟨hM1, hM2⟩ := hM
  intro i
  induction i with
  | zero =>
    intro k hk H locs ls hP hS hl
    have hk : k = 32 := by omega
    subst hk
    refine lv_iload_n hx hb d_M_done_78 rfl (lk hl rfl) ?_
    refine lv_bipush (v := 32) hx hb d_M_done_79 (by decide) ?_
    refine lv_icmp_ge (tgt := 120) hx hb d_M_done_81 (by decide) (fun hc => ?_) (fun hc => absurd (by decide) hc)
    exact kk H locs ls (lre hl _ rfl) hP hS
  | succ i ih =>
    intro k hk H locs ls hP hS hl
    have hlt : k < 32 := by omega
    refine lv_iload_n hx hb d_M_done_78 rfl (lk hl rfl) ?_
    refine lv_bipush (v := 32) hx hb d_M_done_79 (by decide) ?_
    refine lv_icmp_ge (tgt := 120) hx hb d_M_done_81 (by decide) (fun hc => absurd hc (nI_ge (b := 32) hlt (by decide))) (fun hc => ?_)
    have next : ∀ H locs, va_P G.1 cd_cls (mdS G g er ((mPuts M j (pa j) (k + 1)).1, wr, (mPuts M j (pa j) (k + 1)).2, pa, se, ha, rd, op, dn, st)) H → va_S (cd_xA A s) s.heap H locs → W p l e R s m args below meth c H locs cells slots Q (F0 m 114 ls []) := by
      intro H locs hP hS
      refine cd_iinc hx hb d_M_done_114 hl rfl (v := nI (k + 1)) (nI_1 k) (by decide) rfl (fun ls hl => ?_)
      refine lv_goto (tgt := 78) hx hb d_M_done_117 (by decide) ?_
      exact ih (k + 1) (by omega) H locs ls hP hS (lre hl _ rfl)
    refine lv_aload_n hx hb d_M_done_84 rfl (lk hl rfl) ?_
    refine cd_getM ct hP 0 6 (by decide) rfl fl_M_26 rfl d_M_done_85 ?_
    refine lv_aload_n hx hb d_M_done_88 rfl (lk hl rfl) ?_
    refine lv_iload_n hx hb d_M_done_89 rfl (lk hl rfl) ?_
    refine lv_iload_n hx hb d_M_done_90 rfl (lk hl rfl) ?_
    refine md_last (j := j) (i := k) ct hS hP hR hl.1 hj hp.1 rfl (Nat.le_of_ble_eq_true rfl) d_M_done_91 (fun H locs hP hS => ?_)
    refine cd_zald ct hP 6 rfl (lix j (pa j) k) ⟨lix_lt hj hp hlt, by decide⟩ rfl d_M_done_94 ?_
    refine lv_if_eq (tgt := 114) hx hb d_M_done_95 (by decide) (fun hc => ?_) (fun hc => ?_)
    · refine next H locs ?_ hS
      rw [mPuts, hM2, if_neg (by rw [(cd_bi_0 _).mp hc]; decide)]
      exact hP
    · have hha : ha (lix j (pa j) k) = true := by cases h : ha (lix j (pa j) k) <;> first | rfl | exact absurd (by rw [h]; rfl) hc
      refine lv_aload_n hx hb d_M_done_98 rfl (lk hl rfl) ?_
      refine lv_iload_n hx hb d_M_done_99 rfl (lk hl rfl) ?_
      refine lv_aload_n hx hb d_M_done_100 rfl (lk hl rfl) ?_
      refine cd_getM ct hP 0 2 (by decide) rfl fl_M_13 rfl d_M_done_101 ?_
      refine lv_aload_n hx hb d_M_done_104 rfl (lk hl rfl) ?_
      refine lv_iload_n hx hb d_M_done_105 rfl (lk hl rfl) ?_
      refine lv_iload_n hx hb d_M_done_106 rfl (lk hl rfl) ?_
      refine md_last (j := j) (i := k) ct hS hP hR hl.1 hj hp.1 rfl (Nat.le_of_ble_eq_true rfl) d_M_done_107 (fun H locs hP hS => ?_)
      refine cd_lald ct hP 2 rfl (lix j (pa j) k) ⟨lix_lt hj hp hlt, by decide⟩ rfl d_M_done_110 ?_
      refine cd_callV (As := [.int (nI k), .long (wr (lix j (pa j) k))]) (rest := []) ct hS (c_M_change l G g er _ k (wr (lix j (pa j) k)) hlt hz) cv_M_73 ⟨⟨by show 0 + 1 ≤ _; have := hR.1; omega, by show 8 + (4 + 11) + 0 ≤ _; have := hR.2.1; omega⟩, hR.2.2⟩ (md_recv ct hP) hP hl.1 rfl rfl (Nat.le_of_ble_eq_true rfl) d_M_done_111 (fun q _ h => Or.inl (hA q h)) (fun v H1 locs1 hq hF hS => ?_) (fun _ _ _ h => by cases h.1)
      obtain ⟨hq, hP⟩ := hq
      cases hq
      refine next H1 locs1 ?_ hS
      rw [mPuts, hM2, hM1, if_pos hha]
      exact hP
set_option maxHeartbeats 4000000 in
theorem c_M_done (l : Launch) (G : cd_G) (g : Nat) (er : Int32) (M : MC) (t : Int32) (hz : cd_z G < g) (hok : mOK M) : cd_Con l y_M_done cw_M_done rmM [.ref g, .int t] G (va_P G.1 cd_cls (mdS G g er M)) (fun o H => o = .returned (some (.int (cd_bi (m_done t M).2.1))) ∧ va_P G.1 cd_cls (mdS G g (m_done t M).1 (m_done t M).2.2) H) (rg g 9) := by
  obtain ⟨cl, wr, ch, pa, se, ha, rd, op, dn, st⟩ := M
  refine cd_ofW (by decide) ok_M_done.1 (Nat.le_of_ble_eq_true rfl) (rg_z hz) ?_
  intro p e s m below meth c ct hlk hr hxt hnm hP ls hl
  have hx := ct.1
  have hb := ct.2.1
  have hS : va_S (cd_xA (rg g 9) s) s.heap s.heap [] := va_S.rf
  refine md_zero (fun _ h => h) ct hS hP (lk hl rfl) d_M_done_0 d_M_done_1 d_M_done_2 (fun H locs hP hS => ?_)
  refine lv_aload_n hx hb d_M_done_5 rfl (lk hl rfl) ?_
  refine lv_iload_n hx hb d_M_done_6 rfl (lk hl rfl) ?_
  refine md_isOne (t := t) hz (fun _ h => h) ct hS hP ⟨by decide, by decide, by decide, by decide⟩ hl.1 (cv := 1) (by decide) (by decide) d_M_done_7 d_M_done_10 d_M_done_13 d_M_done_14 d_M_done_17 d_M_done_18 d_M_done_19 (fun H locs hP hS => ?_)
  cases hix : ixO t 8 with
  | none =>
    rw [hix] at hP
    have hP : va_P G.1 cd_cls (mdS G g 1 (cl, wr, ch, pa, se, ha, rd, op, dn, st)) H := hP
    have e1 : m_done t (cl, wr, ch, pa, se, ha, rd, op, dn, st) = (1, false, (cl, wr, ch, pa, se, ha, rd, op, dn, st)) := by simp only [m_done, hix]
    refine lv_if_ne (tgt := 47) hx hb d_M_done_22 (by decide) (fun hc => ?_) (fun hc => absurd hc (by decide))
    refine lv_iconst (v := 0) hx hb d_M_done_47 (by decide) ?_
    exact cd_zret ct hlk hr hS ⟨by decide, by decide⟩ rfl ⟨by rw [e1]; rfl, by rw [e1]; exact hP⟩ d_M_done_48
  | some j =>
  rw [hix] at hP
  have hP : va_P G.1 cd_cls (mdS G g 0 (cl, wr, ch, pa, se, ha, rd, op, dn, st)) H := hP
  refine lv_if_ne (tgt := 47) hx hb d_M_done_22 (by decide) (fun hc => absurd rfl hc) (fun hc => ?_)
  obtain ⟨hj, rfl⟩ := ixO_some (by decide) hix
  refine lv_aload_n hx hb d_M_done_25 rfl (lk hl rfl) ?_
  refine lv_aload_n hx hb d_M_done_26 rfl (lk hl rfl) ?_
  refine cd_getM ct hP 0 8 (by decide) rfl fl_M_33 rfl d_M_done_27 ?_
  refine lv_iload_n hx hb d_M_done_30 rfl (lk hl rfl) ?_
  refine cd_zald ct hP 8 rfl j ⟨hj, by decide⟩ rfl d_M_done_31 ?_
  refine md_neg hz (fun _ h => h) ct hS hP ⟨by decide, by decide, by decide, by decide⟩ hl.1 (cv := 2) (by decide) (by decide) (op j) d_M_done_32 d_M_done_35 d_M_done_36 d_M_done_39 d_M_done_40 d_M_done_41 (fun H locs hP hS => ?_)
  cases hop : op j with
  | false =>
    rw [hop] at hP
    have hP : va_P G.1 cd_cls (mdS G g 2 (cl, wr, ch, pa, se, ha, rd, op, dn, st)) H := hP
    have hopM : mOp (cl, wr, ch, pa, se, ha, rd, op, dn, st) j = false := hop
    have e1 : m_done (nI j) (cl, wr, ch, pa, se, ha, rd, op, dn, st) = (2, false, (cl, wr, ch, pa, se, ha, rd, op, dn, st)) := by simp [m_done, hix, hopM]
    refine lv_if_eq (tgt := 49) hx hb d_M_done_44 (by decide) (fun hc => absurd hc (by decide)) (fun hc => ?_)
    refine lv_iconst (v := 0) hx hb d_M_done_47 (by decide) ?_
    exact cd_zret ct hlk hr hS ⟨by decide, by decide⟩ rfl ⟨by rw [e1]; rfl, by rw [e1]; exact hP⟩ d_M_done_48
  | true =>
  rw [hop] at hP
  have hP : va_P G.1 cd_cls (mdS G g 0 (cl, wr, ch, pa, se, ha, rd, op, dn, st)) H := hP
  have hopM : mOp (cl, wr, ch, pa, se, ha, rd, op, dn, st) j = true := hop
  refine lv_if_eq (tgt := 49) hx hb d_M_done_44 (by decide) (fun hc => ?_) (fun hc => absurd rfl hc)
  have hp : 1 ≤ pa j ∧ pa j ≤ 5 := hok j hj hopM
  have e0 : m_done (nI j) (cl, wr, ch, pa, se, ha, rd, op, dn, st) = if mStl (cl, wr, ch, pa, se, ha, rd, op, dn, st) j 32 = true then (0, false, mOver (cl, wr, ch, pa, se, ha, rd, op, dn, st) j) else (0, true, ((mPuts (cl, wr, ch, pa, se, ha, rd, op, dn, st) j (pa j) 32).1, wr, (mPuts (cl, wr, ch, pa, se, ha, rd, op, dn, st) j (pa j) 32).2, pa, se, ha, rd, va_up op j false, dn + 1, st)) := by simp [m_done, hix, hopM]
  refine lv_aload_n hx hb d_M_done_49 rfl (lk hl rfl) ?_
  refine cd_getM ct hP 0 8 (by decide) rfl fl_M_33 rfl d_M_done_50 ?_
  refine lv_iload_n hx hb d_M_done_53 rfl (lk hl rfl) ?_
  refine lv_iconst (v := 0) hx hb d_M_done_54 (by decide) ?_
  refine cd_zast ct hP (md_Dx 0 (cl, wr, ch, pa, se, ha, rd, op, dn, st)) hS 8 rfl j ⟨hj, by decide⟩ rfl false rfl d_M_done_55 (fun H locs hP hz1 hq hS => ?_)
  have hP : va_P G.1 cd_cls (mdS G g 0 (cl, wr, ch, pa, se, ha, rd, va_up op j false, dn, st)) H := hP
  refine lv_aload_n hx hb d_M_done_56 rfl (lk hl rfl) ?_
  refine lv_iload_n hx hb d_M_done_57 rfl (lk hl rfl) ?_
  refine md_stale (j := j) ct hS hP ⟨by decide, by decide, by decide, by decide⟩ hl.1 hj d_M_done_58 (fun H locs hP hS => ?_)
  have hsame : mStl (cl, wr, ch, pa, se, ha, rd, va_up op j false, dn, st) j 32 = mStl (cl, wr, ch, pa, se, ha, rd, op, dn, st) j 32 := rfl
  rw [hsame]
  refine lv_if_eq (tgt := 76) hx hb d_M_done_61 (by decide) (fun hc => ?_) (fun hc => ?_)
  case refine_2 =>
    have hst : mStl (cl, wr, ch, pa, se, ha, rd, op, dn, st) j 32 = true := by cases h : mStl (cl, wr, ch, pa, se, ha, rd, op, dn, st) j 32 <;> first | rfl | exact absurd (by rw [h]; rfl) hc
    rw [if_pos hst] at e0
    refine lv_aload_n hx hb d_M_done_64 rfl (lk hl rfl) ?_
    refine lv_dup hx hb d_M_done_65 rfl ?_
    refine cd_getM ct hP 0 10 (by decide) rfl fl_M_66 rfl d_M_done_66 ?_
    refine lv_iconst (v := 1) hx hb d_M_done_69 (by decide) ?_
    refine lv_iadd hx hb d_M_done_70 ?_
    refine cd_put in_M rfl t_M t_M_ok n_M ct hP (md_Dx 0 (cl, wr, ch, pa, se, ha, rd, va_up op j false, dn, st)) hS 0 10 (by decide) rfl fl_M_66 (Or.inl rfl) rfl rfl (Nat.le_of_ble_eq_true rfl) d_M_done_71 (fun H locs hP hz1 hq hS => ?_)
    refine lv_iconst (v := 0) hx hb d_M_done_74 (by decide) ?_
    exact cd_zret ct hlk hr hS ⟨by decide, by decide⟩ rfl ⟨by rw [e0]; rfl, by rw [e0]; exact hP⟩ d_M_done_75
  have hst : ¬ mStl (cl, wr, ch, pa, se, ha, rd, op, dn, st) j 32 = true := by rw [(cd_bi_0 _).mp hc]; decide
  rw [if_neg hst] at e0
  refine lv_iconst (v := 0) hx hb d_M_done_76 (by decide) ?_
  refine lv_istore_n hx hb d_M_done_77 rfl hl (by decide) rfl (fun ls hl => ?_)
  refine m_done_loop (M := (cl, wr, ch, pa, se, ha, rd, op, dn, st)) (cl := cl) (ch := ch) (op := va_up op j false) ⟨rfl, rfl⟩ hj hp hz (fun _ h => h) ct ⟨by decide, by decide, by decide, by decide⟩ (fun H locs ls hl hP hS => ?_) 32 0 rfl H locs ls hP hS (lre hl _ rfl)
  refine lv_aload_n hx hb d_M_done_120 rfl (lk hl rfl) ?_
  refine lv_dup hx hb d_M_done_121 rfl ?_
  refine cd_getM ct hP 0 9 (by decide) rfl fl_M_77 rfl d_M_done_122 ?_
  refine lv_iconst (v := 1) hx hb d_M_done_125 (by decide) ?_
  refine lv_iadd hx hb d_M_done_126 ?_
  refine cd_put in_M rfl t_M t_M_ok n_M ct hP (md_Dx 0 ((mPuts (cl, wr, ch, pa, se, ha, rd, op, dn, st) j (pa j) 32).1, wr, (mPuts (cl, wr, ch, pa, se, ha, rd, op, dn, st) j (pa j) 32).2, pa, se, ha, rd, va_up op j false, dn, st)) hS 0 9 (by decide) rfl fl_M_77 (Or.inl rfl) rfl rfl (Nat.le_of_ble_eq_true rfl) d_M_done_127 (fun H locs hP hz1 hq hS => ?_)
  refine lv_iconst (v := 1) hx hb d_M_done_130 (by decide) ?_
  exact cd_zret ct hlk hr hS ⟨by decide, by decide⟩ rfl ⟨by rw [e0]; rfl, by rw [e0]; exact hP⟩ d_M_done_131
theorem m_all_loop {p : Program} {l : Launch} {e : Env} {R : Room} {s : State} {m : MethodId} {args : Array Value} {below : List Frame} {meth : Method} {c : Code} {cells slots : Nat} {Q : State → Prop} {G : cd_G} {A : Nat → Prop} {g j : Nat} {er : Int32} {cl wr : Nat → Int64} {ch : Nat → Int32} {pa : Nat → Nat} {se : Nat → Int32} {ha rd op : Nat → Bool} {dn st : Int32} {H : Heap} {locs : List Loc} {what : Int32}
    (ct : cd_Ct G p s m args c b_M_all "CommitDeskModel" 4 A) (hP : va_P G.1 cd_cls (mdS G g er (cl, wr, ch, pa, se, ha, rd, op, dn, st)) H)
    (kk : ∀ ls, lv_has ls 4 [(0, .ref g), (1, .int what), (2, .int (nI (cntN op 8)))] → W p l e R s m args below meth c H locs cells slots Q (F0 m 60 ls [])) :
    ∀ i k : Nat, k + i = 8 → ∀ ls, lv_has ls 4 [(0, .ref g), (1, .int what), (2, .int (nI (cntN op k))), (3, .int (nI k))] → W p l e R s m args below meth c H locs cells slots Q (F0 m 36 ls []) := by
  have hx := ct.1
  have hb := ct.2.1
  intro i
  induction i with
  | zero =>
    intro k hk ls hl
    have hk : k = 8 := by omega
    subst hk
    refine lv_iload_n hx hb d_M_all_36 rfl (lk hl rfl) ?_
    refine lv_bipush (v := 8) hx hb d_M_all_37 (by decide) ?_
    refine lv_icmp_ge (tgt := 60) hx hb d_M_all_39 (by decide) (fun hc => ?_) (fun hc => absurd (by decide) hc)
    exact kk ls (lre hl _ rfl)
  | succ i ih =>
    intro k hk ls hl
    have hlt : k < 8 := by omega
    refine lv_iload_n hx hb d_M_all_36 rfl (lk hl rfl) ?_
    refine lv_bipush (v := 8) hx hb d_M_all_37 (by decide) ?_
    refine lv_icmp_ge (tgt := 60) hx hb d_M_all_39 (by decide) (fun hc => absurd hc (nI_ge (b := 8) hlt (by decide))) (fun hc => ?_)
    refine lv_aload_n hx hb d_M_all_42 rfl (lk hl rfl) ?_
    refine cd_getM ct hP 0 8 (by decide) rfl fl_M_33 rfl d_M_all_43 ?_
    refine lv_iload_n hx hb d_M_all_46 rfl (lk hl rfl) ?_
    refine cd_zald ct hP 8 rfl k ⟨hlt, by decide⟩ rfl d_M_all_47 ?_
    refine lv_if_eq (tgt := 54) hx hb d_M_all_48 (by decide) (fun hc => ?_) (fun hc => ?_)
    · have ho : op k = false := (cd_bi_0 _).mp hc
      refine cd_iinc hx hb d_M_all_54 hl rfl (v := nI (k + 1)) (nI_1 k) (by decide) rfl (fun ls hl => ?_)
      refine lv_goto (tgt := 36) hx hb d_M_all_57 (by decide) ?_
      have hN : cntN op (k + 1) = cntN op k := by rw [cntN, ho]; rfl
      exact ih (k + 1) (by omega) ls (by rw [hN]; exact lre hl _ rfl)
    · have ho : op k = true := by cases h : op k <;> first | rfl | exact absurd (by rw [h]; rfl) hc
      refine cd_iinc hx hb d_M_all_51 hl rfl (v := nI (cntN op k + 1)) (nI_1 _) (by decide) rfl (fun ls hl => ?_)
      refine cd_iinc hx hb d_M_all_54 hl rfl (v := nI (k + 1)) (nI_1 k) (by decide) rfl (fun ls hl => ?_)
      refine lv_goto (tgt := 36) hx hb d_M_all_57 (by decide) ?_
      have hN : cntN op (k + 1) = cntN op k + 1 := by rw [cntN, ho]; rfl
      exact ih (k + 1) (by omega) ls (by rw [hN]; exact lre hl _ rfl)
set_option maxHeartbeats 4000000 in
theorem c_M_all (l : Launch) (G : cd_G) (g : Nat) (er : Int32) (M : MC) (what : Int32) (hz : cd_z G < g) : cd_Con l y_M_all cw_M_all rmM [.ref g, .int what] G (va_P G.1 cd_cls (mdS G g er M)) (fun o H => o = .returned (some (.int (m_all what M).2)) ∧ va_P G.1 cd_cls (mdS G g (m_all what M).1 M) H) (rg g 9) := by
  obtain ⟨cl, wr, ch, pa, se, ha, rd, op, dn, st⟩ := M
  refine cd_ofW (by decide) ok_M_all.1 (Nat.le_of_ble_eq_true rfl) (rg_z hz) ?_
  intro p e s m below meth c ct hlk hr hxt hnm hP ls hl
  have hx := ct.1
  have hb := ct.2.1
  have hS : va_S (cd_xA (rg g 9) s) s.heap s.heap [] := va_S.rf
  refine md_zero (fun _ h => h) ct hS hP (lk hl rfl) d_M_all_0 d_M_all_1 d_M_all_2 (fun H locs hP hS => ?_)
  have e64 : decide ((0 : Int64) ≤ what.toInt64 ∧ what.toInt64 ≤ 2) = (ixO what 3).isSome := by
    cases h : (ixO what 3).isSome with
    | true => exact decide_eq_true ((i64_ix (n := 2) (by decide)).mpr h)
    | false => exact decide_eq_false (fun h2 => by rw [(i64_ix (n := 2) (by decide)).mp h2] at h; cases h)
  refine lv_aload_n hx hb d_M_all_5 rfl (lk hl rfl) ?_
  refine lv_iload_n hx hb d_M_all_6 rfl (lk hl rfl) ?_
  refine lv_i2l hx hb d_M_all_7 rfl ?_
  refine lv_lconst (v := 0) hx hb d_M_all_8 (by decide) ?_
  refine lv_ldc2 hx hb ct.2.2.1 (ct.2.2.2.2.1 _ kc_M_82) d_M_all_9 ?_
  refine cd_callS (As := [.long what.toInt64, .long 0, .long 2]) (rest := [.ref g]) ct hS (c_M_in l G what.toInt64 0 2) cs_M_42 ⟨⟨by decide, by decide⟩, by decide, by decide⟩ trivial hl.1 rfl rfl (Nat.le_of_ble_eq_true rfl) d_M_all_12 (fun _ _ h => h.elim) (fun v H1 locs1 hq hF hS => ?_) (fun _ _ _ h => by cases h)
  cases hq
  have hP := cd_keep0 hP hF
  rw [e64]
  refine md_neg hz (fun _ h => h) ct hS hP ⟨by decide, by decide, by decide, by decide⟩ hl.1 (cv := 1) (by decide) (by decide) _ d_M_all_15 d_M_all_18 d_M_all_19 d_M_all_22 d_M_all_23 d_M_all_24 (fun H locs hP hS => ?_)
  cases hix : ixO what 3 with
  | none =>
    rw [hix] at hP
    have hP : va_P G.1 cd_cls (mdS G g 1 (cl, wr, ch, pa, se, ha, rd, op, dn, st)) H := hP
    have e1 : m_all what (cl, wr, ch, pa, se, ha, rd, op, dn, st) = (1, 0) := by simp only [m_all, hix]
    refine lv_if_eq (tgt := 32) hx hb d_M_all_27 (by decide) (fun hc => absurd hc (by decide)) (fun hc => ?_)
    refine lv_iconst (v := 0) hx hb d_M_all_30 (by decide) ?_
    exact cd_iret ct hlk hr hS ⟨by decide, by decide⟩ ⟨by rw [e1], by rw [e1]; exact hP⟩ d_M_all_31
  | some h =>
  rw [hix] at hP
  have hP : va_P G.1 cd_cls (mdS G g 0 (cl, wr, ch, pa, se, ha, rd, op, dn, st)) H := hP
  obtain ⟨hh, rfl⟩ := ixO_some (by decide) hix
  have e1 : m_all (nI h) (cl, wr, ch, pa, se, ha, rd, op, dn, st) = (0, if h = 0 then nI (cntN op 8) else if h = 1 then dn else st) := by simp only [m_all, hix]
  refine lv_if_eq (tgt := 32) hx hb d_M_all_27 (by decide) (fun hc => ?_) (fun hc => absurd rfl hc)
  refine lv_iconst (v := 0) hx hb d_M_all_32 (by decide) ?_
  refine lv_istore_n hx hb d_M_all_33 rfl hl (by decide) rfl (fun ls hl => ?_)
  refine lv_iconst (v := 0) hx hb d_M_all_34 (by decide) ?_
  refine lv_istore_n hx hb d_M_all_35 rfl hl (by decide) rfl (fun ls hl => ?_)
  refine m_all_loop (j := 0) (what := nI h) ct hP (fun ls hl => ?_) 8 0 rfl ls (lre hl _ rfl)
  refine lv_iload_n hx hb d_M_all_60 rfl (lk hl rfl) ?_
  refine lv_if_ne (tgt := 68) hx hb d_M_all_61 (by decide) (fun h0 => ?_) (fun h0 => ?_)
  · have h0 : ¬ h = 0 := fun e => h0 (by rw [e]; rfl)
    rw [if_neg h0] at e1
    refine lv_iload_n hx hb d_M_all_68 rfl (lk hl rfl) ?_
    refine lv_iconst (v := 1) hx hb d_M_all_69 (by decide) ?_
    refine lv_icmp_ne (tgt := 80) hx hb d_M_all_70 (by decide) (fun h1 => ?_) (fun h1 => ?_)
    · have h1 : ¬ h = 1 := fun e => h1 (by rw [e]; rfl)
      rw [if_neg h1] at e1
      refine lv_aload_n hx hb d_M_all_80 rfl (lk hl rfl) ?_
      refine cd_getM ct hP 0 10 (by decide) rfl fl_M_66 rfl d_M_all_81 ?_
      exact cd_iret ct hlk hr hS ⟨by decide, by decide⟩ ⟨by rw [e1], by rw [e1]; exact hP⟩ d_M_all_84
    · have h1 : h = 1 := (nI_eq (by omega) (by decide)).mp h1
      rw [if_pos h1] at e1
      refine lv_aload_n hx hb d_M_all_73 rfl (lk hl rfl) ?_
      refine cd_getM ct hP 0 9 (by decide) rfl fl_M_77 rfl d_M_all_74 ?_
      refine lv_goto (tgt := 84) hx hb d_M_all_77 (by decide) ?_
      exact cd_iret ct hlk hr hS ⟨by decide, by decide⟩ ⟨by rw [e1], by rw [e1]; exact hP⟩ d_M_all_84
  · have h0 : h = 0 := (nI_eq (by omega) (by decide)).mp h0
    rw [if_pos h0] at e1
    refine lv_iload_n hx hb d_M_all_64 rfl (lk hl rfl) ?_
    refine lv_goto (tgt := 84) hx hb d_M_all_65 (by decide) ?_
    exact cd_iret ct hlk hr hS ⟨by decide, by decide⟩ ⟨by rw [e1], by rw [e1]; exact hP⟩ d_M_all_84
def cntF (rd ha : Nat → Bool) (j p h : Nat) : Nat → Bool := fun k => if h = 0 then rd (32 * j + k) else if h = 1 then ha (lix j p k) else false
theorem m_count_loop {p : Program} {l : Launch} {e : Env} {R : Room} {s : State} {m : MethodId} {args : Array Value} {below : List Frame} {meth : Method} {c : Code} {cells slots : Nat} {Q : State → Prop} {G : cd_G} {A : Nat → Prop} {g j : Nat} {er : Int32} {cl wr : Nat → Int64} {ch : Nat → Int32} {pa : Nat → Nat} {se : Nat → Int32} {ha rd op : Nat → Bool} {dn st : Int32} {h : Nat}
    (hj : j < 8) (hh : h < 4) (hp : 1 ≤ pa j ∧ pa j ≤ 5) (ct : cd_Ct G p s m args c b_M_count "CommitDeskModel" 5 A) (hR : mRm R cells slots)
    (kk : ∀ H locs ls, va_P G.1 cd_cls (mdS G g er (cl, wr, ch, pa, se, ha, rd, op, dn, st)) H → va_S (cd_xA A s) s.heap H locs → lv_has ls 5 [(0, .ref g), (1, .int (nI j)), (2, .int (nI h)), (3, .int (nI (cntN (cntF rd ha j (pa j) h) 32)))] → W p l e R s m args below meth c H locs cells slots Q (F0 m 124 ls [])) :
    ∀ i k : Nat, k + i = 32 → ∀ H locs ls, va_P G.1 cd_cls (mdS G g er (cl, wr, ch, pa, se, ha, rd, op, dn, st)) H → va_S (cd_xA A s) s.heap H locs → lv_has ls 5 [(0, .ref g), (1, .int (nI j)), (2, .int (nI h)), (3, .int (nI (cntN (cntF rd ha j (pa j) h) k))), (4, .int (nI k))] → W p l e R s m args below meth c H locs cells slots Q (F0 m 66 ls []) := by
  have hx := ct.1
  have hb := ct.2.1
  intro i
  induction i with
  | zero =>
    intro k hk H locs ls hP hS hl
    have hk : k = 32 := by omega
    subst hk
    refine lv_iload hx hb d_M_count_66 (lk hl rfl) ?_
    refine lv_bipush (v := 32) hx hb d_M_count_68 (by decide) ?_
    refine lv_icmp_ge (tgt := 124) hx hb d_M_count_70 (by decide) (fun hc => ?_) (fun hc => absurd (by decide) hc)
    exact kk H locs ls hP hS (lre hl _ rfl)
  | succ i ih =>
    intro k hk H locs ls hP hS hl
    have hlt : k < 32 := by omega
    have e32 : (32 : Int32) * nI j + nI k = nI (32 * j + k) := by rw [show (32 : Int32) * nI j = nI (32 * j) from nI_mul 32 j, nI_add]
    refine lv_iload hx hb d_M_count_66 (lk hl rfl) ?_
    refine lv_bipush (v := 32) hx hb d_M_count_68 (by decide) ?_
    refine lv_icmp_ge (tgt := 124) hx hb d_M_count_70 (by decide) (fun hc => absurd hc (nI_ge (b := 32) hlt (by decide))) (fun hc => ?_)
    have no : cntF rd ha j (pa j) h k = false → ∀ H locs, va_P G.1 cd_cls (mdS G g er (cl, wr, ch, pa, se, ha, rd, op, dn, st)) H → va_S (cd_xA A s) s.heap H locs → W p l e R s m args below meth c H locs cells slots Q (F0 m 118 ls []) := by
      intro hf H locs hP hS
      refine cd_iinc hx hb d_M_count_118 hl rfl (v := nI (k + 1)) (nI_1 k) (by decide) rfl (fun ls hl => ?_)
      refine lv_goto (tgt := 66) hx hb d_M_count_121 (by decide) ?_
      have hN : cntN (cntF rd ha j (pa j) h) (k + 1) = cntN (cntF rd ha j (pa j) h) k := by rw [cntN, hf]; rfl
      exact ih (k + 1) (by omega) H locs ls hP hS (by rw [hN]; exact lre hl _ rfl)
    have yes : cntF rd ha j (pa j) h k = true → ∀ H locs, va_P G.1 cd_cls (mdS G g er (cl, wr, ch, pa, se, ha, rd, op, dn, st)) H → va_S (cd_xA A s) s.heap H locs → W p l e R s m args below meth c H locs cells slots Q (F0 m 115 ls []) := by
      intro hf H locs hP hS
      refine cd_iinc hx hb d_M_count_115 hl rfl (v := nI (cntN (cntF rd ha j (pa j) h) k + 1)) (nI_1 _) (by decide) rfl (fun ls hl => ?_)
      refine cd_iinc hx hb d_M_count_118 hl rfl (v := nI (k + 1)) (nI_1 k) (by decide) rfl (fun ls hl => ?_)
      refine lv_goto (tgt := 66) hx hb d_M_count_121 (by decide) ?_
      have hN : cntN (cntF rd ha j (pa j) h) (k + 1) = cntN (cntF rd ha j (pa j) h) k + 1 := by rw [cntN, hf]; rfl
      exact ih (k + 1) (by omega) H locs ls hP hS (by rw [hN]; exact lre hl _ rfl)
    refine lv_iload_n hx hb d_M_count_73 rfl (lk hl rfl) ?_
    refine lv_if_ne (tgt := 95) hx hb d_M_count_74 (by decide) (fun h0 => ?_) (fun h0 => ?_)
    · have h0 : ¬ h = 0 := fun e => h0 (by rw [e]; rfl)
      refine lv_iload_n hx hb d_M_count_95 rfl (lk hl rfl) ?_
      refine lv_iconst (v := 1) hx hb d_M_count_96 (by decide) ?_
      refine lv_icmp_ne (tgt := 118) hx hb d_M_count_97 (by decide) (fun h1 => ?_) (fun h1 => ?_)
      · have h1 : ¬ h = 1 := fun e => h1 (by rw [e]; rfl)
        exact no (by unfold cntF; rw [if_neg h0, if_neg h1]) H locs hP hS
      · have h1 : h = 1 := (nI_eq (by omega) (by decide)).mp h1
        have hcf : cntF rd ha j (pa j) h k = ha (lix j (pa j) k) := by unfold cntF; rw [if_neg h0, if_pos h1]
        refine lv_aload_n hx hb d_M_count_100 rfl (lk hl rfl) ?_
        refine cd_getM ct hP 0 6 (by decide) rfl fl_M_26 rfl d_M_count_101 ?_
        refine lv_aload_n hx hb d_M_count_104 rfl (lk hl rfl) ?_
        refine lv_iload_n hx hb d_M_count_105 rfl (lk hl rfl) ?_
        refine lv_iload hx hb d_M_count_106 (lk hl rfl) ?_
        refine md_last (j := j) (i := k) ct hS hP hR hl.1 hj hp.1 rfl (Nat.le_of_ble_eq_true rfl) d_M_count_108 (fun H locs hP hS => ?_)
        refine cd_zald ct hP 6 rfl (lix j (pa j) k) ⟨lix_lt hj hp hlt, by decide⟩ rfl d_M_count_111 ?_
        refine lv_if_eq (tgt := 118) hx hb d_M_count_112 (by decide) (fun hc => ?_) (fun hc => ?_)
        · exact no (by rw [hcf]; exact (cd_bi_0 _).mp hc) H locs hP hS
        · exact yes (by rw [hcf]; cases h9 : ha (lix j (pa j) k) <;> first | rfl | exact absurd (by rw [h9]; rfl) hc) H locs hP hS
    · have h0 : h = 0 := (nI_eq (by omega) (by decide)).mp h0
      have hcf : cntF rd ha j (pa j) h k = rd (32 * j + k) := by unfold cntF; rw [if_pos h0]
      refine lv_aload_n hx hb d_M_count_77 rfl (lk hl rfl) ?_
      refine cd_getM ct hP 0 7 (by decide) rfl fl_M_30 rfl d_M_count_78 ?_
      refine lv_bipush (v := 32) hx hb d_M_count_81 (by decide) ?_
      refine lv_iload_n hx hb d_M_count_83 rfl (lk hl rfl) ?_
      refine lv_imul hx hb d_M_count_84 ?_
      refine lv_iload hx hb d_M_count_85 (lk hl rfl) ?_
      refine lv_iadd hx hb d_M_count_87 ?_
      refine cd_zald ct hP 7 rfl (32 * j + k) ⟨by omega, by decide⟩ e32 d_M_count_88 ?_
      refine lv_if_eq (tgt := 118) hx hb d_M_count_89 (by decide) (fun hc => ?_) (fun hc => ?_)
      · exact no (by rw [hcf]; exact (cd_bi_0 _).mp hc) H locs hP hS
      · refine lv_goto (tgt := 115) hx hb d_M_count_92 (by decide) ?_
        exact yes (by rw [hcf]; cases h9 : rd (32 * j + k) <;> first | rfl | exact absurd (by rw [h9]; rfl) hc) H locs hP hS
set_option maxHeartbeats 4000000 in
theorem c_M_count (l : Launch) (G : cd_G) (g : Nat) (er : Int32) (M : MC) (t what : Int32) (hz : cd_z G < g) (hok : mOK M) : cd_Con l y_M_count cw_M_count rmM [.ref g, .int t, .int what] G (va_P G.1 cd_cls (mdS G g er M)) (fun o H => o = .returned (some (.int (m_count t what M).2)) ∧ va_P G.1 cd_cls (mdS G g (m_count t what M).1 M) H) (rg g 9) := by
  obtain ⟨cl, wr, ch, pa, se, ha, rd, op, dn, st⟩ := M
  refine cd_ofW (by decide) ok_M_count.1 (Nat.le_of_ble_eq_true rfl) (rg_z hz) ?_
  intro p e s m below meth c ct hlk hr hxt hnm hP ls hl
  have hx := ct.1
  have hb := ct.2.1
  have hS : va_S (cd_xA (rg g 9) s) s.heap s.heap [] := va_S.rf
  refine md_zero (fun _ h => h) ct hS hP (lk hl rfl) d_M_count_0 d_M_count_1 d_M_count_2 (fun H locs hP hS => ?_)
  have e64 : decide ((0 : Int64) ≤ what.toInt64 ∧ what.toInt64 ≤ 3) = (ixO what 4).isSome := by
    cases h : (ixO what 4).isSome with
    | true => exact decide_eq_true ((i64_ix (n := 3) (by decide)).mpr h)
    | false => exact decide_eq_false (fun h2 => by rw [(i64_ix (n := 3) (by decide)).mp h2] at h; cases h)
  have bad : m_count t what (cl, wr, ch, pa, se, ha, rd, op, dn, st) = (1, 0) → ∀ H locs, va_P G.1 cd_cls (mdS G g 0 (cl, wr, ch, pa, se, ha, rd, op, dn, st)) H → va_S (cd_xA (rg g 9) s) s.heap H locs → W p l e rmM s m [Value.ref g, .int t, .int what].toArray below meth c H locs 0 0 (cd_CQ below s (rg g 9) (fun o H => o = .returned (some (.int (m_count t what (cl, wr, ch, pa, se, ha, rd, op, dn, st)).2)) ∧ va_P G.1 cd_cls (mdS G g (m_count t what (cl, wr, ch, pa, se, ha, rd, op, dn, st)).1 (cl, wr, ch, pa, se, ha, rd, op, dn, st)) H) 0 0) (F0 m 25 ls [.ref g]) := by
    intro e1 H locs hP hS
    refine lv_iconst (v := 1) hx hb d_M_count_25 (by decide) ?_
    refine lv_goto (tgt := 30) hx hb d_M_count_26 (by decide) ?_
    refine lv_iconst (v := 1) hx hb d_M_count_30 (by decide) ?_
    refine md_fails (b := true) hz (fun _ h => h) ct hS hP ⟨by decide, by decide, by decide, by decide⟩ hl.1 (cv := 1) (by decide) rfl d_M_count_31 (fun H locs hP hS => ?_)
    have hP : va_P G.1 cd_cls (mdS G g 1 (cl, wr, ch, pa, se, ha, rd, op, dn, st)) H := hP
    refine lv_if_ne (tgt := 59) hx hb d_M_count_34 (by decide) (fun hc => ?_) (fun hc => absurd hc (by decide))
    refine lv_iconst (v := 0) hx hb d_M_count_59 (by decide) ?_
    exact cd_iret ct hlk hr hS ⟨by decide, by decide⟩ ⟨by rw [e1], by rw [e1]; exact hP⟩ d_M_count_60
  refine lv_aload_n hx hb d_M_count_5 rfl (lk hl rfl) ?_
  refine lv_iload_n hx hb d_M_count_6 rfl (lk hl rfl) ?_
  refine cd_callS (As := [.int t]) (rest := [.ref g]) ct hS (c_M_isOne l G t) cs_M_48 ⟨⟨by decide, by decide⟩, by decide, by decide⟩ trivial hl.1 rfl rfl (Nat.le_of_ble_eq_true rfl) d_M_count_7 (fun _ _ h => h.elim) (fun v H1 locs1 hq hF hS => ?_) (fun _ _ _ h => by cases h)
  cases hq
  have hP := cd_keep0 hP hF
  cases hix : ixO t 8 with
  | none =>
    refine lv_if_eq (tgt := 25) hx hb d_M_count_10 (by decide) (fun hc => ?_) (fun hc => absurd rfl hc)
    exact bad (by simp only [m_count, hix]) _ _ hP hS
  | some j =>
  refine lv_if_eq (tgt := 25) hx hb d_M_count_10 (by decide) (fun hc => absurd hc (show ¬ cd_bi true = 0 by decide)) (fun hc => ?_)
  refine lv_iload_n hx hb d_M_count_13 rfl (lk hl rfl) ?_
  refine lv_i2l hx hb d_M_count_14 rfl ?_
  refine lv_lconst (v := 0) hx hb d_M_count_15 (by decide) ?_
  refine lv_ldc2 hx hb ct.2.2.1 (ct.2.2.2.2.1 _ kc_M_80) d_M_count_16 ?_
  refine cd_callS (As := [.long what.toInt64, .long 0, .long 3]) (rest := [.ref g]) ct hS (c_M_in l G what.toInt64 0 3) cs_M_42 ⟨⟨by decide, by decide⟩, by decide, by decide⟩ trivial hl.1 rfl rfl (Nat.le_of_ble_eq_true rfl) d_M_count_19 (fun _ _ h => h.elim) (fun v H1 locs1 hq hF hS => ?_) (fun _ _ _ h => by cases h)
  cases hq
  have hP := cd_keep0 hP hF
  rw [e64]
  cases hik : ixO what 4 with
  | none =>
    refine lv_if_ne (tgt := 29) hx hb d_M_count_22 (by decide) (fun hc => absurd rfl hc) (fun hc => ?_)
    exact bad (by simp only [m_count, hix, hik]) _ _ hP hS
  | some h =>
  refine lv_if_ne (tgt := 29) hx hb d_M_count_22 (by decide) (fun hc => ?_) (fun hc => absurd hc (show ¬ cd_bi true = 0 by decide))
  refine lv_iconst (v := 0) hx hb d_M_count_29 (by decide) ?_
  refine lv_iconst (v := 1) hx hb d_M_count_30 (by decide) ?_
  refine md_fails (b := false) hz (fun _ h => h) ct hS hP ⟨by decide, by decide, by decide, by decide⟩ hl.1 (cv := 1) (by decide) rfl d_M_count_31 (fun H locs hP hS => ?_)
  have hP : va_P G.1 cd_cls (mdS G g 0 (cl, wr, ch, pa, se, ha, rd, op, dn, st)) H := hP
  refine lv_if_ne (tgt := 59) hx hb d_M_count_34 (by decide) (fun hc => absurd rfl hc) (fun hc => ?_)
  clear bad
  obtain ⟨hj, rfl⟩ := ixO_some (by decide) hix
  obtain ⟨hh, rfl⟩ := ixO_some (by decide) hik
  refine lv_aload_n hx hb d_M_count_37 rfl (lk hl rfl) ?_
  refine lv_aload_n hx hb d_M_count_38 rfl (lk hl rfl) ?_
  refine cd_getM ct hP 0 8 (by decide) rfl fl_M_33 rfl d_M_count_39 ?_
  refine lv_iload_n hx hb d_M_count_42 rfl (lk hl rfl) ?_
  refine cd_zald ct hP 8 rfl j ⟨hj, by decide⟩ rfl d_M_count_43 ?_
  refine md_neg hz (fun _ h => h) ct hS hP ⟨by decide, by decide, by decide, by decide⟩ hl.1 (cv := 2) (by decide) (by decide) (op j) d_M_count_44 d_M_count_47 d_M_count_48 d_M_count_51 d_M_count_52 d_M_count_53 (fun H locs hP hS => ?_)
  cases hop : op j with
  | false =>
    rw [hop] at hP
    have hP : va_P G.1 cd_cls (mdS G g 2 (cl, wr, ch, pa, se, ha, rd, op, dn, st)) H := hP
    have hopM : mOp (cl, wr, ch, pa, se, ha, rd, op, dn, st) j = false := hop
    have e1 : m_count (nI j) (nI h) (cl, wr, ch, pa, se, ha, rd, op, dn, st) = (2, 0) := by simp [m_count, hix, hik, hopM]
    refine lv_if_eq (tgt := 61) hx hb d_M_count_56 (by decide) (fun hc => absurd hc (by decide)) (fun hc => ?_)
    refine lv_iconst (v := 0) hx hb d_M_count_59 (by decide) ?_
    exact cd_iret ct hlk hr hS ⟨by decide, by decide⟩ ⟨by rw [e1], by rw [e1]; exact hP⟩ d_M_count_60
  | true =>
  rw [hop] at hP
  have hP : va_P G.1 cd_cls (mdS G g 0 (cl, wr, ch, pa, se, ha, rd, op, dn, st)) H := hP
  have hopM : mOp (cl, wr, ch, pa, se, ha, rd, op, dn, st) j = true := hop
  refine lv_if_eq (tgt := 61) hx hb d_M_count_56 (by decide) (fun hc => ?_) (fun hc => absurd rfl hc)
  have hp : 1 ≤ pa j ∧ pa j ≤ 5 := hok j hj hopM
  have e1 : m_count (nI j) (nI h) (cl, wr, ch, pa, se, ha, rd, op, dn, st) = (0, mCnt (cl, wr, ch, pa, se, ha, rd, op, dn, st) j h) := by simp [m_count, hix, hik, hopM]
  refine lv_iconst (v := 0) hx hb d_M_count_61 (by decide) ?_
  refine lv_istore_n hx hb d_M_count_62 rfl hl (by decide) rfl (fun ls hl => ?_)
  refine lv_iconst (v := 0) hx hb d_M_count_63 (by decide) ?_
  refine lv_istore hx hb d_M_count_64 hl (by decide) rfl (fun ls hl => ?_)
  refine m_count_loop (h := h) hj hh hp ct ⟨by decide, by decide, by decide, by decide⟩ (fun H locs ls hP hS hl => ?_) 32 0 rfl H locs ls hP hS (lre hl _ rfl)
  refine lv_iload_n hx hb d_M_count_124 rfl (lk hl rfl) ?_
  refine lv_iconst (v := 2) hx hb d_M_count_125 (by decide) ?_
  refine lv_icmp_ge (tgt := 133) hx hb d_M_count_126 (by decide) (fun h2 => ?_) (fun h2 => ?_)
  · have h2 : 2 ≤ h := (nI_leI (by decide) (by omega)).mp h2
    refine lv_iload_n hx hb d_M_count_133 rfl (lk hl rfl) ?_
    refine lv_iconst (v := 2) hx hb d_M_count_134 (by decide) ?_
    refine lv_icmp_ne (tgt := 147) hx hb d_M_count_135 (by decide) (fun h3 => ?_) (fun h3 => ?_)
    · have h3 : ¬ h = 2 := fun e => h3 (by rw [e]; rfl)
      have ec : mCnt (cl, wr, ch, pa, se, ha, rd, op, dn, st) j h = cd_bi (mStl (cl, wr, ch, pa, se, ha, rd, op, dn, st) j 32) := by unfold mCnt; rw [if_neg (by omega), if_neg (by omega), if_neg h3]
      rw [ec] at e1
      refine lv_aload_n hx hb d_M_count_147 rfl (lk hl rfl) ?_
      refine lv_iload_n hx hb d_M_count_148 rfl (lk hl rfl) ?_
      refine md_stale (j := j) ct hS hP ⟨by decide, by decide, by decide, by decide⟩ hl.1 hj d_M_count_149 (fun H locs hP hS => ?_)
      refine lv_if_eq (tgt := 159) hx hb d_M_count_152 (by decide) (fun hc => ?_) (fun hc => ?_)
      · rw [(cd_bi_0 _).mp hc] at e1
        refine lv_iconst (v := 0) hx hb d_M_count_159 (by decide) ?_
        exact cd_iret ct hlk hr hS ⟨by decide, by decide⟩ ⟨by rw [e1]; rfl, by rw [e1]; exact hP⟩ d_M_count_160
      · rw [show mStl (cl, wr, ch, pa, se, ha, rd, op, dn, st) j 32 = true by cases h9 : mStl (cl, wr, ch, pa, se, ha, rd, op, dn, st) j 32 <;> first | rfl | exact absurd (by rw [h9]; rfl) hc] at e1
        refine lv_iconst (v := 1) hx hb d_M_count_155 (by decide) ?_
        refine lv_goto (tgt := 160) hx hb d_M_count_156 (by decide) ?_
        exact cd_iret ct hlk hr hS ⟨by decide, by decide⟩ ⟨by rw [e1]; rfl, by rw [e1]; exact hP⟩ d_M_count_160
    · have h3 : h = 2 := (nI_eq (by omega) (by decide)).mp h3
      have ec : mCnt (cl, wr, ch, pa, se, ha, rd, op, dn, st) j h = nI (pa j) := by unfold mCnt; rw [if_neg (by omega), if_neg (by omega), if_pos h3]
      rw [ec] at e1
      refine lv_aload_n hx hb d_M_count_138 rfl (lk hl rfl) ?_
      refine cd_getM ct hP 0 4 (by decide) rfl fl_M_20 rfl d_M_count_139 ?_
      refine lv_iload_n hx hb d_M_count_142 rfl (lk hl rfl) ?_
      refine cd_iald ct hP 4 rfl j ⟨hj, by decide⟩ rfl d_M_count_143 ?_
      refine lv_goto (tgt := 160) hx hb d_M_count_144 (by decide) ?_
      exact cd_iret ct hlk hr hS ⟨by decide, by decide⟩ ⟨by rw [e1], by rw [e1]; exact hP⟩ d_M_count_160
  · have h2 : h < 2 := Nat.not_le.mp fun h3 => h2 (nI_le (a := 2) h3 (by omega))
    have ec : mCnt (cl, wr, ch, pa, se, ha, rd, op, dn, st) j h = nI (cntN (cntF rd ha j (pa j) h) 32) := by
      unfold mCnt cntF
      by_cases h0 : h = 0
      · simp only [if_pos h0]
      · have h1 : h = 1 := by omega
        simp only [if_neg h0, if_pos h1]
    rw [ec] at e1
    refine lv_iload_n hx hb d_M_count_129 rfl (lk hl rfl) ?_
    refine lv_goto (tgt := 160) hx hb d_M_count_130 (by decide) ?_
    exact cd_iret ct hlk hr hS ⟨by decide, by decide⟩ ⟨by rw [e1], by rw [e1]; exact hP⟩ d_M_count_160
def mc_0 : MC := (fun _ => 0, fun _ => 0, fun _ => 0, fun _ => 0, fun _ => 0, fun _ => false, fun _ => false, fun _ => false, 0, 0)
set_option maxHeartbeats 4000000 in
theorem c_M_init (l : Launch) (G : cd_G) (g : Nat) (hz : cd_z G < g) :
    cd_Con l y_M_init cw_M_init (cd_rm 1 8 3176 12) [.ref g] G (fun H => H.size = g + 1 ∧ va_P G.1 cd_cls [(g, .inr (2, [.int 0, .null, .null, .null, .null, .null, .null, .null, .null, .int 0, .int 0]))] H) (fun o H => o = .returned none ∧ H.size = g + 9 ∧ va_P G.1 cd_cls (mdS G g 0 mc_0) H) (rg g 1) := by
  refine cd_ofW (by decide) ok_M_init.1 (Nat.le_of_ble_eq_true rfl) (rg_z hz) ?_
  intro p e s m below meth c ct hlk hr hxt hnm hP ls hl
  have hx := ct.1
  have hb := ct.2.1
  have hS : va_S (cd_xA (rg g 1) s) s.heap s.heap [] := va_S.rf
  obtain ⟨hsz, hP⟩ := hP
  have hDx : ∀ (ws : va_W), ws.map (fun q => q.1) = (List.range ws.length).map (fun i => g + i) → va_D (cd_xA (rg g 1) s) ws := fun ws h => (cd_cons g h).weaken (fun _ q _ hq => by
    by_cases h1 : q.1 = g
    · exact Or.inl ⟨by omega, by omega⟩
    · exact Or.inr (by have := hq.1; omega))
  refine lv_aload_n hx hb d_M_init_0 rfl (lk hl rfl) ?_
  refine W.objInit hx hb ct.2.2.1 (ct.2.2.2.2.1 _ ob_M_1) (ct.2.2.2.2.1 _ ob_inst) (ct.2.2.2.2.1 _ ob_code) rfl (by rw [ct.2.2.2.1]; exact hl.1) rfl d_M_init_1 (Nat.le_of_ble_eq_true rfl) (Nat.le_of_ble_eq_true rfl) ?_
  refine W.eq (g2 := F0 m 4 ls []) rfl ?_
  refine lv_aload_n hx hb d_M_init_4 rfl (lk hl rfl) ?_
  refine lv_bipush (v := 32) hx hb d_M_init_5 (by decide) ?_
  refine cd_newa (atype := .long) (ty := .long) (h := g + 1) (a0 := (32, .inr (.inl (fun _ => 0)))) ct rfl ac_long 1 rfl (by intro C h; cases h) hS hsz (fun _ => rfl) (by decide) rfl (by decide) (by decide) (by decide) d_M_init_7 (fun H hN hz1 ho hS => ?_)
  have hP := cd_grow hP hsz ho hN
  have hsz := hz1
  refine cd_put in_M rfl t_M t_M_ok n_M ct hP (hDx _ rfl) hS 0 1 (by decide) rfl fl_M_9 (Or.inr ⟨rfl, hnm, rfl⟩) rfl rfl (Nat.le_of_ble_eq_true rfl) d_M_init_9 (fun H locs hP hz1 hq hS => ?_)
  have hsz := hz1.trans hsz
  refine lv_aload_n hx hb d_M_init_12 rfl (lk hl rfl) ?_
  refine lv_sipush (v := 1280) hx hb d_M_init_13 (by decide) ?_
  refine cd_newa (atype := .long) (ty := .long) (h := g + 2) (a0 := (1280, .inr (.inl (fun _ => 0)))) ct rfl ac_long 1 rfl (by intro C h; cases h) hS hsz (fun _ => rfl) (by decide) rfl (by decide) (by decide) (by decide) d_M_init_16 (fun H hN hz1 ho hS => ?_)
  have hP := cd_grow hP hsz ho hN
  have hsz := hz1
  refine cd_put in_M rfl t_M t_M_ok n_M ct hP (hDx _ rfl) hS 0 2 (by decide) rfl fl_M_13 (Or.inr ⟨rfl, hnm, rfl⟩) rfl rfl (Nat.le_of_ble_eq_true rfl) d_M_init_18 (fun H locs hP hz1 hq hS => ?_)
  have hsz := hz1.trans hsz
  refine lv_aload_n hx hb d_M_init_21 rfl (lk hl rfl) ?_
  refine lv_bipush (v := 32) hx hb d_M_init_22 (by decide) ?_
  refine cd_newa (atype := .int) (ty := .int) (h := g + 3) (a0 := (32, .inl (fun _ => 0))) ct rfl ac_int 0 rfl (by intro C h; cases h) hS hsz (fun _ => rfl) (by decide) rfl (by decide) (by decide) (by decide) d_M_init_24 (fun H hN hz1 ho hS => ?_)
  have hP := cd_grow hP hsz ho hN
  have hsz := hz1
  refine cd_put in_M rfl t_M t_M_ok n_M ct hP (hDx _ rfl) hS 0 3 (by decide) rfl fl_M_16 (Or.inr ⟨rfl, hnm, rfl⟩) rfl rfl (Nat.le_of_ble_eq_true rfl) d_M_init_26 (fun H locs hP hz1 hq hS => ?_)
  have hsz := hz1.trans hsz
  refine lv_aload_n hx hb d_M_init_29 rfl (lk hl rfl) ?_
  refine lv_bipush (v := 8) hx hb d_M_init_30 (by decide) ?_
  refine cd_newa (atype := .int) (ty := .int) (h := g + 4) (a0 := (8, .inl (fun _ => 0))) ct rfl ac_int 0 rfl (by intro C h; cases h) hS hsz (fun _ => rfl) (by decide) rfl (by decide) (by decide) (by decide) d_M_init_32 (fun H hN hz1 ho hS => ?_)
  have hP := cd_grow hP hsz ho hN
  have hsz := hz1
  refine cd_put in_M rfl t_M t_M_ok n_M ct hP (hDx _ rfl) hS 0 4 (by decide) rfl fl_M_20 (Or.inr ⟨rfl, hnm, rfl⟩) rfl rfl (Nat.le_of_ble_eq_true rfl) d_M_init_34 (fun H locs hP hz1 hq hS => ?_)
  have hsz := hz1.trans hsz
  refine lv_aload_n hx hb d_M_init_37 rfl (lk hl rfl) ?_
  refine lv_sipush (v := 256) hx hb d_M_init_38 (by decide) ?_
  refine cd_newa (atype := .int) (ty := .int) (h := g + 5) (a0 := (256, .inl (fun _ => 0))) ct rfl ac_int 0 rfl (by intro C h; cases h) hS hsz (fun _ => rfl) (by decide) rfl (by decide) (by decide) (by decide) d_M_init_41 (fun H hN hz1 ho hS => ?_)
  have hP := cd_grow hP hsz ho hN
  have hsz := hz1
  refine cd_put in_M rfl t_M t_M_ok n_M ct hP (hDx _ rfl) hS 0 5 (by decide) rfl fl_M_23 (Or.inr ⟨rfl, hnm, rfl⟩) rfl rfl (Nat.le_of_ble_eq_true rfl) d_M_init_43 (fun H locs hP hz1 hq hS => ?_)
  have hsz := hz1.trans hsz
  refine lv_aload_n hx hb d_M_init_46 rfl (lk hl rfl) ?_
  refine lv_sipush (v := 1280) hx hb d_M_init_47 (by decide) ?_
  refine cd_newa (atype := .boolean) (ty := .boolean) (h := g + 6) (a0 := (1280, .inl (fun _ => cd_bi false))) ct rfl ac_boolean 2 rfl (by intro C h; cases h) hS hsz (fun _ => rfl) (by decide) rfl (by decide) (by decide) (by decide) d_M_init_50 (fun H hN hz1 ho hS => ?_)
  have hP := cd_grow hP hsz ho hN
  have hsz := hz1
  refine cd_put in_M rfl t_M t_M_ok n_M ct hP (hDx _ rfl) hS 0 6 (by decide) rfl fl_M_26 (Or.inr ⟨rfl, hnm, rfl⟩) rfl rfl (Nat.le_of_ble_eq_true rfl) d_M_init_52 (fun H locs hP hz1 hq hS => ?_)
  have hsz := hz1.trans hsz
  refine lv_aload_n hx hb d_M_init_55 rfl (lk hl rfl) ?_
  refine lv_sipush (v := 256) hx hb d_M_init_56 (by decide) ?_
  refine cd_newa (atype := .boolean) (ty := .boolean) (h := g + 7) (a0 := (256, .inl (fun _ => cd_bi false))) ct rfl ac_boolean 2 rfl (by intro C h; cases h) hS hsz (fun _ => rfl) (by decide) rfl (by decide) (by decide) (by decide) d_M_init_59 (fun H hN hz1 ho hS => ?_)
  have hP := cd_grow hP hsz ho hN
  have hsz := hz1
  refine cd_put in_M rfl t_M t_M_ok n_M ct hP (hDx _ rfl) hS 0 7 (by decide) rfl fl_M_30 (Or.inr ⟨rfl, hnm, rfl⟩) rfl rfl (Nat.le_of_ble_eq_true rfl) d_M_init_61 (fun H locs hP hz1 hq hS => ?_)
  have hsz := hz1.trans hsz
  refine lv_aload_n hx hb d_M_init_64 rfl (lk hl rfl) ?_
  refine lv_bipush (v := 8) hx hb d_M_init_65 (by decide) ?_
  refine cd_newa (atype := .boolean) (ty := .boolean) (h := g + 8) (a0 := (8, .inl (fun _ => cd_bi false))) ct rfl ac_boolean 2 rfl (by intro C h; cases h) hS hsz (fun _ => rfl) (by decide) rfl (by decide) (by decide) (by decide) d_M_init_67 (fun H hN hz1 ho hS => ?_)
  have hP := cd_grow hP hsz ho hN
  have hsz := hz1
  refine cd_put in_M rfl t_M t_M_ok n_M ct hP (hDx _ rfl) hS 0 8 (by decide) rfl fl_M_33 (Or.inr ⟨rfl, hnm, rfl⟩) rfl rfl (Nat.le_of_ble_eq_true rfl) d_M_init_69 (fun H locs hP hz1 hq hS => ?_)
  have hsz := hz1.trans hsz
  exact cd_vret ct hlk hr hS ⟨by decide, by decide⟩ ⟨rfl, hsz, hP⟩ d_M_init_72
end
section
/-! The plain law, 1: a row of entries, searched from its end. -/
def lk2 (ce : Nat → Int32) (va : Nat → Int64) (n : Nat) (k : Int32) : Option Int64 := (fnd ce k 0 n).map va
theorem fnd0 (ce : Nat → Int32) (k : Int32) (n : Nat) : fnd ce k 0 (n + 1) = if ce n = k then some n else fnd ce k 0 n := by
  rw [fnd, if_neg (by omega)]
theorem lk2_succ (ce : Nat → Int32) (va : Nat → Int64) (n : Nat) (k : Int32) : lk2 ce va (n + 1) k = if ce n = k then some (va n) else lk2 ce va n k := by
  unfold lk2
  rw [fnd0]
  by_cases h : ce n = k
  · rw [if_pos h, if_pos h]; rfl
  · rw [if_neg h, if_neg h]
theorem fnd_congr {ce ce' : Nat → Int32} {k : Int32} {lo : Nat} : ∀ {n : Nat}, (∀ i, i < n → ce' i = ce i) → fnd ce' k lo n = fnd ce k lo n
  | 0, _ => rfl
  | n + 1, h => by
    rw [fnd, fnd, h n (by omega), fnd_congr (n := n) (fun i hi => h i (by omega))]
theorem lk2_congr {ce ce' : Nat → Int32} {va va' : Nat → Int64} {n : Nat} {k : Int32} (h1 : ∀ i, i < n → ce' i = ce i) (h2 : ∀ i, i < n → va' i = va i) : lk2 ce' va' n k = lk2 ce va n k := by
  unfold lk2
  rw [fnd_congr h1]
  cases hf : fnd ce k 0 n with
  | none => rfl
  | some i => simp only [Option.map_some]; rw [h2 i (fnd_some hf).1]
theorem fnd_lo {ce : Nat → Int32} {k : Int32} {lo : Nat} : ∀ {n i : Nat}, fnd ce k lo n = some i → fnd ce k 0 n = some i
  | 0, i, h => by cases h
  | n + 1, i, h => by
    rw [fnd0]
    rw [fnd] at h
    split at h
    · cases h
    · split at h
      · rename_i h1 h2
        rw [if_pos h2]; exact h
      · rename_i h1 h2
        rw [if_neg h2]; exact fnd_lo h
/-- the last of its kind is found -/
theorem fnd_is {ce : Nat → Int32} {k : Int32} {n i : Nat} (hi : i < n) (hc : ce i = k) (hl : ∀ j, i < j → j < n → ce j ≠ k) : fnd ce k 0 n = some i := by
  cases hf : fnd ce k 0 n with
  | none => exact absurd hc (fnd_none hf i (by omega) hi)
  | some i' =>
    obtain ⟨h1, -, h3, h4⟩ := fnd_some hf
    rcases Nat.lt_trichotomy i i' with h | h | h
    · exact absurd h3 (hl i' h h1)
    · rw [h]
    · exact absurd hc (h4 i h hi)
def Dis (ce : Nat → Int32) (a b : Nat) : Prop := ∀ i i', a ≤ i → i < i' → i' < b → ce i ≠ ce i'
def Val (ce : Nat → Int32) (n : Nat) : Prop := ∀ i, i < n → ∃ c, c < 32 ∧ ce i = nI c
section Wr
variable {ce : Nat → Int32} {fr : Nat → Nat} {va : Nat → Int64} {ve : Nat → Int32} {op : Bool} {pa : Nat} {re : Int32} {ma : Nat} {c : Int32} {v : Int64}
/-- what 'write' does, in one place: the entry that it sets, and what it was before -/
theorem wr_spec (hfr : fr (pa - 1) ≤ ma) : ∃ (ce' : Nat → Int32) (va' : Nat → Int64) (ma' i : Nat), ws_write (ce, fr, va, ve, op, pa, re, ma) c v = (ce', fr, va', ve, op, pa, re, ma') ∧ fr (pa - 1) ≤ i ∧ i < ma' ∧ i ≤ ma ∧ ma ≤ ma' ∧ ma' ≤ ma + 1 ∧ ce' i = c ∧ va' i = v ∧ (∀ q, q ≠ i → ce' q = ce q ∧ va' q = va q) ∧ (∀ q, i < q → q < ma' → ce' q ≠ c) ∧ (ma' = ma → ce i = c) ∧ (ma' = ma + 1 → i = ma ∧ ∀ q, fr (pa - 1) ≤ q → q < ma → ce q ≠ c) ∧ (ma' = ma ∨ (ma' = ma + 1 ∧ fnd ce c (fr (pa - 1)) ma = none)) := by
  cases hf : fnd ce c (fr (pa - 1)) ma with
  | none =>
    refine ⟨upd ce ma c, vp_updL va ma v, ma + 1, ma, by unfold ws_write; simp only [hf], hfr, by omega, by omega, by omega, by omega, by simp [upd], by simp [vp_updL], fun q hq => by simp [upd, vp_updL, hq], fun q h1 h2 => by omega, fun h => by omega, fun _ => ⟨rfl, fun q h1 h2 => fnd_none hf q h1 h2⟩, Or.inr ⟨rfl, rfl⟩⟩
  | some i =>
    obtain ⟨h1, h2, h3, h4⟩ := fnd_some hf
    refine ⟨ce, vp_updL va i v, ma, i, by unfold ws_write; simp only [hf], h2, h1, by omega, by omega, by omega, h3, by simp [vp_updL], fun q hq => ⟨rfl, by simp [vp_updL, hq]⟩, h4, fun _ => h3, fun h => by omega, Or.inl rfl⟩
theorem wr_lk {ce' : Nat → Int32} {va' : Nat → Int64} {ma' i : Nat} (hi : i < ma') (him : i ≤ ma) (h1 : ma ≤ ma') (h2 : ma' ≤ ma + 1) (hc : ce' i = c) (hv : va' i = v) (ho : ∀ q, q ≠ i → ce' q = ce q ∧ va' q = va q) (hl : ∀ q, i < q → q < ma' → ce' q ≠ c) (hold : ma' = ma → ce i = c) (hnew : ma' = ma + 1 → i = ma) (k : Int32) : lk2 ce' va' ma' k = if c = k then some v else lk2 ce va ma k := by
  by_cases hk : c = k
  · rw [if_pos hk]
    unfold lk2
    rw [fnd_is hi (by rw [hc]; exact hk) (fun j h3 h4 => by rw [← hk]; exact hl j h3 h4)]
    simp only [Option.map_some, hv]
  · rw [if_neg hk]
    rcases Nat.lt_or_ge ma ma' with h3 | h3
    · have hm : ma' = ma + 1 := by omega
      have hii := hnew hm
      subst hii
      rw [hm, lk2_succ, if_neg (by rw [hc]; exact hk)]
      exact lk2_congr (fun q hq => (ho q (by omega)).1) (fun q hq => (ho q (by omega)).2)
    · have hm : ma' = ma := by omega
      subst hm
      have hci := hold rfl
      unfold lk2
      have hf : fnd ce' k 0 ma' = fnd ce k 0 ma' := fnd_congr (fun q _ => by
        by_cases hq : q = i
        · rw [hq, hc, hci]
        · exact (ho q hq).1)
      rw [hf]
      cases hg : fnd ce k 0 ma' with
      | none => rfl
      | some q =>
        have hq : q ≠ i := fun e => hk (by rw [← hci, ← e]; exact (fnd_some hg).2.2.1)
        simp only [Option.map_some, (ho q hq).2]
end Wr
/-- pigeons -/
theorem pig : ∀ (N n : Nat) (f : Nat → Nat), (∀ i, i < n → f i < N) → (∀ i i', i < i' → i' < n → f i ≠ f i') → n ≤ N
  | 0, n, f, h1, _ => by
    cases n with
    | zero => omega
    | succ n => have := h1 0 (by omega); omega
  | N + 1, n, f, h1, h2 => by
    by_cases hx : ∃ i, i < n ∧ f i = N
    · obtain ⟨i0, hi0, he⟩ := hx
      have h3 := pig N (n - 1) (fun i => if i < i0 then f i else f (i + 1)) (fun i hi => by
        by_cases h : i < i0
        · simp only [if_pos h]
          have a := h1 i (by omega)
          have b := h2 i i0 h hi0
          omega
        · simp only [if_neg h]
          have a := h1 (i + 1) (by omega)
          have b := h2 i0 (i + 1) (by omega) (by omega)
          omega) (fun i i' hii hi' => by
        by_cases h : i' < i0
        · simp only [if_pos h, if_pos (show i < i0 by omega)]
          exact h2 i i' hii (by omega)
        · by_cases h' : i < i0
          · simp only [if_pos h', if_neg h]
            exact h2 i (i' + 1) (by omega) (by omega)
          · simp only [if_neg h', if_neg h]
            exact h2 (i + 1) (i' + 1) (by omega) (by omega))
      omega
    · have h3 := pig N n f (fun i hi => by
        have a := h1 i hi
        have b : f i ≠ N := fun e => hx ⟨i, hi, e⟩
        omega) h2
      omega
theorem dis_le {ce : Nat → Int32} {a b n : Nat} (hV : Val ce n) (hb : b ≤ n) (hD : Dis ce a b) (hab : a ≤ b) : b - a ≤ 32 := by
  refine pig 32 (b - a) (fun i => (ce (a + i)).toNatClampNeg) (fun i hi => ?_) (fun i i' h1 h2 => ?_)
  · obtain ⟨c, h1, h2⟩ := hV (a + i) (by omega)
    show (ce (a + i)).toNatClampNeg < 32
    rw [h2, nI_clamp (by omega)]; exact h1
  · obtain ⟨c, h3, h4⟩ := hV (a + i) (by omega)
    obtain ⟨c', h5, h6⟩ := hV (a + i') (by omega)
    show (ce (a + i)).toNatClampNeg ≠ (ce (a + i')).toNatClampNeg
    have h7 := hD (a + i) (a + i') (by omega) (by omega) (by omega)
    rw [h4, h6] at h7
    rw [h4, h6, nI_clamp (by omega), nI_clamp (by omega)]
    exact fun e => h7 (by rw [e])
/-- one of the 32 is missing: fewer than 32 -/
theorem dis_lt {ce : Nat → Int32} {a b n k : Nat} (hV : Val ce n) (hb : b ≤ n) (hD : Dis ce a b) (hab : a ≤ b) (hk : k < 32) (hno : ∀ i, a ≤ i → i < b → ce i ≠ nI k) : b - a < 32 := by
  have h := pig 32 (b - a + 1) (fun i => if i < b - a then (ce (a + i)).toNatClampNeg else k) (fun i hi => ?_) (fun i i' h1 h2 => ?_)
  · omega
  · by_cases h : i < b - a
    · simp only [if_pos h]
      obtain ⟨c, h1, h2⟩ := hV (a + i) (by omega)
      rw [h2, nI_clamp (by omega)]; exact h1
    · simp only [if_neg h]; exact hk
  · by_cases h : i' < b - a
    · simp only [if_pos h, if_pos (show i < b - a by omega)]
      obtain ⟨c, h3, h4⟩ := hV (a + i) (by omega)
      obtain ⟨c', h5, h6⟩ := hV (a + i') (by omega)
      have h7 := hD (a + i) (a + i') (by omega) (by omega) (by omega)
      rw [h4, h6] at h7
      rw [h4, h6, nI_clamp (by omega), nI_clamp (by omega)]
      exact fun e => h7 (by rw [e])
    · simp only [if_neg h, if_pos (show i < b - a by omega)]
      obtain ⟨c, h3, h4⟩ := hV (a + i) (by omega)
      have h7 := hno (a + i) (by omega) (by omega)
      rw [h4] at h7
      rw [h4, nI_clamp (by omega)]
      exact fun e => h7 (by rw [e])
end
section
/-! Bits. The rows bt .. b_sshr are a starting text (kit/laws/BITS.to-paste); then bits of masks, and Integer.bitCount. -/
def bt (x : Int32) (i : Nat) : Bool := x.toBitVec.getLsbD i
theorem b_ext {x y : Int32} (h : ∀ i, i < 32 → bt x i = bt y i) : x = y := Int32.toBitVec_inj.mp (BitVec.eq_of_getLsbD_eq (fun i hi => h i hi))
theorem b_or (x y : Int32) (i : Nat) : bt (x ||| y) i = (bt x i || bt y i) := by unfold bt; rw [Int32.toBitVec_or, BitVec.getLsbD_or]
theorem b_and (x y : Int32) (i : Nat) : bt (x &&& y) i = (bt x i && bt y i) := by unfold bt; rw [Int32.toBitVec_and, BitVec.getLsbD_and]
theorem b_xor (x y : Int32) (i : Nat) : bt (x ^^^ y) i = (bt x i ^^ bt y i) := by unfold bt; rw [Int32.toBitVec_xor, BitVec.getLsbD_xor]
theorem b_big {x : Int32} {i : Nat} (h : 32 ≤ i) : bt x i = false := BitVec.getLsbD_of_ge _ _ h
theorem b_0 (i : Nat) : bt 0 i = false := BitVec.getLsbD_zero
theorem s_l : ∀ n, n < 32 → ((nI n &&& 31).toBitVec.smod 32).toNat = n := by decide +kernel
theorem s_u : ∀ n, n < 32 → (((nI n).toUInt32 &&& Int32.toUInt32 31).toBitVec % 32).toNat = n := by decide +kernel
theorem b_shl (n : Nat) (hn : n < 32) (x : Int32) {i : Nat} (hi : i < 32) : bt (x <<< (nI n &&& 31)) i = (decide (n ≤ i) && bt x (i - n)) := by
  unfold bt
  rw [Int32.toBitVec_shiftLeft]
  show (x.toBitVec <<< ((nI n &&& 31).toBitVec.smod 32).toNat).getLsbD i = _
  rw [s_l n hn, BitVec.getLsbD_shiftLeft]
  rcases Nat.lt_or_ge i n with h | h
  · simp [h, Nat.not_le.mpr h]
  · simp [hi, h, Nat.not_lt.mpr h]
theorem b_ushr (n : Nat) (hn : n < 32) (x : Int32) (i : Nat) : bt ((x.toUInt32 >>> ((nI n).toUInt32 &&& Int32.toUInt32 31)).toInt32) i = bt x (n + i) := by
  show (x.toUInt32 >>> ((nI n).toUInt32 &&& Int32.toUInt32 31)).toBitVec.getLsbD i = x.toUInt32.toBitVec.getLsbD (n + i)
  rw [UInt32.toBitVec_shiftRight]
  show (x.toUInt32.toBitVec >>> (((nI n).toUInt32 &&& Int32.toUInt32 31).toBitVec % 32).toNat).getLsbD i = _
  rw [s_u n hn, BitVec.getLsbD_ushiftRight]
theorem b_sshr (n : Nat) (hn : n < 32) (x : Int32) {i : Nat} (hi : i < 32) : bt (x >>> (nI n &&& 31)) i = if n + i < 32 then bt x (n + i) else bt x 31 := by
  unfold bt
  rw [Int32.toBitVec_shiftRight]
  show (x.toBitVec.sshiftRight ((nI n &&& 31).toBitVec.smod 32).toNat).getLsbD i = _
  rw [s_l n hn, BitVec.getLsbD_sshiftRight, BitVec.msb_eq_getLsbD_last]
  simp [hi]
theorem b_1 (i : Nat) : bt 1 i = decide (i = 0) := by
  rcases Nat.lt_or_ge i 32 with h | h
  · exact (by decide +kernel : ∀ i, i < 32 → bt 1 i = decide (i = 0)) i h
  · rw [b_big h, decide_eq_false (by omega)]
theorem bit_bt (re : Int32) {k : Nat} (hk : k < 32) : bit re k = bt re k := by
  have h0 : bt (re >>> (nI k &&& 31)) 0 = bt re k := by rw [b_sshr k hk re (by omega), if_pos (by omega)]; rfl
  unfold bit
  generalize re >>> (nI k &&& 31) = y at h0 ⊢
  rw [← h0]
  cases hb : bt y 0 with
  | true =>
    refine decide_eq_true (b_ext fun i hi => ?_)
    rw [b_and, b_1]
    by_cases h : i = 0
    · subst h; rw [hb]; rfl
    · rw [decide_eq_false h, Bool.and_false]
  | false =>
    refine decide_eq_false (fun h => ?_)
    have h1 : bt (y &&& 1) 0 = bt 1 0 := by rw [h]
    rw [b_and, hb, b_1] at h1
    cases h1
theorem bit_or (re : Int32) {k i : Nat} (hk : k < 32) (hi : i < 32) : bit (re ||| (1 <<< (nI k &&& 31))) i = (bit re i || decide (i = k)) := by
  rw [bit_bt _ hi, bit_bt _ hi, b_or, b_shl k hk 1 hi, b_1]
  congr 1
  by_cases h : i = k
  · subst h; simp
  · rw [decide_eq_false h]
    by_cases h2 : k ≤ i
    · rw [decide_eq_false (show ¬ i - k = 0 by omega), Bool.and_false]
    · rw [decide_eq_false h2, Bool.false_and]
theorem bit_0 {k : Nat} (hk : k < 32) : bit 0 k = false := by rw [bit_bt _ hk, b_0]
theorem bit_orN {ce : Nat → Int32} {k : Nat} (hk : k < 32) : ∀ {n : Nat}, Val ce n → bit (orN ce n) k = (fnd ce (nI k) 0 n).isSome
  | 0, _ => bit_0 hk
  | n + 1, hV => by
    obtain ⟨c, hc, he⟩ := hV n (by omega)
    rw [orN, he, bit_or _ hc hk, bit_orN hk (n := n) (fun i hi => hV i (by omega)), fnd0, he]
    by_cases h : k = c
    · subst h; rw [if_pos rfl]; simp
    · rw [if_neg (fun e => h ((nI_eq (by omega) (by omega)).mp e).symm), decide_eq_false h, Bool.or_false]
-- Integer.bitCount: byte by byte
theorem cnt_add (f : Nat → Bool) (a : Nat) : ∀ b, cntN f (a + b) = cntN f a + cntN (fun k => f (a + k)) b
  | 0 => rfl
  | b + 1 => by
    rw [show a + (b + 1) = (a + b) + 1 by omega, cntN, cntN, cnt_add f a b]
    by_cases h : f (a + b) = true
    · rw [if_pos h, if_pos h]; omega
    · rw [if_neg h, if_neg h]
theorem cnt_congr {f g : Nat → Bool} : ∀ {n : Nat}, (∀ k, k < n → f k = g k) → cntN f n = cntN g n
  | 0, _ => rfl
  | n + 1, h => by rw [cntN, cntN, h n (by omega), cnt_congr (n := n) (fun k hk => h k (by omega))]
theorem and_split (a A m M : Nat) (ha : a < 256) (hm : m < 256) : (a + 256 * A) &&& (m + 256 * M) = (a &&& m) + 256 * (A &&& M) := by
  have h1 := Nat.and_mod_two_pow (a := a + 256 * A) (b := m + 256 * M) (n := 8)
  have h2 := Nat.and_div_two_pow (a := a + 256 * A) (b := m + 256 * M) (n := 8)
  rw [show (2 : Nat) ^ 8 = 256 from rfl] at h1 h2
  rw [show (a + 256 * A) % 256 = a by omega, show (m + 256 * M) % 256 = m by omega] at h1
  rw [show (a + 256 * A) / 256 = A by omega, show (m + 256 * M) / 256 = M by omega] at h2
  generalize (a + 256 * A) &&& (m + 256 * M) = z at h1 h2
  omega
def bh (b : Nat) : Nat := (b / 2) &&& 0x55
def be (b : Nat) : Nat := ((b - bh b) &&& 0x33) + (((b - bh b) / 4) &&& 0x33)
def bp (b : Nat) : Nat := (be b + be b / 16) &&& 15
theorem bp_ok : ∀ b, b < 256 → bp b = cntN (fun k => b.testBit k) 8 ∧ bh b ≤ b ∧ be b ≤ 68 ∧ bp b ≤ 8 ∧ be b % 16 ≤ 4 := by decide +kernel
theorem bh_t : ∀ b, b < 256 → ∀ t, t < 2 → (b / 2 + 128 * t) &&& 0x55 = bh b := by decide +kernel
theorem bq_t : ∀ b, b < 256 → ∀ t, t < 4 → (b / 4 + 64 * t) &&& 0x33 = (b / 4) &&& 0x33 := by decide +kernel
theorem br_t2 : ∀ b, b < 69 → ∀ t, t < 5 → (b + b / 16 + 16 * t) &&& 15 = (b + b / 16) &&& 15 := by decide +kernel
theorem bc_1 {b0 b1 b2 b3 : Nat} (h0 : b0 < 256) (h1 : b1 < 256) (h2 : b2 < 256) (h3 : b3 < 256) : ((b0 + 256 * (b1 + 256 * (b2 + 256 * b3))) / 2) &&& 1431655765 = bh b0 + 256 * (bh b1 + 256 * (bh b2 + 256 * bh b3)) := by
  have e3 : (b3 / 2) &&& 0x55 = bh b3 := rfl
  have e2 : ((b2 + 256 * b3) / 2) &&& 0x5555 = bh b2 + 256 * bh b3 := by
    rw [show (b2 + 256 * b3) / 2 = (b2 / 2 + 128 * (b3 % 2)) + 256 * (b3 / 2) by omega, show 0x5555 = 0x55 + 256 * 0x55 from rfl, and_split _ _ _ _ (by omega) (by omega), bh_t b2 h2 _ (by omega), e3]
  have e1 : ((b1 + 256 * (b2 + 256 * b3)) / 2) &&& 0x555555 = bh b1 + 256 * (bh b2 + 256 * bh b3) := by
    rw [show (b1 + 256 * (b2 + 256 * b3)) / 2 = (b1 / 2 + 128 * ((b2 + 256 * b3) % 2)) + 256 * ((b2 + 256 * b3) / 2) by omega, show 0x555555 = 0x55 + 256 * 0x5555 from rfl, and_split _ _ _ _ (by omega) (by omega), bh_t b1 h1 _ (by omega), e2]
  rw [show (b0 + 256 * (b1 + 256 * (b2 + 256 * b3))) / 2 = (b0 / 2 + 128 * ((b1 + 256 * (b2 + 256 * b3)) % 2)) + 256 * ((b1 + 256 * (b2 + 256 * b3)) / 2) by omega, show 1431655765 = 0x55 + 256 * 0x555555 from rfl, and_split _ _ _ _ (by omega) (by omega), bh_t b0 h0 _ (by omega), e1]
theorem bc_2 {b0 b1 b2 b3 : Nat} (h0 : b0 < 256) (h1 : b1 < 256) (h2 : b2 < 256) (h3 : b3 < 256) : ((b0 + 256 * (b1 + 256 * (b2 + 256 * b3))) / 4) &&& 858993459 = ((b0 / 4) &&& 0x33) + 256 * (((b1 / 4) &&& 0x33) + 256 * (((b2 / 4) &&& 0x33) + 256 * ((b3 / 4) &&& 0x33))) := by
  have e2 : ((b2 + 256 * b3) / 4) &&& 0x3333 = ((b2 / 4) &&& 0x33) + 256 * ((b3 / 4) &&& 0x33) := by
    rw [show (b2 + 256 * b3) / 4 = (b2 / 4 + 64 * (b3 % 4)) + 256 * (b3 / 4) by omega, show 0x3333 = 0x33 + 256 * 0x33 from rfl, and_split _ _ _ _ (by omega) (by omega), bq_t b2 h2 _ (by omega)]
  have e1 : ((b1 + 256 * (b2 + 256 * b3)) / 4) &&& 0x333333 = ((b1 / 4) &&& 0x33) + 256 * (((b2 / 4) &&& 0x33) + 256 * ((b3 / 4) &&& 0x33)) := by
    rw [show (b1 + 256 * (b2 + 256 * b3)) / 4 = (b1 / 4 + 64 * ((b2 + 256 * b3) % 4)) + 256 * ((b2 + 256 * b3) / 4) by omega, show 0x333333 = 0x33 + 256 * 0x3333 from rfl, and_split _ _ _ _ (by omega) (by omega), bq_t b1 h1 _ (by omega), e2]
  rw [show (b0 + 256 * (b1 + 256 * (b2 + 256 * b3))) / 4 = (b0 / 4 + 64 * ((b1 + 256 * (b2 + 256 * b3)) % 4)) + 256 * ((b1 + 256 * (b2 + 256 * b3)) / 4) by omega, show 858993459 = 0x33 + 256 * 0x333333 from rfl, and_split _ _ _ _ (by omega) (by omega), bq_t b0 h0 _ (by omega), e1]
theorem bc_4 {b0 b1 b2 b3 m : Nat} (h0 : b0 < 256) (h1 : b1 < 256) (h2 : b2 < 256) (h3 : b3 < 256) (hm : m < 256) : (b0 + 256 * (b1 + 256 * (b2 + 256 * b3))) &&& (m + 256 * (m + 256 * (m + 256 * m))) = (b0 &&& m) + 256 * ((b1 &&& m) + 256 * ((b2 &&& m) + 256 * (b3 &&& m))) := by
  rw [and_split _ _ _ _ h0 hm, and_split _ _ _ _ h1 hm, and_split _ _ _ _ h2 hm]
theorem bc_nat {b0 b1 b2 b3 : Nat} (h0 : b0 < 256) (h1 : b1 < 256) (h2 : b2 < 256) (h3 : b3 < 256) {X x1 x2 x3 : Nat} (hX : X = b0 + 256 * (b1 + 256 * (b2 + 256 * b3))) (e1 : x1 = X - (X / 2 &&& 1431655765)) (e2 : x2 = (x1 &&& 858993459) + (x1 / 4 &&& 858993459)) (e3 : x3 = (x2 + x2 / 16) &&& 252645135) :
    x1 < 2 ^ 32 ∧ X / 2 &&& 1431655765 ≤ X ∧ x2 + x2 / 16 < 2 ^ 32 ∧ x3 = bp b0 + 256 * (bp b1 + 256 * (bp b2 + 256 * bp b3)) := by
  obtain ⟨-, a0, c0, -, f0⟩ := bp_ok b0 h0
  obtain ⟨-, a1, c1, -, f1⟩ := bp_ok b1 h1
  obtain ⟨-, a2, c2, -, f2⟩ := bp_ok b2 h2
  obtain ⟨-, a3, c3, -, f3⟩ := bp_ok b3 h3
  have g1 : X / 2 &&& 1431655765 = bh b0 + 256 * (bh b1 + 256 * (bh b2 + 256 * bh b3)) := by rw [hX]; exact bc_1 h0 h1 h2 h3
  have g2 : x1 = (b0 - bh b0) + 256 * ((b1 - bh b1) + 256 * ((b2 - bh b2) + 256 * (b3 - bh b3))) := by rw [e1, g1, hX]; omega
  have g3 : x2 = be b0 + 256 * (be b1 + 256 * (be b2 + 256 * be b3)) := by
    rw [e2, g2, bc_2 (by omega) (by omega) (by omega) (by omega)]
    have g := bc_4 (b0 := b0 - bh b0) (b1 := b1 - bh b1) (b2 := b2 - bh b2) (b3 := b3 - bh b3) (m := 0x33) (by omega) (by omega) (by omega) (by omega) (by omega)
    rw [show 858993459 = 0x33 + 256 * (0x33 + 256 * (0x33 + 256 * 0x33)) from rfl, g]
    unfold be
    omega
  refine ⟨by omega, by omega, by omega, ?_⟩
  have g4 : x2 + x2 / 16 = (be b0 + be b0 / 16 + 16 * (be b1 % 16)) + 256 * ((be b1 + be b1 / 16 + 16 * (be b2 % 16)) + 256 * ((be b2 + be b2 / 16 + 16 * (be b3 % 16)) + 256 * (be b3 + be b3 / 16))) := by rw [g3]; omega
  have g5 := bc_4 (b0 := be b0 + be b0 / 16 + 16 * (be b1 % 16)) (b1 := be b1 + be b1 / 16 + 16 * (be b2 % 16)) (b2 := be b2 + be b2 / 16 + 16 * (be b3 % 16)) (b3 := be b3 + be b3 / 16) (m := 15) (by omega) (by omega) (by omega) (by omega) (by omega)
  rw [e3, g4, show 252645135 = 15 + 256 * (15 + 256 * (15 + 256 * 15)) from rfl, g5, br_t2 _ (by omega) _ (by omega), br_t2 _ (by omega) _ (by omega), br_t2 _ (by omega) _ (by omega)]
  rfl
theorem us_nat (x : Int32) (n : Int32) (k : Nat) (hs : ((n.toUInt32 &&& Int32.toUInt32 31).toBitVec % 32).toNat = k) : (us x n).toBitVec.toNat = x.toBitVec.toNat / 2 ^ k := pk_ushr x n k hs
theorem bc_5 {p0 p1 p2 p3 : Nat} (q0 : p0 ≤ 8) (q1 : p1 ≤ 8) (q2 : p2 ≤ 8) (q3 : p3 ≤ 8) : ((p0 + p1 + 256 * (p1 + p2 + 256 * (p2 + p3 + 256 * p3))) + (p0 + p1 + 256 * (p1 + p2 + 256 * (p2 + p3 + 256 * p3))) / 65536) % 2 ^ 32 % 64 = p0 + p1 + p2 + p3 := by
  have h : p0 + p1 + 256 * (p1 + p2 + 256 * (p2 + p3 + 256 * p3)) = (p0 + p1 + 256 * (p1 + p2)) + 65536 * (p2 + p3 + 256 * p3) := by omega
  have h2 : (p0 + p1 + 256 * (p1 + p2)) / 65536 = 0 := Nat.div_eq_of_lt (by omega)
  rw [h, Nat.add_mul_div_left _ _ (by omega), h2, Nat.mod_eq_of_lt (b := 2 ^ 32) (by omega), show p0 + p1 + 256 * (p1 + p2) + 65536 * (p2 + p3 + 256 * p3) + (0 + (p2 + p3 + 256 * p3)) = (p0 + p1 + p2 + p3) + 64 * (4 * (p1 + p2) + 1024 * (p2 + p3 + 256 * p3) + 4 * p3) by omega, Nat.add_mul_mod_self_left, Nat.mod_eq_of_lt (by omega)]
theorem bcI_cnt (x : Int32) : bcI x = nI (cntN (bit x) 32) := by
  obtain ⟨X, hX⟩ : ∃ X, X = x.toBitVec.toNat := ⟨_, rfl⟩
  have hXlt : X < 2 ^ 32 := by rw [hX]; exact x.toBitVec.isLt
  obtain ⟨b0, hb0⟩ : ∃ b, b = X % 256 := ⟨_, rfl⟩
  obtain ⟨b1, hb1⟩ : ∃ b, b = X / 256 % 256 := ⟨_, rfl⟩
  obtain ⟨b2, hb2⟩ : ∃ b, b = X / 65536 % 256 := ⟨_, rfl⟩
  obtain ⟨b3, hb3⟩ : ∃ b, b = X / 16777216 := ⟨_, rfl⟩
  have hXd : X = b0 + 256 * (b1 + 256 * (b2 + 256 * b3)) := by omega
  have h0 : b0 < 256 := by omega
  have h1 : b1 < 256 := by omega
  have h2 : b2 < 256 := by omega
  have h3 : b3 < 256 := by omega
  obtain ⟨n1, n2, n3, n4⟩ := bc_nat h0 h1 h2 h3 hXd (x1 := X - (X / 2 &&& 1431655765)) rfl rfl rfl
  obtain ⟨p0, -, -, q0, -⟩ := bp_ok b0 h0
  obtain ⟨p1, -, -, q1, -⟩ := bp_ok b1 h1
  obtain ⟨p2, -, -, q2, -⟩ := bp_ok b2 h2
  obtain ⟨p3, -, -, q3, -⟩ := bp_ok b3 h3
  -- the bits, byte by byte
  have hcnt : cntN (bit x) 32 = bp b0 + bp b1 + bp b2 + bp b3 := by
    have hbit : ∀ k, k < 32 → bit x k = X.testBit k := fun k hk => by rw [bit_bt _ hk, hX]; rfl
    rw [cnt_congr hbit, show (32 : Nat) = 8 + (8 + (8 + 8)) from rfl, cnt_add, cnt_add, cnt_add, p0, p1, p2, p3]
    have t0 : ∀ k, k < 8 → X.testBit k = b0.testBit k := fun k hk => by
      rw [hb0, show (256 : Nat) = 2 ^ 8 from rfl, Nat.testBit_mod_two_pow]; simp [hk]
    have t1 : ∀ k, k < 8 → X.testBit (8 + k) = b1.testBit k := fun k hk => by
      rw [hb1, show (256 : Nat) = 2 ^ 8 from rfl, Nat.testBit_mod_two_pow, Nat.testBit_div_two_pow]; simp [hk, Nat.add_comm]
    have t2 : ∀ k, k < 8 → X.testBit (8 + (8 + k)) = b2.testBit k := fun k hk => by
      rw [hb2, show (256 : Nat) = 2 ^ 8 from rfl, show (65536 : Nat) = 2 ^ 16 from rfl, Nat.testBit_mod_two_pow, Nat.testBit_div_two_pow]; simp [hk]; congr 1; omega
    have t3 : ∀ k, k < 8 → X.testBit (8 + (8 + (8 + k))) = b3.testBit k := fun k hk => by
      rw [hb3, show (16777216 : Nat) = 2 ^ 24 from rfl, Nat.testBit_div_two_pow]; congr 1; omega
    rw [cnt_congr t0, cnt_congr t1, cnt_congr t2, cnt_congr t3]
    have ee : ∀ b : Nat, cntN b.testBit 8 = cntN (fun k => b.testBit k) 8 := fun _ => rfl
    have e0 := ee b0
    have e1 := ee b1
    have e2 := ee b2
    have e3 := ee b3
    generalize cntN b0.testBit 8 = y0 at e0 ⊢
    generalize cntN b1.testBit 8 = y1 at e1 ⊢
    generalize cntN b2.testBit 8 = y2 at e2 ⊢
    generalize cntN b3.testBit 8 = y3 at e3 ⊢
    rw [← e0, ← e1, ← e2, ← e3]
    omega
  rw [hcnt]
  -- the steps
  have nand : ∀ (a b : Int32), (a &&& b).toBitVec.toNat = a.toBitVec.toNat &&& b.toBitVec.toNat := fun a b => by rw [Int32.toBitVec_and, BitVec.toNat_and]
  have nadd : ∀ (a b : Int32), (a + b).toBitVec.toNat = (a.toBitVec.toNat + b.toBitVec.toNat) % 2 ^ 32 := fun a b => by rw [Int32.toBitVec_add, BitVec.toNat_add]
  have nsub : ∀ (a b : Int32), (a - b).toBitVec.toNat = (2 ^ 32 - b.toBitVec.toNat + a.toBitVec.toNat) % 2 ^ 32 := fun a b => by rw [Int32.toBitVec_sub, BitVec.toNat_sub]
  have k1 : (1431655765 : Int32).toBitVec.toNat = 1431655765 := by decide
  have k2 : (858993459 : Int32).toBitVec.toNat = 858993459 := by decide
  have k3 : (252645135 : Int32).toBitVec.toNat = 252645135 := by decide
  have k4 : (63 : Int32).toBitVec.toNat = 63 := by decide
  obtain ⟨x1, hx1⟩ : ∃ y, y = x - (us x 1 &&& 1431655765) := ⟨_, rfl⟩
  have m1 : x1.toBitVec.toNat = X - (X / 2 &&& 1431655765) := by
    rw [hx1, nsub, nand, k1, us_nat x 1 1 (by decide), ← hX, show (2 : Nat) ^ 1 = 2 from rfl]
    omega
  obtain ⟨x2, hx2⟩ : ∃ y, y = (x1 &&& 858993459) + (us x1 2 &&& 858993459) := ⟨_, rfl⟩
  have m2 : x2.toBitVec.toNat = ((X - (X / 2 &&& 1431655765)) &&& 858993459) + ((X - (X / 2 &&& 1431655765)) / 4 &&& 858993459) := by
    rw [hx2, nadd, nand, nand, k2, us_nat x1 2 2 (by decide), m1, show (2 : Nat) ^ 2 = 4 from rfl]
    omega
  obtain ⟨x3, hx3⟩ : ∃ y, y = (x2 + us x2 4) &&& 252645135 := ⟨_, rfl⟩
  have m3 : x3.toBitVec.toNat = bp b0 + 256 * (bp b1 + 256 * (bp b2 + 256 * bp b3)) := by
    rw [hx3, nand, nadd, k3, us_nat x2 4 4 (by decide), m2, show (2 : Nat) ^ 4 = 16 from rfl, Nat.mod_eq_of_lt n3]
    exact n4
  obtain ⟨x4, hx4⟩ : ∃ y, y = x3 + us x3 8 := ⟨_, rfl⟩
  have m4 : x4.toBitVec.toNat = (bp b0 + bp b1) + 256 * ((bp b1 + bp b2) + 256 * ((bp b2 + bp b3) + 256 * bp b3)) := by
    rw [hx4, nadd, us_nat x3 8 8 (by decide), m3, show (2 : Nat) ^ 8 = 256 from rfl]
    omega
  obtain ⟨x5, hx5⟩ : ∃ y, y = x4 + us x4 16 := ⟨_, rfl⟩
  have m5 : x5.toBitVec.toNat % 64 = bp b0 + bp b1 + bp b2 + bp b3 := by
    rw [hx5, nadd, us_nat x4 16 16 (by decide), m4, show (2 : Nat) ^ 16 = 65536 from rfl]
    exact bc_5 q0 q1 q2 q3
  have hbc : bcI x = x5 &&& 63 := by rw [hx5, hx4, hx3, hx2, hx1]; rfl
  rw [hbc]
  apply Int32.toBitVec_inj.mp
  apply BitVec.eq_of_toNat_eq
  rw [nand, k4, show (63 : Nat) = 2 ^ 6 - 1 from rfl, Nat.and_two_pow_sub_one_eq_mod, show (2 : Nat) ^ 6 = 64 from rfl, m5, pk_tn (by omega)]
end
section
/-! The plain law, 2: one Work against one transaction of the model. -/
def en (fr : Nat → Nat) (pa ma q : Nat) : Nat := if q + 1 < pa then fr (q + 1) else ma
def Tx (ce : Nat → Int32) (fr : Nat → Nat) (va : Nat → Int64) (ve : Nat → Int32) (pa : Nat) (re : Int32) (ma : Nat) (ha : Nat → Nat → Bool) (wr : Nat → Nat → Int64) (rd : Nat → Bool) (se : Nat → Int32) : Prop :=
  (1 ≤ pa ∧ pa ≤ 5) ∧ Val ce ma ∧ fr 0 = 0 ∧ (∀ q, q < pa → fr q ≤ en fr pa ma q) ∧ (∀ q, q < pa → Dis ce (fr q) (en fr pa ma q)) ∧
  (∀ q, q < pa → ∀ k, k < 32 → lk2 ce va (en fr pa ma q) (nI k) = if ha q k = true then some (wr q k) else none) ∧ (∀ k, k < 32 → bit re k = rd k) ∧ (∀ k, k < 32 → rd k = true → ve k = se k)
def TxW (w : WS) (pa : Nat) (ha : Nat → Nat → Bool) (wr : Nat → Nat → Int64) (rd : Nat → Bool) (se : Nat → Int32) : Prop := wPa w = pa ∧ Tx (wCe w) (wFr w) (wVa w) (wVe w) (wPa w) (wRe w) (wMa w) ha wr rd se
section TxS
variable {ce : Nat → Int32} {fr : Nat → Nat} {va : Nat → Int64} {ve : Nat → Int32} {op : Bool} {pa : Nat} {re : Int32} {ma : Nat} {ha : Nat → Nat → Bool} {wr : Nat → Nat → Int64} {rd : Nat → Bool} {se : Nat → Int32}
theorem en_last {q : Nat} (h : pa ≤ q + 1) : en fr pa ma q = ma := by unfold en; rw [if_neg (by omega)]
theorem en_in {q : Nat} (h : q + 1 < pa) : en fr pa ma q = fr (q + 1) := by unfold en; rw [if_pos h]
theorem en_mono (hle : ∀ q, q < pa → fr q ≤ en fr pa ma q) : ∀ (n q r : Nat), r = q + n → r < pa → en fr pa ma q ≤ en fr pa ma r
  | 0, q, r, h, _ => by rw [h]; exact Nat.le_refl _
  | n + 1, q, r, h, hr => by
    have h1 := en_mono hle n (q + 1) r (by omega) hr
    have h2 := hle (q + 1) (by omega)
    rw [en_in (show q + 1 < pa by omega)]
    omega
theorem en_le (hle : ∀ q, q < pa → fr q ≤ en fr pa ma q) {q : Nat} (h : q < pa) : en fr pa ma q ≤ ma := by
  have h1 := en_mono hle (pa - 1 - q) q (pa - 1) (by omega) (by omega)
  rw [en_last (q := pa - 1) (by omega)] at h1
  exact h1
theorem en_fr (hle : ∀ q, q < pa → fr q ≤ en fr pa ma q) {q r : Nat} (h : q < r) (hr : r < pa) : en fr pa ma q ≤ fr r := by
  have h1 := en_mono hle (r - 1 - q) q (r - 1) (by omega) (by omega)
  rw [en_in (q := r - 1) (by omega), show r - 1 + 1 = r by omega] at h1
  exact h1
theorem en_32 (hV : Val ce ma) (h0 : fr 0 = 0) (hle : ∀ q, q < pa → fr q ≤ en fr pa ma q) (hD : ∀ q, q < pa → Dis ce (fr q) (en fr pa ma q)) : ∀ q, q < pa → fr q ≤ 32 * q ∧ en fr pa ma q ≤ 32 * (q + 1)
  | 0, h => by
    have h1 := dis_le hV (en_le hle h) (hD 0 h) (hle 0 h)
    omega
  | q + 1, h => by
    have h1 := dis_le hV (en_le hle h) (hD (q + 1) h) (hle (q + 1) h)
    have h2 := en_32 hV h0 hle hD q (by omega)
    rw [en_in h] at h2
    have h3 := hle (q + 1) h
    omega
theorem tx_WB (h : Tx ce fr va ve pa re ma ha wr rd se) : WB (ce, fr, va, ve, op, pa, re, ma) := by
  obtain ⟨h1, hV, h0, hle, hD, -, -, -⟩ := h
  have h160 := (en_32 hV h0 hle hD (pa - 1) (by omega)).2
  have hf := (en_32 hV h0 hle hD (pa - 1) (by omega)).1
  have hl : en fr pa ma (pa - 1) = ma := en_last (by omega)
  have hlast := hle (pa - 1) (by omega)
  have hDl := hD (pa - 1) (by omega)
  rw [hl] at h160 hlast hDl
  refine ⟨h1, show ma ≤ 160 by omega, fun j hj => ?_, fun k hk hf2 => ?_, hV⟩
  · exact Nat.le_trans (hle j hj) (en_le hle hj)
  · have h3 := dis_lt hV (Nat.le_refl _) hDl hlast hk (fun i hi hi2 => fnd_none hf2 i hi hi2)
    show ma < 160
    omega
theorem tx_begin (h : ∀ k, k < 32 → ha 0 k = false) (hr : ∀ k, k < 32 → rd k = false) : Tx ce (va_up fr 0 0) va ve 1 0 0 ha wr rd se := by
  refine ⟨⟨by omega, by omega⟩, fun i hi => by omega, by simp [va_up], fun q hq => ?_, fun q hq i i' h1 h2 h3 => ?_, fun q hq k hk => ?_, fun k hk => ?_, fun k hk h2 => ?_⟩
  · have : q = 0 := by omega
    subst this; simp [va_up]
  · rw [en_last (by omega)] at h3; omega
  · have : q = 0 := by omega
    subst this
    rw [en_last (by omega), h k hk]; rfl
  · rw [bit_0 hk, hr k hk]
  · rw [hr k hk] at h2; cases h2
/-- one write, in the last part -/
theorem wr_step {i : Nat} {v : Int64} (hi : i < 32) (hfr : fr (pa - 1) ≤ ma) (hV : Val ce ma) (hD : Dis ce (fr (pa - 1)) ma) : ∃ (ce' : Nat → Int32) (va' : Nat → Int64) (ma' : Nat), ws_write (ce, fr, va, ve, op, pa, re, ma) (nI i) v = (ce', fr, va', ve, op, pa, re, ma') ∧ ma ≤ ma' ∧ ma' ≤ ma + 1 ∧
    (∀ q, (q < fr (pa - 1) ∨ ma < q) → ce' q = ce q ∧ va' q = va q) ∧ Val ce' ma' ∧ Dis ce' (fr (pa - 1)) ma' ∧ ∀ k, lk2 ce' va' ma' k = if nI i = k then some v else lk2 ce va ma k := by
  obtain ⟨ce', va', ma', x, e, h1, h2, h3, h4, h5, h6, h7, h8, h9, h10, h11, -⟩ := wr_spec (ce := ce) (va := va) (ve := ve) (op := op) (re := re) (c := nI i) (v := v) hfr
  refine ⟨ce', va', ma', e, h4, h5, fun q hq => h8 q (by omega), fun q hq => ?_, fun q q' hq1 hq2 hq3 => ?_, wr_lk h2 h3 h4 h5 h6 h7 h8 h9 h10 (fun h => (h11 h).1)⟩
  · by_cases hx : q = x
    · exact ⟨i, hi, by rw [hx, h6]⟩
    · by_cases hm : q < ma
      · obtain ⟨c, hc, hc2⟩ := hV q hm
        exact ⟨c, hc, by rw [(h8 q hx).1, hc2]⟩
      · have hm2 : ma' = ma + 1 := by omega
        have := (h11 hm2).1
        omega
  · by_cases hx : q = x
    · rw [hx, h6]
      exact (h9 q' (by omega) hq3).symm
    · rcases Nat.lt_or_ge ma ma' with hm | hm
      · have hm2 : ma' = ma + 1 := by omega
        obtain ⟨hxm, hno⟩ := h11 hm2
        rw [(h8 q hx).1]
        by_cases hx' : q' = x
        · rw [hx', h6]
          exact hno q hq1 (by omega)
        · rw [(h8 q' hx').1]
          exact hD q q' hq1 hq2 (by omega)
      · have hm2 : ma' = ma := by omega
        have hcx := h10 hm2
        rw [(h8 q hx).1]
        by_cases hx' : q' = x
        · rw [hx', h6, ← hcx]
          exact hD q x hq1 (by omega) (by omega)
        · rw [(h8 q' hx').1]
          exact hD q q' hq1 hq2 (by omega)
theorem tx_write {i : Nat} {v : Int64} {ha' : Nat → Nat → Bool} {wr' : Nat → Nat → Int64} (hi : i < 32) (h : Tx ce fr va ve pa re ma ha wr rd se) (hh : ∀ q k, q < pa → k < 32 → ha' q k = if q = pa - 1 ∧ k = i then true else ha q k) (hw : ∀ q k, q < pa → k < 32 → wr' q k = if q = pa - 1 ∧ k = i then v else wr q k) :
    TxW (ws_write (ce, fr, va, ve, op, pa, re, ma) (nI i) v) pa ha' wr' rd se := by
  obtain ⟨h1, hV, h0, hle, hD, hL, hR, hS⟩ := h
  have hl : en fr pa ma (pa - 1) = ma := en_last (by omega)
  have hlast := hle (pa - 1) (by omega)
  have hDl := hD (pa - 1) (by omega)
  rw [hl] at hlast hDl
  obtain ⟨ce', va', ma', e, g1, g2, g3, g4, g5, g6⟩ := wr_step (va := va) (ve := ve) (op := op) (re := re) (v := v) hi hlast hV hDl
  rw [e]
  refine ⟨rfl, h1, g4, h0, fun q hq => ?_, fun q hq => ?_, fun q hq k hk => ?_, hR, hS⟩
  · show fr q ≤ en fr pa ma' q
    replace hq : q < pa := hq
    by_cases hp : q + 1 < pa
    · rw [en_in hp]; have := hle q hq; rwa [en_in hp] at this
    · have e1 : q = pa - 1 := by omega
      rw [en_last (by omega), e1]; omega
  · show Dis ce' (fr q) (en fr pa ma' q)
    replace hq : q < pa := hq
    by_cases hp : q + 1 < pa
    · rw [en_in hp]
      have h2 := hD q hq
      rw [en_in hp] at h2
      have h3 := en_fr hle (show q < pa - 1 by omega) (show pa - 1 < pa by omega)
      rw [en_in hp] at h3
      intro a a' ha1 ha2 ha3
      rw [(g3 a (by omega)).1, (g3 a' (by omega)).1]
      exact h2 a a' ha1 ha2 ha3
    · have e1 : q = pa - 1 := by omega
      rw [en_last (by omega), e1]; exact g5
  · show lk2 ce' va' (en fr pa ma' q) (nI k) = _
    replace hq : q < pa := hq
    rw [hh q k hq hk, hw q k hq hk]
    by_cases hp : q + 1 < pa
    · rw [en_in hp]
      have h3 := en_fr hle (show q < pa - 1 by omega) (show pa - 1 < pa by omega)
      rw [en_in hp] at h3
      have hc : ¬ (q = pa - 1 ∧ k = i) := fun e2 => by have := e2.1; omega
      simp only [if_neg hc]
      rw [lk2_congr (fun a h4 => (g3 a (by omega)).1) (fun a h4 => (g3 a (by omega)).2)]
      have h2 := hL q hq k hk
      rw [en_in hp] at h2
      exact h2
    · have e1 : q = pa - 1 := by omega
      rw [en_last (by omega), g6]
      by_cases hki : k = i
      · have hc : q = pa - 1 ∧ k = i := ⟨e1, hki⟩
        simp only [if_pos hc, if_pos (show nI i = nI k by rw [hki]), if_true]
      · have hc : ¬ (q = pa - 1 ∧ k = i) := fun e2 => hki e2.2
        simp only [if_neg hc, if_neg (show ¬ nI i = nI k from fun e2 => hki ((nI_eq (by omega) (by omega)).mp e2).symm)]
        have h2 := hL q hq k hk
        rw [en_last (by omega)] at h2
        exact h2
theorem tx_save {ha' : Nat → Nat → Bool} {wr' : Nat → Nat → Int64} (hp5 : pa < 5) (h : Tx ce fr va ve pa re ma ha wr rd se) (hh : ∀ q k, q < pa + 1 → k < 32 → ha' q k = if q = pa then ha (pa - 1) k else ha q k) (hw : ∀ q k, q < pa + 1 → k < 32 → wr' q k = if q = pa then wr (pa - 1) k else wr q k) :
    Tx ce (va_up fr pa ma) va ve (pa + 1) re ma ha' wr' rd se := by
  obtain ⟨h1, hV, h0, hle, hD, hL, hR, hS⟩ := h
  have hen : ∀ q, q < pa → en (va_up fr pa ma) (pa + 1) ma q = en fr pa ma q := fun q hq => by
    rw [en_in (show q + 1 < pa + 1 by omega)]
    by_cases hp : q + 1 < pa
    · rw [en_in hp, va_up_ne _ _ (by omega)]
    · rw [en_last (by omega), show q + 1 = pa by omega, va_up_self]
  have hel : en (va_up fr pa ma) (pa + 1) ma pa = ma := en_last (by omega)
  refine ⟨by omega, hV, by rw [va_up_ne _ _ (by omega)]; exact h0, fun q hq => ?_, fun q hq => ?_, fun q hq k hk => ?_, hR, hS⟩
  · by_cases hp : q = pa
    · rw [hp, hel, va_up_self]; exact Nat.le_refl _
    · rw [hen q (by omega), va_up_ne _ _ hp]; exact hle q (by omega)
  · by_cases hp : q = pa
    · rw [hp, hel, va_up_self]
      intro i i' a b c; omega
    · rw [hen q (by omega), va_up_ne _ _ hp]; exact hD q (by omega)
  · rw [hh q k hq hk, hw q k hq hk]
    by_cases hp : q = pa
    · rw [if_pos hp, if_pos hp, hp, hel]
      have h2 := hL (pa - 1) (by omega) k hk
      rw [en_last (by omega)] at h2
      exact h2
    · rw [if_neg hp, if_neg hp, hen q (by omega)]
      exact hL q (by omega) k hk
theorem tx_back (hp1 : 1 < pa) (h : Tx ce fr va ve pa re ma ha wr rd se) : Tx ce fr va ve (pa - 1) re (fr (pa - 1)) ha wr rd se := by
  obtain ⟨h1, hV, h0, hle, hD, hL, hR, hS⟩ := h
  have hen : ∀ q, q < pa - 1 → en fr (pa - 1) (fr (pa - 1)) q = en fr pa ma q := fun q hq => by
    rw [en_in (show q + 1 < pa by omega)]
    by_cases hp : q + 1 < pa - 1
    · rw [en_in hp]
    · rw [en_last (by omega), show q + 1 = pa - 1 by omega]
  have hm : fr (pa - 1) ≤ ma := Nat.le_trans (hle (pa - 1) (by omega)) (en_le hle (by omega))
  refine ⟨by omega, fun i hi => hV i (by omega), h0, fun q hq => ?_, fun q hq => ?_, fun q hq k hk => ?_, hR, hS⟩
  · rw [hen q hq]; exact hle q (by omega)
  · rw [hen q hq]; exact hD q (by omega)
  · rw [hen q hq]; exact hL q (by omega) k hk
theorem kN_spec {b : Nat} (hV : Val ce ma) (hfb : fr (pa - 1) ≤ b) (hVb : Val ce b) (hDb : Dis ce (fr (pa - 1)) b) : ∀ n, b + n ≤ ma → ∃ (ce' : Nat → Int32) (va' : Nat → Int64) (ma' : Nat), ws_kN (ce, fr, va, ve, op, pa, re, b) b n = (ce', fr, va', ve, op, pa, re, ma') ∧ b ≤ ma' ∧ ma' ≤ b + n ∧
    (∀ q, (q < fr (pa - 1) ∨ b + n ≤ q) → ce' q = ce q ∧ va' q = va q) ∧ Val ce' ma' ∧ Dis ce' (fr (pa - 1)) ma' ∧ ∀ k, lk2 ce' va' ma' k = lk2 ce va (b + n) k
  | 0, _ => ⟨ce, va, b, rfl, Nat.le_refl _, Nat.le_refl _, fun _ _ => ⟨rfl, rfl⟩, hVb, hDb, fun _ => rfl⟩
  | n + 1, hn => by
    obtain ⟨ce', va', ma', e, g1, g2, g3, g4, g5, g6⟩ := kN_spec hV hfb hVb hDb n (by omega)
    obtain ⟨i, hi, hc⟩ := hV (b + n) (by omega)
    obtain ⟨e1, e2⟩ := g3 (b + n) (by omega)
    obtain ⟨ce2, va2, ma2, f0, f1, f2, f3, f4, f5, f6⟩ := wr_step (va := va') (ve := ve) (op := op) (re := re) (v := va (b + n)) hi (show fr (pa - 1) ≤ ma' by omega) g4 g5
    refine ⟨ce2, va2, ma2, ?_, by omega, by omega, fun q hq => ?_, f4, f5, fun k => ?_⟩
    · rw [ws_kN, e]
      show ws_write (ce', fr, va', ve, op, pa, re, ma') (ce' (b + n)) (va' (b + n)) = _
      rw [e1, e2, hc]; exact f0
    · obtain ⟨a1, a2⟩ := f3 q (by omega)
      obtain ⟨b1, b2⟩ := g3 q (by omega)
      exact ⟨a1.trans b1, a2.trans b2⟩
    · rw [f6, g6, show b + (n + 1) = (b + n) + 1 by omega, lk2_succ, hc]
theorem tx_keep {ha' : Nat → Nat → Bool} {wr' : Nat → Nat → Int64} (hp1 : 1 < pa) (h : Tx ce fr va ve pa re ma ha wr rd se) (hh : ∀ q k, q < pa - 1 → k < 32 → ha' q k = if q = pa - 2 then ha (pa - 1) k else ha q k) (hw : ∀ q k, q < pa - 1 → k < 32 → wr' q k = if q = pa - 2 then wr (pa - 1) k else wr q k) :
    TxW (ws_keep (ce, fr, va, ve, op, pa, re, ma)) (pa - 1) ha' wr' rd se ∧ wOp (ws_keep (ce, fr, va, ve, op, pa, re, ma)) = op := by
  have hb := tx_back hp1 h
  obtain ⟨h1, hV, h0, hle, hD, hL, hR, hS⟩ := h
  obtain ⟨i1, iV, i0, ile, iD, iL, -, -⟩ := hb
  have hm : fr (pa - 1) ≤ ma := Nat.le_trans (hle (pa - 1) (by omega)) (en_le hle (by omega))
  have il := ile (pa - 1 - 1) (by omega)
  have iDl := iD (pa - 1 - 1) (by omega)
  rw [en_last (by omega)] at il iDl
  obtain ⟨ce', va', ma', e, g1, g2, g3, g4, g5, g6⟩ := kN_spec (va := va) (ve := ve) (op := op) (re := re) (pa := pa - 1) hV il iV iDl (ma - fr (pa - 1)) (by omega)
  have e' : ws_keep (ce, fr, va, ve, op, pa, re, ma) = (ce', fr, va', ve, op, pa - 1, re, ma') := e
  rw [e']
  have hmono : ∀ q, q + 1 < pa - 1 → fr (q + 1) ≤ fr (pa - 1 - 1) := fun q hq => by
    have h3 := en_fr ile (show q < pa - 1 - 1 by omega) (show pa - 1 - 1 < pa - 1 by omega)
    rwa [en_in hq] at h3
  refine ⟨⟨rfl, i1, g4, h0, fun q hq => ?_, fun q hq => ?_, fun q hq k hk => ?_, hR, hS⟩, rfl⟩
  · show fr q ≤ en fr (pa - 1) ma' q
    replace hq : q < pa - 1 := hq
    by_cases hp : q + 1 < pa - 1
    · rw [en_in hp]; have := ile q hq; rwa [en_in hp] at this
    · rw [en_last (by omega), show q = pa - 1 - 1 by omega]; omega
  · show Dis ce' (fr q) (en fr (pa - 1) ma' q)
    replace hq : q < pa - 1 := hq
    by_cases hp : q + 1 < pa - 1
    · rw [en_in hp]
      have h2 := iD q hq
      rw [en_in hp] at h2
      have h3 := hmono q hp
      intro a a' ha1 ha2 ha3
      rw [(g3 a (by omega)).1, (g3 a' (by omega)).1]
      exact h2 a a' ha1 ha2 ha3
    · rw [en_last (by omega), show q = pa - 1 - 1 by omega]; exact g5
  · show lk2 ce' va' (en fr (pa - 1) ma' q) (nI k) = _
    replace hq : q < pa - 1 := hq
    rw [hh q k hq hk, hw q k hq hk]
    by_cases hp : q + 1 < pa - 1
    · rw [en_in hp]
      have h3 := hmono q hp
      have hc : ¬ q = pa - 2 := by omega
      simp only [if_neg hc]
      rw [lk2_congr (fun a h4 => (g3 a (by omega)).1) (fun a h4 => (g3 a (by omega)).2)]
      have h2 := iL q hq k hk
      rw [en_in hp] at h2
      exact h2
    · have hc : q = pa - 2 := by omega
      simp only [if_pos hc]
      rw [en_last (by omega), g6, show fr (pa - 1) + (ma - fr (pa - 1)) = ma by omega]
      have h2 := hL (pa - 1) (by omega) k hk
      rw [en_last (by omega)] at h2
      exact h2
theorem tx_look {i : Nat} {now : Int32} {rd' : Nat → Bool} {se' : Nat → Int32} (hi : i < 32) (h : Tx ce fr va ve pa re ma ha wr rd se) (hr : ∀ k, k < 32 → rd' k = (rd k || decide (k = i))) (hs : ∀ k, k < 32 → se' k = if rd i = false ∧ k = i then now else se k) :
    TxW (ws_look (ce, fr, va, ve, op, pa, re, ma) i now) pa ha wr rd' se' := by
  obtain ⟨h1, hV, h0, hle, hD, hL, hR, hS⟩ := h
  unfold ws_look
  by_cases hb : bit re i = true
  · simp only [if_pos hb]
    have hri : rd i = true := by rw [← hR i hi]; exact hb
    refine ⟨rfl, h1, hV, h0, hle, hD, hL, fun k hk => ?_, fun k hk h2 => ?_⟩
    · rw [hr k hk, hR k hk]
      by_cases e : k = i
      · rw [e, hri]; rfl
      · rw [decide_eq_false e, Bool.or_false]
    · rw [hs k hk, if_neg (by rw [hri]; simp)]
      refine hS k hk ?_
      rw [hr k hk] at h2
      by_cases e : k = i
      · rw [e]; exact hri
      · rwa [decide_eq_false e, Bool.or_false] at h2
  · simp only [if_neg hb]
    have hri : rd i = false := by rw [← hR i hi]; exact Bool.eq_false_iff.mpr hb
    refine ⟨rfl, h1, hV, h0, hle, hD, hL, fun k hk => ?_, fun k hk h2 => ?_⟩
    · show bit (re ||| _) k = _
      rw [bit_or _ hi hk, hr k hk, hR k hk]
    · show upd ve i now k = _
      rw [hs k hk]
      by_cases e : k = i
      · rw [if_pos ⟨hri, e⟩]; simp [upd, e]
      · rw [if_neg (fun h => e h.2)]
        simp only [upd, if_neg e]
        refine hS k hk ?_
        rw [hr k hk] at h2
        rwa [decide_eq_false e, Bool.or_false] at h2
/-- of several entries the last one: what 'done' puts down -/
theorem dPuts_at {w : WS} (hV : Val (wCe w) (wMa w)) (c : (Nat → Int64) × (Nat → Int32)) {k : Nat} (hk : k < 32) : ∀ n, n ≤ wMa w →
    (dPuts w c n).1 k = (match fnd (wCe w) (nI k) 0 (wMa w) with | some q => if q < n then wVa w q else c.1 k | none => c.1 k) ∧
    (dPuts w c n).2 k = (match fnd (wCe w) (nI k) 0 (wMa w) with | some q => if q < n then c.2 k + 1 else c.2 k | none => c.2 k)
  | 0, _ => by
    cases hf : fnd (wCe w) (nI k) 0 (wMa w) with
    | none => exact ⟨rfl, rfl⟩
    | some q => exact ⟨by simp only [if_neg (show ¬ q < 0 by omega)]; rfl, by simp only [if_neg (show ¬ q < 0 by omega)]; rfl⟩
  | n + 1, hn => by
    obtain ⟨i1, i2⟩ := dPuts_at hV c hk n (by omega)
    obtain ⟨x, hx, hc⟩ := hV n (by omega)
    rw [dPuts]
    by_cases hg : fnd (wCe w) (wCe w n) 0 (wMa w) = some n
    · rw [if_pos hg]
      have hcl : (wCe w n).toNatClampNeg = x := by rw [hc, nI_clamp (by omega)]
      rw [hcl]
      by_cases hkx : k = x
      · subst hkx
        rw [← hc, hg] at i1 i2 ⊢
        simp only [if_neg (show ¬ n < n by omega)] at i1 i2
        simp only [if_pos (show n < n + 1 by omega)]
        exact ⟨by simp [dPut, vp_updL], by simp [dPut, upd, i2]⟩
      · have e1 : (dPut (dPuts w c n) x (wVa w n)).1 k = (dPuts w c n).1 k := by simp [dPut, vp_updL, hkx]
        have e2 : (dPut (dPuts w c n) x (wVa w n)).2 k = (dPuts w c n).2 k := by simp [dPut, upd, hkx]
        rw [e1, e2, i1, i2]
        cases hf : fnd (wCe w) (nI k) 0 (wMa w) with
        | none => exact ⟨rfl, rfl⟩
        | some q =>
          have hqn : q ≠ n := fun e => by
            have h3 := (fnd_some hf).2.2.1
            rw [e, hc] at h3
            exact hkx ((nI_eq (by omega) (by omega)).mp h3).symm
          simp only [show (q < n + 1) = (q < n) from propext ⟨fun h => by omega, fun h => by omega⟩]
          exact ⟨trivial, trivial⟩
    · rw [if_neg hg, i1, i2]
      cases hf : fnd (wCe w) (nI k) 0 (wMa w) with
      | none => exact ⟨rfl, rfl⟩
      | some q =>
        have hqn : q ≠ n := fun e => by
          have h3 := (fnd_some hf).2.2.1
          rw [e] at h3
          rw [← h3, e] at hf
          exact hg hf
        simp only [show (q < n + 1) = (q < n) from propext ⟨fun h => by omega, fun h => by omega⟩]
        exact ⟨trivial, trivial⟩
theorem dPuts_lk {w : WS} (hV : Val (wCe w) (wMa w)) (c : (Nat → Int64) × (Nat → Int32)) {k : Nat} (hk : k < 32) {h : Bool} {v : Int64} (hl : lk2 (wCe w) (wVa w) (wMa w) (nI k) = if h = true then some v else none) :
    (dPuts w c (wMa w)).1 k = (if h = true then v else c.1 k) ∧ (dPuts w c (wMa w)).2 k = (if h = true then c.2 k + 1 else c.2 k) := by
  obtain ⟨i1, i2⟩ := dPuts_at hV c hk (wMa w) (Nat.le_refl _)
  rw [i1, i2]
  unfold lk2 at hl
  cases hf : fnd (wCe w) (nI k) 0 (wMa w) with
  | none =>
    rw [hf] at hl
    cases h with
    | true => cases hl
    | false => exact ⟨rfl, rfl⟩
  | some q =>
    rw [hf] at hl
    cases h with
    | false => cases hl
    | true =>
      simp only [Option.map_some, if_true, Option.some.injEq] at hl
      simp only [if_pos (fnd_some hf).1, if_true, hl]
      exact ⟨trivial, trivial⟩
theorem mPuts_at (M : MC) (j p : Nat) {k : Nat} : ∀ n, (mPuts M j p n).1 k = (if k < n ∧ mHa M (lix j p k) = true then mWr M (lix j p k) else mCl M k) ∧ (mPuts M j p n).2 k = (if k < n ∧ mHa M (lix j p k) = true then mCh M k + 1 else mCh M k)
  | 0 => by simp [mPuts]
  | n + 1 => by
    obtain ⟨i1, i2⟩ := mPuts_at M j p (k := k) n
    rw [mPuts]
    by_cases hh : mHa M (lix j p n) = true
    · rw [if_pos hh]
      by_cases hk : k = n
      · subst hk
        rw [if_neg (by omega)] at i1 i2
        rw [if_pos ⟨by omega, hh⟩, if_pos ⟨by omega, hh⟩]
        exact ⟨by simp [dPut, vp_updL], by simp [dPut, upd, i2]⟩
      · have e1 : (dPut (mPuts M j p n) n (mWr M (lix j p n))).1 k = (mPuts M j p n).1 k := by simp [dPut, vp_updL, hk]
        have e2 : (dPut (mPuts M j p n) n (mWr M (lix j p n))).2 k = (mPuts M j p n).2 k := by simp [dPut, upd, hk]
        rw [e1, e2, i1, i2]
        simp only [show (k < n + 1) = (k < n) from propext ⟨fun h => by omega, fun h => by omega⟩]
        exact ⟨trivial, trivial⟩
    · rw [if_neg hh, i1, i2]
      by_cases hk : k = n
      · subst hk
        rw [if_neg (fun h => hh h.2), if_neg (fun h => hh h.2), if_neg (fun h => hh h.2), if_neg (fun h => hh h.2)]
        exact ⟨rfl, rfl⟩
      · simp only [show (k < n + 1) = (k < n) from propext ⟨fun h => by omega, fun h => by omega⟩]
        exact ⟨trivial, trivial⟩
end TxS
end
section
/-! The plain law, 3: the desk against its model, operation by operation. -/
def TxR (w : WS) (M : MC) (j : Nat) : Prop := TxW w (mPa M j) (fun q k => mHa M (lix j (q + 1) k)) (fun q k => mWr M (lix j (q + 1) k)) (fun k => mRd M (32 * j + k)) (fun k => mSe M (32 * j + k))
def Rel (S : DS) (M : MC) : Prop := (∀ k, k < 32 → dCl S k = mCl M k ∧ dVs S k = mCh M k) ∧ dDn S = mDn M ∧ dSt S = mSt M ∧ (∀ j, j < 8 → wOp (dW S j) = mOp M j) ∧ (∀ j, j < 8 → mOp M j = true → TxR (dW S j) M j)
/-- the number that a wrapper answers -/
def kO (tb : List Nat) (r : DR) : Int32 := match r with
  | .inl _ => 0
  | .inr k => nI (tb.findIdx (· == k) + 1)
/-- what a wrapper leaves in its out cell -/
def oL (r : DR) (ov : Int64) : Int64 := match r with
  | .inl (some (.long v)) => v
  | .inl (some (.int v)) => v.toInt64
  | _ => ov
theorem lix_at (j q k : Nat) : lix j (q + 1) k = 160 * j + 32 * q + k := by unfold lix; omega
theorem rel_dOK {S : DS} {M : MC} (h : Rel S M) : dOK S := fun j hj ho => tx_WB (op := wOp (dW S j)) (h.2.2.2.2 j hj (by rw [← h.2.2.2.1 j hj]; exact ho)).2
theorem rel_mOK {S : DS} {M : MC} (h : Rel S M) : mOK M := fun j hj ho => by
  have h1 := h.2.2.2.2 j hj ho
  rw [← h1.1]
  exact h1.2.1
theorem txr_congr {w : WS} {M M' : MC} {j : Nat} (h : TxR w M j) (hp : mPa M' j = mPa M j) (hh : ∀ q k, q < 5 → k < 32 → mHa M' (lix j (q + 1) k) = mHa M (lix j (q + 1) k) ∧ mWr M' (lix j (q + 1) k) = mWr M (lix j (q + 1) k)) (hr : ∀ k, k < 32 → mRd M' (32 * j + k) = mRd M (32 * j + k) ∧ mSe M' (32 * j + k) = mSe M (32 * j + k)) : TxR w M' j := by
  obtain ⟨h1, h2, hV, h0, hle, hD, hL, hR, hS⟩ := h
  refine ⟨by rw [hp]; exact h1, h2, hV, h0, hle, hD, fun q hq k hk => ?_, fun k hk => ?_, fun k hk hx => ?_⟩
  · obtain ⟨a, b⟩ := hh q k (by omega) hk
    show lk2 (wCe w) (wVa w) (en (wFr w) (wPa w) (wMa w) q) (nI k) = if mHa M' (lix j (q + 1) k) = true then some (mWr M' (lix j (q + 1) k)) else none
    rw [a, b]; exact hL q hq k hk
  · dsimp only
    rw [(hr k hk).1]; exact hR k hk
  · dsimp only at hx ⊢
    rw [(hr k hk).1] at hx
    rw [(hr k hk).2]; exact hS k hk hx
theorem rel_loc {S S' : DS} {M M' : MC} {j : Nat} {w' : WS} (h : Rel S M) (hc : ∀ k, k < 32 → dCl S' k = mCl M' k ∧ dVs S' k = mCh M' k) (hd : dDn S' = mDn M') (hs : dSt S' = mSt M') (hw : dW S' = va_up (dW S) j w') (hp : ∀ i, i ≠ j → mPa M' i = mPa M i ∧ mOp M' i = mOp M i)
    (hh : ∀ q, ¬ (160 * j ≤ q ∧ q < 160 * j + 160) → mHa M' q = mHa M q ∧ mWr M' q = mWr M q) (hr : ∀ q, ¬ (32 * j ≤ q ∧ q < 32 * j + 32) → mRd M' q = mRd M q ∧ mSe M' q = mSe M q) (ho : wOp w' = mOp M' j) (ht : mOp M' j = true → TxR w' M' j) : Rel S' M' := by
  refine ⟨hc, hd, hs, fun i hi => ?_, fun i hi hx => ?_⟩
  · rw [hw]
    by_cases e : i = j
    · subst e; rw [va_up_self]; exact ho
    · rw [va_up_ne _ _ e, (hp i e).2]; exact h.2.2.2.1 i hi
  · rw [hw]
    by_cases e : i = j
    · subst e; rw [va_up_self]; exact ht hx
    · rw [va_up_ne _ _ e]
      rw [(hp i e).2] at hx
      refine txr_congr (h.2.2.2.2 i hi hx) (hp i e).1 (fun q k hq hk => hh _ ?_) (fun k hk => hr _ (by omega))
      rw [lix_at]; omega
theorem rel_stl {S : DS} {M : MC} (h : Rel S M) {j : Nat} (hj : j < 8) (ho : mOp M j = true) : dStl S j = mStl M j 32 := by
  have ht := (h.2.2.2.2 j hj ho).2
  have hR := ht.2.2.2.2.2.2.1
  have hS := ht.2.2.2.2.2.2.2
  dsimp only at hR hS
  have go : ∀ n, n ≤ 32 → stl (wRe (dW S j)) (wVe (dW S j)) (dVs S) n = mStl M j n := by
    intro n
    induction n with
    | zero => intro _; rfl
    | succ n ih =>
      intro hn
      rw [stl_succ, mStl_succ, ih (by omega), hR n (by omega), (h.1 n (by omega)).2]
      cases hx : mRd M (32 * j + n) with
      | false => simp
      | true => rw [hS n (by omega) hx]
  exact go 32 (Nat.le_refl _)
theorem rel_lk {S : DS} {M : MC} (h : Rel S M) {j k : Nat} (hj : j < 8) (ho : mOp M j = true) (hk : k < 32) : lk2 (wCe (dW S j)) (wVa (dW S j)) (wMa (dW S j)) (nI k) = if mHa M (lix j (mPa M j) k) = true then some (mWr M (lix j (mPa M j) k)) else none := by
  have ht := h.2.2.2.2 j hj ho
  have h1 := ht.2.1.1
  have h2 : lk2 (wCe (dW S j)) (wVa (dW S j)) (en (wFr (dW S j)) (wPa (dW S j)) (wMa (dW S j)) (wPa (dW S j) - 1)) (nI k) = if mHa M (lix j (wPa (dW S j) - 1 + 1) k) = true then some (mWr M (lix j (wPa (dW S j) - 1 + 1) k)) else none := ht.2.2.2.2.2.2.1 (wPa (dW S j) - 1) (by omega) k hk
  rw [en_last (by omega), show wPa (dW S j) - 1 + 1 = wPa (dW S j) by omega, ht.1] at h2
  exact h2
theorem rel_shut {S S' : DS} {M M' : MC} {j : Nat} (h : Rel S M) (hc : ∀ k, k < 32 → dCl S' k = mCl M' k ∧ dVs S' k = mCh M' k) (hd : dDn S' = mDn M') (hs : dSt S' = mSt M') (hw : dW S' = va_up (dW S) j (ws_shut (dW S j))) (hp : mPa M' = mPa M) (hh : mHa M' = mHa M) (hwr : mWr M' = mWr M) (hr : mRd M' = mRd M) (hse : mSe M' = mSe M) (ho : mOp M' = va_up (mOp M) j false) : Rel S' M' := by
  refine rel_loc h hc hd hs hw (fun i hi => ⟨by rw [hp], by rw [ho, va_up_ne _ _ hi]⟩) (fun q _ => ⟨by rw [hh], by rw [hwr]⟩) (fun q _ => ⟨by rw [hr], by rw [hse]⟩) ?_ (fun hx => ?_)
  · rw [ho, va_up_self]; rfl
  · rw [ho, va_up_self] at hx; cases hx
theorem nz1 {P : Prop} (e : (1 : Int32) = 0) : P := absurd e (by decide)
theorem nz2 {P : Prop} (e : (2 : Int32) = 0) : P := absurd e (by decide)
theorem nz3 {P : Prop} (e : (3 : Int32) = 0) : P := absurd e (by decide)
theorem nz4 {P : Prop} (e : (4 : Int32) = 0) : P := absurd e (by decide)
section Ops
variable {S : DS} {M : MC}
theorem r_begin (h : Rel S M) (t : Int32) : kO [3, 4] (d_begin t S).1 = (m_begin t M).1 ∧ Rel (d_begin t S).2 (m_begin t M).2 := by
  unfold d_begin m_begin
  cases ht : ixO t 8 with
  | none => exact ⟨rfl, h⟩
  | some j =>
    have hj := (ixO_some (by omega) ht).1
    have ho := h.2.2.2.1 j hj
    by_cases hx : mOp M j = true
    · simp only [if_pos hx, if_pos (ho.trans hx)]
      exact ⟨rfl, h⟩
    · simp only [if_neg hx, if_neg (fun e => hx (ho.symm.trans e))]
      refine ⟨rfl, ?_⟩
      obtain ⟨cl, wr, ch, pa, se, ha, rd, op, dn, st⟩ := M
      refine rel_loc (j := j) (w' := ws_begin (dW S j)) h h.1 h.2.1 h.2.2.1 rfl (fun i hi => ⟨va_up_ne _ _ hi, va_up_ne _ _ hi⟩) (fun q hq => ⟨?_, rfl⟩) (fun q hq => ⟨?_, rfl⟩) ?_ (fun _ => ⟨?_, ?_⟩)
      · show clr ha (160 * j) 32 q = ha q
        unfold clr; rw [if_neg (by omega)]
      · show clr rd (32 * j) 32 q = rd q
        unfold clr; rw [if_neg (by omega)]
      · exact (va_up_self _ _ _).symm
      · exact (va_up_self _ _ _).symm
      · refine tx_begin (fr := wFr (dW S j)) (fun k hk => ?_) (fun k hk => ?_)
        · show clr ha (160 * j) 32 (lix j (0 + 1) k) = false
          unfold clr; rw [lix_at, if_pos (by omega)]
        · show clr rd (32 * j) 32 (32 * j + k) = false
          unfold clr; rw [if_pos (by omega)]
theorem r_over (h : Rel S M) {j : Nat} : Rel (dOver S j) (mOver M j) := by
  obtain ⟨cl, wr, ch, pa, se, ha, rd, op, dn, st⟩ := M
  refine rel_shut (j := j) h h.1 h.2.1 ?_ rfl rfl rfl rfl rfl rfl rfl
  show dSt S + 1 = st + 1
  rw [h.2.2.1]
theorem r_read (h : Rel S M) (t k : Int32) : kO [3, 5, 4, 6] (d_read t k S).1 = (m_read t k M).1 ∧ Rel (d_read t k S).2 (m_read t k M).2.2 ∧ ((m_read t k M).1 = 0 → ∀ ov, oL (d_read t k S).1 ov = (m_read t k M).2.1) := by
  unfold d_read m_read
  cases ht : ixO t 8 with
  | none => exact ⟨rfl, h, fun e => nz1 e⟩
  | some j =>
    cases hk : ixO k 32 with
    | none => exact ⟨rfl, h, fun e => nz2 e⟩
    | some i =>
      obtain ⟨hi, hki⟩ := ixO_some (by omega) hk
      have hj := (ixO_some (by omega) ht).1
      have ho := h.2.2.2.1 j hj
      unfold dOpen
      simp only [ht]
      by_cases hx : mOp M j = true
      · simp only [if_pos hx, if_pos (ho.trans hx)]
        have hl := rel_lk h hj hx hi
        have hs := rel_stl h hj hx
        unfold d_rd
        rw [hki]
        unfold lk2 at hl
        cases hf : fnd (wCe (dW S j)) (nI i) 0 (wMa (dW S j)) with
        | some q =>
          rw [hf] at hl
          by_cases hh : mHa M (lix j (mPa M j) i) = true
          · simp only [if_pos hh, Option.map_some, Option.some.injEq] at hl ⊢
            exact ⟨rfl, h, fun _ _ => hl⟩
          · rw [if_neg hh] at hl; cases hl
        | none =>
          rw [hf] at hl
          by_cases hh : mHa M (lix j (mPa M j) i) = true
          · rw [if_pos hh] at hl; cases hl
          · simp only [if_neg hh]
            by_cases hst : mStl M j 32 = true
            · simp only [if_pos hst, if_pos (hs.trans hst)]
              exact ⟨rfl, r_over h, fun e => nz4 e⟩
            · simp only [if_neg hst, if_neg (fun e => hst (hs.symm.trans e))]
              refine ⟨rfl, ?_, fun _ _ => (h.1 i hi).1⟩
              have htx := h.2.2.2.2 j hj hx
              have hv := (h.1 i hi).2
              obtain ⟨cl, wr, ch, pa, se, ha, rd, op, dn, st⟩ := M
              refine rel_loc (j := j) (w' := ws_look (dW S j) i (dVs S i)) h h.1 h.2.1 h.2.2.1 rfl (fun _ _ => ⟨rfl, rfl⟩) (fun q hq => ⟨rfl, rfl⟩) (fun q hq => ⟨?_, ?_⟩) ?_ (fun _ => ?_)
              · exact va_up_ne _ _ (by omega)
              · show (if rd (32 * j + i) = true then se else upd se (32 * j + i) (ch i)) q = se q
                by_cases hb : rd (32 * j + i) = true
                · rw [if_pos hb]
                · rw [if_neg hb]; simp only [upd, if_neg (show ¬ q = 32 * j + i by omega)]
              · show _ = op j
                refine Eq.trans ?_ ho
                unfold ws_look
                by_cases hb : bit (wRe (dW S j)) i = true
                · simp only [if_pos hb]
                · simp only [if_neg hb]
              · have h2 := tx_look (op := wOp (dW S j)) (now := dVs S i) (rd' := fun k => va_up rd (32 * j + i) true (32 * j + k)) (se' := fun k => (if rd (32 * j + i) = true then se else upd se (32 * j + i) (ch i)) (32 * j + k)) hi htx.2 (fun k hk => ?_) (fun k hk => ?_)
                · exact ⟨h2.1.trans htx.1, h2.2⟩
                · show va_up rd (32 * j + i) true (32 * j + k) = (rd (32 * j + k) || decide (k = i))
                  by_cases e : k = i
                  · rw [e, va_up_self]; simp
                  · rw [va_up_ne _ _ (by omega), decide_eq_false e, Bool.or_false]
                · show (if rd (32 * j + i) = true then se else upd se (32 * j + i) (ch i)) (32 * j + k) = if rd (32 * j + i) = false ∧ k = i then dVs S i else se (32 * j + k)
                  by_cases hb : rd (32 * j + i) = true
                  · rw [if_pos hb, if_neg (fun e => by rw [hb] at e; cases e.1)]
                  · rw [if_neg hb]
                    by_cases e : k = i
                    · rw [if_pos ⟨Bool.eq_false_iff.mpr hb, e⟩, hv, e]; simp [upd]
                    · rw [if_neg (fun e2 => e e2.2)]
                      simp only [upd, if_neg (show ¬ 32 * j + k = 32 * j + i by omega)]
      · simp only [if_neg hx, if_neg (fun e => hx (ho.symm.trans e))]
        exact ⟨rfl, h, fun e => nz3 e⟩
theorem r_write (h : Rel S M) (t k : Int32) (v : Int64) : kO [3, 5, 4] (d_write t k v S).1 = (m_write t k v M).1 ∧ Rel (d_write t k v S).2 (m_write t k v M).2 := by
  unfold d_write m_write
  cases ht : ixO t 8 with
  | none => exact ⟨rfl, h⟩
  | some j =>
    cases hk : ixO k 32 with
    | none => exact ⟨rfl, h⟩
    | some i =>
      obtain ⟨hi, hki⟩ := ixO_some (by omega) hk
      have hj := (ixO_some (by omega) ht).1
      have ho := h.2.2.2.1 j hj
      unfold dOpen
      simp only [ht]
      by_cases hx : mOp M j = true
      · simp only [if_pos hx, if_pos (ho.trans hx)]
        refine ⟨rfl, ?_⟩
        have htx := h.2.2.2.2 j hj hx
        have hpa := htx.1
        have h15 := htx.2.1
        rw [hki]
        obtain ⟨cl, wr, ch, pa, se, ha, rd, op, dn, st⟩ := M
        replace hpa : wPa (dW S j) = pa j := hpa
        have hq : lix j (pa j) i = 160 * j + 32 * (pa j - 1) + i := by rw [← lix_at, show pa j - 1 + 1 = pa j by omega]
        show Rel _ (cl, vp_updL wr (lix j (pa j) i) v, ch, pa, se, va_up ha (lix j (pa j) i) true, rd, op, dn, st)
        rw [hq]
        refine rel_loc (j := j) (w' := ws_write (dW S j) (nI i) v) h h.1 h.2.1 h.2.2.1 rfl (fun _ _ => ⟨rfl, rfl⟩) (fun q hq => ⟨?_, ?_⟩) (fun q hq => ⟨rfl, rfl⟩) ?_ (fun _ => ?_)
        · exact va_up_ne _ _ (by omega)
        · show vp_updL wr _ v q = wr q
          simp only [vp_updL, if_neg (show ¬ q = 160 * j + 32 * (pa j - 1) + i by omega)]
        · show _ = op j
          refine Eq.trans ?_ ho
          unfold ws_write
          cases hf : fnd (wCe (dW S j)) (nI i) (wFr (dW S j) (wPa (dW S j) - 1)) (wMa (dW S j)) <;> simp only [hf]
        · have h2 := tx_write (op := wOp (dW S j)) (v := v) (ha' := fun q k => va_up ha (160 * j + 32 * (pa j - 1) + i) true (lix j (q + 1) k)) (wr' := fun q k => vp_updL wr (160 * j + 32 * (pa j - 1) + i) v (lix j (q + 1) k)) hi htx.2 (fun q k hq hk => ?_) (fun q k hq hk => ?_)
          · exact ⟨h2.1.trans htx.1, h2.2⟩
          · show va_up ha _ true (lix j (q + 1) k) = if q = wPa (dW S j) - 1 ∧ k = i then true else ha (lix j (q + 1) k)
            rw [lix_at, hpa]
            by_cases e : q = pa j - 1 ∧ k = i
            · rw [if_pos e, e.1, e.2, va_up_self]
            · rw [if_neg e, va_up_ne _ _ (by omega)]
          · show vp_updL wr _ v (lix j (q + 1) k) = if q = wPa (dW S j) - 1 ∧ k = i then v else wr (lix j (q + 1) k)
            rw [lix_at, hpa]
            by_cases e : q = pa j - 1 ∧ k = i
            · rw [if_pos e, e.1, e.2]; simp [vp_updL]
            · rw [if_neg e]; simp only [vp_updL, if_neg (show ¬ 160 * j + 32 * q + k = 160 * j + 32 * (pa j - 1) + i by omega)]
      · simp only [if_neg hx, if_neg (fun e => hx (ho.symm.trans e))]
        exact ⟨rfl, h⟩
theorem r_save (h : Rel S M) (t : Int32) : kO [3, 4, 6] (d_save t S).1 = (m_save t M).1 ∧ Rel (d_save t S).2 (m_save t M).2.2 ∧ ((m_save t M).1 = 0 → ∀ ov, oL (d_save t S).1 ov = (m_save t M).2.1.toInt64) := by
  unfold d_save m_save dOpen
  cases ht : ixO t 8 with
  | none => exact ⟨rfl, h, fun e => nz1 e⟩
  | some j =>
    have hj := (ixO_some (by omega) ht).1
    have ho := h.2.2.2.1 j hj
    by_cases hx : mOp M j = true
    · simp only [if_pos hx, if_pos (ho.trans hx)]
      have htx := h.2.2.2.2 j hj hx
      have hpa := htx.1
      have h15 := htx.2.1
      by_cases h5 : mPa M j = 5
      · simp only [if_pos h5, if_neg (show ¬ wPa (dW S j) < 5 by omega)]
        exact ⟨rfl, h, fun e => nz3 e⟩
      · simp only [if_neg h5, if_pos (show wPa (dW S j) < 5 by omega)]
        refine ⟨rfl, ?_, fun _ _ => by rw [← hpa]; rfl⟩
        obtain ⟨cl, wr, ch, pa, se, ha, rd, op, dn, st⟩ := M
        replace hpa : wPa (dW S j) = pa j := hpa
        replace h5 : ¬ pa j = 5 := h5
        have hs : lix j (pa j) 0 = 160 * j + 32 * (pa j - 1) := by unfold lix; omega
        have hd : lix j (pa j + 1) 0 = 160 * j + 32 * pa j := by unfold lix; omega
        show Rel _ (cl, va_cpy wr wr (lix j (pa j) 0) (lix j (pa j + 1) 0) 32, ch, va_up pa j (pa j + 1), se, va_cpy ha ha (lix j (pa j) 0) (lix j (pa j + 1) 0) 32, rd, op, dn, st)
        rw [hs, hd]
        refine rel_loc (j := j) (w' := ws_save (dW S j)) h h.1 h.2.1 h.2.2.1 rfl (fun i hi => ⟨va_up_ne _ _ hi, rfl⟩) (fun q hq => ⟨?_, ?_⟩) (fun q hq => ⟨rfl, rfl⟩) ho (fun _ => ⟨?_, ?_⟩)
        · show va_cpy ha ha _ _ 32 q = ha q
          unfold va_cpy; rw [if_neg (by omega)]
        · show va_cpy wr wr _ _ 32 q = wr q
          unfold va_cpy; rw [if_neg (by omega)]
        · show wPa (dW S j) + 1 = va_up pa j (pa j + 1) j
          rw [va_up_self, hpa]
        · refine tx_save (show wPa (dW S j) < 5 by omega) htx.2 (fun q k hq hk => ?_) (fun q k hq hk => ?_)
          · show va_cpy ha ha _ _ 32 (lix j (q + 1) k) = if q = wPa (dW S j) then ha (lix j (wPa (dW S j) - 1 + 1) k) else ha (lix j (q + 1) k)
            rw [lix_at, lix_at, hpa]
            unfold va_cpy
            by_cases e : q = pa j
            · rw [if_pos e, if_pos (by omega)]; congr 1; omega
            · rw [if_neg e, if_neg (by omega)]
          · show va_cpy wr wr _ _ 32 (lix j (q + 1) k) = if q = wPa (dW S j) then wr (lix j (wPa (dW S j) - 1 + 1) k) else wr (lix j (q + 1) k)
            rw [lix_at, lix_at, hpa]
            unfold va_cpy
            by_cases e : q = pa j
            · rw [if_pos e, if_pos (by omega)]; congr 1; omega
            · rw [if_neg e, if_neg (by omega)]
    · simp only [if_neg hx, if_neg (fun e => hx (ho.symm.trans e))]
      exact ⟨rfl, h, fun e => nz2 e⟩
theorem r_back (h : Rel S M) (t : Int32) : kO [3, 4, 6] (d_back t S).1 = (m_back t M).1 ∧ Rel (d_back t S).2 (m_back t M).2 := by
  unfold d_back m_back dOpen
  cases ht : ixO t 8 with
  | none => exact ⟨rfl, h⟩
  | some j =>
    have hj := (ixO_some (by omega) ht).1
    have ho := h.2.2.2.1 j hj
    by_cases hx : mOp M j = true
    · simp only [if_pos hx, if_pos (ho.trans hx)]
      have htx := h.2.2.2.2 j hj hx
      have hpa := htx.1
      have h15 := htx.2.1
      by_cases h5 : mPa M j = 1
      · simp only [if_pos h5, if_neg (show ¬ 1 < wPa (dW S j) by omega)]
        exact ⟨rfl, h⟩
      · simp only [if_neg h5, if_pos (show 1 < wPa (dW S j) by omega)]
        refine ⟨rfl, ?_⟩
        obtain ⟨cl, wr, ch, pa, se, ha, rd, op, dn, st⟩ := M
        replace hpa : wPa (dW S j) = pa j := hpa
        replace h5 : ¬ pa j = 1 := h5
        refine rel_loc (j := j) (w' := ws_back (dW S j)) h h.1 h.2.1 h.2.2.1 rfl (fun i hi => ⟨va_up_ne _ _ hi, rfl⟩) (fun q hq => ⟨rfl, rfl⟩) (fun q hq => ⟨rfl, rfl⟩) ho (fun _ => ⟨?_, ?_⟩)
        · show wPa (dW S j) - 1 = va_up pa j (pa j - 1) j
          rw [va_up_self, hpa]
        · exact tx_back (show 1 < wPa (dW S j) by omega) htx.2
    · simp only [if_neg hx, if_neg (fun e => hx (ho.symm.trans e))]
      exact ⟨rfl, h⟩
theorem r_keep (h : Rel S M) (t : Int32) : kO [3, 4, 6] (d_keep t S).1 = (m_keep t M).1 ∧ Rel (d_keep t S).2 (m_keep t M).2 := by
  unfold d_keep m_keep dOpen
  cases ht : ixO t 8 with
  | none => exact ⟨rfl, h⟩
  | some j =>
    have hj := (ixO_some (by omega) ht).1
    have ho := h.2.2.2.1 j hj
    by_cases hx : mOp M j = true
    · simp only [if_pos hx, if_pos (ho.trans hx)]
      have htx := h.2.2.2.2 j hj hx
      have hpa := htx.1
      have h15 := htx.2.1
      by_cases h5 : mPa M j = 1
      · simp only [if_pos h5, if_neg (show ¬ 1 < wPa (dW S j) by omega)]
        exact ⟨rfl, h⟩
      · simp only [if_neg h5, if_pos (show 1 < wPa (dW S j) by omega)]
        refine ⟨rfl, ?_⟩
        obtain ⟨cl, wr, ch, pa, se, ha, rd, op, dn, st⟩ := M
        replace hpa : wPa (dW S j) = pa j := hpa
        replace h5 : ¬ pa j = 1 := h5
        have hs : lix j (pa j) 0 = 160 * j + 32 * (pa j - 1) := by unfold lix; omega
        have hd : lix j (pa j - 1) 0 = 160 * j + 32 * (pa j - 2) := by unfold lix; omega
        show Rel _ (cl, va_cpy wr wr (lix j (pa j) 0) (lix j (pa j - 1) 0) 32, ch, va_up pa j (pa j - 1), se, va_cpy ha ha (lix j (pa j) 0) (lix j (pa j - 1) 0) 32, rd, op, dn, st)
        rw [hs, hd]
        have h2 := tx_keep (op := wOp (dW S j)) (ha' := fun q k => va_cpy ha ha (160 * j + 32 * (pa j - 1)) (160 * j + 32 * (pa j - 2)) 32 (lix j (q + 1) k)) (wr' := fun q k => va_cpy wr wr (160 * j + 32 * (pa j - 1)) (160 * j + 32 * (pa j - 2)) 32 (lix j (q + 1) k)) (show 1 < wPa (dW S j) by omega) htx.2 (fun q k hq hk => ?_) (fun q k hq hk => ?_)
        · refine rel_loc (j := j) (w' := ws_keep (dW S j)) h h.1 h.2.1 h.2.2.1 rfl (fun i hi => ⟨va_up_ne _ _ hi, rfl⟩) (fun q hq => ⟨?_, ?_⟩) (fun q hq => ⟨rfl, rfl⟩) (h2.2.trans ho) (fun _ => ⟨?_, h2.1.2⟩)
          · show va_cpy ha ha _ _ 32 q = ha q
            unfold va_cpy; rw [if_neg (by omega)]
          · show va_cpy wr wr _ _ 32 q = wr q
            unfold va_cpy; rw [if_neg (by omega)]
          · refine h2.1.1.trans ?_
            show wPa (dW S j) - 1 = va_up pa j (pa j - 1) j
            rw [va_up_self, hpa]
        · show va_cpy ha ha _ _ 32 (lix j (q + 1) k) = if q = wPa (dW S j) - 2 then ha (lix j (wPa (dW S j) - 1 + 1) k) else ha (lix j (q + 1) k)
          rw [lix_at, lix_at, hpa]
          unfold va_cpy
          by_cases e : q = pa j - 2
          · rw [if_pos e, if_pos (by omega)]; congr 1; omega
          · rw [if_neg e, if_neg (by omega)]
        · show va_cpy wr wr _ _ 32 (lix j (q + 1) k) = if q = wPa (dW S j) - 2 then wr (lix j (wPa (dW S j) - 1 + 1) k) else wr (lix j (q + 1) k)
          rw [lix_at, lix_at, hpa]
          unfold va_cpy
          by_cases e : q = pa j - 2
          · rw [if_pos e, if_pos (by omega)]; congr 1; omega
          · rw [if_neg e, if_neg (by omega)]
    · simp only [if_neg hx, if_neg (fun e => hx (ho.symm.trans e))]
      exact ⟨rfl, h⟩
theorem r_done (h : Rel S M) (t : Int32) : kO [3, 4] (d_done t S).1 = (m_done t M).1 ∧ Rel (d_done t S).2 (m_done t M).2.2 ∧ ((m_done t M).1 = 0 → ∀ ov, oL (d_done t S).1 ov = if (m_done t M).2.1 = true then 1 else 0) := by
  unfold d_done m_done dOpen
  cases ht : ixO t 8 with
  | none => exact ⟨rfl, h, fun e => nz1 e⟩
  | some j =>
    have hj := (ixO_some (by omega) ht).1
    have ho := h.2.2.2.1 j hj
    by_cases hx : mOp M j = true
    · simp only [if_pos hx, if_pos (ho.trans hx)]
      have hs := rel_stl h hj hx
      by_cases hst : mStl M j 32 = true
      · simp only [if_pos hst, if_pos (hs.trans hst)]
        exact ⟨rfl, r_over h, fun _ _ => rfl⟩
      · simp only [if_neg hst, if_neg (fun e => hst (hs.symm.trans e))]
        refine ⟨rfl, ?_, fun _ _ => rfl⟩
        have hl := fun k hk => rel_lk h hj hx (k := k) hk
        have hV := (h.2.2.2.2 j hj hx).2.2.1
        have hm := fun k => mPuts_at M j (mPa M j) (k := k) 32
        have h1 := h.1
        obtain ⟨cl, wr, ch, pa, se, ha, rd, op, dn, st⟩ := M
        refine rel_shut (j := j) h (fun k hk => ?_) ?_ h.2.2.1 rfl rfl rfl rfl rfl rfl rfl
        · obtain ⟨a, b⟩ := dPuts_lk hV (dCl S, dVs S) hk (hl k hk)
          obtain ⟨a', b'⟩ := hm k
          refine ⟨a.trans (Eq.trans ?_ a'.symm), b.trans (Eq.trans ?_ b'.symm)⟩
          · by_cases hh : ha (lix j (pa j) k) = true
            · exact (if_pos hh).trans (if_pos ⟨hk, hh⟩).symm
            · exact (if_neg hh).trans ((h1 k hk).1.trans (if_neg (fun e => hh e.2)).symm)
          · by_cases hh : ha (lix j (pa j) k) = true
            · refine (if_pos hh).trans (Eq.trans ?_ (if_pos ⟨hk, hh⟩).symm)
              show dVs S k + 1 = ch k + 1
              rw [(h1 k hk).2]
            · exact (if_neg hh).trans ((h1 k hk).2.trans (if_neg (fun e => hh e.2)).symm)
        · show dDn S + 1 = dn + 1
          rw [h.2.1]
    · simp only [if_neg hx, if_neg (fun e => hx (ho.symm.trans e))]
      exact ⟨rfl, h, fun e => nz2 e⟩
theorem r_leave (h : Rel S M) (t : Int32) : kO [3, 4] (d_leave t S).1 = (m_leave t M).1 ∧ Rel (d_leave t S).2 (m_leave t M).2 := by
  unfold d_leave m_leave dOpen
  cases ht : ixO t 8 with
  | none => exact ⟨rfl, h⟩
  | some j =>
    have hj := (ixO_some (by omega) ht).1
    have ho := h.2.2.2.1 j hj
    by_cases hx : mOp M j = true
    · simp only [if_pos hx, if_pos (ho.trans hx)]
      refine ⟨rfl, ?_⟩
      obtain ⟨cl, wr, ch, pa, se, ha, rd, op, dn, st⟩ := M
      exact rel_shut (j := j) h h.1 h.2.1 h.2.2.1 rfl rfl rfl rfl rfl rfl rfl
    · simp only [if_neg hx, if_neg (fun e => hx (ho.symm.trans e))]
      exact ⟨rfl, h⟩
theorem r_set (h : Rel S M) (k : Int32) (v : Int64) : kO [5] (d_set k v S).1 = (m_set k v M).1 ∧ Rel (d_set k v S).2 (m_set k v M).2 := by
  unfold d_set m_set
  cases hk : ixO k 32 with
  | none => exact ⟨rfl, h⟩
  | some i =>
    have hi := (ixO_some (by omega) hk).1
    obtain ⟨cl, wr, ch, pa, se, ha, rd, op, dn, st⟩ := M
    refine ⟨rfl, fun q hq => ⟨?_, ?_⟩, h.2.1, h.2.2.1, h.2.2.2.1, h.2.2.2.2⟩
    · show vp_updL (dCl S) i v q = vp_updL cl i v q
      unfold vp_updL
      rw [(h.1 q hq).1]
    · show upd (dVs S) i (dVs S i + 1) q = upd ch i (ch i + 1) q
      unfold upd
      rw [(h.1 q hq).2, (h.1 i hi).2]
theorem r_cell (h : Rel S M) (k : Int32) : kO [5] (d_cell k S).1 = (m_cell k M).1 ∧ Rel (d_cell k S).2 M ∧ ((m_cell k M).1 = 0 → ∀ ov, oL (d_cell k S).1 ov = (m_cell k M).2) := by
  unfold d_cell m_cell
  cases hk : ixO k 32 with
  | none => exact ⟨rfl, h, fun e => nz1 e⟩
  | some i => exact ⟨rfl, h, fun _ _ => (h.1 i (ixO_some (by omega) hk).1).1⟩
theorem r_changed (h : Rel S M) (k : Int32) : kO [5] (d_changed k S).1 = (m_changed k M).1 ∧ Rel (d_changed k S).2 M ∧ ((m_changed k M).1 = 0 → ∀ ov, oL (d_changed k S).1 ov = (m_changed k M).2.toInt64) := by
  unfold d_changed m_changed
  cases hk : ixO k 32 with
  | none => exact ⟨rfl, h, fun e => nz1 e⟩
  | some i => exact ⟨rfl, h, fun _ _ => congrArg Int32.toInt64 (h.1 i (ixO_some (by omega) hk).1).2⟩
theorem r_count (h : Rel S M) (t k : Int32) : kO [3, 4] (d_count t k S).1 = (m_count t k M).1 ∧ Rel (d_count t k S).2 M ∧ ((m_count t k M).1 = 0 → ∀ ov, oL (d_count t k S).1 ov = (m_count t k M).2.toInt64) := by
  unfold d_count m_count dOpen
  cases hk : ixO k 4 with
  | none =>
    cases ht : ixO t 8 with
    | none => exact ⟨rfl, h, fun e => nz1 e⟩
    | some j => exact ⟨rfl, h, fun e => nz1 e⟩
  | some q =>
    cases ht : ixO t 8 with
    | none => exact ⟨rfl, h, fun e => nz1 e⟩
    | some j =>
      have hj := (ixO_some (by omega) ht).1
      have ho := h.2.2.2.1 j hj
      by_cases hx : mOp M j = true
      · simp only [if_pos hx, if_pos (ho.trans hx)]
        refine ⟨rfl, h, fun _ _ => congrArg Int32.toInt64 ?_⟩
        have htx := h.2.2.2.2 j hj hx
        unfold mCnt
        by_cases q0 : q = 0
        · rw [if_pos q0, if_pos q0, bcI_cnt, cnt_congr (fun k hk => htx.2.2.2.2.2.2.2.1 k hk)]
        · rw [if_neg q0, if_neg q0]
          by_cases q1 : q = 1
          · rw [if_pos q1, if_pos q1, bcI_cnt, cnt_congr (g := fun k => mHa M (lix j (mPa M j) k)) (fun k hk => ?_)]
            have hl := rel_lk h hj hx hk
            unfold lk2 at hl
            rw [bit_orN hk htx.2.2.1]
            cases hf : fnd (wCe (dW S j)) (nI k) 0 (wMa (dW S j)) with
            | none =>
              rw [hf] at hl
              cases hh : mHa M (lix j (mPa M j) k) with
              | true => rw [hh] at hl; cases hl
              | false => rfl
            | some y =>
              rw [hf] at hl
              cases hh : mHa M (lix j (mPa M j) k) with
              | true => rfl
              | false => rw [hh] at hl; cases hl
          · rw [if_neg q1, if_neg q1, htx.1, rel_stl h hj hx]
      · simp only [if_neg hx, if_neg (fun e => hx (ho.symm.trans e))]
        exact ⟨rfl, h, fun e => nz2 e⟩
theorem opN_cnt (w : Nat → WS) : ∀ n, opN w n = cntN (fun j => wOp (w j)) n
  | 0 => rfl
  | n + 1 => by rw [opN, cntN, opN_cnt w n]
theorem r_all (h : Rel S M) (k : Int32) : kO [3] (d_all k S).1 = (m_all k M).1 ∧ Rel (d_all k S).2 M ∧ ((m_all k M).1 = 0 → ∀ ov, oL (d_all k S).1 ov = (m_all k M).2.toInt64) := by
  unfold d_all m_all
  cases hk : ixO k 3 with
  | none => exact ⟨rfl, h, fun e => nz1 e⟩
  | some q =>
    refine ⟨rfl, h, fun _ _ => congrArg Int32.toInt64 ?_⟩
    rw [opN_cnt, cnt_congr (g := mOp M) (fun j hj => h.2.2.2.1 j hj), h.2.1, h.2.2.1]
theorem rel_0 : Rel dS_0 mc_0 := ⟨fun _ _ => ⟨rfl, rfl⟩, rfl, rfl, fun _ _ => rfl, fun _ _ h => by cases h⟩
end Ops
end
section
/-! Walks of CommitDeskLaw, 1: its wrappers. Printed by prog/mkL.py and prog/walk.py. -/
abbrev rmL : Room := cd_rm 10 6 36 168
theorem kt_3 : Cond.castable (cd_X 3) "java/lang/IllegalArgumentException" ∈ cd_TB := cd_in 102 (by decide +kernel) rfl
theorem kt_4 : Cond.castable (cd_X 4) "java/lang/IllegalStateException" ∈ cd_TB := cd_in 166 (by decide +kernel) rfl
theorem kt_5 : Cond.castable (cd_X 5) "java/lang/IndexOutOfBoundsException" ∈ cd_TB := cd_in 197 (by decide +kernel) rfl
theorem kt_6 : Cond.castable (cd_X 6) "java/lang/UnsupportedOperationException" ∈ cd_TB := cd_in 239 (by decide +kernel) rfl
theorem dk_recvL {p : Program} {s : State} {m : MethodId} {args : Array Value} {c : Code} {G : cd_G} {cc : ByteArray} {own : String} {nL : Nat} {A : Nat → Prop} {H : Heap} {d : Nat} {S : DS} (ct : cd_Ct G p s m args c cc own nL A) (hP : dkP G d S H) : ∃ cell : Cell, H[d]? = some cell ∧ cell.vm.isStatics = false ∧ s.vm.findClass "CommitDesk" = some cell.cls := by
  obtain ⟨cl, vs, dn, st, w⟩ := S
  exact va_recv (q := (R_D, F_D, 5)) (q0 := 0) ct.2.2.2.2.2.1.1 hP.1 rfl rfl
/-- the out cell -/
def uo (G : cd_G) (u : Nat) (ov : Nat → Int64) : va_W := [(u, .inl (cd_cL G, 1, .inr (.inl ov)))]
def uA (d u : Nat) : Nat → Prop := fun q => rg d 44 q ∨ q = u
def oF (r : DR) (ov : Nat → Int64) : Nat → Int64 := vp_updL ov 0 (oL r (ov 0))
theorem oF_thr (k : Nat) (ov : Nat → Int64) : oF (.inr k) ov = ov := by
  funext j
  unfold oF vp_updL
  by_cases h : j = 0
  · rw [if_pos h, h]; rfl
  · rw [if_neg h]
theorem uA_z {z d u : Nat} (hz : z < d) (hu : d + 44 ≤ u) : ¬ uA d u z := fun h => by
  rcases h with h | h
  · have := h.1; omega
  · omega
theorem uo_D (G : cd_G) (d u : Nat) (ov : Nat → Int64) (s : State) : va_D (cd_xA (uA d u) s) (uo G u ov) :=
  cd_Dx (lo := u) (n := 1) (cd_cons u rfl) (fun q h => Or.inr (by have h1 := h.1; have h2 := h.2; omega))
theorem uo_keep {G : cd_G} {d u : Nat} {ov : Nat → Int64} {H H1 : Heap} (hu : d + 44 ≤ u) (h : va_P G.1 cd_cls (uo G u ov) H) (hF : cd_FR (rg d 44) H H1) : va_P G.1 cd_cls (uo G u ov) H1 :=
  cd_keep h hF fun k q hk hq => by
    have h1 := (cd_cons (ws := uo G u ov) u rfl).2 k q hk
    have h2 := hq.2
    have h3 := h1.1
    omega
theorem dkP_q {G : cd_G} {d u : Nat} {S : DS} {H H1 : Heap} (hu : d + 44 ≤ u) (h : dkP G d S H) (hq : ∀ q, q ≠ u → H1[q]? = H[q]?) : dkP G d S H1 := by
  obtain ⟨cl, vs, dn, st, w⟩ := S
  exact ⟨h.1.kept fun k q hk => hq _ (by have h2 := ((dk_D G d cl vs dn st).2 k q hk).2; omega), dkW_same h.2 fun q h1 => hq q (by have := h1.2; omega)⟩
theorem uo_at {G : cd_G} {u : Nat} {ov : Nat → Int64} {H : Heap} (h : va_P G.1 cd_cls (uo G u ov) H) : va_P G.1 cd_cls [(u, .inl (cd_cL G, 1, .inr (.inl ov)))] H := h
theorem sh_begin (S : DS) (t : Int32) : ((d_begin t S).1 = .inl none) ∨ (d_begin t S).1 = .inr 3 ∨ (d_begin t S).1 = .inr 4 := by
  unfold d_begin
  try dsimp only
  repeat' split
  all_goals first
    | exact Or.inl rfl
    | exact Or.inr (Or.inl rfl)
    | exact Or.inr (Or.inr (rfl))
set_option maxHeartbeats 4000000 in
theorem c_L_begin (l : Launch) (hfl : l.flags = flags0) (G : cd_G) (d : Nat) (S : DS) (t : Int32) (hz : cd_z G < d) : cd_Con l y_L_begin cw_L_begin rmL [.ref d, .int t] G (dkP G d S) (fun o H => o = .returned (some (.int (kO [3, 4] (d_begin t S).1))) ∧ dkP G d (d_begin t S).2 H) (rg d 44) := by
  refine cd_ofW (by decide) ok_L_begin.1 (Nat.le_of_ble_eq_true rfl) (rg_z hz) ?_
  intro p e s m below meth c ct hlk hr hxt hnm hP ls hl
  have hx := ct.1
  have hb := ct.2.1
  have hS : va_S (cd_xA (rg d 44) s) s.heap s.heap [] := va_S.rf
  have hsh := sh_begin S t
  refine lv_aload_n hx hb d_L_begin_0 rfl (lk hl rfl) ?_
  refine lv_iload_n hx hb d_L_begin_1 rfl (lk hl rfl) ?_
  refine cd_callV (As := [.int t]) (rest := []) ct hS (c_D_begin l hfl G d S t hz) cv_L_7 ⟨⟨by decide, by decide⟩, by decide, by decide⟩ (dk_recvL ct hP) hP hl.1 rfl rfl (Nat.le_of_ble_eq_true rfl) d_L_begin_2 (fun q _ h => Or.inl h) (fun v H1 locs1 hq hF hS => ?_) (fun a H1 locs1 hq hF hS => ?_)
  · obtain ⟨hq, hP⟩ := hq
    rcases hsh with h | h | h
    · rw [h] at hq
      cases hq
      refine lv_goto (tgt := 14) hx hb d_L_begin_5 (by decide) ?_
      refine lv_iconst (v := 0) hx hb d_L_begin_14 (by decide) ?_
      exact cd_iret ct hlk hr hS ⟨by decide, by decide⟩ ⟨by rw [h]; rfl, hP⟩ d_L_begin_15
    · rw [h] at hq; obtain ⟨_, h2, _⟩ := hq; cases h2
    · rw [h] at hq; obtain ⟨_, h2, _⟩ := hq; cases h2
  · obtain ⟨hq, hP⟩ := hq
    rcases hsh with h | h | h
    · rw [h] at hq; cases hq
    · rw [h] at hq
      obtain ⟨b, h2, hX⟩ := hq
      cases h2
      refine cd_catch (k := 3) (r := 8) ct hxt hX rfl ⟨⟨by decide, by decide, by decide⟩, _, cl_L_13, Or.inl ⟨kt_3, rfl⟩⟩ ?_
      refine lv_astore_n hx hb d_L_begin_8 rfl hl (by decide) rfl (fun ls hl => ?_)
      refine lv_iconst (v := 1) hx hb d_L_begin_9 (by decide) ?_
      exact cd_iret ct hlk hr hS ⟨by decide, by decide⟩ ⟨by rw [h]; rfl, hP⟩ d_L_begin_10
    · rw [h] at hq
      obtain ⟨b, h2, hX⟩ := hq
      cases h2
      refine cd_catch (k := 4) (r := 11) ct hxt hX rfl ⟨⟨by decide, by decide, by decide⟩, _, cl_L_13, Or.inr ⟨by decide +kernel, ⟨⟨by decide, by decide, by decide⟩, _, cl_L_15, Or.inl ⟨kt_4, rfl⟩⟩⟩⟩ ?_
      refine lv_astore_n hx hb d_L_begin_11 rfl hl (by decide) rfl (fun ls hl => ?_)
      refine lv_iconst (v := 2) hx hb d_L_begin_12 (by decide) ?_
      exact cd_iret ct hlk hr hS ⟨by decide, by decide⟩ ⟨by rw [h]; rfl, hP⟩ d_L_begin_13
theorem sh_read (S : DS) (t k : Int32) : (∃ v, (d_read t k S).1 = .inl (some (.long v))) ∨ (d_read t k S).1 = .inr 3 ∨ (d_read t k S).1 = .inr 5 ∨ (d_read t k S).1 = .inr 4 ∨ (d_read t k S).1 = .inr 6 := by
  unfold d_read dOpen d_rd
  try dsimp only
  repeat' split
  all_goals first
    | exact Or.inl ⟨_, rfl⟩
    | exact Or.inr (Or.inl rfl)
    | exact Or.inr (Or.inr (Or.inl rfl))
    | exact Or.inr (Or.inr (Or.inr (Or.inl rfl)))
    | exact Or.inr (Or.inr (Or.inr (Or.inr (rfl))))
set_option maxHeartbeats 4000000 in
theorem c_L_read (l : Launch) (hfl : l.flags = flags0) (G : cd_G) (d u : Nat) (ov : Nat → Int64) (S : DS) (t k : Int32) (hz : cd_z G < d) (hu : d + 44 ≤ u) (hok : dOK S) : cd_Con l y_L_read cw_L_read rmL [.ref d, .int t, .int k, .ref u] G (fun H => dkP G d S H ∧ va_P G.1 cd_cls (uo G u ov) H) (fun o H => o = .returned (some (.int (kO [3, 5, 4, 6] (d_read t k S).1))) ∧ dkP G d (d_read t k S).2 H ∧ va_P G.1 cd_cls (uo G u (oF (d_read t k S).1 ov)) H) (uA d u) := by
  refine cd_ofW (by decide) ok_L_read.1 (Nat.le_of_ble_eq_true rfl) (uA_z hz hu) ?_
  intro p e s m below meth c ct hlk hr hxt hnm hP ls hl
  have hx := ct.1
  have hb := ct.2.1
  have hS : va_S (cd_xA (uA d u) s) s.heap s.heap [] := va_S.rf
  obtain ⟨hP, hU⟩ := hP
  have hsh := sh_read S t k
  refine lv_aload_n hx hb d_L_read_0 rfl (lk hl rfl) ?_
  refine lv_iconst (v := 0) hx hb d_L_read_1 (by decide) ?_
  refine lv_aload_n hx hb d_L_read_2 rfl (lk hl rfl) ?_
  refine lv_iload_n hx hb d_L_read_3 rfl (lk hl rfl) ?_
  refine lv_iload_n hx hb d_L_read_4 rfl (lk hl rfl) ?_
  refine cd_callV (As := [.int t, .int k]) (rest := [.int 0, .ref u]) ct hS (c_D_read l hfl G d S t k hz hok) cv_L_17 ⟨⟨by decide, by decide⟩, by decide, by decide⟩ (dk_recvL ct hP) hP hl.1 rfl rfl (Nat.le_of_ble_eq_true rfl) d_L_read_5 (fun q _ h => Or.inl (Or.inl h)) (fun v H1 locs1 hq hF hS => ?_) (fun a H1 locs1 hq hF hS => ?_)
  · obtain ⟨hq, hP⟩ := hq
    have hU := uo_keep hu hU hF
    rcases hsh with ⟨v1, h⟩ | h | h | h | h
    · rw [h] at hq
      cases hq
      refine cd_last ct (uo_at hU) (uo_D G d u ov s) hS 0 rfl 0 ⟨by decide, by decide⟩ rfl d_L_read_8 (fun H2 locs2 hU hz1 hq1 hS => ?_)
      replace hP := dkP_q hu hP hq1
      refine lv_goto (tgt := 28) hx hb d_L_read_9 (by decide) ?_
      refine lv_iconst (v := 0) hx hb d_L_read_28 (by decide) ?_
      exact cd_iret ct hlk hr hS ⟨by decide, by decide⟩ ⟨by rw [h]; rfl, hP, by rw [h]; exact hU⟩ d_L_read_29
    · rw [h] at hq; obtain ⟨_, h2, _⟩ := hq; cases h2
    · rw [h] at hq; obtain ⟨_, h2, _⟩ := hq; cases h2
    · rw [h] at hq; obtain ⟨_, h2, _⟩ := hq; cases h2
    · rw [h] at hq; obtain ⟨_, h2, _⟩ := hq; cases h2
  · obtain ⟨hq, hP⟩ := hq
    have hU := uo_keep hu hU hF
    rcases hsh with ⟨v1, h⟩ | h | h | h | h
    · rw [h] at hq; cases hq
    · rw [h] at hq
      obtain ⟨b, h2, hX⟩ := hq
      cases h2
      refine cd_catch (k := 3) (r := 12) ct hxt hX rfl ⟨⟨by decide, by decide, by decide⟩, _, cl_L_13, Or.inl ⟨kt_3, rfl⟩⟩ ?_
      refine lv_astore hx hb d_L_read_12 hl (by decide) rfl (fun ls hl => ?_)
      refine lv_iconst (v := 1) hx hb d_L_read_14 (by decide) ?_
      exact cd_iret ct hlk hr hS ⟨by decide, by decide⟩ ⟨by rw [h]; rfl, hP, by rw [h, oF_thr]; exact hU⟩ d_L_read_15
    · rw [h] at hq
      obtain ⟨b, h2, hX⟩ := hq
      cases h2
      refine cd_catch (k := 5) (r := 16) ct hxt hX rfl ⟨⟨by decide, by decide, by decide⟩, _, cl_L_13, Or.inr ⟨by decide +kernel, ⟨⟨by decide, by decide, by decide⟩, _, cl_L_21, Or.inl ⟨kt_5, rfl⟩⟩⟩⟩ ?_
      refine lv_astore hx hb d_L_read_16 hl (by decide) rfl (fun ls hl => ?_)
      refine lv_iconst (v := 2) hx hb d_L_read_18 (by decide) ?_
      exact cd_iret ct hlk hr hS ⟨by decide, by decide⟩ ⟨by rw [h]; rfl, hP, by rw [h, oF_thr]; exact hU⟩ d_L_read_19
    · rw [h] at hq
      obtain ⟨b, h2, hX⟩ := hq
      cases h2
      refine cd_catch (k := 4) (r := 20) ct hxt hX rfl ⟨⟨by decide, by decide, by decide⟩, _, cl_L_13, Or.inr ⟨by decide +kernel, ⟨⟨by decide, by decide, by decide⟩, _, cl_L_21, Or.inr ⟨by decide +kernel, ⟨⟨by decide, by decide, by decide⟩, _, cl_L_15, Or.inl ⟨kt_4, rfl⟩⟩⟩⟩⟩⟩ ?_
      refine lv_astore hx hb d_L_read_20 hl (by decide) rfl (fun ls hl => ?_)
      refine lv_iconst (v := 3) hx hb d_L_read_22 (by decide) ?_
      exact cd_iret ct hlk hr hS ⟨by decide, by decide⟩ ⟨by rw [h]; rfl, hP, by rw [h, oF_thr]; exact hU⟩ d_L_read_23
    · rw [h] at hq
      obtain ⟨b, h2, hX⟩ := hq
      cases h2
      refine cd_catch (k := 6) (r := 24) ct hxt hX rfl ⟨⟨by decide, by decide, by decide⟩, _, cl_L_13, Or.inr ⟨by decide +kernel, ⟨⟨by decide, by decide, by decide⟩, _, cl_L_21, Or.inr ⟨by decide +kernel, ⟨⟨by decide, by decide, by decide⟩, _, cl_L_15, Or.inr ⟨by decide +kernel, ⟨⟨by decide, by decide, by decide⟩, _, cl_L_23, Or.inl ⟨kt_6, rfl⟩⟩⟩⟩⟩⟩⟩⟩ ?_
      refine lv_astore hx hb d_L_read_24 hl (by decide) rfl (fun ls hl => ?_)
      refine lv_iconst (v := 4) hx hb d_L_read_26 (by decide) ?_
      exact cd_iret ct hlk hr hS ⟨by decide, by decide⟩ ⟨by rw [h]; rfl, hP, by rw [h, oF_thr]; exact hU⟩ d_L_read_27
theorem sh_write (S : DS) (t k : Int32) (v : Int64) : ((d_write t k v S).1 = .inl none) ∨ (d_write t k v S).1 = .inr 3 ∨ (d_write t k v S).1 = .inr 5 ∨ (d_write t k v S).1 = .inr 4 := by
  unfold d_write dOpen
  try dsimp only
  repeat' split
  all_goals first
    | exact Or.inl rfl
    | exact Or.inr (Or.inl rfl)
    | exact Or.inr (Or.inr (Or.inl rfl))
    | exact Or.inr (Or.inr (Or.inr (rfl)))
set_option maxHeartbeats 4000000 in
theorem c_L_write (l : Launch) (hfl : l.flags = flags0) (G : cd_G) (d : Nat) (S : DS) (t k : Int32) (v : Int64) (hz : cd_z G < d) (hok : dOK S) : cd_Con l y_L_write cw_L_write rmL [.ref d, .int t, .int k, .long v] G (dkP G d S) (fun o H => o = .returned (some (.int (kO [3, 5, 4] (d_write t k v S).1))) ∧ dkP G d (d_write t k v S).2 H) (rg d 44) := by
  refine cd_ofW (by decide) ok_L_write.1 (Nat.le_of_ble_eq_true rfl) (rg_z hz) ?_
  intro p e s m below meth c ct hlk hr hxt hnm hP ls hl
  have hx := ct.1
  have hb := ct.2.1
  have hS : va_S (cd_xA (rg d 44) s) s.heap s.heap [] := va_S.rf
  have hsh := sh_write S t k v
  refine lv_aload_n hx hb d_L_write_0 rfl (lk hl rfl) ?_
  refine lv_iload_n hx hb d_L_write_1 rfl (lk hl rfl) ?_
  refine lv_iload_n hx hb d_L_write_2 rfl (lk hl rfl) ?_
  refine lv_lload_n hx hb d_L_write_3 rfl (lk hl rfl) ?_
  refine cd_callV (As := [.int t, .int k, .long v]) (rest := []) ct hS (c_D_write l hfl G d S t k v hz hok) cv_L_25 ⟨⟨by decide, by decide⟩, by decide, by decide⟩ (dk_recvL ct hP) hP hl.1 rfl rfl (Nat.le_of_ble_eq_true rfl) d_L_write_4 (fun q _ h => Or.inl h) (fun v H1 locs1 hq hF hS => ?_) (fun a H1 locs1 hq hF hS => ?_)
  · obtain ⟨hq, hP⟩ := hq
    rcases hsh with h | h | h | h
    · rw [h] at hq
      cases hq
      refine lv_goto (tgt := 22) hx hb d_L_write_7 (by decide) ?_
      refine lv_iconst (v := 0) hx hb d_L_write_22 (by decide) ?_
      exact cd_iret ct hlk hr hS ⟨by decide, by decide⟩ ⟨by rw [h]; rfl, hP⟩ d_L_write_23
    · rw [h] at hq; obtain ⟨_, h2, _⟩ := hq; cases h2
    · rw [h] at hq; obtain ⟨_, h2, _⟩ := hq; cases h2
    · rw [h] at hq; obtain ⟨_, h2, _⟩ := hq; cases h2
  · obtain ⟨hq, hP⟩ := hq
    rcases hsh with h | h | h | h
    · rw [h] at hq; cases hq
    · rw [h] at hq
      obtain ⟨b, h2, hX⟩ := hq
      cases h2
      refine cd_catch (k := 3) (r := 10) ct hxt hX rfl ⟨⟨by decide, by decide, by decide⟩, _, cl_L_13, Or.inl ⟨kt_3, rfl⟩⟩ ?_
      refine lv_astore hx hb d_L_write_10 hl (by decide) rfl (fun ls hl => ?_)
      refine lv_iconst (v := 1) hx hb d_L_write_12 (by decide) ?_
      exact cd_iret ct hlk hr hS ⟨by decide, by decide⟩ ⟨by rw [h]; rfl, hP⟩ d_L_write_13
    · rw [h] at hq
      obtain ⟨b, h2, hX⟩ := hq
      cases h2
      refine cd_catch (k := 5) (r := 14) ct hxt hX rfl ⟨⟨by decide, by decide, by decide⟩, _, cl_L_13, Or.inr ⟨by decide +kernel, ⟨⟨by decide, by decide, by decide⟩, _, cl_L_21, Or.inl ⟨kt_5, rfl⟩⟩⟩⟩ ?_
      refine lv_astore hx hb d_L_write_14 hl (by decide) rfl (fun ls hl => ?_)
      refine lv_iconst (v := 2) hx hb d_L_write_16 (by decide) ?_
      exact cd_iret ct hlk hr hS ⟨by decide, by decide⟩ ⟨by rw [h]; rfl, hP⟩ d_L_write_17
    · rw [h] at hq
      obtain ⟨b, h2, hX⟩ := hq
      cases h2
      refine cd_catch (k := 4) (r := 18) ct hxt hX rfl ⟨⟨by decide, by decide, by decide⟩, _, cl_L_13, Or.inr ⟨by decide +kernel, ⟨⟨by decide, by decide, by decide⟩, _, cl_L_21, Or.inr ⟨by decide +kernel, ⟨⟨by decide, by decide, by decide⟩, _, cl_L_15, Or.inl ⟨kt_4, rfl⟩⟩⟩⟩⟩⟩ ?_
      refine lv_astore hx hb d_L_write_18 hl (by decide) rfl (fun ls hl => ?_)
      refine lv_iconst (v := 3) hx hb d_L_write_20 (by decide) ?_
      exact cd_iret ct hlk hr hS ⟨by decide, by decide⟩ ⟨by rw [h]; rfl, hP⟩ d_L_write_21
theorem sh_save (S : DS) (t : Int32) : (∃ v, (d_save t S).1 = .inl (some (.int v))) ∨ (d_save t S).1 = .inr 3 ∨ (d_save t S).1 = .inr 4 ∨ (d_save t S).1 = .inr 6 := by
  unfold d_save dOpen
  try dsimp only
  repeat' split
  all_goals first
    | exact Or.inl ⟨_, rfl⟩
    | exact Or.inr (Or.inl rfl)
    | exact Or.inr (Or.inr (Or.inl rfl))
    | exact Or.inr (Or.inr (Or.inr (rfl)))
set_option maxHeartbeats 4000000 in
theorem c_L_save (l : Launch) (hfl : l.flags = flags0) (G : cd_G) (d u : Nat) (ov : Nat → Int64) (S : DS) (t : Int32) (hz : cd_z G < d) (hu : d + 44 ≤ u) (hok : dOK S) : cd_Con l y_L_save cw_L_save rmL [.ref d, .int t, .ref u] G (fun H => dkP G d S H ∧ va_P G.1 cd_cls (uo G u ov) H) (fun o H => o = .returned (some (.int (kO [3, 4, 6] (d_save t S).1))) ∧ dkP G d (d_save t S).2 H ∧ va_P G.1 cd_cls (uo G u (oF (d_save t S).1 ov)) H) (uA d u) := by
  refine cd_ofW (by decide) ok_L_save.1 (Nat.le_of_ble_eq_true rfl) (uA_z hz hu) ?_
  intro p e s m below meth c ct hlk hr hxt hnm hP ls hl
  have hx := ct.1
  have hb := ct.2.1
  have hS : va_S (cd_xA (uA d u) s) s.heap s.heap [] := va_S.rf
  obtain ⟨hP, hU⟩ := hP
  have hsh := sh_save S t
  refine lv_aload_n hx hb d_L_save_0 rfl (lk hl rfl) ?_
  refine lv_iconst (v := 0) hx hb d_L_save_1 (by decide) ?_
  refine lv_aload_n hx hb d_L_save_2 rfl (lk hl rfl) ?_
  refine lv_iload_n hx hb d_L_save_3 rfl (lk hl rfl) ?_
  refine cd_callV (As := [.int t]) (rest := [.int 0, .ref u]) ct hS (c_D_save l hfl G d S t hz hok) cv_L_29 ⟨⟨by decide, by decide⟩, by decide, by decide⟩ (dk_recvL ct hP) hP hl.1 rfl rfl (Nat.le_of_ble_eq_true rfl) d_L_save_4 (fun q _ h => Or.inl (Or.inl h)) (fun v H1 locs1 hq hF hS => ?_) (fun a H1 locs1 hq hF hS => ?_)
  · obtain ⟨hq, hP⟩ := hq
    have hU := uo_keep hu hU hF
    rcases hsh with ⟨v1, h⟩ | h | h | h
    · rw [h] at hq
      cases hq
      refine lv_i2l hx hb d_L_save_7 rfl ?_
      refine cd_last ct (uo_at hU) (uo_D G d u ov s) hS 0 rfl 0 ⟨by decide, by decide⟩ rfl d_L_save_8 (fun H2 locs2 hU hz1 hq1 hS => ?_)
      replace hP := dkP_q hu hP hq1
      refine lv_goto (tgt := 21) hx hb d_L_save_9 (by decide) ?_
      refine lv_iconst (v := 0) hx hb d_L_save_21 (by decide) ?_
      exact cd_iret ct hlk hr hS ⟨by decide, by decide⟩ ⟨by rw [h]; rfl, hP, by rw [h]; exact hU⟩ d_L_save_22
    · rw [h] at hq; obtain ⟨_, h2, _⟩ := hq; cases h2
    · rw [h] at hq; obtain ⟨_, h2, _⟩ := hq; cases h2
    · rw [h] at hq; obtain ⟨_, h2, _⟩ := hq; cases h2
  · obtain ⟨hq, hP⟩ := hq
    have hU := uo_keep hu hU hF
    rcases hsh with ⟨v1, h⟩ | h | h | h
    · rw [h] at hq; cases hq
    · rw [h] at hq
      obtain ⟨b, h2, hX⟩ := hq
      cases h2
      refine cd_catch (k := 3) (r := 12) ct hxt hX rfl ⟨⟨by decide, by decide, by decide⟩, _, cl_L_13, Or.inl ⟨kt_3, rfl⟩⟩ ?_
      refine lv_astore_n hx hb d_L_save_12 rfl hl (by decide) rfl (fun ls hl => ?_)
      refine lv_iconst (v := 1) hx hb d_L_save_13 (by decide) ?_
      exact cd_iret ct hlk hr hS ⟨by decide, by decide⟩ ⟨by rw [h]; rfl, hP, by rw [h, oF_thr]; exact hU⟩ d_L_save_14
    · rw [h] at hq
      obtain ⟨b, h2, hX⟩ := hq
      cases h2
      refine cd_catch (k := 4) (r := 15) ct hxt hX rfl ⟨⟨by decide, by decide, by decide⟩, _, cl_L_13, Or.inr ⟨by decide +kernel, ⟨⟨by decide, by decide, by decide⟩, _, cl_L_15, Or.inl ⟨kt_4, rfl⟩⟩⟩⟩ ?_
      refine lv_astore_n hx hb d_L_save_15 rfl hl (by decide) rfl (fun ls hl => ?_)
      refine lv_iconst (v := 2) hx hb d_L_save_16 (by decide) ?_
      exact cd_iret ct hlk hr hS ⟨by decide, by decide⟩ ⟨by rw [h]; rfl, hP, by rw [h, oF_thr]; exact hU⟩ d_L_save_17
    · rw [h] at hq
      obtain ⟨b, h2, hX⟩ := hq
      cases h2
      refine cd_catch (k := 6) (r := 18) ct hxt hX rfl ⟨⟨by decide, by decide, by decide⟩, _, cl_L_13, Or.inr ⟨by decide +kernel, ⟨⟨by decide, by decide, by decide⟩, _, cl_L_15, Or.inr ⟨by decide +kernel, ⟨⟨by decide, by decide, by decide⟩, _, cl_L_23, Or.inl ⟨kt_6, rfl⟩⟩⟩⟩⟩⟩ ?_
      refine lv_astore_n hx hb d_L_save_18 rfl hl (by decide) rfl (fun ls hl => ?_)
      refine lv_iconst (v := 3) hx hb d_L_save_19 (by decide) ?_
      exact cd_iret ct hlk hr hS ⟨by decide, by decide⟩ ⟨by rw [h]; rfl, hP, by rw [h, oF_thr]; exact hU⟩ d_L_save_20
theorem sh_back (S : DS) (t : Int32) : ((d_back t S).1 = .inl none) ∨ (d_back t S).1 = .inr 3 ∨ (d_back t S).1 = .inr 4 ∨ (d_back t S).1 = .inr 6 := by
  unfold d_back dOpen
  try dsimp only
  repeat' split
  all_goals first
    | exact Or.inl rfl
    | exact Or.inr (Or.inl rfl)
    | exact Or.inr (Or.inr (Or.inl rfl))
    | exact Or.inr (Or.inr (Or.inr (rfl)))
set_option maxHeartbeats 4000000 in
theorem c_L_back (l : Launch) (hfl : l.flags = flags0) (G : cd_G) (d : Nat) (S : DS) (t : Int32) (hz : cd_z G < d) (hok : dOK S) : cd_Con l y_L_back cw_L_back rmL [.ref d, .int t] G (dkP G d S) (fun o H => o = .returned (some (.int (kO [3, 4, 6] (d_back t S).1))) ∧ dkP G d (d_back t S).2 H) (rg d 44) := by
  refine cd_ofW (by decide) ok_L_back.1 (Nat.le_of_ble_eq_true rfl) (rg_z hz) ?_
  intro p e s m below meth c ct hlk hr hxt hnm hP ls hl
  have hx := ct.1
  have hb := ct.2.1
  have hS : va_S (cd_xA (rg d 44) s) s.heap s.heap [] := va_S.rf
  have hsh := sh_back S t
  refine lv_aload_n hx hb d_L_back_0 rfl (lk hl rfl) ?_
  refine lv_iload_n hx hb d_L_back_1 rfl (lk hl rfl) ?_
  refine cd_callV (As := [.int t]) (rest := []) ct hS (c_D_back l hfl G d S t hz hok) cv_L_33 ⟨⟨by decide, by decide⟩, by decide, by decide⟩ (dk_recvL ct hP) hP hl.1 rfl rfl (Nat.le_of_ble_eq_true rfl) d_L_back_2 (fun q _ h => Or.inl h) (fun v H1 locs1 hq hF hS => ?_) (fun a H1 locs1 hq hF hS => ?_)
  · obtain ⟨hq, hP⟩ := hq
    rcases hsh with h | h | h | h
    · rw [h] at hq
      cases hq
      refine lv_goto (tgt := 17) hx hb d_L_back_5 (by decide) ?_
      refine lv_iconst (v := 0) hx hb d_L_back_17 (by decide) ?_
      exact cd_iret ct hlk hr hS ⟨by decide, by decide⟩ ⟨by rw [h]; rfl, hP⟩ d_L_back_18
    · rw [h] at hq; obtain ⟨_, h2, _⟩ := hq; cases h2
    · rw [h] at hq; obtain ⟨_, h2, _⟩ := hq; cases h2
    · rw [h] at hq; obtain ⟨_, h2, _⟩ := hq; cases h2
  · obtain ⟨hq, hP⟩ := hq
    rcases hsh with h | h | h | h
    · rw [h] at hq; cases hq
    · rw [h] at hq
      obtain ⟨b, h2, hX⟩ := hq
      cases h2
      refine cd_catch (k := 3) (r := 8) ct hxt hX rfl ⟨⟨by decide, by decide, by decide⟩, _, cl_L_13, Or.inl ⟨kt_3, rfl⟩⟩ ?_
      refine lv_astore_n hx hb d_L_back_8 rfl hl (by decide) rfl (fun ls hl => ?_)
      refine lv_iconst (v := 1) hx hb d_L_back_9 (by decide) ?_
      exact cd_iret ct hlk hr hS ⟨by decide, by decide⟩ ⟨by rw [h]; rfl, hP⟩ d_L_back_10
    · rw [h] at hq
      obtain ⟨b, h2, hX⟩ := hq
      cases h2
      refine cd_catch (k := 4) (r := 11) ct hxt hX rfl ⟨⟨by decide, by decide, by decide⟩, _, cl_L_13, Or.inr ⟨by decide +kernel, ⟨⟨by decide, by decide, by decide⟩, _, cl_L_15, Or.inl ⟨kt_4, rfl⟩⟩⟩⟩ ?_
      refine lv_astore_n hx hb d_L_back_11 rfl hl (by decide) rfl (fun ls hl => ?_)
      refine lv_iconst (v := 2) hx hb d_L_back_12 (by decide) ?_
      exact cd_iret ct hlk hr hS ⟨by decide, by decide⟩ ⟨by rw [h]; rfl, hP⟩ d_L_back_13
    · rw [h] at hq
      obtain ⟨b, h2, hX⟩ := hq
      cases h2
      refine cd_catch (k := 6) (r := 14) ct hxt hX rfl ⟨⟨by decide, by decide, by decide⟩, _, cl_L_13, Or.inr ⟨by decide +kernel, ⟨⟨by decide, by decide, by decide⟩, _, cl_L_15, Or.inr ⟨by decide +kernel, ⟨⟨by decide, by decide, by decide⟩, _, cl_L_23, Or.inl ⟨kt_6, rfl⟩⟩⟩⟩⟩⟩ ?_
      refine lv_astore_n hx hb d_L_back_14 rfl hl (by decide) rfl (fun ls hl => ?_)
      refine lv_iconst (v := 3) hx hb d_L_back_15 (by decide) ?_
      exact cd_iret ct hlk hr hS ⟨by decide, by decide⟩ ⟨by rw [h]; rfl, hP⟩ d_L_back_16
theorem sh_keep (S : DS) (t : Int32) : ((d_keep t S).1 = .inl none) ∨ (d_keep t S).1 = .inr 3 ∨ (d_keep t S).1 = .inr 4 ∨ (d_keep t S).1 = .inr 6 := by
  unfold d_keep dOpen
  try dsimp only
  repeat' split
  all_goals first
    | exact Or.inl rfl
    | exact Or.inr (Or.inl rfl)
    | exact Or.inr (Or.inr (Or.inl rfl))
    | exact Or.inr (Or.inr (Or.inr (rfl)))
set_option maxHeartbeats 4000000 in
theorem c_L_keep (l : Launch) (hfl : l.flags = flags0) (G : cd_G) (d : Nat) (S : DS) (t : Int32) (hz : cd_z G < d) (hok : dOK S) : cd_Con l y_L_keep cw_L_keep rmL [.ref d, .int t] G (dkP G d S) (fun o H => o = .returned (some (.int (kO [3, 4, 6] (d_keep t S).1))) ∧ dkP G d (d_keep t S).2 H) (rg d 44) := by
  refine cd_ofW (by decide) ok_L_keep.1 (Nat.le_of_ble_eq_true rfl) (rg_z hz) ?_
  intro p e s m below meth c ct hlk hr hxt hnm hP ls hl
  have hx := ct.1
  have hb := ct.2.1
  have hS : va_S (cd_xA (rg d 44) s) s.heap s.heap [] := va_S.rf
  have hsh := sh_keep S t
  refine lv_aload_n hx hb d_L_keep_0 rfl (lk hl rfl) ?_
  refine lv_iload_n hx hb d_L_keep_1 rfl (lk hl rfl) ?_
  refine cd_callV (As := [.int t]) (rest := []) ct hS (c_D_keep l hfl G d S t hz hok) cv_L_36 ⟨⟨by decide, by decide⟩, by decide, by decide⟩ (dk_recvL ct hP) hP hl.1 rfl rfl (Nat.le_of_ble_eq_true rfl) d_L_keep_2 (fun q _ h => Or.inl h) (fun v H1 locs1 hq hF hS => ?_) (fun a H1 locs1 hq hF hS => ?_)
  · obtain ⟨hq, hP⟩ := hq
    rcases hsh with h | h | h | h
    · rw [h] at hq
      cases hq
      refine lv_goto (tgt := 17) hx hb d_L_keep_5 (by decide) ?_
      refine lv_iconst (v := 0) hx hb d_L_keep_17 (by decide) ?_
      exact cd_iret ct hlk hr hS ⟨by decide, by decide⟩ ⟨by rw [h]; rfl, hP⟩ d_L_keep_18
    · rw [h] at hq; obtain ⟨_, h2, _⟩ := hq; cases h2
    · rw [h] at hq; obtain ⟨_, h2, _⟩ := hq; cases h2
    · rw [h] at hq; obtain ⟨_, h2, _⟩ := hq; cases h2
  · obtain ⟨hq, hP⟩ := hq
    rcases hsh with h | h | h | h
    · rw [h] at hq; cases hq
    · rw [h] at hq
      obtain ⟨b, h2, hX⟩ := hq
      cases h2
      refine cd_catch (k := 3) (r := 8) ct hxt hX rfl ⟨⟨by decide, by decide, by decide⟩, _, cl_L_13, Or.inl ⟨kt_3, rfl⟩⟩ ?_
      refine lv_astore_n hx hb d_L_keep_8 rfl hl (by decide) rfl (fun ls hl => ?_)
      refine lv_iconst (v := 1) hx hb d_L_keep_9 (by decide) ?_
      exact cd_iret ct hlk hr hS ⟨by decide, by decide⟩ ⟨by rw [h]; rfl, hP⟩ d_L_keep_10
    · rw [h] at hq
      obtain ⟨b, h2, hX⟩ := hq
      cases h2
      refine cd_catch (k := 4) (r := 11) ct hxt hX rfl ⟨⟨by decide, by decide, by decide⟩, _, cl_L_13, Or.inr ⟨by decide +kernel, ⟨⟨by decide, by decide, by decide⟩, _, cl_L_15, Or.inl ⟨kt_4, rfl⟩⟩⟩⟩ ?_
      refine lv_astore_n hx hb d_L_keep_11 rfl hl (by decide) rfl (fun ls hl => ?_)
      refine lv_iconst (v := 2) hx hb d_L_keep_12 (by decide) ?_
      exact cd_iret ct hlk hr hS ⟨by decide, by decide⟩ ⟨by rw [h]; rfl, hP⟩ d_L_keep_13
    · rw [h] at hq
      obtain ⟨b, h2, hX⟩ := hq
      cases h2
      refine cd_catch (k := 6) (r := 14) ct hxt hX rfl ⟨⟨by decide, by decide, by decide⟩, _, cl_L_13, Or.inr ⟨by decide +kernel, ⟨⟨by decide, by decide, by decide⟩, _, cl_L_15, Or.inr ⟨by decide +kernel, ⟨⟨by decide, by decide, by decide⟩, _, cl_L_23, Or.inl ⟨kt_6, rfl⟩⟩⟩⟩⟩⟩ ?_
      refine lv_astore_n hx hb d_L_keep_14 rfl hl (by decide) rfl (fun ls hl => ?_)
      refine lv_iconst (v := 3) hx hb d_L_keep_15 (by decide) ?_
      exact cd_iret ct hlk hr hS ⟨by decide, by decide⟩ ⟨by rw [h]; rfl, hP⟩ d_L_keep_16
theorem sh_done (S : DS) (t : Int32) : (∃ v, (d_done t S).1 = .inl (some (.int (cd_bi v)))) ∨ (d_done t S).1 = .inr 3 ∨ (d_done t S).1 = .inr 4 := by
  unfold d_done dOpen
  try dsimp only
  repeat' split
  all_goals first
    | exact Or.inl ⟨false, rfl⟩
    | exact Or.inl ⟨true, rfl⟩
    | exact Or.inr (Or.inl rfl)
    | exact Or.inr (Or.inr (rfl))
set_option maxHeartbeats 4000000 in
theorem c_L_done (l : Launch) (hfl : l.flags = flags0) (G : cd_G) (d u : Nat) (ov : Nat → Int64) (S : DS) (t : Int32) (hz : cd_z G < d) (hu : d + 44 ≤ u) (hok : dOK S) : cd_Con l y_L_done cw_L_done rmL [.ref d, .int t, .ref u] G (fun H => dkP G d S H ∧ va_P G.1 cd_cls (uo G u ov) H) (fun o H => o = .returned (some (.int (kO [3, 4] (d_done t S).1))) ∧ dkP G d (d_done t S).2 H ∧ va_P G.1 cd_cls (uo G u (oF (d_done t S).1 ov)) H) (uA d u) := by
  refine cd_ofW (by decide) ok_L_done.1 (Nat.le_of_ble_eq_true rfl) (uA_z hz hu) ?_
  intro p e s m below meth c ct hlk hr hxt hnm hP ls hl
  have hx := ct.1
  have hb := ct.2.1
  have hS : va_S (cd_xA (uA d u) s) s.heap s.heap [] := va_S.rf
  obtain ⟨hP, hU⟩ := hP
  have hsh := sh_done S t
  refine lv_aload_n hx hb d_L_done_0 rfl (lk hl rfl) ?_
  refine lv_iconst (v := 0) hx hb d_L_done_1 (by decide) ?_
  refine lv_aload_n hx hb d_L_done_2 rfl (lk hl rfl) ?_
  refine lv_iload_n hx hb d_L_done_3 rfl (lk hl rfl) ?_
  refine cd_callV (As := [.int t]) (rest := [.int 0, .ref u]) ct hS (c_D_done l hfl G d S t hz hok) cv_L_39 ⟨⟨by decide, by decide⟩, by decide, by decide⟩ (dk_recvL ct hP) hP hl.1 rfl rfl (Nat.le_of_ble_eq_true rfl) d_L_done_4 (fun q _ h => Or.inl (Or.inl h)) (fun v H1 locs1 hq hF hS => ?_) (fun a H1 locs1 hq hF hS => ?_)
  · obtain ⟨hq, hP⟩ := hq
    have hU := uo_keep hu hU hF
    rcases hsh with ⟨v1, h⟩ | h | h
    · rw [h] at hq
      cases hq
      cases v1 with
      | false =>
        refine lv_if_eq (tgt := 14) hx hb d_L_done_7 (by decide) (fun hc => ?_) (fun hc => absurd rfl hc)
        refine lv_lconst (v := 0) hx hb d_L_done_14 (by decide) ?_
        refine cd_last ct (uo_at hU) (uo_D G d u ov s) hS 0 rfl 0 ⟨by decide, by decide⟩ rfl d_L_done_15 (fun H2 locs2 hU hz1 hq1 hS => ?_)
        replace hP := dkP_q hu hP hq1
        refine lv_goto (tgt := 25) hx hb d_L_done_16 (by decide) ?_
        refine lv_iconst (v := 0) hx hb d_L_done_25 (by decide) ?_
        exact cd_iret ct hlk hr hS ⟨by decide, by decide⟩ ⟨by rw [h]; rfl, hP, by rw [h]; exact hU⟩ d_L_done_26
      | true =>
        refine lv_if_eq (tgt := 14) hx hb d_L_done_7 (by decide) (fun hc => absurd hc (by decide)) (fun hc => ?_)
        refine lv_lconst (v := 1) hx hb d_L_done_10 (by decide) ?_
        refine lv_goto (tgt := 15) hx hb d_L_done_11 (by decide) ?_
        refine cd_last ct (uo_at hU) (uo_D G d u ov s) hS 0 rfl 0 ⟨by decide, by decide⟩ rfl d_L_done_15 (fun H2 locs2 hU hz1 hq1 hS => ?_)
        replace hP := dkP_q hu hP hq1
        refine lv_goto (tgt := 25) hx hb d_L_done_16 (by decide) ?_
        refine lv_iconst (v := 0) hx hb d_L_done_25 (by decide) ?_
        exact cd_iret ct hlk hr hS ⟨by decide, by decide⟩ ⟨by rw [h]; rfl, hP, by rw [h]; exact hU⟩ d_L_done_26
    · rw [h] at hq; obtain ⟨_, h2, _⟩ := hq; cases h2
    · rw [h] at hq; obtain ⟨_, h2, _⟩ := hq; cases h2
  · obtain ⟨hq, hP⟩ := hq
    have hU := uo_keep hu hU hF
    rcases hsh with ⟨v1, h⟩ | h | h
    · rw [h] at hq; cases hq
    · rw [h] at hq
      obtain ⟨b, h2, hX⟩ := hq
      cases h2
      refine cd_catch (k := 3) (r := 19) ct hxt hX rfl ⟨⟨by decide, by decide, by decide⟩, _, cl_L_13, Or.inl ⟨kt_3, rfl⟩⟩ ?_
      refine lv_astore_n hx hb d_L_done_19 rfl hl (by decide) rfl (fun ls hl => ?_)
      refine lv_iconst (v := 1) hx hb d_L_done_20 (by decide) ?_
      exact cd_iret ct hlk hr hS ⟨by decide, by decide⟩ ⟨by rw [h]; rfl, hP, by rw [h, oF_thr]; exact hU⟩ d_L_done_21
    · rw [h] at hq
      obtain ⟨b, h2, hX⟩ := hq
      cases h2
      refine cd_catch (k := 4) (r := 22) ct hxt hX rfl ⟨⟨by decide, by decide, by decide⟩, _, cl_L_13, Or.inr ⟨by decide +kernel, ⟨⟨by decide, by decide, by decide⟩, _, cl_L_15, Or.inl ⟨kt_4, rfl⟩⟩⟩⟩ ?_
      refine lv_astore_n hx hb d_L_done_22 rfl hl (by decide) rfl (fun ls hl => ?_)
      refine lv_iconst (v := 2) hx hb d_L_done_23 (by decide) ?_
      exact cd_iret ct hlk hr hS ⟨by decide, by decide⟩ ⟨by rw [h]; rfl, hP, by rw [h, oF_thr]; exact hU⟩ d_L_done_24
theorem sh_leave (S : DS) (t : Int32) : ((d_leave t S).1 = .inl none) ∨ (d_leave t S).1 = .inr 3 ∨ (d_leave t S).1 = .inr 4 := by
  unfold d_leave dOpen
  try dsimp only
  repeat' split
  all_goals first
    | exact Or.inl rfl
    | exact Or.inr (Or.inl rfl)
    | exact Or.inr (Or.inr (rfl))
set_option maxHeartbeats 4000000 in
theorem c_L_leave (l : Launch) (hfl : l.flags = flags0) (G : cd_G) (d : Nat) (S : DS) (t : Int32) (hz : cd_z G < d) : cd_Con l y_L_leave cw_L_leave rmL [.ref d, .int t] G (dkP G d S) (fun o H => o = .returned (some (.int (kO [3, 4] (d_leave t S).1))) ∧ dkP G d (d_leave t S).2 H) (rg d 44) := by
  refine cd_ofW (by decide) ok_L_leave.1 (Nat.le_of_ble_eq_true rfl) (rg_z hz) ?_
  intro p e s m below meth c ct hlk hr hxt hnm hP ls hl
  have hx := ct.1
  have hb := ct.2.1
  have hS : va_S (cd_xA (rg d 44) s) s.heap s.heap [] := va_S.rf
  have hsh := sh_leave S t
  refine lv_aload_n hx hb d_L_leave_0 rfl (lk hl rfl) ?_
  refine lv_iload_n hx hb d_L_leave_1 rfl (lk hl rfl) ?_
  refine cd_callV (As := [.int t]) (rest := []) ct hS (c_D_leave l hfl G d S t hz) cv_L_43 ⟨⟨by decide, by decide⟩, by decide, by decide⟩ (dk_recvL ct hP) hP hl.1 rfl rfl (Nat.le_of_ble_eq_true rfl) d_L_leave_2 (fun q _ h => Or.inl h) (fun v H1 locs1 hq hF hS => ?_) (fun a H1 locs1 hq hF hS => ?_)
  · obtain ⟨hq, hP⟩ := hq
    rcases hsh with h | h | h
    · rw [h] at hq
      cases hq
      refine lv_goto (tgt := 14) hx hb d_L_leave_5 (by decide) ?_
      refine lv_iconst (v := 0) hx hb d_L_leave_14 (by decide) ?_
      exact cd_iret ct hlk hr hS ⟨by decide, by decide⟩ ⟨by rw [h]; rfl, hP⟩ d_L_leave_15
    · rw [h] at hq; obtain ⟨_, h2, _⟩ := hq; cases h2
    · rw [h] at hq; obtain ⟨_, h2, _⟩ := hq; cases h2
  · obtain ⟨hq, hP⟩ := hq
    rcases hsh with h | h | h
    · rw [h] at hq; cases hq
    · rw [h] at hq
      obtain ⟨b, h2, hX⟩ := hq
      cases h2
      refine cd_catch (k := 3) (r := 8) ct hxt hX rfl ⟨⟨by decide, by decide, by decide⟩, _, cl_L_13, Or.inl ⟨kt_3, rfl⟩⟩ ?_
      refine lv_astore_n hx hb d_L_leave_8 rfl hl (by decide) rfl (fun ls hl => ?_)
      refine lv_iconst (v := 1) hx hb d_L_leave_9 (by decide) ?_
      exact cd_iret ct hlk hr hS ⟨by decide, by decide⟩ ⟨by rw [h]; rfl, hP⟩ d_L_leave_10
    · rw [h] at hq
      obtain ⟨b, h2, hX⟩ := hq
      cases h2
      refine cd_catch (k := 4) (r := 11) ct hxt hX rfl ⟨⟨by decide, by decide, by decide⟩, _, cl_L_13, Or.inr ⟨by decide +kernel, ⟨⟨by decide, by decide, by decide⟩, _, cl_L_15, Or.inl ⟨kt_4, rfl⟩⟩⟩⟩ ?_
      refine lv_astore_n hx hb d_L_leave_11 rfl hl (by decide) rfl (fun ls hl => ?_)
      refine lv_iconst (v := 2) hx hb d_L_leave_12 (by decide) ?_
      exact cd_iret ct hlk hr hS ⟨by decide, by decide⟩ ⟨by rw [h]; rfl, hP⟩ d_L_leave_13
theorem sh_set (S : DS) (k : Int32) (v : Int64) : ((d_set k v S).1 = .inl none) ∨ (d_set k v S).1 = .inr 5 := by
  unfold d_set
  try dsimp only
  repeat' split
  all_goals first
    | exact Or.inl rfl
    | exact Or.inr (rfl)
set_option maxHeartbeats 4000000 in
theorem c_L_set (l : Launch) (hfl : l.flags = flags0) (G : cd_G) (d : Nat) (S : DS) (k : Int32) (v : Int64) (hz : cd_z G < d) : cd_Con l y_L_set cw_L_set rmL [.ref d, .int k, .long v] G (dkP G d S) (fun o H => o = .returned (some (.int (kO [5] (d_set k v S).1))) ∧ dkP G d (d_set k v S).2 H) (rg d 44) := by
  refine cd_ofW (by decide) ok_L_set.1 (Nat.le_of_ble_eq_true rfl) (rg_z hz) ?_
  intro p e s m below meth c ct hlk hr hxt hnm hP ls hl
  have hx := ct.1
  have hb := ct.2.1
  have hS : va_S (cd_xA (rg d 44) s) s.heap s.heap [] := va_S.rf
  have hsh := sh_set S k v
  refine lv_aload_n hx hb d_L_set_0 rfl (lk hl rfl) ?_
  refine lv_iload_n hx hb d_L_set_1 rfl (lk hl rfl) ?_
  refine lv_lload_n hx hb d_L_set_2 rfl (lk hl rfl) ?_
  refine cd_callV (As := [.int k, .long v]) (rest := []) ct hS (c_D_set l hfl G d S k v hz) cv_L_46 ⟨⟨by decide, by decide⟩, by decide, by decide⟩ (dk_recvL ct hP) hP hl.1 rfl rfl (Nat.le_of_ble_eq_true rfl) d_L_set_3 (fun q _ h => Or.inl h) (fun v H1 locs1 hq hF hS => ?_) (fun a H1 locs1 hq hF hS => ?_)
  · obtain ⟨hq, hP⟩ := hq
    rcases hsh with h | h
    · rw [h] at hq
      cases hq
      refine lv_goto (tgt := 13) hx hb d_L_set_6 (by decide) ?_
      refine lv_iconst (v := 0) hx hb d_L_set_13 (by decide) ?_
      exact cd_iret ct hlk hr hS ⟨by decide, by decide⟩ ⟨by rw [h]; rfl, hP⟩ d_L_set_14
    · rw [h] at hq; obtain ⟨_, h2, _⟩ := hq; cases h2
  · obtain ⟨hq, hP⟩ := hq
    rcases hsh with h | h
    · rw [h] at hq; cases hq
    · rw [h] at hq
      obtain ⟨b, h2, hX⟩ := hq
      cases h2
      refine cd_catch (k := 5) (r := 9) ct hxt hX rfl ⟨⟨by decide, by decide, by decide⟩, _, cl_L_21, Or.inl ⟨kt_5, rfl⟩⟩ ?_
      refine lv_astore hx hb d_L_set_9 hl (by decide) rfl (fun ls hl => ?_)
      refine lv_iconst (v := 1) hx hb d_L_set_11 (by decide) ?_
      exact cd_iret ct hlk hr hS ⟨by decide, by decide⟩ ⟨by rw [h]; rfl, hP⟩ d_L_set_12
theorem sh_cell (S : DS) (k : Int32) : (∃ v, (d_cell k S).1 = .inl (some (.long v))) ∨ (d_cell k S).1 = .inr 5 := by
  unfold d_cell
  try dsimp only
  repeat' split
  all_goals first
    | exact Or.inl ⟨_, rfl⟩
    | exact Or.inr (rfl)
set_option maxHeartbeats 4000000 in
theorem c_L_cell (l : Launch) (hfl : l.flags = flags0) (G : cd_G) (d u : Nat) (ov : Nat → Int64) (S : DS) (k : Int32) (hz : cd_z G < d) (hu : d + 44 ≤ u) : cd_Con l y_L_cell cw_L_cell rmL [.ref d, .int k, .ref u] G (fun H => dkP G d S H ∧ va_P G.1 cd_cls (uo G u ov) H) (fun o H => o = .returned (some (.int (kO [5] (d_cell k S).1))) ∧ dkP G d (d_cell k S).2 H ∧ va_P G.1 cd_cls (uo G u (oF (d_cell k S).1 ov)) H) (uA d u) := by
  refine cd_ofW (by decide) ok_L_cell.1 (Nat.le_of_ble_eq_true rfl) (uA_z hz hu) ?_
  intro p e s m below meth c ct hlk hr hxt hnm hP ls hl
  have hx := ct.1
  have hb := ct.2.1
  have hS : va_S (cd_xA (uA d u) s) s.heap s.heap [] := va_S.rf
  obtain ⟨hP, hU⟩ := hP
  have hsh := sh_cell S k
  refine lv_aload_n hx hb d_L_cell_0 rfl (lk hl rfl) ?_
  refine lv_iconst (v := 0) hx hb d_L_cell_1 (by decide) ?_
  refine lv_aload_n hx hb d_L_cell_2 rfl (lk hl rfl) ?_
  refine lv_iload_n hx hb d_L_cell_3 rfl (lk hl rfl) ?_
  refine cd_callV (As := [.int k]) (rest := [.int 0, .ref u]) ct hS (c_D_cell l hfl G d S k hz) cv_L_50 ⟨⟨by decide, by decide⟩, by decide, by decide⟩ (dk_recvL ct hP) hP hl.1 rfl rfl (Nat.le_of_ble_eq_true rfl) d_L_cell_4 (fun q _ h => Or.inl (Or.inl h)) (fun v H1 locs1 hq hF hS => ?_) (fun a H1 locs1 hq hF hS => ?_)
  · obtain ⟨hq, hP⟩ := hq
    have hU := uo_keep hu hU hF
    rcases hsh with ⟨v1, h⟩ | h
    · rw [h] at hq
      cases hq
      refine cd_last ct (uo_at hU) (uo_D G d u ov s) hS 0 rfl 0 ⟨by decide, by decide⟩ rfl d_L_cell_7 (fun H2 locs2 hU hz1 hq1 hS => ?_)
      replace hP := dkP_q hu hP hq1
      refine lv_goto (tgt := 14) hx hb d_L_cell_8 (by decide) ?_
      refine lv_iconst (v := 0) hx hb d_L_cell_14 (by decide) ?_
      exact cd_iret ct hlk hr hS ⟨by decide, by decide⟩ ⟨by rw [h]; rfl, hP, by rw [h]; exact hU⟩ d_L_cell_15
    · rw [h] at hq; obtain ⟨_, h2, _⟩ := hq; cases h2
  · obtain ⟨hq, hP⟩ := hq
    have hU := uo_keep hu hU hF
    rcases hsh with ⟨v1, h⟩ | h
    · rw [h] at hq; cases hq
    · rw [h] at hq
      obtain ⟨b, h2, hX⟩ := hq
      cases h2
      refine cd_catch (k := 5) (r := 11) ct hxt hX rfl ⟨⟨by decide, by decide, by decide⟩, _, cl_L_21, Or.inl ⟨kt_5, rfl⟩⟩ ?_
      refine lv_astore_n hx hb d_L_cell_11 rfl hl (by decide) rfl (fun ls hl => ?_)
      refine lv_iconst (v := 1) hx hb d_L_cell_12 (by decide) ?_
      exact cd_iret ct hlk hr hS ⟨by decide, by decide⟩ ⟨by rw [h]; rfl, hP, by rw [h, oF_thr]; exact hU⟩ d_L_cell_13
theorem sh_changed (S : DS) (k : Int32) : (∃ v, (d_changed k S).1 = .inl (some (.int v))) ∨ (d_changed k S).1 = .inr 5 := by
  unfold d_changed
  try dsimp only
  repeat' split
  all_goals first
    | exact Or.inl ⟨_, rfl⟩
    | exact Or.inr (rfl)
set_option maxHeartbeats 4000000 in
theorem c_L_changed (l : Launch) (hfl : l.flags = flags0) (G : cd_G) (d u : Nat) (ov : Nat → Int64) (S : DS) (k : Int32) (hz : cd_z G < d) (hu : d + 44 ≤ u) : cd_Con l y_L_changed cw_L_changed rmL [.ref d, .int k, .ref u] G (fun H => dkP G d S H ∧ va_P G.1 cd_cls (uo G u ov) H) (fun o H => o = .returned (some (.int (kO [5] (d_changed k S).1))) ∧ dkP G d (d_changed k S).2 H ∧ va_P G.1 cd_cls (uo G u (oF (d_changed k S).1 ov)) H) (uA d u) := by
  refine cd_ofW (by decide) ok_L_changed.1 (Nat.le_of_ble_eq_true rfl) (uA_z hz hu) ?_
  intro p e s m below meth c ct hlk hr hxt hnm hP ls hl
  have hx := ct.1
  have hb := ct.2.1
  have hS : va_S (cd_xA (uA d u) s) s.heap s.heap [] := va_S.rf
  obtain ⟨hP, hU⟩ := hP
  have hsh := sh_changed S k
  refine lv_aload_n hx hb d_L_changed_0 rfl (lk hl rfl) ?_
  refine lv_iconst (v := 0) hx hb d_L_changed_1 (by decide) ?_
  refine lv_aload_n hx hb d_L_changed_2 rfl (lk hl rfl) ?_
  refine lv_iload_n hx hb d_L_changed_3 rfl (lk hl rfl) ?_
  refine cd_callV (As := [.int k]) (rest := [.int 0, .ref u]) ct hS (c_D_changed l hfl G d S k hz) cv_L_54 ⟨⟨by decide, by decide⟩, by decide, by decide⟩ (dk_recvL ct hP) hP hl.1 rfl rfl (Nat.le_of_ble_eq_true rfl) d_L_changed_4 (fun q _ h => Or.inl (Or.inl h)) (fun v H1 locs1 hq hF hS => ?_) (fun a H1 locs1 hq hF hS => ?_)
  · obtain ⟨hq, hP⟩ := hq
    have hU := uo_keep hu hU hF
    rcases hsh with ⟨v1, h⟩ | h
    · rw [h] at hq
      cases hq
      refine lv_i2l hx hb d_L_changed_7 rfl ?_
      refine cd_last ct (uo_at hU) (uo_D G d u ov s) hS 0 rfl 0 ⟨by decide, by decide⟩ rfl d_L_changed_8 (fun H2 locs2 hU hz1 hq1 hS => ?_)
      replace hP := dkP_q hu hP hq1
      refine lv_goto (tgt := 15) hx hb d_L_changed_9 (by decide) ?_
      refine lv_iconst (v := 0) hx hb d_L_changed_15 (by decide) ?_
      exact cd_iret ct hlk hr hS ⟨by decide, by decide⟩ ⟨by rw [h]; rfl, hP, by rw [h]; exact hU⟩ d_L_changed_16
    · rw [h] at hq; obtain ⟨_, h2, _⟩ := hq; cases h2
  · obtain ⟨hq, hP⟩ := hq
    have hU := uo_keep hu hU hF
    rcases hsh with ⟨v1, h⟩ | h
    · rw [h] at hq; cases hq
    · rw [h] at hq
      obtain ⟨b, h2, hX⟩ := hq
      cases h2
      refine cd_catch (k := 5) (r := 12) ct hxt hX rfl ⟨⟨by decide, by decide, by decide⟩, _, cl_L_21, Or.inl ⟨kt_5, rfl⟩⟩ ?_
      refine lv_astore_n hx hb d_L_changed_12 rfl hl (by decide) rfl (fun ls hl => ?_)
      refine lv_iconst (v := 1) hx hb d_L_changed_13 (by decide) ?_
      exact cd_iret ct hlk hr hS ⟨by decide, by decide⟩ ⟨by rw [h]; rfl, hP, by rw [h, oF_thr]; exact hU⟩ d_L_changed_14
theorem sh_count (S : DS) (t k : Int32) : (∃ v, (d_count t k S).1 = .inl (some (.int v))) ∨ (d_count t k S).1 = .inr 3 ∨ (d_count t k S).1 = .inr 4 := by
  unfold d_count dOpen
  try dsimp only
  repeat' split
  all_goals first
    | exact Or.inl ⟨_, rfl⟩
    | exact Or.inr (Or.inl rfl)
    | exact Or.inr (Or.inr (rfl))
set_option maxHeartbeats 4000000 in
theorem c_L_count (l : Launch) (hfl : l.flags = flags0) (G : cd_G) (d u : Nat) (ov : Nat → Int64) (S : DS) (t k : Int32) (hz : cd_z G < d) (hu : d + 44 ≤ u) (hok : dOK S) : cd_Con l y_L_count cw_L_count rmL [.ref d, .int t, .int k, .ref u] G (fun H => dkP G d S H ∧ va_P G.1 cd_cls (uo G u ov) H) (fun o H => o = .returned (some (.int (kO [3, 4] (d_count t k S).1))) ∧ dkP G d (d_count t k S).2 H ∧ va_P G.1 cd_cls (uo G u (oF (d_count t k S).1 ov)) H) (uA d u) := by
  refine cd_ofW (by decide) ok_L_count.1 (Nat.le_of_ble_eq_true rfl) (uA_z hz hu) ?_
  intro p e s m below meth c ct hlk hr hxt hnm hP ls hl
  have hx := ct.1
  have hb := ct.2.1
  have hS : va_S (cd_xA (uA d u) s) s.heap s.heap [] := va_S.rf
  obtain ⟨hP, hU⟩ := hP
  have hsh := sh_count S t k
  refine lv_aload_n hx hb d_L_count_0 rfl (lk hl rfl) ?_
  refine lv_iconst (v := 0) hx hb d_L_count_1 (by decide) ?_
  refine lv_aload_n hx hb d_L_count_2 rfl (lk hl rfl) ?_
  refine lv_iload_n hx hb d_L_count_3 rfl (lk hl rfl) ?_
  refine lv_iload_n hx hb d_L_count_4 rfl (lk hl rfl) ?_
  refine cd_callV (As := [.int t, .int k]) (rest := [.int 0, .ref u]) ct hS (c_D_count l hfl G d S t k hz hok) cv_L_57 ⟨⟨by decide, by decide⟩, by decide, by decide⟩ (dk_recvL ct hP) hP hl.1 rfl rfl (Nat.le_of_ble_eq_true rfl) d_L_count_5 (fun q _ h => Or.inl (Or.inl h)) (fun v H1 locs1 hq hF hS => ?_) (fun a H1 locs1 hq hF hS => ?_)
  · obtain ⟨hq, hP⟩ := hq
    have hU := uo_keep hu hU hF
    rcases hsh with ⟨v1, h⟩ | h | h
    · rw [h] at hq
      cases hq
      refine lv_i2l hx hb d_L_count_8 rfl ?_
      refine cd_last ct (uo_at hU) (uo_D G d u ov s) hS 0 rfl 0 ⟨by decide, by decide⟩ rfl d_L_count_9 (fun H2 locs2 hU hz1 hq1 hS => ?_)
      replace hP := dkP_q hu hP hq1
      refine lv_goto (tgt := 21) hx hb d_L_count_10 (by decide) ?_
      refine lv_iconst (v := 0) hx hb d_L_count_21 (by decide) ?_
      exact cd_iret ct hlk hr hS ⟨by decide, by decide⟩ ⟨by rw [h]; rfl, hP, by rw [h]; exact hU⟩ d_L_count_22
    · rw [h] at hq; obtain ⟨_, h2, _⟩ := hq; cases h2
    · rw [h] at hq; obtain ⟨_, h2, _⟩ := hq; cases h2
  · obtain ⟨hq, hP⟩ := hq
    have hU := uo_keep hu hU hF
    rcases hsh with ⟨v1, h⟩ | h | h
    · rw [h] at hq; cases hq
    · rw [h] at hq
      obtain ⟨b, h2, hX⟩ := hq
      cases h2
      refine cd_catch (k := 3) (r := 13) ct hxt hX rfl ⟨⟨by decide, by decide, by decide⟩, _, cl_L_13, Or.inl ⟨kt_3, rfl⟩⟩ ?_
      refine lv_astore hx hb d_L_count_13 hl (by decide) rfl (fun ls hl => ?_)
      refine lv_iconst (v := 1) hx hb d_L_count_15 (by decide) ?_
      exact cd_iret ct hlk hr hS ⟨by decide, by decide⟩ ⟨by rw [h]; rfl, hP, by rw [h, oF_thr]; exact hU⟩ d_L_count_16
    · rw [h] at hq
      obtain ⟨b, h2, hX⟩ := hq
      cases h2
      refine cd_catch (k := 4) (r := 17) ct hxt hX rfl ⟨⟨by decide, by decide, by decide⟩, _, cl_L_13, Or.inr ⟨by decide +kernel, ⟨⟨by decide, by decide, by decide⟩, _, cl_L_15, Or.inl ⟨kt_4, rfl⟩⟩⟩⟩ ?_
      refine lv_astore hx hb d_L_count_17 hl (by decide) rfl (fun ls hl => ?_)
      refine lv_iconst (v := 2) hx hb d_L_count_19 (by decide) ?_
      exact cd_iret ct hlk hr hS ⟨by decide, by decide⟩ ⟨by rw [h]; rfl, hP, by rw [h, oF_thr]; exact hU⟩ d_L_count_20
theorem sh_all (S : DS) (k : Int32) : (∃ v, (d_all k S).1 = .inl (some (.int v))) ∨ (d_all k S).1 = .inr 3 := by
  unfold d_all
  try dsimp only
  repeat' split
  all_goals first
    | exact Or.inl ⟨_, rfl⟩
    | exact Or.inr (rfl)
set_option maxHeartbeats 4000000 in
theorem c_L_all (l : Launch) (hfl : l.flags = flags0) (G : cd_G) (d u : Nat) (ov : Nat → Int64) (S : DS) (k : Int32) (hz : cd_z G < d) (hu : d + 44 ≤ u) : cd_Con l y_L_all cw_L_all rmL [.ref d, .int k, .ref u] G (fun H => dkP G d S H ∧ va_P G.1 cd_cls (uo G u ov) H) (fun o H => o = .returned (some (.int (kO [3] (d_all k S).1))) ∧ dkP G d (d_all k S).2 H ∧ va_P G.1 cd_cls (uo G u (oF (d_all k S).1 ov)) H) (uA d u) := by
  refine cd_ofW (by decide) ok_L_all.1 (Nat.le_of_ble_eq_true rfl) (uA_z hz hu) ?_
  intro p e s m below meth c ct hlk hr hxt hnm hP ls hl
  have hx := ct.1
  have hb := ct.2.1
  have hS : va_S (cd_xA (uA d u) s) s.heap s.heap [] := va_S.rf
  obtain ⟨hP, hU⟩ := hP
  have hsh := sh_all S k
  refine lv_aload_n hx hb d_L_all_0 rfl (lk hl rfl) ?_
  refine lv_iconst (v := 0) hx hb d_L_all_1 (by decide) ?_
  refine lv_aload_n hx hb d_L_all_2 rfl (lk hl rfl) ?_
  refine lv_iload_n hx hb d_L_all_3 rfl (lk hl rfl) ?_
  refine cd_callV (As := [.int k]) (rest := [.int 0, .ref u]) ct hS (c_D_all l hfl G d S k hz) cv_L_61 ⟨⟨by decide, by decide⟩, by decide, by decide⟩ (dk_recvL ct hP) hP hl.1 rfl rfl (Nat.le_of_ble_eq_true rfl) d_L_all_4 (fun q _ h => Or.inl (Or.inl h)) (fun v H1 locs1 hq hF hS => ?_) (fun a H1 locs1 hq hF hS => ?_)
  · obtain ⟨hq, hP⟩ := hq
    have hU := uo_keep hu hU hF
    rcases hsh with ⟨v1, h⟩ | h
    · rw [h] at hq
      cases hq
      refine lv_i2l hx hb d_L_all_7 rfl ?_
      refine cd_last ct (uo_at hU) (uo_D G d u ov s) hS 0 rfl 0 ⟨by decide, by decide⟩ rfl d_L_all_8 (fun H2 locs2 hU hz1 hq1 hS => ?_)
      replace hP := dkP_q hu hP hq1
      refine lv_goto (tgt := 15) hx hb d_L_all_9 (by decide) ?_
      refine lv_iconst (v := 0) hx hb d_L_all_15 (by decide) ?_
      exact cd_iret ct hlk hr hS ⟨by decide, by decide⟩ ⟨by rw [h]; rfl, hP, by rw [h]; exact hU⟩ d_L_all_16
    · rw [h] at hq; obtain ⟨_, h2, _⟩ := hq; cases h2
  · obtain ⟨hq, hP⟩ := hq
    have hU := uo_keep hu hU hF
    rcases hsh with ⟨v1, h⟩ | h
    · rw [h] at hq; cases hq
    · rw [h] at hq
      obtain ⟨b, h2, hX⟩ := hq
      cases h2
      refine cd_catch (k := 3) (r := 12) ct hxt hX rfl ⟨⟨by decide, by decide, by decide⟩, _, cl_L_13, Or.inl ⟨kt_3, rfl⟩⟩ ?_
      refine lv_astore_n hx hb d_L_all_12 rfl hl (by decide) rfl (fun ls hl => ?_)
      refine lv_iconst (v := 1) hx hb d_L_all_13 (by decide) ?_
      exact cd_iret ct hlk hr hS ⟨by decide, by decide⟩ ⟨by rw [h]; rfl, hP, by rw [h, oF_thr]; exact hU⟩ d_L_all_14
end
section
/-! The law: its entry. The rows R_law .. lw_At are a starting text (kit/laws/SKELETON.whole). -/
def R_law : String := "CommitDeskLaw"
def lw_P (b : Addr) (xs : List Int32) (args : Array Value) (s : State) : Prop := args = #[.ref b] ∧ s.IntsAt b xs ∧ xs.length ≤ 2560 ∧ (Jvm.Cond.and given_1 narrow_1).before args s = true
def lw_Q (_ : Array Value) (s : State) (o : Outcome) (t : State) : Prop := o = .returned (some (.int 1)) ∧ Framed s o t [] 601024 7293033
def lw_Z (below : List Frame) (a : Array Value) (s : State) : State → Prop := fun t => ∃ o, t.status = .running ∧ Ended t below o ∧ lw_Q a s o t
/-- the law's own end, with 1 on the stack, nothing written that was there before, its room as the claim has it -/
theorem lw_ret {p : Program} {l : Launch} {e : Env} {s : State} {m : MethodId} {below : List Frame} {meth : Method} {c : Code} {b : Nat} (hx : p.tables.exec = Jvm.exec) (hb : c.code = code) (hr : meth.sig.returnType = ret) (hlocks : meth.locks = false) {pc : Nat} {H : Heap} {ls : Array Slot} (hdg : decode code pc = .ok (.ireturn, 1)) : W p l e room_1 s m #[Value.ref b] below meth c H [] 601024 7293033 (lw_Z below #[Value.ref b] s) (F0 m pc ls [.int 1]) := by
  intro T hT X
  obtain ⟨fs, hret, hrun, hended, hW, hframe⟩ := X.leave (v := some (.int 1)) (hlocks := hlocks) (fun h => by rw [hr] at h; cases h)
  have hmeth' : T.vm.method? m = some meth := X.method'
  refine ⟨T.setFrames fs, ?_, .returned (some (.int 1)), hrun, hended, rfl, ⟨_, rfl⟩, hW, hframe⟩
  jvm_step X.here [X.here.top, hx, hb, hdg, hmeth', hr, ret, narrow_b1]
  (try refine ⟨rfl, ?_⟩); (try refine ⟨rfl, ?_⟩)
  first | (intro acts; rw [hret _ acts rfl rfl rfl]) | rw [hret _ _ rfl rfl rfl]
  exact Steps.refl _
/-- what holds at the law's entry: the machine, the code, the tables' words (any of lw_tbl by 'hts w (by decide +kernel)'), the script of L ints xs at the cell b, what the Statement gives of the start (any of its parts by flat_of_before) -/
def lw_At (p : Program) (s : State) (m : MethodId) (meth : Method) (c : Code) (b L : Nat) (xs : Nat → Int32) : Prop :=
  p.tables.exec = Jvm.exec ∧ c.code = code ∧ meth.sig.returnType = ret ∧ c.maxLocals = 8 ∧ s.vm.findClass R_law = some m.cls ∧ (∀ w ∈ lw_tbl, w.before #[Value.ref b] s = true) ∧ va_X b L xs s s.heap ∧ b < s.heap.size ∧ meth.locks = false ∧ (Jvm.Cond.and given_1 narrow_1).before #[Value.ref b] s = true
theorem cd_RA {s : State} {args : Array Value} {ty : FieldType} (h : (Cond.arrayClass ty).before args s = true) (ho : ∀ C, ty ≠ .object C) : ∃ cA : ClassId, ArrOfT s cA ty ∧ va_RA s cA ty := by
  obtain ⟨cA, k, comp, h1, h2, h3⟩ := Cond.arrayClass_spec h
  refine ⟨cA, fun n z => ⟨fun k h => (by cases h), k, h2, comp, h3⟩, ?_⟩
  cases ty with
  | object C => exact absurd rfl (ho C)
  | _ => exact h1
theorem cd_RO {s : State} {args : Array Value} {C : String} (h : (Cond.arrayOver (.object C)).before args s = true) : ∃ cA : ClassId, ArrOfT s cA (.object C) ∧ va_RA s cA (.object C) := by
  obtain ⟨comp, cA, k, h1, h2, h3, h4, h5⟩ := Cond.arrayOver_spec h
  exact ⟨cA, fun n z => ⟨fun k h => (by cases h), k, h3, comp, h4⟩, k, comp, h3, h4, h1, h5⟩
theorem cd_start {p : Program} {s : State} {m : MethodId} {meth : Method} {c : Code} {b L : Nat} {xs : Nat → Int32} (C0 : lw_At p s m meth c b L xs) : ∃ G : cd_G, cd_Ct G p s m #[Value.ref b] c code "CommitDeskLaw" 8 (fun _ => False) ∧ cd_z G < s.heap.size := by
  obtain ⟨hx, hb, hr, hml, hown, hts0, hX, hbl, hlk, hgv⟩ := C0
  have hts : ∀ w ∈ cd_TB, w.before #[Value.ref b] s = true := fun w hw => hts0 w (List.mem_filter.mp hw).1
  have hs := flat_of_before _ hgv
  obtain ⟨z, hz⟩ := cd_ZZ.of (hts0 _ (List.mem_of_getElem? (i := 127) (by decide +kernel))) (hs _ (by decide +kernel)) (hts0 _ (List.mem_of_getElem? (i := 129) (by decide +kernel))) (hs _ (by decide +kernel))
  obtain ⟨c0, i0, k0⟩ := u_known (T := F_W) (N := 8) hts in_W (hts _ it_W)
  obtain ⟨c1, i1, k1⟩ := u_known (T := F_D) (N := 5) hts in_D (hts _ it_D)
  obtain ⟨c2, i2, k2⟩ := u_known (T := F_M) (N := 11) hts in_M (hts _ it_M)
  obtain ⟨c3, i3, k3⟩ := u_known (T := F_X) (N := 0) hts (fun w hw => by cases hw) (hts _ x_24.2.2.1)
  obtain ⟨c4, i4, k4⟩ := u_known (T := F_X) (N := 0) hts (fun w hw => by cases hw) (hts _ x_45.2.2.1)
  obtain ⟨c5, i5, k5⟩ := u_known (T := F_X) (N := 0) hts (fun w hw => by cases hw) (hts _ x_27.2.2.1)
  obtain ⟨c6, i6, k6⟩ := u_known (T := F_X) (N := 0) hts (fun w hw => by cases hw) (hts _ x_30.2.2.1)
  obtain ⟨aI, rI⟩ := cd_RA (hts _ ac_int) (fun C h => by cases h)
  obtain ⟨aL, rL⟩ := cd_RA (hts _ ac_long) (fun C h => by cases h)
  obtain ⟨aZ, rZ⟩ := cd_RA (hts _ ac_boolean) (fun C h => by cases h)
  obtain ⟨aW, rW⟩ := cd_RO (hts _ ao_W)
  have hNC : cd_NC s := by
    intro q hq
    simp only [cd_ncs, List.mem_cons, List.not_mem_nil, or_false] at hq
    rcases hq with rfl | rfl | rfl | rfl | rfl | rfl
    · exact va_Nc.of (hs _ (by decide +kernel))
    · exact va_Nc.of (hs _ (by decide +kernel))
    · exact va_Nc.of (hs _ (by decide +kernel))
    · exact va_Nc.of (hs _ (by decide +kernel))
    · exact va_Nc.of (hs _ (by decide +kernel))
    · exact va_Nc.of (hs _ (by decide +kernel))
  refine ⟨((fun k => match k with | 0 => c0 | 1 => c1 | 2 => c2 | 3 => c3 | 4 => c4 | 5 => c5 | _ => c6, fun k => match k with | 0 => i0 | 1 => i1 | 2 => i2 | 3 => i3 | 4 => i4 | 5 => i5 | _ => i6), aI, aL, aZ, aW, z), ⟨hx, hb, hown, hml, hts, ⟨⟨fun k q hq => ?_, fun k q hq => ?_⟩, hz, hNC⟩, fun h => h⟩, ?_⟩
  · match k, hq with
    | 0, hq => cases hq; exact k0
    | 1, hq => cases hq; exact k1
    | 2, hq => cases hq; exact k2
    | 3, hq => cases hq; exact k3
    | 4, hq => cases hq; exact k4
    | 5, hq => cases hq; exact k5
    | 6, hq => cases hq; exact k6
    | n + 7, hq => cases hq
  · match k, hq with
    | 0, hq => cases hq; exact rI
    | 1, hq => cases hq; exact rL
    | 2, hq => cases hq; exact rZ
    | 3, hq => cases hq; exact rW
    | n + 4, hq => cases hq
  · obtain ⟨cell, h1, -⟩ := hz
    exact (Array.getElem?_eq_some_iff.mp h1).1
end
section
/-! Walks of CommitDeskLaw, 2: the cases of the law's loop. Printed by prog/mkLaw.py and prog/walk.py. -/
def lv2 (a b : Int32) : Int64 := (a.toInt64 <<< ((32 : Int32).toInt64 &&& 63)) ||| (b.toInt64 &&& 4294967295)
abbrev ll (b d j : Nat) : List (Nat × Value) := [(4, .int (nI j)), (3, .ref (d + 53)), (2, .ref (d + 44)), (1, .ref d), (0, .ref b)]
/-- what holds at the head of the loop: the desk at d, the model at d + 44, the out cell at d + 53 -/
def LI (G : cd_G) (s : State) (d : Nat) (S : DS) (M : MC) (er : Int32) (ov : Nat → Int64) (H : Heap) (locs : List Loc) : Prop :=
  Rel S M ∧ dkP G d S H ∧ va_P G.1 cd_cls (mdS G (d + 44) er M) H ∧ va_P G.1 cd_cls (uo G (d + 53) ov) H ∧ va_S (cd_xA (fun _ => False) s) s.heap H locs
theorem dkP_far {G : cd_G} {d : Nat} {S : DS} {A : Nat → Prop} {H H1 : Heap} (h : dkP G d S H) (hF : cd_FR A H H1) (hA : ∀ q, rg d 44 q → ¬ A q) : dkP G d S H1 := by
  obtain ⟨cl, vs, dn, st, w⟩ := S
  refine ⟨cd_keep h.1 hF fun k q hk hq => hA _ (dk_in _ ((dk_D G d cl vs dn st).2 k q hk)) hq, fun t ht => cd_keep (h.2 t ht) hF fun k q hk hq => hA _ (dk_inW ht _ ((wk_D G (wA d t) (w t)).2 k q hk)) hq⟩
theorem dkP_M {G : cd_G} {d : Nat} {S : DS} {H H1 : Heap} (h : dkP G d S H) (hF : cd_FR (rg (d + 44) 9) H H1) : dkP G d S H1 := dkP_far h hF fun q h1 h2 => by
  have h3 := h1.2
  have h4 := h2.1
  omega
theorem md_far {G : cd_G} {g : Nat} {er : Int32} {M : MC} {A : Nat → Prop} {H H1 : Heap} (h : va_P G.1 cd_cls (mdS G g er M) H) (hF : cd_FR A H H1) (hA : ∀ q, rg g 9 q → ¬ A q) : va_P G.1 cd_cls (mdS G g er M) H1 :=
  cd_keep h hF fun k q hk hq => hA _ ((md_D G g er M).2 k q hk) hq
theorem md_d {G : cd_G} {d : Nat} {er : Int32} {M : MC} {H H1 : Heap} (h : va_P G.1 cd_cls (mdS G (d + 44) er M) H) (hF : cd_FR (rg d 44) H H1) : va_P G.1 cd_cls (mdS G (d + 44) er M) H1 := md_far h hF fun q h1 h2 => by
  have h3 := h1.1
  have h4 := h2.2
  omega
theorem md_u {G : cd_G} {d : Nat} {er : Int32} {M : MC} {H H1 : Heap} (h : va_P G.1 cd_cls (mdS G (d + 44) er M) H) (hF : cd_FR (uA d (d + 53)) H H1) : va_P G.1 cd_cls (mdS G (d + 44) er M) H1 := md_far h hF fun q h1 h2 => by
  have h3 := h1.1
  have h5 := h1.2
  rcases h2 with h2 | h2
  · have h4 := h2.2
    omega
  · omega
theorem uo_M {G : cd_G} {d : Nat} {ov : Nat → Int64} {H H1 : Heap} (h : va_P G.1 cd_cls (uo G (d + 53) ov) H) (hF : cd_FR (rg (d + 44) 9) H H1) : va_P G.1 cd_cls (uo G (d + 53) ov) H1 :=
  cd_keep h hF fun k q hk hq => by
    have h1 := (cd_cons (ws := uo G (d + 53) ov) (d + 53) rfl).2 k q hk
    have h2 := hq.2
    have h3 := h1.1
    omega
theorem oF_0 (r : DR) (ov : Nat → Int64) : oF r ov 0 = oL r (ov 0) := by simp [oF, vp_updL]
section LawOps
variable {p : Program} {l : Launch} {e : Env} {s : State} {m : MethodId} {below : List Frame} {meth : Method} {c : Code} {H : Heap} {locs : List Loc} {cells slots : Nat} {Q : State → Prop}
variable {G : cd_G} {b d j L : Nat} {xs : Nat → Int32} {ls : Array Slot} {rest : List Value} {pc : Nat} {S : DS} {M : MC} {er : Int32} {ov : Nat → Int64}
theorem law_ld (ct : cd_Ct G p s m #[Value.ref b] c code "CommitDeskLaw" 8 (fun _ => False)) (hX : va_X b L xs s s.heap) (hbl : b < s.heap.size) (hS : va_S (cd_xA (fun _ => False) s) s.heap H locs) (k : Nat) {n : Int} (hk : Int32.ofInt n = nI k) (hj : j + k < L ∧ L ≤ 2560) (h0 : ls[0]? = some (.val (.ref b))) (h4 : ls[4]? = some (.val (.int (nI j))))
    (d0 : decode code pc = .ok (.aload_n 0, 1)) (d1 : decode code (pc + 1) = .ok (.iload 4, 2)) (d2 : decode code (pc + 3) = .ok (.iconst n, 1)) (d3 : decode code (pc + 4) = .ok (.iadd, 1)) (d4 : decode code (pc + 5) = .ok (.iaload, 1))
    (kk : W p l e room_1 s m #[Value.ref b] below meth c H locs cells slots Q (F0 m (pc + 6) ls (.int (xs (j + k)) :: rest))) : W p l e room_1 s m #[Value.ref b] below meth c H locs cells slots Q (F0 m pc ls rest) := by
  have hx := ct.1
  have hb := ct.2.1
  refine lv_aload_n hx hb d0 rfl h0 ?_
  refine lv_iload hx hb d1 h4 ?_
  refine lv_iconst hx hb d2 hk ?_
  refine lv_iadd hx hb d3 ?_
  refine cd_ti (nI_add j k) ?_
  refine va_sld (A := cd_xA (fun _ => False) s) hx hb hX hbl (fun h => h.elim (fun h => h) (fun h => absurd hbl (Nat.not_lt.mpr h))) hS (vp_in_nI hj.1 (by omega)) d4 ?_
  rw [nI_clamp (by omega)]
  exact kk
set_option maxHeartbeats 4000000 in
theorem law_begin (hfl : l.flags = flags0) (ct : cd_Ct G p s m #[Value.ref b] c code "CommitDeskLaw" 8 (fun _ => False)) (hX : va_X b L xs s s.heap) (hbl : b < s.heap.size) (hd : s.heap.size ≤ d) (hz : cd_z G < d) (hj : j + 5 ≤ L) (hL : L ≤ 2560) (hR : cells + 6 ≤ 601024 ∧ slots + 36 ≤ 7293033) (hI : LI G s d S M er ov H locs) (hl : lv_has ls 8 (ll b d j))
    (kk : ∀ (S : DS) (M : MC) (er : Int32) (ov : Nat → Int64) (H : Heap) (locs : List Loc) (ls : Array Slot), LI G s d S M er ov H locs → lv_has ls 8 (ll b d j) → W p l e room_1 s m #[Value.ref b] below meth c H locs (cells + 6) (slots + 36) Q (F0 m 841 ls [])) : W p l e room_1 s m #[Value.ref b] below meth c H locs cells slots Q (F0 m 104 ls []) := by
  have hx := ct.1
  have hb := ct.2.1
  obtain ⟨hRel, hP, hM, hU, hS⟩ := hI
  refine lv_aload_n hx hb d_L_law_104 rfl (lk hl rfl) ?_
  refine law_ld ct hX hbl hS 1 (by decide) ⟨by omega, hL⟩ (lk hl rfl) (lk hl rfl) d_L_law_105 d_L_law_106 d_L_law_108 d_L_law_109 d_L_law_110 ?_
  refine cd_callS (As := [.ref d, .int (xs (j + 1))]) (rest := []) ct hS (c_L_begin l hfl G d S (xs (j + 1)) hz) cs_L_68 ⟨⟨by decide, by decide⟩, hR.1, hR.2⟩ hP hl.1 rfl rfl (by decide) d_L_law_111 (fun q _ h => Or.inr (Nat.le_trans hd h.1)) (fun v H1 locs1 hq hF hS => ?_) (fun a H1 locs1 hq hF hS => by cases hq.1)
  obtain ⟨hq, hP⟩ := hq
  cases hq
  replace hM := md_d hM hF
  replace hU := uo_keep (by omega) hU hF
  refine lv_istore hx hb d_L_law_114 hl (by decide) rfl (fun ls hl => ?_)
  refine lv_aload_n hx hb d_L_law_116 rfl (lk hl rfl) ?_
  refine law_ld ct hX hbl hS 1 (by decide) ⟨by omega, hL⟩ (lk hl rfl) (lk hl rfl) d_L_law_117 d_L_law_118 d_L_law_120 d_L_law_121 d_L_law_122 ?_
  refine cd_callV (As := [.int (xs (j + 1))]) (rest := []) ct hS (c_M_begin l G (d + 44) er M (xs (j + 1)) (show cd_z G < d + 44 by omega)) cv_L_73 ⟨⟨by decide, by decide⟩, hR.1, hR.2⟩ (md_recv ct hM) hM hl.1 rfl rfl (Nat.le_of_ble_eq_true rfl) d_L_law_123 (fun q _ h => Or.inr (by have h1 := h.1; omega)) (fun v H1 locs1 hq hF hS => ?_) (fun a H1 locs1 hq hF hS => by cases hq.1)
  obtain ⟨hq, hM⟩ := hq
  cases hq
  replace hP := dkP_M hP hF
  replace hU := uo_M hU hF
  refine lv_aload_n hx hb d_L_law_126 rfl (lk hl rfl) ?_
  refine cd_callV (As := []) (rest := []) ct hS (c_M_thrown l G (d + 44) _ _) cv_L_74 ⟨⟨by decide, by decide⟩, hR.1, hR.2⟩ (md_recv ct hM) hM hl.1 rfl rfl (Nat.le_of_ble_eq_true rfl) d_L_law_127 (fun _ _ h => h.elim) (fun v H1 locs1 hq hF hS => ?_) (fun a H1 locs1 hq hF hS => by cases hq)
  cases hq
  replace hP := dkP_same0 hP hF
  replace hM := cd_keep0 hM hF
  replace hU := cd_keep0 hU hF
  have hr := r_begin hRel (xs (j + 1))
  refine lv_iload hx hb d_L_law_130 (lk hl rfl) ?_
  refine lv_icmp_eq (tgt := 137) hx hb d_L_law_132 (by decide) (fun hc => ?_) (fun hc => absurd hr.1.symm hc)
  refine lv_goto (tgt := 841) hx hb d_L_law_137 (by decide) ?_
  exact kk _ _ _ _ _ _ ls ⟨hr.2, hP, hM, hU, hS⟩ (lre hl (ll b d j) rfl)
set_option maxHeartbeats 4000000 in
theorem law_read (hfl : l.flags = flags0) (ct : cd_Ct G p s m #[Value.ref b] c code "CommitDeskLaw" 8 (fun _ => False)) (hX : va_X b L xs s s.heap) (hbl : b < s.heap.size) (hd : s.heap.size ≤ d) (hz : cd_z G < d) (hj : j + 5 ≤ L) (hL : L ≤ 2560) (hR : cells + 6 ≤ 601024 ∧ slots + 36 ≤ 7293033) (hI : LI G s d S M er ov H locs) (hl : lv_has ls 8 (ll b d j))
    (kk : ∀ (S : DS) (M : MC) (er : Int32) (ov : Nat → Int64) (H : Heap) (locs : List Loc) (ls : Array Slot), LI G s d S M er ov H locs → lv_has ls 8 (ll b d j) → W p l e room_1 s m #[Value.ref b] below meth c H locs (cells + 6) (slots + 36) Q (F0 m 841 ls [])) : W p l e room_1 s m #[Value.ref b] below meth c H locs cells slots Q (F0 m 140 ls []) := by
  have hx := ct.1
  have hb := ct.2.1
  obtain ⟨hRel, hP, hM, hU, hS⟩ := hI
  refine lv_aload_n hx hb d_L_law_140 rfl (lk hl rfl) ?_
  refine law_ld ct hX hbl hS 1 (by decide) ⟨by omega, hL⟩ (lk hl rfl) (lk hl rfl) d_L_law_141 d_L_law_142 d_L_law_144 d_L_law_145 d_L_law_146 ?_
  refine law_ld ct hX hbl hS 2 (by decide) ⟨by omega, hL⟩ (lk hl rfl) (lk hl rfl) d_L_law_147 d_L_law_148 d_L_law_150 d_L_law_151 d_L_law_152 ?_
  refine lv_aload_n hx hb d_L_law_153 rfl (lk hl rfl) ?_
  refine cd_callS (As := [.ref d, .int (xs (j + 1)), .int (xs (j + 2)), .ref (d + 53)]) (rest := []) ct hS (c_L_read l hfl G d (d + 53) ov S (xs (j + 1)) (xs (j + 2)) hz (by omega) (rel_dOK hRel)) cs_L_78 ⟨⟨by decide, by decide⟩, hR.1, hR.2⟩ ⟨hP, hU⟩ hl.1 rfl rfl (by decide) d_L_law_154 (fun q _ h => Or.inr (by rcases h with h | h; exact Nat.le_trans hd h.1; omega)) (fun v H1 locs1 hq hF hS => ?_) (fun a H1 locs1 hq hF hS => by cases hq.1)
  obtain ⟨hq, hP, hU⟩ := hq
  cases hq
  replace hM := md_u hM hF
  refine lv_istore hx hb d_L_law_157 hl (by decide) rfl (fun ls hl => ?_)
  refine lv_aload_n hx hb d_L_law_159 rfl (lk hl rfl) ?_
  refine law_ld ct hX hbl hS 1 (by decide) ⟨by omega, hL⟩ (lk hl rfl) (lk hl rfl) d_L_law_160 d_L_law_161 d_L_law_163 d_L_law_164 d_L_law_165 ?_
  refine law_ld ct hX hbl hS 2 (by decide) ⟨by omega, hL⟩ (lk hl rfl) (lk hl rfl) d_L_law_166 d_L_law_167 d_L_law_169 d_L_law_170 d_L_law_171 ?_
  refine cd_callV (As := [.int (xs (j + 1)), .int (xs (j + 2))]) (rest := []) ct hS (c_M_read l G (d + 44) er M (xs (j + 1)) (xs (j + 2)) (show cd_z G < d + 44 by omega) (rel_mOK hRel)) cv_L_81 ⟨⟨by decide, by decide⟩, hR.1, hR.2⟩ (md_recv ct hM) hM hl.1 rfl rfl (Nat.le_of_ble_eq_true rfl) d_L_law_172 (fun q _ h => Or.inr (by have h1 := h.1; omega)) (fun v H1 locs1 hq hF hS => ?_) (fun a H1 locs1 hq hF hS => by cases hq.1)
  obtain ⟨hq, hM⟩ := hq
  cases hq
  replace hP := dkP_M hP hF
  replace hU := uo_M hU hF
  refine lv_lstore hx hb d_L_law_175 hl (by decide) rfl (fun ls hl => ?_)
  refine lv_aload_n hx hb d_L_law_177 rfl (lk hl rfl) ?_
  refine cd_callV (As := []) (rest := []) ct hS (c_M_thrown l G (d + 44) _ _) cv_L_74 ⟨⟨by decide, by decide⟩, hR.1, hR.2⟩ (md_recv ct hM) hM hl.1 rfl rfl (Nat.le_of_ble_eq_true rfl) d_L_law_178 (fun _ _ h => h.elim) (fun v H1 locs1 hq hF hS => ?_) (fun a H1 locs1 hq hF hS => by cases hq)
  cases hq
  replace hP := dkP_same0 hP hF
  replace hM := cd_keep0 hM hF
  replace hU := cd_keep0 hU hF
  have hr := r_read hRel (xs (j + 1)) (xs (j + 2))
  refine lv_iload hx hb d_L_law_181 (lk hl rfl) ?_
  refine lv_icmp_eq (tgt := 188) hx hb d_L_law_183 (by decide) (fun hc => ?_) (fun hc => absurd hr.1.symm hc)
  refine lv_iload hx hb d_L_law_188 (lk hl rfl) ?_
  refine lv_if_ne (tgt := 204) hx hb d_L_law_190 (by decide) (fun hc2 => ?_) (fun hc2 => ?_)
  case refine_1 =>
    refine lv_goto (tgt := 841) hx hb d_L_law_204 (by decide) ?_
    exact kk _ _ _ _ _ _ ls ⟨hr.2.1, hP, hM, hU, hS⟩ (lre hl (ll b d j) rfl)
  have hv := hr.2.2 (hr.1.symm.trans hc2) (ov 0)
  rw [← oF_0] at hv
  refine lv_aload_n hx hb d_L_law_193 rfl (lk hl rfl) ?_
  refine lv_iconst (v := 0) hx hb d_L_law_194 (by decide) ?_
  refine cd_lald ct (uo_at hU) 0 rfl 0 ⟨by decide, by decide⟩ rfl d_L_law_195 ?_
  refine lv_lload hx hb d_L_law_196 (lk hl rfl) ?_
  refine W.lcmp hx hb d_L_law_198 ?_
  refine lv_if_eq (tgt := 204) hx hb d_L_law_199 (by decide) (fun _ => ?_) (fun hc => absurd ((lg_cmp_eq _ _).mpr hv) hc)
  refine lv_goto (tgt := 841) hx hb d_L_law_204 (by decide) ?_
  exact kk _ _ _ _ _ _ ls ⟨hr.2.1, hP, hM, hU, hS⟩ (lre hl (ll b d j) rfl)
set_option maxHeartbeats 4000000 in
theorem law_write (hfl : l.flags = flags0) (ct : cd_Ct G p s m #[Value.ref b] c code "CommitDeskLaw" 8 (fun _ => False)) (hX : va_X b L xs s s.heap) (hbl : b < s.heap.size) (hd : s.heap.size ≤ d) (hz : cd_z G < d) (hj : j + 5 ≤ L) (hL : L ≤ 2560) (hR : cells + 6 ≤ 601024 ∧ slots + 36 ≤ 7293033) (hI : LI G s d S M er ov H locs) (hl : lv_has ls 8 (ll b d j))
    (kk : ∀ (S : DS) (M : MC) (er : Int32) (ov : Nat → Int64) (H : Heap) (locs : List Loc) (ls : Array Slot), LI G s d S M er ov H locs → lv_has ls 8 (ll b d j) → W p l e room_1 s m #[Value.ref b] below meth c H locs (cells + 6) (slots + 36) Q (F0 m 841 ls [])) : W p l e room_1 s m #[Value.ref b] below meth c H locs cells slots Q (F0 m 207 ls []) := by
  have hx := ct.1
  have hb := ct.2.1
  obtain ⟨hRel, hP, hM, hU, hS⟩ := hI
  refine lv_aload_n hx hb d_L_law_207 rfl (lk hl rfl) ?_
  refine law_ld ct hX hbl hS 1 (by decide) ⟨by omega, hL⟩ (lk hl rfl) (lk hl rfl) d_L_law_208 d_L_law_209 d_L_law_211 d_L_law_212 d_L_law_213 ?_
  refine law_ld ct hX hbl hS 2 (by decide) ⟨by omega, hL⟩ (lk hl rfl) (lk hl rfl) d_L_law_214 d_L_law_215 d_L_law_217 d_L_law_218 d_L_law_219 ?_
  refine law_ld ct hX hbl hS 3 (by decide) ⟨by omega, hL⟩ (lk hl rfl) (lk hl rfl) d_L_law_220 d_L_law_221 d_L_law_223 d_L_law_224 d_L_law_225 ?_
  refine lv_i2l hx hb d_L_law_226 rfl ?_
  refine lv_bipush (v := 32) hx hb d_L_law_227 (by decide) ?_
  refine lv_lshl hx hb d_L_law_229 rfl ?_
  refine law_ld ct hX hbl hS 4 (by decide) ⟨by omega, hL⟩ (lk hl rfl) (lk hl rfl) d_L_law_230 d_L_law_231 d_L_law_233 d_L_law_234 d_L_law_235 ?_
  refine lv_i2l hx hb d_L_law_236 rfl ?_
  refine lv_ldc2 hx hb ct.2.2.1 (ct.2.2.2.2.1 _ kc_L_82) d_L_law_237 ?_
  refine lv_land hx hb d_L_law_240 ?_
  refine lv_lor hx hb d_L_law_241 ?_
  refine cd_tl (y := lv2 (xs (j + 3)) (xs (j + 4))) rfl ?_
  refine cd_callS (As := [.ref d, .int (xs (j + 1)), .int (xs (j + 2)), .long (lv2 (xs (j + 3)) (xs (j + 4)))]) (rest := []) ct hS (c_L_write l hfl G d S (xs (j + 1)) (xs (j + 2)) (lv2 (xs (j + 3)) (xs (j + 4))) hz (rel_dOK hRel)) cs_L_84 ⟨⟨by decide, by decide⟩, hR.1, hR.2⟩ hP hl.1 rfl rfl (by decide) d_L_law_242 (fun q _ h => Or.inr (Nat.le_trans hd h.1)) (fun v H1 locs1 hq hF hS => ?_) (fun a H1 locs1 hq hF hS => by cases hq.1)
  obtain ⟨hq, hP⟩ := hq
  cases hq
  replace hM := md_d hM hF
  replace hU := uo_keep (by omega) hU hF
  refine lv_istore hx hb d_L_law_245 hl (by decide) rfl (fun ls hl => ?_)
  refine lv_aload_n hx hb d_L_law_247 rfl (lk hl rfl) ?_
  refine law_ld ct hX hbl hS 1 (by decide) ⟨by omega, hL⟩ (lk hl rfl) (lk hl rfl) d_L_law_248 d_L_law_249 d_L_law_251 d_L_law_252 d_L_law_253 ?_
  refine law_ld ct hX hbl hS 2 (by decide) ⟨by omega, hL⟩ (lk hl rfl) (lk hl rfl) d_L_law_254 d_L_law_255 d_L_law_257 d_L_law_258 d_L_law_259 ?_
  refine law_ld ct hX hbl hS 3 (by decide) ⟨by omega, hL⟩ (lk hl rfl) (lk hl rfl) d_L_law_260 d_L_law_261 d_L_law_263 d_L_law_264 d_L_law_265 ?_
  refine lv_i2l hx hb d_L_law_266 rfl ?_
  refine lv_bipush (v := 32) hx hb d_L_law_267 (by decide) ?_
  refine lv_lshl hx hb d_L_law_269 rfl ?_
  refine law_ld ct hX hbl hS 4 (by decide) ⟨by omega, hL⟩ (lk hl rfl) (lk hl rfl) d_L_law_270 d_L_law_271 d_L_law_273 d_L_law_274 d_L_law_275 ?_
  refine lv_i2l hx hb d_L_law_276 rfl ?_
  refine lv_ldc2 hx hb ct.2.2.1 (ct.2.2.2.2.1 _ kc_L_82) d_L_law_277 ?_
  refine lv_land hx hb d_L_law_280 ?_
  refine lv_lor hx hb d_L_law_281 ?_
  refine cd_tl (y := lv2 (xs (j + 3)) (xs (j + 4))) rfl ?_
  refine cd_callV (As := [.int (xs (j + 1)), .int (xs (j + 2)), .long (lv2 (xs (j + 3)) (xs (j + 4)))]) (rest := []) ct hS (c_M_write l G (d + 44) er M (xs (j + 1)) (xs (j + 2)) (lv2 (xs (j + 3)) (xs (j + 4))) (show cd_z G < d + 44 by omega) (rel_mOK hRel)) cv_L_87 ⟨⟨by decide, by decide⟩, hR.1, hR.2⟩ (md_recv ct hM) hM hl.1 rfl rfl (Nat.le_of_ble_eq_true rfl) d_L_law_282 (fun q _ h => Or.inr (by have h1 := h.1; omega)) (fun v H1 locs1 hq hF hS => ?_) (fun a H1 locs1 hq hF hS => by cases hq.1)
  obtain ⟨hq, hM⟩ := hq
  cases hq
  replace hP := dkP_M hP hF
  replace hU := uo_M hU hF
  refine lv_aload_n hx hb d_L_law_285 rfl (lk hl rfl) ?_
  refine cd_callV (As := []) (rest := []) ct hS (c_M_thrown l G (d + 44) _ _) cv_L_74 ⟨⟨by decide, by decide⟩, hR.1, hR.2⟩ (md_recv ct hM) hM hl.1 rfl rfl (Nat.le_of_ble_eq_true rfl) d_L_law_286 (fun _ _ h => h.elim) (fun v H1 locs1 hq hF hS => ?_) (fun a H1 locs1 hq hF hS => by cases hq)
  cases hq
  replace hP := dkP_same0 hP hF
  replace hM := cd_keep0 hM hF
  replace hU := cd_keep0 hU hF
  have hr := r_write hRel (xs (j + 1)) (xs (j + 2)) (lv2 (xs (j + 3)) (xs (j + 4)))
  refine lv_iload hx hb d_L_law_289 (lk hl rfl) ?_
  refine lv_icmp_eq (tgt := 296) hx hb d_L_law_291 (by decide) (fun hc => ?_) (fun hc => absurd hr.1.symm hc)
  refine lv_goto (tgt := 841) hx hb d_L_law_296 (by decide) ?_
  exact kk _ _ _ _ _ _ ls ⟨hr.2, hP, hM, hU, hS⟩ (lre hl (ll b d j) rfl)
set_option maxHeartbeats 4000000 in
theorem law_save (hfl : l.flags = flags0) (ct : cd_Ct G p s m #[Value.ref b] c code "CommitDeskLaw" 8 (fun _ => False)) (hX : va_X b L xs s s.heap) (hbl : b < s.heap.size) (hd : s.heap.size ≤ d) (hz : cd_z G < d) (hj : j + 5 ≤ L) (hL : L ≤ 2560) (hR : cells + 6 ≤ 601024 ∧ slots + 36 ≤ 7293033) (hI : LI G s d S M er ov H locs) (hl : lv_has ls 8 (ll b d j))
    (kk : ∀ (S : DS) (M : MC) (er : Int32) (ov : Nat → Int64) (H : Heap) (locs : List Loc) (ls : Array Slot), LI G s d S M er ov H locs → lv_has ls 8 (ll b d j) → W p l e room_1 s m #[Value.ref b] below meth c H locs (cells + 6) (slots + 36) Q (F0 m 841 ls [])) : W p l e room_1 s m #[Value.ref b] below meth c H locs cells slots Q (F0 m 299 ls []) := by
  have hx := ct.1
  have hb := ct.2.1
  obtain ⟨hRel, hP, hM, hU, hS⟩ := hI
  refine lv_aload_n hx hb d_L_law_299 rfl (lk hl rfl) ?_
  refine law_ld ct hX hbl hS 1 (by decide) ⟨by omega, hL⟩ (lk hl rfl) (lk hl rfl) d_L_law_300 d_L_law_301 d_L_law_303 d_L_law_304 d_L_law_305 ?_
  refine lv_aload_n hx hb d_L_law_306 rfl (lk hl rfl) ?_
  refine cd_callS (As := [.ref d, .int (xs (j + 1)), .ref (d + 53)]) (rest := []) ct hS (c_L_save l hfl G d (d + 53) ov S (xs (j + 1)) hz (by omega) (rel_dOK hRel)) cs_L_88 ⟨⟨by decide, by decide⟩, hR.1, hR.2⟩ ⟨hP, hU⟩ hl.1 rfl rfl (by decide) d_L_law_307 (fun q _ h => Or.inr (by rcases h with h | h; exact Nat.le_trans hd h.1; omega)) (fun v H1 locs1 hq hF hS => ?_) (fun a H1 locs1 hq hF hS => by cases hq.1)
  obtain ⟨hq, hP, hU⟩ := hq
  cases hq
  replace hM := md_u hM hF
  refine lv_istore hx hb d_L_law_310 hl (by decide) rfl (fun ls hl => ?_)
  refine lv_aload_n hx hb d_L_law_312 rfl (lk hl rfl) ?_
  refine law_ld ct hX hbl hS 1 (by decide) ⟨by omega, hL⟩ (lk hl rfl) (lk hl rfl) d_L_law_313 d_L_law_314 d_L_law_316 d_L_law_317 d_L_law_318 ?_
  refine cd_callV (As := [.int (xs (j + 1))]) (rest := []) ct hS (c_M_save l G (d + 44) er M (xs (j + 1)) (show cd_z G < d + 44 by omega) (rel_mOK hRel)) cv_L_91 ⟨⟨by decide, by decide⟩, hR.1, hR.2⟩ (md_recv ct hM) hM hl.1 rfl rfl (Nat.le_of_ble_eq_true rfl) d_L_law_319 (fun q _ h => Or.inr (by have h1 := h.1; omega)) (fun v H1 locs1 hq hF hS => ?_) (fun a H1 locs1 hq hF hS => by cases hq.1)
  obtain ⟨hq, hM⟩ := hq
  cases hq
  replace hP := dkP_M hP hF
  replace hU := uo_M hU hF
  refine lv_istore hx hb d_L_law_322 hl (by decide) rfl (fun ls hl => ?_)
  refine lv_aload_n hx hb d_L_law_324 rfl (lk hl rfl) ?_
  refine cd_callV (As := []) (rest := []) ct hS (c_M_thrown l G (d + 44) _ _) cv_L_74 ⟨⟨by decide, by decide⟩, hR.1, hR.2⟩ (md_recv ct hM) hM hl.1 rfl rfl (Nat.le_of_ble_eq_true rfl) d_L_law_325 (fun _ _ h => h.elim) (fun v H1 locs1 hq hF hS => ?_) (fun a H1 locs1 hq hF hS => by cases hq)
  cases hq
  replace hP := dkP_same0 hP hF
  replace hM := cd_keep0 hM hF
  replace hU := cd_keep0 hU hF
  have hr := r_save hRel (xs (j + 1))
  refine lv_iload hx hb d_L_law_328 (lk hl rfl) ?_
  refine lv_icmp_eq (tgt := 335) hx hb d_L_law_330 (by decide) (fun hc => ?_) (fun hc => absurd hr.1.symm hc)
  refine lv_iload hx hb d_L_law_335 (lk hl rfl) ?_
  refine lv_if_ne (tgt := 352) hx hb d_L_law_337 (by decide) (fun hc2 => ?_) (fun hc2 => ?_)
  case refine_1 =>
    refine lv_goto (tgt := 841) hx hb d_L_law_352 (by decide) ?_
    exact kk _ _ _ _ _ _ ls ⟨hr.2.1, hP, hM, hU, hS⟩ (lre hl (ll b d j) rfl)
  have hv := hr.2.2 (hr.1.symm.trans hc2) (ov 0)
  rw [← oF_0] at hv
  refine lv_aload_n hx hb d_L_law_340 rfl (lk hl rfl) ?_
  refine lv_iconst (v := 0) hx hb d_L_law_341 (by decide) ?_
  refine cd_lald ct (uo_at hU) 0 rfl 0 ⟨by decide, by decide⟩ rfl d_L_law_342 ?_
  refine lv_iload hx hb d_L_law_343 (lk hl rfl) ?_
  refine lv_i2l hx hb d_L_law_345 rfl ?_
  refine W.lcmp hx hb d_L_law_346 ?_
  refine lv_if_eq (tgt := 352) hx hb d_L_law_347 (by decide) (fun _ => ?_) (fun hc => absurd ((lg_cmp_eq _ _).mpr hv) hc)
  refine lv_goto (tgt := 841) hx hb d_L_law_352 (by decide) ?_
  exact kk _ _ _ _ _ _ ls ⟨hr.2.1, hP, hM, hU, hS⟩ (lre hl (ll b d j) rfl)
set_option maxHeartbeats 4000000 in
theorem law_back (hfl : l.flags = flags0) (ct : cd_Ct G p s m #[Value.ref b] c code "CommitDeskLaw" 8 (fun _ => False)) (hX : va_X b L xs s s.heap) (hbl : b < s.heap.size) (hd : s.heap.size ≤ d) (hz : cd_z G < d) (hj : j + 5 ≤ L) (hL : L ≤ 2560) (hR : cells + 6 ≤ 601024 ∧ slots + 36 ≤ 7293033) (hI : LI G s d S M er ov H locs) (hl : lv_has ls 8 (ll b d j))
    (kk : ∀ (S : DS) (M : MC) (er : Int32) (ov : Nat → Int64) (H : Heap) (locs : List Loc) (ls : Array Slot), LI G s d S M er ov H locs → lv_has ls 8 (ll b d j) → W p l e room_1 s m #[Value.ref b] below meth c H locs (cells + 6) (slots + 36) Q (F0 m 841 ls [])) : W p l e room_1 s m #[Value.ref b] below meth c H locs cells slots Q (F0 m 355 ls []) := by
  have hx := ct.1
  have hb := ct.2.1
  obtain ⟨hRel, hP, hM, hU, hS⟩ := hI
  refine lv_aload_n hx hb d_L_law_355 rfl (lk hl rfl) ?_
  refine law_ld ct hX hbl hS 1 (by decide) ⟨by omega, hL⟩ (lk hl rfl) (lk hl rfl) d_L_law_356 d_L_law_357 d_L_law_359 d_L_law_360 d_L_law_361 ?_
  refine cd_callS (As := [.ref d, .int (xs (j + 1))]) (rest := []) ct hS (c_L_back l hfl G d S (xs (j + 1)) hz (rel_dOK hRel)) cs_L_92 ⟨⟨by decide, by decide⟩, hR.1, hR.2⟩ hP hl.1 rfl rfl (by decide) d_L_law_362 (fun q _ h => Or.inr (Nat.le_trans hd h.1)) (fun v H1 locs1 hq hF hS => ?_) (fun a H1 locs1 hq hF hS => by cases hq.1)
  obtain ⟨hq, hP⟩ := hq
  cases hq
  replace hM := md_d hM hF
  replace hU := uo_keep (by omega) hU hF
  refine lv_istore hx hb d_L_law_365 hl (by decide) rfl (fun ls hl => ?_)
  refine lv_aload_n hx hb d_L_law_367 rfl (lk hl rfl) ?_
  refine law_ld ct hX hbl hS 1 (by decide) ⟨by omega, hL⟩ (lk hl rfl) (lk hl rfl) d_L_law_368 d_L_law_369 d_L_law_371 d_L_law_372 d_L_law_373 ?_
  refine cd_callV (As := [.int (xs (j + 1))]) (rest := []) ct hS (c_M_back l G (d + 44) er M (xs (j + 1)) (show cd_z G < d + 44 by omega) (rel_mOK hRel)) cv_L_94 ⟨⟨by decide, by decide⟩, hR.1, hR.2⟩ (md_recv ct hM) hM hl.1 rfl rfl (Nat.le_of_ble_eq_true rfl) d_L_law_374 (fun q _ h => Or.inr (by have h1 := h.1; omega)) (fun v H1 locs1 hq hF hS => ?_) (fun a H1 locs1 hq hF hS => by cases hq.1)
  obtain ⟨hq, hM⟩ := hq
  cases hq
  replace hP := dkP_M hP hF
  replace hU := uo_M hU hF
  refine lv_aload_n hx hb d_L_law_377 rfl (lk hl rfl) ?_
  refine cd_callV (As := []) (rest := []) ct hS (c_M_thrown l G (d + 44) _ _) cv_L_74 ⟨⟨by decide, by decide⟩, hR.1, hR.2⟩ (md_recv ct hM) hM hl.1 rfl rfl (Nat.le_of_ble_eq_true rfl) d_L_law_378 (fun _ _ h => h.elim) (fun v H1 locs1 hq hF hS => ?_) (fun a H1 locs1 hq hF hS => by cases hq)
  cases hq
  replace hP := dkP_same0 hP hF
  replace hM := cd_keep0 hM hF
  replace hU := cd_keep0 hU hF
  have hr := r_back hRel (xs (j + 1))
  refine lv_iload hx hb d_L_law_381 (lk hl rfl) ?_
  refine lv_icmp_eq (tgt := 388) hx hb d_L_law_383 (by decide) (fun hc => ?_) (fun hc => absurd hr.1.symm hc)
  refine lv_goto (tgt := 841) hx hb d_L_law_388 (by decide) ?_
  exact kk _ _ _ _ _ _ ls ⟨hr.2, hP, hM, hU, hS⟩ (lre hl (ll b d j) rfl)
set_option maxHeartbeats 4000000 in
theorem law_keep (hfl : l.flags = flags0) (ct : cd_Ct G p s m #[Value.ref b] c code "CommitDeskLaw" 8 (fun _ => False)) (hX : va_X b L xs s s.heap) (hbl : b < s.heap.size) (hd : s.heap.size ≤ d) (hz : cd_z G < d) (hj : j + 5 ≤ L) (hL : L ≤ 2560) (hR : cells + 6 ≤ 601024 ∧ slots + 36 ≤ 7293033) (hI : LI G s d S M er ov H locs) (hl : lv_has ls 8 (ll b d j))
    (kk : ∀ (S : DS) (M : MC) (er : Int32) (ov : Nat → Int64) (H : Heap) (locs : List Loc) (ls : Array Slot), LI G s d S M er ov H locs → lv_has ls 8 (ll b d j) → W p l e room_1 s m #[Value.ref b] below meth c H locs (cells + 6) (slots + 36) Q (F0 m 841 ls [])) : W p l e room_1 s m #[Value.ref b] below meth c H locs cells slots Q (F0 m 391 ls []) := by
  have hx := ct.1
  have hb := ct.2.1
  obtain ⟨hRel, hP, hM, hU, hS⟩ := hI
  refine lv_aload_n hx hb d_L_law_391 rfl (lk hl rfl) ?_
  refine law_ld ct hX hbl hS 1 (by decide) ⟨by omega, hL⟩ (lk hl rfl) (lk hl rfl) d_L_law_392 d_L_law_393 d_L_law_395 d_L_law_396 d_L_law_397 ?_
  refine cd_callS (As := [.ref d, .int (xs (j + 1))]) (rest := []) ct hS (c_L_keep l hfl G d S (xs (j + 1)) hz (rel_dOK hRel)) cs_L_95 ⟨⟨by decide, by decide⟩, hR.1, hR.2⟩ hP hl.1 rfl rfl (by decide) d_L_law_398 (fun q _ h => Or.inr (Nat.le_trans hd h.1)) (fun v H1 locs1 hq hF hS => ?_) (fun a H1 locs1 hq hF hS => by cases hq.1)
  obtain ⟨hq, hP⟩ := hq
  cases hq
  replace hM := md_d hM hF
  replace hU := uo_keep (by omega) hU hF
  refine lv_istore hx hb d_L_law_401 hl (by decide) rfl (fun ls hl => ?_)
  refine lv_aload_n hx hb d_L_law_403 rfl (lk hl rfl) ?_
  refine law_ld ct hX hbl hS 1 (by decide) ⟨by omega, hL⟩ (lk hl rfl) (lk hl rfl) d_L_law_404 d_L_law_405 d_L_law_407 d_L_law_408 d_L_law_409 ?_
  refine cd_callV (As := [.int (xs (j + 1))]) (rest := []) ct hS (c_M_keep l G (d + 44) er M (xs (j + 1)) (show cd_z G < d + 44 by omega) (rel_mOK hRel)) cv_L_97 ⟨⟨by decide, by decide⟩, hR.1, hR.2⟩ (md_recv ct hM) hM hl.1 rfl rfl (Nat.le_of_ble_eq_true rfl) d_L_law_410 (fun q _ h => Or.inr (by have h1 := h.1; omega)) (fun v H1 locs1 hq hF hS => ?_) (fun a H1 locs1 hq hF hS => by cases hq.1)
  obtain ⟨hq, hM⟩ := hq
  cases hq
  replace hP := dkP_M hP hF
  replace hU := uo_M hU hF
  refine lv_aload_n hx hb d_L_law_413 rfl (lk hl rfl) ?_
  refine cd_callV (As := []) (rest := []) ct hS (c_M_thrown l G (d + 44) _ _) cv_L_74 ⟨⟨by decide, by decide⟩, hR.1, hR.2⟩ (md_recv ct hM) hM hl.1 rfl rfl (Nat.le_of_ble_eq_true rfl) d_L_law_414 (fun _ _ h => h.elim) (fun v H1 locs1 hq hF hS => ?_) (fun a H1 locs1 hq hF hS => by cases hq)
  cases hq
  replace hP := dkP_same0 hP hF
  replace hM := cd_keep0 hM hF
  replace hU := cd_keep0 hU hF
  have hr := r_keep hRel (xs (j + 1))
  refine lv_iload hx hb d_L_law_417 (lk hl rfl) ?_
  refine lv_icmp_eq (tgt := 424) hx hb d_L_law_419 (by decide) (fun hc => ?_) (fun hc => absurd hr.1.symm hc)
  refine lv_goto (tgt := 841) hx hb d_L_law_424 (by decide) ?_
  exact kk _ _ _ _ _ _ ls ⟨hr.2, hP, hM, hU, hS⟩ (lre hl (ll b d j) rfl)
set_option maxHeartbeats 4000000 in
theorem law_done (hfl : l.flags = flags0) (ct : cd_Ct G p s m #[Value.ref b] c code "CommitDeskLaw" 8 (fun _ => False)) (hX : va_X b L xs s s.heap) (hbl : b < s.heap.size) (hd : s.heap.size ≤ d) (hz : cd_z G < d) (hj : j + 5 ≤ L) (hL : L ≤ 2560) (hR : cells + 6 ≤ 601024 ∧ slots + 36 ≤ 7293033) (hI : LI G s d S M er ov H locs) (hl : lv_has ls 8 (ll b d j))
    (kk : ∀ (S : DS) (M : MC) (er : Int32) (ov : Nat → Int64) (H : Heap) (locs : List Loc) (ls : Array Slot), LI G s d S M er ov H locs → lv_has ls 8 (ll b d j) → W p l e room_1 s m #[Value.ref b] below meth c H locs (cells + 6) (slots + 36) Q (F0 m 841 ls [])) : W p l e room_1 s m #[Value.ref b] below meth c H locs cells slots Q (F0 m 427 ls []) := by
  have hx := ct.1
  have hb := ct.2.1
  obtain ⟨hRel, hP, hM, hU, hS⟩ := hI
  refine lv_aload_n hx hb d_L_law_427 rfl (lk hl rfl) ?_
  refine law_ld ct hX hbl hS 1 (by decide) ⟨by omega, hL⟩ (lk hl rfl) (lk hl rfl) d_L_law_428 d_L_law_429 d_L_law_431 d_L_law_432 d_L_law_433 ?_
  refine lv_aload_n hx hb d_L_law_434 rfl (lk hl rfl) ?_
  refine cd_callS (As := [.ref d, .int (xs (j + 1)), .ref (d + 53)]) (rest := []) ct hS (c_L_done l hfl G d (d + 53) ov S (xs (j + 1)) hz (by omega) (rel_dOK hRel)) cs_L_98 ⟨⟨by decide, by decide⟩, hR.1, hR.2⟩ ⟨hP, hU⟩ hl.1 rfl rfl (by decide) d_L_law_435 (fun q _ h => Or.inr (by rcases h with h | h; exact Nat.le_trans hd h.1; omega)) (fun v H1 locs1 hq hF hS => ?_) (fun a H1 locs1 hq hF hS => by cases hq.1)
  obtain ⟨hq, hP, hU⟩ := hq
  cases hq
  replace hM := md_u hM hF
  refine lv_istore hx hb d_L_law_438 hl (by decide) rfl (fun ls hl => ?_)
  refine lv_aload_n hx hb d_L_law_440 rfl (lk hl rfl) ?_
  refine law_ld ct hX hbl hS 1 (by decide) ⟨by omega, hL⟩ (lk hl rfl) (lk hl rfl) d_L_law_441 d_L_law_442 d_L_law_444 d_L_law_445 d_L_law_446 ?_
  refine cd_callV (As := [.int (xs (j + 1))]) (rest := []) ct hS (c_M_done l G (d + 44) er M (xs (j + 1)) (show cd_z G < d + 44 by omega) (rel_mOK hRel)) cv_L_100 ⟨⟨by decide, by decide⟩, hR.1, hR.2⟩ (md_recv ct hM) hM hl.1 rfl rfl (Nat.le_of_ble_eq_true rfl) d_L_law_447 (fun q _ h => Or.inr (by have h1 := h.1; omega)) (fun v H1 locs1 hq hF hS => ?_) (fun a H1 locs1 hq hF hS => by cases hq.1)
  obtain ⟨hq, hM⟩ := hq
  cases hq
  replace hP := dkP_M hP hF
  replace hU := uo_M hU hF
  refine lv_istore hx hb d_L_law_450 hl (by decide) rfl (fun ls hl => ?_)
  refine lv_aload_n hx hb d_L_law_452 rfl (lk hl rfl) ?_
  refine cd_callV (As := []) (rest := []) ct hS (c_M_thrown l G (d + 44) _ _) cv_L_74 ⟨⟨by decide, by decide⟩, hR.1, hR.2⟩ (md_recv ct hM) hM hl.1 rfl rfl (Nat.le_of_ble_eq_true rfl) d_L_law_453 (fun _ _ h => h.elim) (fun v H1 locs1 hq hF hS => ?_) (fun a H1 locs1 hq hF hS => by cases hq)
  cases hq
  replace hP := dkP_same0 hP hF
  replace hM := cd_keep0 hM hF
  replace hU := cd_keep0 hU hF
  have hr := r_done hRel (xs (j + 1))
  refine lv_iload hx hb d_L_law_456 (lk hl rfl) ?_
  refine lv_icmp_eq (tgt := 463) hx hb d_L_law_458 (by decide) (fun hc => ?_) (fun hc => absurd hr.1.symm hc)
  refine lv_iload hx hb d_L_law_463 (lk hl rfl) ?_
  refine lv_if_ne (tgt := 487) hx hb d_L_law_465 (by decide) (fun hc2 => ?_) (fun hc2 => ?_)
  case refine_1 =>
    refine lv_goto (tgt := 841) hx hb d_L_law_487 (by decide) ?_
    exact kk _ _ _ _ _ _ ls ⟨hr.2.1, hP, hM, hU, hS⟩ (lre hl (ll b d j) rfl)
  have hv := hr.2.2 (hr.1.symm.trans hc2) (ov 0)
  rw [← oF_0] at hv
  refine lv_aload_n hx hb d_L_law_468 rfl (lk hl rfl) ?_
  refine lv_iconst (v := 0) hx hb d_L_law_469 (by decide) ?_
  refine cd_lald ct (uo_at hU) 0 rfl 0 ⟨by decide, by decide⟩ rfl d_L_law_470 ?_
  refine lv_iload hx hb d_L_law_471 (lk hl rfl) ?_
  generalize hbv : (m_done (xs (j + 1)) M).2.1 = bv at *
  cases bv with
  | false =>
    refine lv_if_eq (tgt := 480) hx hb d_L_law_473 (by decide) (fun _ => ?_) (fun hc => absurd rfl hc)
    refine lv_lconst (v := 0) hx hb d_L_law_480 (by decide) ?_
    refine W.lcmp hx hb d_L_law_481 ?_
    refine lv_if_eq (tgt := 487) hx hb d_L_law_482 (by decide) (fun _ => ?_) (fun hc => absurd ((lg_cmp_eq _ _).mpr hv) hc)
    refine lv_goto (tgt := 841) hx hb d_L_law_487 (by decide) ?_
    exact kk _ _ _ _ _ _ ls ⟨hr.2.1, hP, hM, hU, hS⟩ (lre hl (ll b d j) rfl)
  | true =>
    refine lv_if_eq (tgt := 480) hx hb d_L_law_473 (by decide) (fun hc => absurd hc (by decide)) (fun _ => ?_)
    refine lv_lconst (v := 1) hx hb d_L_law_476 (by decide) ?_
    refine lv_goto (tgt := 481) hx hb d_L_law_477 (by decide) ?_
    refine W.lcmp hx hb d_L_law_481 ?_
    refine lv_if_eq (tgt := 487) hx hb d_L_law_482 (by decide) (fun _ => ?_) (fun hc => absurd ((lg_cmp_eq _ _).mpr hv) hc)
    refine lv_goto (tgt := 841) hx hb d_L_law_487 (by decide) ?_
    exact kk _ _ _ _ _ _ ls ⟨hr.2.1, hP, hM, hU, hS⟩ (lre hl (ll b d j) rfl)
set_option maxHeartbeats 4000000 in
theorem law_leave (hfl : l.flags = flags0) (ct : cd_Ct G p s m #[Value.ref b] c code "CommitDeskLaw" 8 (fun _ => False)) (hX : va_X b L xs s s.heap) (hbl : b < s.heap.size) (hd : s.heap.size ≤ d) (hz : cd_z G < d) (hj : j + 5 ≤ L) (hL : L ≤ 2560) (hR : cells + 6 ≤ 601024 ∧ slots + 36 ≤ 7293033) (hI : LI G s d S M er ov H locs) (hl : lv_has ls 8 (ll b d j))
    (kk : ∀ (S : DS) (M : MC) (er : Int32) (ov : Nat → Int64) (H : Heap) (locs : List Loc) (ls : Array Slot), LI G s d S M er ov H locs → lv_has ls 8 (ll b d j) → W p l e room_1 s m #[Value.ref b] below meth c H locs (cells + 6) (slots + 36) Q (F0 m 841 ls [])) : W p l e room_1 s m #[Value.ref b] below meth c H locs cells slots Q (F0 m 490 ls []) := by
  have hx := ct.1
  have hb := ct.2.1
  obtain ⟨hRel, hP, hM, hU, hS⟩ := hI
  refine lv_aload_n hx hb d_L_law_490 rfl (lk hl rfl) ?_
  refine law_ld ct hX hbl hS 1 (by decide) ⟨by omega, hL⟩ (lk hl rfl) (lk hl rfl) d_L_law_491 d_L_law_492 d_L_law_494 d_L_law_495 d_L_law_496 ?_
  refine cd_callS (As := [.ref d, .int (xs (j + 1))]) (rest := []) ct hS (c_L_leave l hfl G d S (xs (j + 1)) hz) cs_L_101 ⟨⟨by decide, by decide⟩, hR.1, hR.2⟩ hP hl.1 rfl rfl (by decide) d_L_law_497 (fun q _ h => Or.inr (Nat.le_trans hd h.1)) (fun v H1 locs1 hq hF hS => ?_) (fun a H1 locs1 hq hF hS => by cases hq.1)
  obtain ⟨hq, hP⟩ := hq
  cases hq
  replace hM := md_d hM hF
  replace hU := uo_keep (by omega) hU hF
  refine lv_istore hx hb d_L_law_500 hl (by decide) rfl (fun ls hl => ?_)
  refine lv_aload_n hx hb d_L_law_502 rfl (lk hl rfl) ?_
  refine law_ld ct hX hbl hS 1 (by decide) ⟨by omega, hL⟩ (lk hl rfl) (lk hl rfl) d_L_law_503 d_L_law_504 d_L_law_506 d_L_law_507 d_L_law_508 ?_
  refine cd_callV (As := [.int (xs (j + 1))]) (rest := []) ct hS (c_M_leave l G (d + 44) er M (xs (j + 1)) (show cd_z G < d + 44 by omega)) cv_L_103 ⟨⟨by decide, by decide⟩, hR.1, hR.2⟩ (md_recv ct hM) hM hl.1 rfl rfl (Nat.le_of_ble_eq_true rfl) d_L_law_509 (fun q _ h => Or.inr (by have h1 := h.1; omega)) (fun v H1 locs1 hq hF hS => ?_) (fun a H1 locs1 hq hF hS => by cases hq.1)
  obtain ⟨hq, hM⟩ := hq
  cases hq
  replace hP := dkP_M hP hF
  replace hU := uo_M hU hF
  refine lv_aload_n hx hb d_L_law_512 rfl (lk hl rfl) ?_
  refine cd_callV (As := []) (rest := []) ct hS (c_M_thrown l G (d + 44) _ _) cv_L_74 ⟨⟨by decide, by decide⟩, hR.1, hR.2⟩ (md_recv ct hM) hM hl.1 rfl rfl (Nat.le_of_ble_eq_true rfl) d_L_law_513 (fun _ _ h => h.elim) (fun v H1 locs1 hq hF hS => ?_) (fun a H1 locs1 hq hF hS => by cases hq)
  cases hq
  replace hP := dkP_same0 hP hF
  replace hM := cd_keep0 hM hF
  replace hU := cd_keep0 hU hF
  have hr := r_leave hRel (xs (j + 1))
  refine lv_iload hx hb d_L_law_516 (lk hl rfl) ?_
  refine lv_icmp_eq (tgt := 523) hx hb d_L_law_518 (by decide) (fun hc => ?_) (fun hc => absurd hr.1.symm hc)
  refine lv_goto (tgt := 841) hx hb d_L_law_523 (by decide) ?_
  exact kk _ _ _ _ _ _ ls ⟨hr.2, hP, hM, hU, hS⟩ (lre hl (ll b d j) rfl)
set_option maxHeartbeats 4000000 in
theorem law_set (hfl : l.flags = flags0) (ct : cd_Ct G p s m #[Value.ref b] c code "CommitDeskLaw" 8 (fun _ => False)) (hX : va_X b L xs s s.heap) (hbl : b < s.heap.size) (hd : s.heap.size ≤ d) (hz : cd_z G < d) (hj : j + 5 ≤ L) (hL : L ≤ 2560) (hR : cells + 6 ≤ 601024 ∧ slots + 36 ≤ 7293033) (hI : LI G s d S M er ov H locs) (hl : lv_has ls 8 (ll b d j))
    (kk : ∀ (S : DS) (M : MC) (er : Int32) (ov : Nat → Int64) (H : Heap) (locs : List Loc) (ls : Array Slot), LI G s d S M er ov H locs → lv_has ls 8 (ll b d j) → W p l e room_1 s m #[Value.ref b] below meth c H locs (cells + 6) (slots + 36) Q (F0 m 841 ls [])) : W p l e room_1 s m #[Value.ref b] below meth c H locs cells slots Q (F0 m 526 ls []) := by
  have hx := ct.1
  have hb := ct.2.1
  obtain ⟨hRel, hP, hM, hU, hS⟩ := hI
  refine lv_aload_n hx hb d_L_law_526 rfl (lk hl rfl) ?_
  refine law_ld ct hX hbl hS 1 (by decide) ⟨by omega, hL⟩ (lk hl rfl) (lk hl rfl) d_L_law_527 d_L_law_528 d_L_law_530 d_L_law_531 d_L_law_532 ?_
  refine law_ld ct hX hbl hS 2 (by decide) ⟨by omega, hL⟩ (lk hl rfl) (lk hl rfl) d_L_law_533 d_L_law_534 d_L_law_536 d_L_law_537 d_L_law_538 ?_
  refine lv_i2l hx hb d_L_law_539 rfl ?_
  refine lv_bipush (v := 32) hx hb d_L_law_540 (by decide) ?_
  refine lv_lshl hx hb d_L_law_542 rfl ?_
  refine law_ld ct hX hbl hS 3 (by decide) ⟨by omega, hL⟩ (lk hl rfl) (lk hl rfl) d_L_law_543 d_L_law_544 d_L_law_546 d_L_law_547 d_L_law_548 ?_
  refine lv_i2l hx hb d_L_law_549 rfl ?_
  refine lv_ldc2 hx hb ct.2.2.1 (ct.2.2.2.2.1 _ kc_L_82) d_L_law_550 ?_
  refine lv_land hx hb d_L_law_553 ?_
  refine lv_lor hx hb d_L_law_554 ?_
  refine cd_tl (y := lv2 (xs (j + 2)) (xs (j + 3))) rfl ?_
  refine cd_callS (As := [.ref d, .int (xs (j + 1)), .long (lv2 (xs (j + 2)) (xs (j + 3)))]) (rest := []) ct hS (c_L_set l hfl G d S (xs (j + 1)) (lv2 (xs (j + 2)) (xs (j + 3))) hz) cs_L_104 ⟨⟨by decide, by decide⟩, hR.1, hR.2⟩ hP hl.1 rfl rfl (by decide) d_L_law_555 (fun q _ h => Or.inr (Nat.le_trans hd h.1)) (fun v H1 locs1 hq hF hS => ?_) (fun a H1 locs1 hq hF hS => by cases hq.1)
  obtain ⟨hq, hP⟩ := hq
  cases hq
  replace hM := md_d hM hF
  replace hU := uo_keep (by omega) hU hF
  refine lv_istore hx hb d_L_law_558 hl (by decide) rfl (fun ls hl => ?_)
  refine lv_aload_n hx hb d_L_law_560 rfl (lk hl rfl) ?_
  refine law_ld ct hX hbl hS 1 (by decide) ⟨by omega, hL⟩ (lk hl rfl) (lk hl rfl) d_L_law_561 d_L_law_562 d_L_law_564 d_L_law_565 d_L_law_566 ?_
  refine law_ld ct hX hbl hS 2 (by decide) ⟨by omega, hL⟩ (lk hl rfl) (lk hl rfl) d_L_law_567 d_L_law_568 d_L_law_570 d_L_law_571 d_L_law_572 ?_
  refine lv_i2l hx hb d_L_law_573 rfl ?_
  refine lv_bipush (v := 32) hx hb d_L_law_574 (by decide) ?_
  refine lv_lshl hx hb d_L_law_576 rfl ?_
  refine law_ld ct hX hbl hS 3 (by decide) ⟨by omega, hL⟩ (lk hl rfl) (lk hl rfl) d_L_law_577 d_L_law_578 d_L_law_580 d_L_law_581 d_L_law_582 ?_
  refine lv_i2l hx hb d_L_law_583 rfl ?_
  refine lv_ldc2 hx hb ct.2.2.1 (ct.2.2.2.2.1 _ kc_L_82) d_L_law_584 ?_
  refine lv_land hx hb d_L_law_587 ?_
  refine lv_lor hx hb d_L_law_588 ?_
  refine cd_tl (y := lv2 (xs (j + 2)) (xs (j + 3))) rfl ?_
  refine cd_callV (As := [.int (xs (j + 1)), .long (lv2 (xs (j + 2)) (xs (j + 3)))]) (rest := []) ct hS (c_M_set l G (d + 44) er M (xs (j + 1)) (lv2 (xs (j + 2)) (xs (j + 3))) (show cd_z G < d + 44 by omega)) cv_L_107 ⟨⟨by decide, by decide⟩, hR.1, hR.2⟩ (md_recv ct hM) hM hl.1 rfl rfl (Nat.le_of_ble_eq_true rfl) d_L_law_589 (fun q _ h => Or.inr (by have h1 := h.1; omega)) (fun v H1 locs1 hq hF hS => ?_) (fun a H1 locs1 hq hF hS => by cases hq.1)
  obtain ⟨hq, hM⟩ := hq
  cases hq
  replace hP := dkP_M hP hF
  replace hU := uo_M hU hF
  refine lv_aload_n hx hb d_L_law_592 rfl (lk hl rfl) ?_
  refine cd_callV (As := []) (rest := []) ct hS (c_M_thrown l G (d + 44) _ _) cv_L_74 ⟨⟨by decide, by decide⟩, hR.1, hR.2⟩ (md_recv ct hM) hM hl.1 rfl rfl (Nat.le_of_ble_eq_true rfl) d_L_law_593 (fun _ _ h => h.elim) (fun v H1 locs1 hq hF hS => ?_) (fun a H1 locs1 hq hF hS => by cases hq)
  cases hq
  replace hP := dkP_same0 hP hF
  replace hM := cd_keep0 hM hF
  replace hU := cd_keep0 hU hF
  have hr := r_set hRel (xs (j + 1)) (lv2 (xs (j + 2)) (xs (j + 3)))
  refine lv_iload hx hb d_L_law_596 (lk hl rfl) ?_
  refine lv_icmp_eq (tgt := 603) hx hb d_L_law_598 (by decide) (fun hc => ?_) (fun hc => absurd hr.1.symm hc)
  refine lv_goto (tgt := 841) hx hb d_L_law_603 (by decide) ?_
  exact kk _ _ _ _ _ _ ls ⟨hr.2, hP, hM, hU, hS⟩ (lre hl (ll b d j) rfl)
set_option maxHeartbeats 4000000 in
theorem law_cell (hfl : l.flags = flags0) (ct : cd_Ct G p s m #[Value.ref b] c code "CommitDeskLaw" 8 (fun _ => False)) (hX : va_X b L xs s s.heap) (hbl : b < s.heap.size) (hd : s.heap.size ≤ d) (hz : cd_z G < d) (hj : j + 5 ≤ L) (hL : L ≤ 2560) (hR : cells + 6 ≤ 601024 ∧ slots + 36 ≤ 7293033) (hI : LI G s d S M er ov H locs) (hl : lv_has ls 8 (ll b d j))
    (kk : ∀ (S : DS) (M : MC) (er : Int32) (ov : Nat → Int64) (H : Heap) (locs : List Loc) (ls : Array Slot), LI G s d S M er ov H locs → lv_has ls 8 (ll b d j) → W p l e room_1 s m #[Value.ref b] below meth c H locs (cells + 6) (slots + 36) Q (F0 m 841 ls [])) : W p l e room_1 s m #[Value.ref b] below meth c H locs cells slots Q (F0 m 606 ls []) := by
  have hx := ct.1
  have hb := ct.2.1
  obtain ⟨hRel, hP, hM, hU, hS⟩ := hI
  refine lv_aload_n hx hb d_L_law_606 rfl (lk hl rfl) ?_
  refine law_ld ct hX hbl hS 1 (by decide) ⟨by omega, hL⟩ (lk hl rfl) (lk hl rfl) d_L_law_607 d_L_law_608 d_L_law_610 d_L_law_611 d_L_law_612 ?_
  refine lv_aload_n hx hb d_L_law_613 rfl (lk hl rfl) ?_
  refine cd_callS (As := [.ref d, .int (xs (j + 1)), .ref (d + 53)]) (rest := []) ct hS (c_L_cell l hfl G d (d + 53) ov S (xs (j + 1)) hz (by omega)) cs_L_108 ⟨⟨by decide, by decide⟩, hR.1, hR.2⟩ ⟨hP, hU⟩ hl.1 rfl rfl (by decide) d_L_law_614 (fun q _ h => Or.inr (by rcases h with h | h; exact Nat.le_trans hd h.1; omega)) (fun v H1 locs1 hq hF hS => ?_) (fun a H1 locs1 hq hF hS => by cases hq.1)
  obtain ⟨hq, hP, hU⟩ := hq
  cases hq
  replace hM := md_u hM hF
  refine lv_istore hx hb d_L_law_617 hl (by decide) rfl (fun ls hl => ?_)
  refine lv_aload_n hx hb d_L_law_619 rfl (lk hl rfl) ?_
  refine law_ld ct hX hbl hS 1 (by decide) ⟨by omega, hL⟩ (lk hl rfl) (lk hl rfl) d_L_law_620 d_L_law_621 d_L_law_623 d_L_law_624 d_L_law_625 ?_
  refine cd_callV (As := [.int (xs (j + 1))]) (rest := []) ct hS (c_M_cell l G (d + 44) er M (xs (j + 1)) (show cd_z G < d + 44 by omega)) cv_L_110 ⟨⟨by decide, by decide⟩, hR.1, hR.2⟩ (md_recv ct hM) hM hl.1 rfl rfl (Nat.le_of_ble_eq_true rfl) d_L_law_626 (fun q _ h => Or.inr (by have h1 := h.1; omega)) (fun v H1 locs1 hq hF hS => ?_) (fun a H1 locs1 hq hF hS => by cases hq.1)
  obtain ⟨hq, hM⟩ := hq
  cases hq
  replace hP := dkP_M hP hF
  replace hU := uo_M hU hF
  refine lv_lstore hx hb d_L_law_629 hl (by decide) rfl (fun ls hl => ?_)
  refine lv_aload_n hx hb d_L_law_631 rfl (lk hl rfl) ?_
  refine cd_callV (As := []) (rest := []) ct hS (c_M_thrown l G (d + 44) _ _) cv_L_74 ⟨⟨by decide, by decide⟩, hR.1, hR.2⟩ (md_recv ct hM) hM hl.1 rfl rfl (Nat.le_of_ble_eq_true rfl) d_L_law_632 (fun _ _ h => h.elim) (fun v H1 locs1 hq hF hS => ?_) (fun a H1 locs1 hq hF hS => by cases hq)
  cases hq
  replace hP := dkP_same0 hP hF
  replace hM := cd_keep0 hM hF
  replace hU := cd_keep0 hU hF
  have hr := r_cell hRel (xs (j + 1))
  refine lv_iload hx hb d_L_law_635 (lk hl rfl) ?_
  refine lv_icmp_eq (tgt := 642) hx hb d_L_law_637 (by decide) (fun hc => ?_) (fun hc => absurd hr.1.symm hc)
  refine lv_iload hx hb d_L_law_642 (lk hl rfl) ?_
  refine lv_if_ne (tgt := 658) hx hb d_L_law_644 (by decide) (fun hc2 => ?_) (fun hc2 => ?_)
  case refine_1 =>
    refine lv_goto (tgt := 841) hx hb d_L_law_658 (by decide) ?_
    exact kk _ _ _ _ _ _ ls ⟨hr.2.1, hP, hM, hU, hS⟩ (lre hl (ll b d j) rfl)
  have hv := hr.2.2 (hr.1.symm.trans hc2) (ov 0)
  rw [← oF_0] at hv
  refine lv_aload_n hx hb d_L_law_647 rfl (lk hl rfl) ?_
  refine lv_iconst (v := 0) hx hb d_L_law_648 (by decide) ?_
  refine cd_lald ct (uo_at hU) 0 rfl 0 ⟨by decide, by decide⟩ rfl d_L_law_649 ?_
  refine lv_lload hx hb d_L_law_650 (lk hl rfl) ?_
  refine W.lcmp hx hb d_L_law_652 ?_
  refine lv_if_eq (tgt := 658) hx hb d_L_law_653 (by decide) (fun _ => ?_) (fun hc => absurd ((lg_cmp_eq _ _).mpr hv) hc)
  refine lv_goto (tgt := 841) hx hb d_L_law_658 (by decide) ?_
  exact kk _ _ _ _ _ _ ls ⟨hr.2.1, hP, hM, hU, hS⟩ (lre hl (ll b d j) rfl)
set_option maxHeartbeats 4000000 in
theorem law_changed (hfl : l.flags = flags0) (ct : cd_Ct G p s m #[Value.ref b] c code "CommitDeskLaw" 8 (fun _ => False)) (hX : va_X b L xs s s.heap) (hbl : b < s.heap.size) (hd : s.heap.size ≤ d) (hz : cd_z G < d) (hj : j + 5 ≤ L) (hL : L ≤ 2560) (hR : cells + 6 ≤ 601024 ∧ slots + 36 ≤ 7293033) (hI : LI G s d S M er ov H locs) (hl : lv_has ls 8 (ll b d j))
    (kk : ∀ (S : DS) (M : MC) (er : Int32) (ov : Nat → Int64) (H : Heap) (locs : List Loc) (ls : Array Slot), LI G s d S M er ov H locs → lv_has ls 8 (ll b d j) → W p l e room_1 s m #[Value.ref b] below meth c H locs (cells + 6) (slots + 36) Q (F0 m 841 ls [])) : W p l e room_1 s m #[Value.ref b] below meth c H locs cells slots Q (F0 m 661 ls []) := by
  have hx := ct.1
  have hb := ct.2.1
  obtain ⟨hRel, hP, hM, hU, hS⟩ := hI
  refine lv_aload_n hx hb d_L_law_661 rfl (lk hl rfl) ?_
  refine law_ld ct hX hbl hS 1 (by decide) ⟨by omega, hL⟩ (lk hl rfl) (lk hl rfl) d_L_law_662 d_L_law_663 d_L_law_665 d_L_law_666 d_L_law_667 ?_
  refine lv_aload_n hx hb d_L_law_668 rfl (lk hl rfl) ?_
  refine cd_callS (As := [.ref d, .int (xs (j + 1)), .ref (d + 53)]) (rest := []) ct hS (c_L_changed l hfl G d (d + 53) ov S (xs (j + 1)) hz (by omega)) cs_L_111 ⟨⟨by decide, by decide⟩, hR.1, hR.2⟩ ⟨hP, hU⟩ hl.1 rfl rfl (by decide) d_L_law_669 (fun q _ h => Or.inr (by rcases h with h | h; exact Nat.le_trans hd h.1; omega)) (fun v H1 locs1 hq hF hS => ?_) (fun a H1 locs1 hq hF hS => by cases hq.1)
  obtain ⟨hq, hP, hU⟩ := hq
  cases hq
  replace hM := md_u hM hF
  refine lv_istore hx hb d_L_law_672 hl (by decide) rfl (fun ls hl => ?_)
  refine lv_aload_n hx hb d_L_law_674 rfl (lk hl rfl) ?_
  refine law_ld ct hX hbl hS 1 (by decide) ⟨by omega, hL⟩ (lk hl rfl) (lk hl rfl) d_L_law_675 d_L_law_676 d_L_law_678 d_L_law_679 d_L_law_680 ?_
  refine cd_callV (As := [.int (xs (j + 1))]) (rest := []) ct hS (c_M_changed l G (d + 44) er M (xs (j + 1)) (show cd_z G < d + 44 by omega)) cv_L_113 ⟨⟨by decide, by decide⟩, hR.1, hR.2⟩ (md_recv ct hM) hM hl.1 rfl rfl (Nat.le_of_ble_eq_true rfl) d_L_law_681 (fun q _ h => Or.inr (by have h1 := h.1; omega)) (fun v H1 locs1 hq hF hS => ?_) (fun a H1 locs1 hq hF hS => by cases hq.1)
  obtain ⟨hq, hM⟩ := hq
  cases hq
  replace hP := dkP_M hP hF
  replace hU := uo_M hU hF
  refine lv_istore hx hb d_L_law_684 hl (by decide) rfl (fun ls hl => ?_)
  refine lv_aload_n hx hb d_L_law_686 rfl (lk hl rfl) ?_
  refine cd_callV (As := []) (rest := []) ct hS (c_M_thrown l G (d + 44) _ _) cv_L_74 ⟨⟨by decide, by decide⟩, hR.1, hR.2⟩ (md_recv ct hM) hM hl.1 rfl rfl (Nat.le_of_ble_eq_true rfl) d_L_law_687 (fun _ _ h => h.elim) (fun v H1 locs1 hq hF hS => ?_) (fun a H1 locs1 hq hF hS => by cases hq)
  cases hq
  replace hP := dkP_same0 hP hF
  replace hM := cd_keep0 hM hF
  replace hU := cd_keep0 hU hF
  have hr := r_changed hRel (xs (j + 1))
  refine lv_iload hx hb d_L_law_690 (lk hl rfl) ?_
  refine lv_icmp_eq (tgt := 697) hx hb d_L_law_692 (by decide) (fun hc => ?_) (fun hc => absurd hr.1.symm hc)
  refine lv_iload hx hb d_L_law_697 (lk hl rfl) ?_
  refine lv_if_ne (tgt := 714) hx hb d_L_law_699 (by decide) (fun hc2 => ?_) (fun hc2 => ?_)
  case refine_1 =>
    refine lv_goto (tgt := 841) hx hb d_L_law_714 (by decide) ?_
    exact kk _ _ _ _ _ _ ls ⟨hr.2.1, hP, hM, hU, hS⟩ (lre hl (ll b d j) rfl)
  have hv := hr.2.2 (hr.1.symm.trans hc2) (ov 0)
  rw [← oF_0] at hv
  refine lv_aload_n hx hb d_L_law_702 rfl (lk hl rfl) ?_
  refine lv_iconst (v := 0) hx hb d_L_law_703 (by decide) ?_
  refine cd_lald ct (uo_at hU) 0 rfl 0 ⟨by decide, by decide⟩ rfl d_L_law_704 ?_
  refine lv_iload hx hb d_L_law_705 (lk hl rfl) ?_
  refine lv_i2l hx hb d_L_law_707 rfl ?_
  refine W.lcmp hx hb d_L_law_708 ?_
  refine lv_if_eq (tgt := 714) hx hb d_L_law_709 (by decide) (fun _ => ?_) (fun hc => absurd ((lg_cmp_eq _ _).mpr hv) hc)
  refine lv_goto (tgt := 841) hx hb d_L_law_714 (by decide) ?_
  exact kk _ _ _ _ _ _ ls ⟨hr.2.1, hP, hM, hU, hS⟩ (lre hl (ll b d j) rfl)
set_option maxHeartbeats 4000000 in
theorem law_count (hfl : l.flags = flags0) (ct : cd_Ct G p s m #[Value.ref b] c code "CommitDeskLaw" 8 (fun _ => False)) (hX : va_X b L xs s s.heap) (hbl : b < s.heap.size) (hd : s.heap.size ≤ d) (hz : cd_z G < d) (hj : j + 5 ≤ L) (hL : L ≤ 2560) (hR : cells + 6 ≤ 601024 ∧ slots + 36 ≤ 7293033) (hI : LI G s d S M er ov H locs) (hl : lv_has ls 8 (ll b d j))
    (kk : ∀ (S : DS) (M : MC) (er : Int32) (ov : Nat → Int64) (H : Heap) (locs : List Loc) (ls : Array Slot), LI G s d S M er ov H locs → lv_has ls 8 (ll b d j) → W p l e room_1 s m #[Value.ref b] below meth c H locs (cells + 6) (slots + 36) Q (F0 m 841 ls [])) : W p l e room_1 s m #[Value.ref b] below meth c H locs cells slots Q (F0 m 717 ls []) := by
  have hx := ct.1
  have hb := ct.2.1
  obtain ⟨hRel, hP, hM, hU, hS⟩ := hI
  refine lv_aload_n hx hb d_L_law_717 rfl (lk hl rfl) ?_
  refine law_ld ct hX hbl hS 1 (by decide) ⟨by omega, hL⟩ (lk hl rfl) (lk hl rfl) d_L_law_718 d_L_law_719 d_L_law_721 d_L_law_722 d_L_law_723 ?_
  refine law_ld ct hX hbl hS 2 (by decide) ⟨by omega, hL⟩ (lk hl rfl) (lk hl rfl) d_L_law_724 d_L_law_725 d_L_law_727 d_L_law_728 d_L_law_729 ?_
  refine lv_aload_n hx hb d_L_law_730 rfl (lk hl rfl) ?_
  refine cd_callS (As := [.ref d, .int (xs (j + 1)), .int (xs (j + 2)), .ref (d + 53)]) (rest := []) ct hS (c_L_count l hfl G d (d + 53) ov S (xs (j + 1)) (xs (j + 2)) hz (by omega) (rel_dOK hRel)) cs_L_114 ⟨⟨by decide, by decide⟩, hR.1, hR.2⟩ ⟨hP, hU⟩ hl.1 rfl rfl (by decide) d_L_law_731 (fun q _ h => Or.inr (by rcases h with h | h; exact Nat.le_trans hd h.1; omega)) (fun v H1 locs1 hq hF hS => ?_) (fun a H1 locs1 hq hF hS => by cases hq.1)
  obtain ⟨hq, hP, hU⟩ := hq
  cases hq
  replace hM := md_u hM hF
  refine lv_istore hx hb d_L_law_734 hl (by decide) rfl (fun ls hl => ?_)
  refine lv_aload_n hx hb d_L_law_736 rfl (lk hl rfl) ?_
  refine law_ld ct hX hbl hS 1 (by decide) ⟨by omega, hL⟩ (lk hl rfl) (lk hl rfl) d_L_law_737 d_L_law_738 d_L_law_740 d_L_law_741 d_L_law_742 ?_
  refine law_ld ct hX hbl hS 2 (by decide) ⟨by omega, hL⟩ (lk hl rfl) (lk hl rfl) d_L_law_743 d_L_law_744 d_L_law_746 d_L_law_747 d_L_law_748 ?_
  refine cd_callV (As := [.int (xs (j + 1)), .int (xs (j + 2))]) (rest := []) ct hS (c_M_count l G (d + 44) er M (xs (j + 1)) (xs (j + 2)) (show cd_z G < d + 44 by omega) (rel_mOK hRel)) cv_L_116 ⟨⟨by decide, by decide⟩, hR.1, hR.2⟩ (md_recv ct hM) hM hl.1 rfl rfl (Nat.le_of_ble_eq_true rfl) d_L_law_749 (fun q _ h => Or.inr (by have h1 := h.1; omega)) (fun v H1 locs1 hq hF hS => ?_) (fun a H1 locs1 hq hF hS => by cases hq.1)
  obtain ⟨hq, hM⟩ := hq
  cases hq
  replace hP := dkP_M hP hF
  replace hU := uo_M hU hF
  refine lv_istore hx hb d_L_law_752 hl (by decide) rfl (fun ls hl => ?_)
  refine lv_aload_n hx hb d_L_law_754 rfl (lk hl rfl) ?_
  refine cd_callV (As := []) (rest := []) ct hS (c_M_thrown l G (d + 44) _ _) cv_L_74 ⟨⟨by decide, by decide⟩, hR.1, hR.2⟩ (md_recv ct hM) hM hl.1 rfl rfl (Nat.le_of_ble_eq_true rfl) d_L_law_755 (fun _ _ h => h.elim) (fun v H1 locs1 hq hF hS => ?_) (fun a H1 locs1 hq hF hS => by cases hq)
  cases hq
  replace hP := dkP_same0 hP hF
  replace hM := cd_keep0 hM hF
  replace hU := cd_keep0 hU hF
  have hr := r_count hRel (xs (j + 1)) (xs (j + 2))
  refine lv_iload hx hb d_L_law_758 (lk hl rfl) ?_
  refine lv_icmp_eq (tgt := 765) hx hb d_L_law_760 (by decide) (fun hc => ?_) (fun hc => absurd hr.1.symm hc)
  refine lv_iload hx hb d_L_law_765 (lk hl rfl) ?_
  refine lv_if_ne (tgt := 782) hx hb d_L_law_767 (by decide) (fun hc2 => ?_) (fun hc2 => ?_)
  case refine_1 =>
    refine lv_goto (tgt := 841) hx hb d_L_law_782 (by decide) ?_
    exact kk _ _ _ _ _ _ ls ⟨hr.2.1, hP, hM, hU, hS⟩ (lre hl (ll b d j) rfl)
  have hv := hr.2.2 (hr.1.symm.trans hc2) (ov 0)
  rw [← oF_0] at hv
  refine lv_aload_n hx hb d_L_law_770 rfl (lk hl rfl) ?_
  refine lv_iconst (v := 0) hx hb d_L_law_771 (by decide) ?_
  refine cd_lald ct (uo_at hU) 0 rfl 0 ⟨by decide, by decide⟩ rfl d_L_law_772 ?_
  refine lv_iload hx hb d_L_law_773 (lk hl rfl) ?_
  refine lv_i2l hx hb d_L_law_775 rfl ?_
  refine W.lcmp hx hb d_L_law_776 ?_
  refine lv_if_eq (tgt := 782) hx hb d_L_law_777 (by decide) (fun _ => ?_) (fun hc => absurd ((lg_cmp_eq _ _).mpr hv) hc)
  refine lv_goto (tgt := 841) hx hb d_L_law_782 (by decide) ?_
  exact kk _ _ _ _ _ _ ls ⟨hr.2.1, hP, hM, hU, hS⟩ (lre hl (ll b d j) rfl)
set_option maxHeartbeats 4000000 in
theorem law_all (hfl : l.flags = flags0) (ct : cd_Ct G p s m #[Value.ref b] c code "CommitDeskLaw" 8 (fun _ => False)) (hX : va_X b L xs s s.heap) (hbl : b < s.heap.size) (hd : s.heap.size ≤ d) (hz : cd_z G < d) (hj : j + 5 ≤ L) (hL : L ≤ 2560) (hR : cells + 6 ≤ 601024 ∧ slots + 36 ≤ 7293033) (hI : LI G s d S M er ov H locs) (hl : lv_has ls 8 (ll b d j))
    (kk : ∀ (S : DS) (M : MC) (er : Int32) (ov : Nat → Int64) (H : Heap) (locs : List Loc) (ls : Array Slot), LI G s d S M er ov H locs → lv_has ls 8 (ll b d j) → W p l e room_1 s m #[Value.ref b] below meth c H locs (cells + 6) (slots + 36) Q (F0 m 841 ls [])) : W p l e room_1 s m #[Value.ref b] below meth c H locs cells slots Q (F0 m 785 ls []) := by
  have hx := ct.1
  have hb := ct.2.1
  obtain ⟨hRel, hP, hM, hU, hS⟩ := hI
  refine lv_aload_n hx hb d_L_law_785 rfl (lk hl rfl) ?_
  refine law_ld ct hX hbl hS 1 (by decide) ⟨by omega, hL⟩ (lk hl rfl) (lk hl rfl) d_L_law_786 d_L_law_787 d_L_law_789 d_L_law_790 d_L_law_791 ?_
  refine lv_aload_n hx hb d_L_law_792 rfl (lk hl rfl) ?_
  refine cd_callS (As := [.ref d, .int (xs (j + 1)), .ref (d + 53)]) (rest := []) ct hS (c_L_all l hfl G d (d + 53) ov S (xs (j + 1)) hz (by omega)) cs_L_117 ⟨⟨by decide, by decide⟩, hR.1, hR.2⟩ ⟨hP, hU⟩ hl.1 rfl rfl (by decide) d_L_law_793 (fun q _ h => Or.inr (by rcases h with h | h; exact Nat.le_trans hd h.1; omega)) (fun v H1 locs1 hq hF hS => ?_) (fun a H1 locs1 hq hF hS => by cases hq.1)
  obtain ⟨hq, hP, hU⟩ := hq
  cases hq
  replace hM := md_u hM hF
  refine lv_istore hx hb d_L_law_796 hl (by decide) rfl (fun ls hl => ?_)
  refine lv_aload_n hx hb d_L_law_798 rfl (lk hl rfl) ?_
  refine law_ld ct hX hbl hS 1 (by decide) ⟨by omega, hL⟩ (lk hl rfl) (lk hl rfl) d_L_law_799 d_L_law_800 d_L_law_802 d_L_law_803 d_L_law_804 ?_
  refine cd_callV (As := [.int (xs (j + 1))]) (rest := []) ct hS (c_M_all l G (d + 44) er M (xs (j + 1)) (show cd_z G < d + 44 by omega)) cv_L_119 ⟨⟨by decide, by decide⟩, hR.1, hR.2⟩ (md_recv ct hM) hM hl.1 rfl rfl (Nat.le_of_ble_eq_true rfl) d_L_law_805 (fun q _ h => Or.inr (by have h1 := h.1; omega)) (fun v H1 locs1 hq hF hS => ?_) (fun a H1 locs1 hq hF hS => by cases hq.1)
  obtain ⟨hq, hM⟩ := hq
  cases hq
  replace hP := dkP_M hP hF
  replace hU := uo_M hU hF
  refine lv_istore hx hb d_L_law_808 hl (by decide) rfl (fun ls hl => ?_)
  refine lv_aload_n hx hb d_L_law_810 rfl (lk hl rfl) ?_
  refine cd_callV (As := []) (rest := []) ct hS (c_M_thrown l G (d + 44) _ _) cv_L_74 ⟨⟨by decide, by decide⟩, hR.1, hR.2⟩ (md_recv ct hM) hM hl.1 rfl rfl (Nat.le_of_ble_eq_true rfl) d_L_law_811 (fun _ _ h => h.elim) (fun v H1 locs1 hq hF hS => ?_) (fun a H1 locs1 hq hF hS => by cases hq)
  cases hq
  replace hP := dkP_same0 hP hF
  replace hM := cd_keep0 hM hF
  replace hU := cd_keep0 hU hF
  have hr := r_all hRel (xs (j + 1))
  refine lv_iload hx hb d_L_law_814 (lk hl rfl) ?_
  refine lv_icmp_eq (tgt := 821) hx hb d_L_law_816 (by decide) (fun hc => ?_) (fun hc => absurd hr.1.symm hc)
  refine lv_iload hx hb d_L_law_821 (lk hl rfl) ?_
  refine lv_if_ne (tgt := 838) hx hb d_L_law_823 (by decide) (fun hc2 => ?_) (fun hc2 => ?_)
  case refine_1 =>
    refine lv_goto (tgt := 841) hx hb d_L_law_838 (by decide) ?_
    exact kk _ _ _ _ _ _ ls ⟨hr.2.1, hP, hM, hU, hS⟩ (lre hl (ll b d j) rfl)
  have hv := hr.2.2 (hr.1.symm.trans hc2) (ov 0)
  rw [← oF_0] at hv
  refine lv_aload_n hx hb d_L_law_826 rfl (lk hl rfl) ?_
  refine lv_iconst (v := 0) hx hb d_L_law_827 (by decide) ?_
  refine cd_lald ct (uo_at hU) 0 rfl 0 ⟨by decide, by decide⟩ rfl d_L_law_828 ?_
  refine lv_iload hx hb d_L_law_829 (lk hl rfl) ?_
  refine lv_i2l hx hb d_L_law_831 rfl ?_
  refine W.lcmp hx hb d_L_law_832 ?_
  refine lv_if_eq (tgt := 838) hx hb d_L_law_833 (by decide) (fun _ => ?_) (fun hc => absurd ((lg_cmp_eq _ _).mpr hv) hc)
  refine lv_goto (tgt := 841) hx hb d_L_law_838 (by decide) ?_
  exact kk _ _ _ _ _ _ ls ⟨hr.2.1, hP, hM, hU, hS⟩ (lre hl (ll b d j) rfl)
end LawOps
end
section
/-! Walks of CommitDeskLaw, 3: the loop, the start. Printed by prog/walk.py from walks/33.law.walk. -/
theorem and15 (y : Int32) : ∃ q, q < 16 ∧ y &&& 15 = nI q := by
  refine ⟨y.toBitVec.toNat % 16, Nat.mod_lt _ (by omega), ?_⟩
  apply Int32.toBitVec_inj.mp
  apply BitVec.eq_of_toNat_eq
  rw [Int32.toBitVec_and, BitVec.toNat_and, show (15 : Int32).toBitVec.toNat = 2 ^ 4 - 1 by decide, Nat.and_two_pow_sub_one_eq_mod, pk_tn (by have := Nat.mod_lt y.toBitVec.toNat (show 0 < 16 by omega); omega)]
theorem len5 {L j : Nat} (hL : L ≤ 2560) (hj : j ≤ 2565) (h : ¬ Int32.ofNat L - 5 < nI j) : j + 5 ≤ L := by
  rcases Nat.lt_or_ge L 5 with h5 | h5
  · exfalso
    have h1 : (nI L - 5).toInt < 0 := (by decide +kernel : ∀ L, L < 5 → (nI L - 5).toInt < 0) L h5
    refine h ?_
    rw [Int32.lt_iff_toInt_lt, nI_toInt (by omega)]
    show (nI L - 5).toInt < _
    omega
  · have e : Int32.ofNat L - 5 = nI (L - 5) := pk_sub (a := L) (b := 5) h5
    rw [e, Int32.lt_iff_toInt_lt, nI_toInt (by omega), nI_toInt (by omega)] at h
    omega
theorem dkP_old {G : cd_G} {d n : Nat} {S : DS} {H H1 : Heap} (h : dkP G d S H) (hn : H.size = n) (ho : ∀ q, q < n → H1[q]? = H[q]?) : dkP G d S H1 := by
  obtain ⟨cl, vs, dn, st, w⟩ := S
  exact ⟨h.1.kept fun k q hk => ho _ (hn ▸ (h.1 k q hk).lt), fun t ht => (h.2 t ht).kept fun k q hk => ho _ (hn ▸ (h.2 t ht k q hk).lt)⟩
section Law
variable {p : Program} {l : Launch} {e : Env} {s : State} {m : MethodId} {below : List Frame} {meth : Method} {c : Code}
variable {G : cd_G} {b d L : Nat} {xs : Nat → Int32}
set_option maxHeartbeats 4000000 in
theorem law_loop (hfl : l.flags = flags0) (ct : cd_Ct G p s m #[Value.ref b] c code "CommitDeskLaw" 8 (fun _ => False)) (hr : meth.sig.returnType = ret) (hlk : meth.locks = false) (hX : va_X b L xs s s.heap) (hbl : b < s.heap.size) (hd : s.heap.size ≤ d) (hz : cd_z G < d) (hL : L ≤ 2560) :
    ∀ (n i : Nat) (S : DS) (M : MC) (er : Int32) (ov : Nat → Int64) (H : Heap) (locs : List Loc) (ls : Array Slot), L < 5 * i + 5 * n → i + n ≤ 513 → LI G s d S M er ov H locs → lv_has ls 8 (ll b d (5 * i)) →
      W p l e room_1 s m #[Value.ref b] below meth c H locs (54 + 6 * i) (6185 + 36 * i) (lw_Z below #[Value.ref b] s) (F0 m 23 ls []) := by
  have hx := ct.1
  have hb := ct.2.1
  have hbA : ¬ cd_xA (fun _ => False) s b := fun h => h.elim (fun h => h) (fun h => absurd hbl (Nat.not_lt.mpr h))
  intro n
  induction n with
  | zero =>
    intro i S M er ov H locs ls hn hin hI hl
    have hS := hI.2.2.2.2
    refine lv_iload hx hb d_L_law_23 (lk hl rfl) ?_
    refine lv_aload_n hx hb d_L_law_25 rfl (lk hl rfl) ?_
    refine va_slen hx hb hX hbl hbA hS d_L_law_26 ?_
    refine lv_iconst (v := 5) hx hb d_L_law_27 (by decide) ?_
    refine lv_isub hx hb d_L_law_28 ?_
    refine lv_icmp_gt (tgt := 847) hx hb d_L_law_29 (by decide) (fun hc => ?_) (fun hc => ?_)
    · refine lv_iconst (v := 1) hx hb d_L_law_847 (by decide) ?_
      exact va_forget (cd_S_new hS) (W.widen (by omega) (by omega) (lw_ret hx hb hr hlk d_L_law_848))
    · have := len5 hL (by omega) hc
      omega
  | succ n ih =>
    intro i S M er ov H locs ls hn hin hI hl
    have hS := hI.2.2.2.2
    refine lv_iload hx hb d_L_law_23 (lk hl rfl) ?_
    refine lv_aload_n hx hb d_L_law_25 rfl (lk hl rfl) ?_
    refine va_slen hx hb hX hbl hbA hS d_L_law_26 ?_
    refine lv_iconst (v := 5) hx hb d_L_law_27 (by decide) ?_
    refine lv_isub hx hb d_L_law_28 ?_
    refine lv_icmp_gt (tgt := 847) hx hb d_L_law_29 (by decide) (fun hc => ?_) (fun hc => ?_)
    · refine lv_iconst (v := 1) hx hb d_L_law_847 (by decide) ?_
      exact va_forget (cd_S_new hS) (W.widen (by omega) (by omega) (lw_ret hx hb hr hlk d_L_law_848))
    have hj : 5 * i + 5 ≤ L := len5 hL (by omega) hc
    have kk : ∀ (S : DS) (M : MC) (er : Int32) (ov : Nat → Int64) (H : Heap) (locs : List Loc) (ls : Array Slot), LI G s d S M er ov H locs → lv_has ls 8 (ll b d (5 * i)) → W p l e room_1 s m #[Value.ref b] below meth c H locs (54 + 6 * i + 6) (6185 + 36 * i + 36) (lw_Z below #[Value.ref b] s) (F0 m 841 ls []) := by
      intro S M er ov H locs ls hI hl
      refine cd_iinc (v := nI (5 * (i + 1))) hx hb d_L_law_841 hl rfl (nI_add (5 * i) 5) (by decide) rfl (fun ls hl => ?_)
      refine lv_goto (tgt := 23) hx hb d_L_law_844 (by decide) ?_
      have h := ih (i + 1) S M er ov H locs ls (by omega) (by omega) hI (lre hl _ rfl)
      rw [show 54 + 6 * (i + 1) = 54 + 6 * i + 6 by omega, show 6185 + 36 * (i + 1) = 6185 + 36 * i + 36 by omega] at h
      exact h
    have hR : 54 + 6 * i + 6 ≤ 601024 ∧ 6185 + 36 * i + 36 ≤ 7293033 := ⟨by omega, by omega⟩
    refine lv_aload_n hx hb d_L_law_32 rfl (lk hl rfl) ?_
    refine lv_iload hx hb d_L_law_33 (lk hl rfl) ?_
    refine va_sld hx hb hX hbl hbA hS (vp_in_nI (show 5 * i < L by omega) (by omega)) d_L_law_35 ?_
    refine lv_bipush (v := 15) hx hb d_L_law_36 (by decide) ?_
    refine lv_iand hx hb d_L_law_38 ?_
    obtain ⟨q, hq, he⟩ := and15 (xs (nI (5 * i)).toNatClampNeg)
    refine cd_ti he ?_
    have hq16 : q = 0 ∨ q = 1 ∨ q = 2 ∨ q = 3 ∨ q = 4 ∨ q = 5 ∨ q = 6 ∨ q = 7 ∨ q = 8 ∨ q = 9 ∨ q = 10 ∨ q = 11 ∨ q = 12 ∨ q = 13 ∨ q = 14 ∨ q = 15 := by omega
    rcases hq16 with rfl | rfl | rfl | rfl | rfl | rfl | rfl | rfl | rfl | rfl | rfl | rfl | rfl | rfl | rfl | rfl
    · refine lv_tableIn (off := 65) (tgt := 104) hx hb d_L_law_39 (by decide) (by decide) (by decide) (by decide) ?_
      exact law_begin hfl ct hX hbl hd hz hj hL hR hI hl kk
    · refine lv_tableIn (off := 101) (tgt := 140) hx hb d_L_law_39 (by decide) (by decide) (by decide) (by decide) ?_
      exact law_read hfl ct hX hbl hd hz hj hL hR hI hl kk
    · refine lv_tableIn (off := 168) (tgt := 207) hx hb d_L_law_39 (by decide) (by decide) (by decide) (by decide) ?_
      exact law_write hfl ct hX hbl hd hz hj hL hR hI hl kk
    · refine lv_tableIn (off := 260) (tgt := 299) hx hb d_L_law_39 (by decide) (by decide) (by decide) (by decide) ?_
      exact law_save hfl ct hX hbl hd hz hj hL hR hI hl kk
    · refine lv_tableIn (off := 316) (tgt := 355) hx hb d_L_law_39 (by decide) (by decide) (by decide) (by decide) ?_
      exact law_back hfl ct hX hbl hd hz hj hL hR hI hl kk
    · refine lv_tableIn (off := 352) (tgt := 391) hx hb d_L_law_39 (by decide) (by decide) (by decide) (by decide) ?_
      exact law_keep hfl ct hX hbl hd hz hj hL hR hI hl kk
    · refine lv_tableIn (off := 388) (tgt := 427) hx hb d_L_law_39 (by decide) (by decide) (by decide) (by decide) ?_
      exact law_done hfl ct hX hbl hd hz hj hL hR hI hl kk
    · refine lv_tableIn (off := 451) (tgt := 490) hx hb d_L_law_39 (by decide) (by decide) (by decide) (by decide) ?_
      exact law_leave hfl ct hX hbl hd hz hj hL hR hI hl kk
    · refine lv_tableIn (off := 487) (tgt := 526) hx hb d_L_law_39 (by decide) (by decide) (by decide) (by decide) ?_
      exact law_set hfl ct hX hbl hd hz hj hL hR hI hl kk
    · refine lv_tableIn (off := 567) (tgt := 606) hx hb d_L_law_39 (by decide) (by decide) (by decide) (by decide) ?_
      exact law_cell hfl ct hX hbl hd hz hj hL hR hI hl kk
    · refine lv_tableIn (off := 622) (tgt := 661) hx hb d_L_law_39 (by decide) (by decide) (by decide) (by decide) ?_
      exact law_changed hfl ct hX hbl hd hz hj hL hR hI hl kk
    · refine lv_tableIn (off := 678) (tgt := 717) hx hb d_L_law_39 (by decide) (by decide) (by decide) (by decide) ?_
      exact law_count hfl ct hX hbl hd hz hj hL hR hI hl kk
    · refine lv_tableIn (off := 746) (tgt := 785) hx hb d_L_law_39 (by decide) (by decide) (by decide) (by decide) ?_
      exact law_all hfl ct hX hbl hd hz hj hL hR hI hl kk
    · refine lv_tableOut (tgt := 841) hx hb d_L_law_39 (by decide) (by decide) ?_
      exact W.widen (by omega) (by omega) (kk S M er ov H locs ls hI hl)
    · refine lv_tableOut (tgt := 841) hx hb d_L_law_39 (by decide) (by decide) ?_
      exact W.widen (by omega) (by omega) (kk S M er ov H locs ls hI hl)
    · refine lv_tableOut (tgt := 841) hx hb d_L_law_39 (by decide) (by decide) ?_
      exact W.widen (by omega) (by omega) (kk S M er ov H locs ls hI hl)
set_option maxHeartbeats 4000000 in
/-- from the entry, for every script of at most 2560 ints, the law comes to its end with true -/
theorem whole_start (hfl : l.flags = flags0) (hL : L ≤ 2560) (C0 : lw_At p s m meth c b L xs) : W p l e room_1 s m #[Value.ref b] below meth c s.heap [] 0 0 (lw_Z below #[Value.ref b] s) (entryFrame m ([Value.ref b] : List Value).toArray 8) := by
  obtain ⟨G, ct, hz⟩ := cd_start C0
  obtain ⟨-, -, hr, -, -, -, hX, hbl, hlk, -⟩ := C0
  have hx := ct.1
  have hb := ct.2.1
  have hl := lv_entry [Value.ref b] (n := 8) (Nat.le_of_ble_eq_true rfl)
  rw [lg_entry_eq]
  generalize ((lg_sl [Value.ref b] ++ List.replicate (8 - (lg_sl [Value.ref b]).length) Slot.unset).toArray) = ls at hl ⊢
  have hS : va_S (cd_xA (fun _ => False) s) s.heap s.heap [] := va_S.rf
  obtain ⟨d, hd⟩ : ∃ d, s.heap.size = d := ⟨_, rfl⟩
  rw [hd] at hz
  refine cd_new (ci := 1) in_D rfl t_D t_D_ok (fs := [.null, .null, .null, .int 0, .int 0]) ct ⟨cl_L_8, it_D, tw_1⟩ hS hd (by intro j hj; match j, hj with | 0, _ => rfl | 1, _ => rfl | 2, _ => rfl | 3, _ => rfl | 4, _ => rfl) (by decide) (by decide) d_L_law_0 (fun H hN hz1 ho hS => ?_)
  refine lv_dup hx hb d_L_law_3 rfl ?_
  refine cd_callI (b := d) (As := []) (rest := [.ref d]) ct hS (c_D_init l G d hz) ci_L_64 ⟨⟨by decide, by decide⟩, by decide, by decide⟩ ⟨hz1, hN⟩ hl.1 rfl rfl (Nat.le_of_ble_eq_true rfl) d_L_law_4 (fun q _ h => Or.inr (by have := h.1; omega)) (fun v H1 locs1 hq hF hS => ?_) (fun _ _ _ h => by cases h.1)
  obtain ⟨hq, hz1, hP⟩ := hq
  cases hq
  refine lv_astore_n hx hb d_L_law_7 rfl hl (by decide) rfl (fun ls hl => ?_)
  refine cd_new (ci := 2) in_M rfl t_M t_M_ok (fs := [.int 0, .null, .null, .null, .null, .null, .null, .null, .null, .int 0, .int 0]) ct ⟨cl_L_65, it_M, tw_3⟩ hS hz1 (by intro j hj; match j, hj with | 0, _ => rfl | 1, _ => rfl | 2, _ => rfl | 3, _ => rfl | 4, _ => rfl | 5, _ => rfl | 6, _ => rfl | 7, _ => rfl | 8, _ => rfl | 9, _ => rfl | 10, _ => rfl) (by decide) (by decide) d_L_law_8 (fun H2 hN hz2 ho hS => ?_)
  replace hP := dkP_old hP hz1 ho
  refine lv_dup hx hb d_L_law_11 rfl ?_
  refine cd_callI (b := d + 44) (As := []) (rest := [.ref (d + 44)]) ct hS (c_M_init l G (d + 44) (by omega)) ci_L_67 ⟨⟨by decide, by decide⟩, by decide, by decide⟩ ⟨hz2, hN⟩ hl.1 rfl rfl (Nat.le_of_ble_eq_true rfl) d_L_law_12 (fun q _ h => Or.inr (by have := h.1; omega)) (fun v H3 locs3 hq hF hS => ?_) (fun _ _ _ h => by cases h.1)
  obtain ⟨hq, hz3, hM⟩ := hq
  cases hq
  replace hP := dkP_far hP hF (fun q h1 h2 => by have h3 := h1.2; have h4 := h2.1; omega)
  refine lv_astore_n hx hb d_L_law_15 rfl hl (by decide) rfl (fun ls hl => ?_)
  refine lv_iconst (v := 1) hx hb d_L_law_16 (by decide) ?_
  refine cd_newa (atype := .long) (ty := .long) (h := d + 53) (a0 := (1, .inr (.inl (fun _ => 0)))) ct rfl ac_long 1 rfl (by intro C h; cases h) hS hz3 (fun _ => rfl) (by decide) rfl (by decide) (by decide) (by decide) d_L_law_17 (fun H4 hN hz4 ho hS => ?_)
  replace hP := dkP_old hP (by omega) ho
  replace hM := hM.kept fun k q hk => ho _ (hz3 ▸ (hM k q hk).lt)
  refine lv_astore_n hx hb d_L_law_19 rfl hl (by decide) rfl (fun ls hl => ?_)
  refine lv_iconst (v := 0) hx hb d_L_law_20 (by decide) ?_
  refine lv_istore hx hb d_L_law_21 hl (by decide) rfl (fun ls hl => ?_)
  exact law_loop hfl ct hr hlk hX hbl (by omega) hz hL 513 0 dS_0 mc_0 0 (fun _ => 0) H4 _ ls (by omega) (by omega) ⟨rel_0, hP, hM, hN, hS⟩ (lre hl _ rfl)
end Law
end
section
/-! The claim out of the law's walk: a starting text (kit/laws/SKELETON.whole), with the launch's flags handed through. -/
set_option maxHeartbeats 4000000 in
theorem lw_walk (l : Launch) (hfl : l.flags = flags0) (b : Addr) (xs : List Int32) : MetFree l x (headSpec (Jvm.Cond.code x code maxLocals ret :: tables_1) room_1) (lw_P b xs) (fun _ _ _ _ _ => True) lw_Q := by
  refine MetFree.of_bodyS (code := code) (maxLocals := maxLocals) (ret := ret) (by decide) ?_ ?_
  · intro args s m h hn
    obtain ⟨meth, c, h1, h2, h3, h4, h5, h6, -, -⟩ := Cond.code_spec hn (atoms_spec (ws := Jvm.Cond.code x code maxLocals ret :: tables_1) h _ List.mem_cons_self)
    exact ⟨meth, c, h1, h2, h3, h4, h5, h6⟩
  · intro p e s m args below meth c s₁ B hml0 hP _
    obtain ⟨rfl, hx, hbd, hgv⟩ := hP
    obtain ⟨scr, harrAt, hlist, hof, hsmall⟩ := hx
    obtain ⟨hcb, hkn, -, -⟩ := State.arrayAt?_spec harrAt
    have hown : s.vm.findClass R_law = some m.cls := findClass_of_methodNamed B.named
    have hts0 : ∀ c ∈ (Jvm.Cond.code x code maxLocals ret :: tables_1), c.before #[Value.ref b] s = true := atoms_spec (ws := Jvm.Cond.code x code maxLocals ret :: tables_1) B.pre
    have hts : ∀ w ∈ lw_tbl, w.before #[Value.ref b] s = true := k2_hts_sels lw_privs (fun w hw => hts0 w (List.mem_cons_of_mem _ hw)) lw_privs_ok
    have hml : c.maxLocals = 8 := B.maxLocals_eq (hts0 _ List.mem_cons_self)
    have X₀ : Stand p l e room_1 s m #[Value.ref b] below meth c s₁ [] 0 0 := Stand.of_body B
    have hh0 : s₁.heap = s.heap := by rw [B.state]; rfl
    have hsz : scr.slots.size = xs.length := by rw [← Array.length_toList, hlist, List.length_map]
    have hval : ∀ j : Nat, j < xs.length → scr.slots[j]? = some (.int (xs.getD j 0)) := fun j hj => by
      rw [← Array.getElem?_toList, hlist]
      simp [hj]
    have hbl : b < s.heap.size := (Array.getElem?_eq_some_iff.mp hcb).1
    have hX : va_X b xs.length (fun j => xs.getD j 0) s s.heap := ⟨scr, hcb, hof, hkn, hsz, hval⟩
    have K : W p l e room_1 s m #[Value.ref b] below meth c s₁.heap [] 0 0 (lw_Z below #[Value.ref b] s) (entryFrame m ([Value.ref b] : List Value).toArray 8) := by
      rw [hh0]
      exact whole_start hfl hbd ⟨B.exec, B.bytes, B.returns, hml, hown, hts, hX, hbl, B.notSynchronized, hgv⟩
    obtain ⟨t, a1, o, b1, b2, b3⟩ := K s₁ rfl X₀
    exact ⟨t, o, a1, b1, b2, b3⟩
theorem lw_pre_spec {args : Array Value} {s : State} (h : (Jvm.Cond.and given_1 narrow_1).before args s = true) (hr : rest_1_c.before args s = true) : ∃ (b : Addr) (xs : List Int32), lw_P b xs args s := by
  have hs := flat_of_before _ h
  have hq := flat_of_before _ hr
  have hc : (Cond.count 1).before args s = true := hs _ (by decide +kernel)
  have harr : (Cond.arrayOf (.arg 0) .int).before args s = true := hs _ (by decide +kernel)
  have hle : (Cond.le (.length (.arg 0)) (.int 2560)).before args s = true := hs _ (by decide +kernel)
  have hlen : (Cond.isInt (.length (.arg 0))).before args s = true := hq _ (by decide +kernel)
  have hall : (Cond.all (.arg 0) (.isInt (.elem (.arg 0) (.index 0)))).before args s = true := hq _ (by decide +kernel)
  obtain ⟨b, xs, hb, hx⟩ := State.ints_of_pre rfl harr hlen hall
  have hsm : xs.length < 2 ^ 31 := hx.choose_spec.2.2.2
  have hev : (Term.length (.arg 0)).eval args s none [] s = some (.int xs.length.toInt32) := hx.length_eval hb
  have hv := Cond.le_ints hev (show (Term.int 2560).eval args s none [] s = some (.int 2560) from rfl)
  have hd : xs.length.toInt32 ≤ 2560 := by
    simpa [Cond.before, Cond.holds, hv] using hle
  have hN : xs.length ≤ 2560 := (Int32.ofNat_le_ofNat hsm (by decide)).mp (show Int32.ofNat xs.length ≤ Int32.ofNat 2560 from hd)
  exact ⟨b, xs, Cond.one_arg hc (show args[0]? = some (.ref b) from hb), hx, hN, h⟩
theorem lw_comes (l : Launch) (hfl : l.flags = flags0) : Comes l x (Jvm.Cond.code x code maxLocals ret :: tables_1) room_1 (fun tb e args s => Calls_1 tb e args s ∧ rest_1 tb e args s ∧ Pre_1 tb e args s)
    (fun _ _ args s o t => lw_Q args s o t) := by
  intro p e ha hc hk s m args below hf hfit hheap happ hpre
  obtain ⟨b, xs, hP⟩ := lw_pre_spec hpre.2.2 hpre.2.1
  obtain ⟨k, o, h1, h2, h3, hQ⟩ := lw_walk l hfl b xs p e ha hc hk s m args below hf ((Spec.applies_iff_loose hf).mp happ).1 hP trivial
  exact ⟨k, o, h1, h2, h3, hQ⟩
theorem lw_frame {s t : State} {o : Outcome} {args : Array Value} (h : Framed s o t [] 601024 7293033) :
    Framed s o t (fieldLocs frame_1_writes args s ++ arrayLocs frame_1_arrays args s ++ staticLocs frame_1_statics s) 601024 7293033 := h
theorem lw_limb (L : Cond) (hL : ∀ (args : Array Value) (s t : State), L.after args s (.returned (some (.int 1))) t = true) :
    ArmFor flags0 classFile x code maxLocals ret World_1 tables_1 room_1 Calls_1 rest_1 Pre_1
      (fun tb e a s o t => postC L tb e a s o t ∧ Framed s o t (fieldLocs frame_1_writes a s ++ arrayLocs frame_1_arrays a s ++ staticLocs frame_1_statics s) 601024 7293033) := by
  intro l h1l h2l h3l p e ha hc hk s m args below hf hfit hheap happ hpre
  obtain ⟨k, o, h1, h2, h3, rfl, hF⟩ := lw_comes l (by first | exact h1l | exact h2l | exact h3l) p e ha hc hk s m args below hf hfit hheap happ hpre
  exact ⟨k, _, h1, h2, h3, hL args s _, lw_frame hF⟩
theorem i_vc : Claimed_1_1 ∧ Claimed_1_2 := ⟨lw_limb limb_1_1 (fun args s t => by simp [limb_1_1, Cond.after, Cond.holds, Cond.value]), lw_limb limb_1_2 (fun args s t => Cond.after_iff.mpr (by
  first | (rw [show limb_1_2 = Cond.eq .result (.int 1) from rfl, Cond.eq_ints (x := 1) (y := 1) rfl rfl]; simp; done) | (simp [limb_1_2, Cond.value, Term.eval]; done)))⟩
end
