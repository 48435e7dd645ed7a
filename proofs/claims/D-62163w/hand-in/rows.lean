section
-- ===== PART A: goes FIRST, ahead of the names: the tables' words, and 'selects' of the private methods out of them =====
/-- a private method of a class that the tables say can be made, by its rows of tables_1 -/
def lw_okq (q : MethodName × Nat) : Prop := (q.1.cls ≠ "java/lang/invoke/MethodHandle" ∧ q.1.cls ≠ "java/lang/invoke/VarHandle") ∧ Cond.instantiable q.1.cls q.2 ∈ tables_1 ∧ Cond.privateMethod q.1 ∈ tables_1 ∧ Cond.instanceMethod q.1 ∈ tables_1
set_option maxRecDepth 100000
theorem lw_t1 {w : Cond} (h : w ∈ tables_1_1) : w ∈ tables_1 := List.mem_append_left _ h
theorem lw_t2 {w : Cond} (h : w ∈ tables_1_2) : w ∈ tables_1 := List.mem_append_right _ h
theorem lw_p0 : lw_okq (⟨"DeltaCycles", "putDown", "(III)V"⟩, 14) := ⟨⟨by decide +kernel, by decide +kernel⟩, lw_t1 (List.mem_of_getElem? (i := 4) rfl), lw_t1 (List.mem_of_getElem? (i := 67) rfl), lw_t1 (List.mem_of_getElem? (i := 68) rfl)⟩
theorem lw_p1 : lw_okq (⟨"DeltaCycles", "slotAfter", "(I)I"⟩, 14) := ⟨⟨by decide +kernel, by decide +kernel⟩, lw_t1 (List.mem_of_getElem? (i := 4) rfl), lw_t1 (List.mem_of_getElem? (i := 71) rfl), lw_t1 (List.mem_of_getElem? (i := 72) rfl)⟩
theorem lw_p2 : lw_okq (⟨"DeltaCycles", "carryOut", "(I)V"⟩, 14) := ⟨⟨by decide +kernel, by decide +kernel⟩, lw_t1 (List.mem_of_getElem? (i := 4) rfl), lw_t1 (List.mem_of_getElem? (i := 86) rfl), lw_t1 (List.mem_of_getElem? (i := 87) rfl)⟩
theorem lw_p3 : lw_okq (⟨"DeltaCycles", "result", "(I)I"⟩, 14) := ⟨⟨by decide +kernel, by decide +kernel⟩, lw_t1 (List.mem_of_getElem? (i := 4) rfl), lw_t1 (List.mem_of_getElem? (i := 90) rfl), lw_t1 (List.mem_of_getElem? (i := 91) rfl)⟩
theorem lw_p4 : lw_okq (⟨"DeltaCycles", "part", "(II)I"⟩, 14) := ⟨⟨by decide +kernel, by decide +kernel⟩, lw_t1 (List.mem_of_getElem? (i := 4) rfl), lw_t1 (List.mem_of_getElem? (i := 94) rfl), lw_t1 (List.mem_of_getElem? (i := 95) rfl)⟩
theorem lw_p5 : lw_okq (⟨"DeltaCycles", "nextUnits", "()I"⟩, 14) := ⟨⟨by decide +kernel, by decide +kernel⟩, lw_t1 (List.mem_of_getElem? (i := 4) rfl), lw_t1 (List.mem_of_getElem? (i := 102) rfl), lw_t1 (List.mem_of_getElem? (i := 103) rfl)⟩
theorem lw_p6 : lw_okq (⟨"DeltaCycles", "takeChanges", "(I)I"⟩, 14) := ⟨⟨by decide +kernel, by decide +kernel⟩, lw_t1 (List.mem_of_getElem? (i := 4) rfl), lw_t1 (List.mem_of_getElem? (i := 106) rfl), lw_t1 (List.mem_of_getElem? (i := 107) rfl)⟩
theorem lw_p7 : lw_okq (⟨"DeltaCycles", "changeBit", "(II)I"⟩, 14) := ⟨⟨by decide +kernel, by decide +kernel⟩, lw_t1 (List.mem_of_getElem? (i := 4) rfl), lw_t1 (List.mem_of_getElem? (i := 110) rfl), lw_t1 (List.mem_of_getElem? (i := 111) rfl)⟩
theorem lw_p8 : lw_okq (⟨"DeltaCycles", "update", "(II)Z"⟩, 14) := ⟨⟨by decide +kernel, by decide +kernel⟩, lw_t1 (List.mem_of_getElem? (i := 4) rfl), lw_t1 (List.mem_of_getElem? (i := 114) rfl), lw_t1 (List.mem_of_getElem? (i := 115) rfl)⟩
theorem lw_p9 : lw_okq (⟨"DeltaCycles", "due", "(I)Z"⟩, 14) := ⟨⟨by decide +kernel, by decide +kernel⟩, lw_t1 (List.mem_of_getElem? (i := 4) rfl), lw_t1 (List.mem_of_getElem? (i := 122) rfl), lw_t1 (List.mem_of_getElem? (i := 123) rfl)⟩
theorem lw_p10 : lw_okq (⟨"DeltaCyclesModel", "isSignal", "(I)Z"⟩, 15) := ⟨⟨by decide +kernel, by decide +kernel⟩, lw_t1 (List.mem_of_getElem? (i := 156) rfl), lw_t1 (List.mem_of_getElem? (i := 218) rfl), lw_t1 (List.mem_of_getElem? (i := 219) rfl)⟩
theorem lw_p11 : lw_okq (⟨"DeltaCyclesModel", "put", "(III)V"⟩, 15) := ⟨⟨by decide +kernel, by decide +kernel⟩, lw_t1 (List.mem_of_getElem? (i := 156) rfl), lw_t1 (List.mem_of_getElem? (i := 222) rfl), lw_t1 (List.mem_of_getElem? (i := 223) rfl)⟩
theorem lw_p12 : lw_okq (⟨"DeltaCyclesModel", "move", "(II)V"⟩, 15) := ⟨⟨by decide +kernel, by decide +kernel⟩, lw_t1 (List.mem_of_getElem? (i := 156) rfl), lw_t1 (List.mem_of_getElem? (i := 226) rfl), lw_t1 (List.mem_of_getElem? (i := 227) rfl)⟩
theorem lw_p13 : lw_okq (⟨"DeltaCyclesModel", "carryOut", "(I)V"⟩, 15) := ⟨⟨by decide +kernel, by decide +kernel⟩, lw_t1 (List.mem_of_getElem? (i := 156) rfl), lw_t1 (List.mem_of_getElem? (i := 234) rfl), lw_t1 (List.mem_of_getElem? (i := 235) rfl)⟩
theorem lw_p14 : lw_okq (⟨"DeltaCyclesModel", "anyNext", "()Z"⟩, 15) := ⟨⟨by decide +kernel, by decide +kernel⟩, lw_t1 (List.mem_of_getElem? (i := 156) rfl), lw_t2 (List.mem_of_getElem? (i := 2) rfl), lw_t2 (List.mem_of_getElem? (i := 3) rfl)⟩
theorem lw_p15 : lw_okq (⟨"DeltaCyclesModel", "update", "(Z)I"⟩, 15) := ⟨⟨by decide +kernel, by decide +kernel⟩, lw_t1 (List.mem_of_getElem? (i := 156) rfl), lw_t2 (List.mem_of_getElem? (i := 10) rfl), lw_t2 (List.mem_of_getElem? (i := 11) rfl)⟩
def lw_privs_1 : List (MethodName × Nat) := [(⟨"DeltaCycles", "putDown", "(III)V"⟩, 14), (⟨"DeltaCycles", "slotAfter", "(I)I"⟩, 14), (⟨"DeltaCycles", "carryOut", "(I)V"⟩, 14), (⟨"DeltaCycles", "result", "(I)I"⟩, 14), (⟨"DeltaCycles", "part", "(II)I"⟩, 14), (⟨"DeltaCycles", "nextUnits", "()I"⟩, 14), (⟨"DeltaCycles", "takeChanges", "(I)I"⟩, 14), (⟨"DeltaCycles", "changeBit", "(II)I"⟩, 14), (⟨"DeltaCycles", "update", "(II)Z"⟩, 14), (⟨"DeltaCycles", "due", "(I)Z"⟩, 14), (⟨"DeltaCyclesModel", "isSignal", "(I)Z"⟩, 15), (⟨"DeltaCyclesModel", "put", "(III)V"⟩, 15), (⟨"DeltaCyclesModel", "move", "(II)V"⟩, 15), (⟨"DeltaCyclesModel", "carryOut", "(I)V"⟩, 15), (⟨"DeltaCyclesModel", "anyNext", "()Z"⟩, 15), (⟨"DeltaCyclesModel", "update", "(Z)I"⟩, 15)]
theorem lw_r1 : ∀ q ∈ lw_privs_1, lw_okq q := List.forall_mem_cons.mpr ⟨lw_p0, List.forall_mem_cons.mpr ⟨lw_p1, List.forall_mem_cons.mpr ⟨lw_p2, List.forall_mem_cons.mpr ⟨lw_p3, List.forall_mem_cons.mpr ⟨lw_p4, List.forall_mem_cons.mpr ⟨lw_p5, List.forall_mem_cons.mpr ⟨lw_p6, List.forall_mem_cons.mpr ⟨lw_p7, List.forall_mem_cons.mpr ⟨lw_p8, List.forall_mem_cons.mpr ⟨lw_p9, List.forall_mem_cons.mpr ⟨lw_p10, List.forall_mem_cons.mpr ⟨lw_p11, List.forall_mem_cons.mpr ⟨lw_p12, List.forall_mem_cons.mpr ⟨lw_p13, List.forall_mem_cons.mpr ⟨lw_p14, List.forall_mem_cons.mpr ⟨lw_p15, fun _ h => absurd h List.not_mem_nil⟩⟩⟩⟩⟩⟩⟩⟩⟩⟩⟩⟩⟩⟩⟩⟩
def lw_privs : List (MethodName × Nat) := lw_privs_1
def lw_tbl : List Cond := k2_sels lw_privs ++ tables_1
theorem lw_privs_ok : ∀ q ∈ lw_privs, lw_okq q := lw_r1
-- ===== ONE list of words for every method: the tables' words that hold all through a run =====
def lw_all : List Cond := lw_tbl.filter goodWord
/-- a word of the tables by its place: claim/WORDS.tsv -/
theorem lw_w {w : Cond} (i : Nat) (h : lw_tbl[i]? = some w) (g : goodWord w = true) : w ∈ lw_all := List.mem_filter.mpr ⟨List.mem_of_getElem? h, g⟩
theorem lw_all_tbl {w : Cond} (h : w ∈ lw_all) : w ∈ lw_tbl := (List.mem_filter.mp h).1
theorem lw_self : GoodIn lw_all lw_all := fun w h => ⟨h, good_of_word (List.mem_filter.mp h).2⟩
/-- a class's field words, by their places -/
theorem lw_in (ws : List Cond) (ps : List Nat) (hp : ws = ps.filterMap (fun i => lw_tbl[i]?)) (hg : ws.all goodWord = true) : ∀ w ∈ ws, w ∈ lw_all := by
  intro w h
  have h1 := List.all_eq_true.mp hg w h
  rw [hp] at h
  obtain ⟨i, -, hi⟩ := List.mem_filterMap.mp h
  exact lw_w i hi h1
/-- the words of a contract for the method y with code b, L locals, answer r -/
abbrev ws_ (y : MethodName) (b : ByteArray) (L : Nat) (r : Option FieldType) : List Cond := Cond.code y b L r :: lw_all
theorem lw_meth {y : MethodName} {b : ByteArray} {L : Nat} {r : Option FieldType} (h : Cond.code y b L r ∈ lw_all) : GoodIn lw_all (ws_ y b L r) := by
  intro w hw
  rcases List.mem_cons.mp hw with e | e
  · rw [e]
    exact lw_self _ h
  · exact lw_self _ e
theorem lw_app {a c : List Cond} (ha : ∀ w ∈ a, w ∈ lw_all) (hc : GoodIn lw_all c) : GoodIn lw_all (a ++ c) := by
  intro w hw
  rcases List.mem_append.mp hw with e | e
  · exact lw_self w (ha w e)
  · exact hc w e
/-- what a call through an object asks: cwV n hts (lw_V ..) -/
theorem lw_V {own : String} {idx : Nat} {C : String} {y : MethodName} {b : ByteArray} {L : Nat} {r : Option FieldType} (h1 : Cond.methodLink own idx y ∈ lw_all) (h2 : Cond.instanceMethod y ∈ lw_all) (h3 : Cond.selects C y y ∈ lw_all) (h4 : Cond.initialized C ∈ lw_all) (h5 : Cond.code y b L r ∈ lw_all) : GoodIn lw_all (wsV own idx C y (ws_ y b L r)) := by
  refine lw_app ?_ (lw_meth h5)
  intro w hw
  simp only [List.mem_cons, List.not_mem_nil, or_false] at hw
  rcases hw with e | e | e | e
  · rw [e]; exact h1
  · rw [e]; exact h2
  · rw [e]; exact h3
  · rw [e]; exact h4
/-- what a static call asks: va_cwS n hts (lw_S ..) -/
theorem lw_S {own : String} {idx : Nat} {y : MethodName} {b : ByteArray} {L : Nat} {r : Option FieldType} (h1 : Cond.methodLink own idx y ∈ lw_all) (h2 : Cond.static y ∈ lw_all) (h3 : Cond.initialized y.cls ∈ lw_all) (h4 : Cond.code y b L r ∈ lw_all) : GoodIn lw_all (va_wsS own idx y (ws_ y b L r)) := by
  refine lw_app ?_ (lw_meth h4)
  intro w hw
  simp only [List.mem_cons, List.not_mem_nil, or_false] at hw
  rcases hw with e | e | e
  · rw [e]; exact h1
  · rw [e]; exact h2
  · rw [e]; exact h3
/-- the words of a contract for a method WITH HANDLERS (hh: its table) -/
abbrev wsW_ (y : MethodName) (b : ByteArray) (L : Nat) (r : Option FieldType) (hh : List (Nat × Nat × Nat × Nat)) : List Cond := Cond.codeWith y b L r hh :: lw_all
theorem lw_methW {y : MethodName} {b : ByteArray} {L : Nat} {r : Option FieldType} {hh : List (Nat × Nat × Nat × Nat)} (h : Cond.codeWith y b L r hh ∈ lw_all) : GoodIn lw_all (wsW_ y b L r hh) := by
  intro w hw
  rcases List.mem_cons.mp hw with e | e
  · rw [e]
    exact lw_self _ h
  · exact lw_self _ e
/-- any list of words by their places (lw_in), good -/
theorem lw_good {ws : List Cond} (h : ∀ w ∈ ws, w ∈ lw_all) : GoodIn lw_all ws := fun w hw => lw_self w (h w hw)
/-- what a call of a method with handlers asks: vx_cwVW n hts (lw_VW ..), vx_cwSW n hts (lw_SW ..) -/
theorem lw_VW {own : String} {idx : Nat} {C : String} {y : MethodName} {b : ByteArray} {L : Nat} {r : Option FieldType} {hh : List (Nat × Nat × Nat × Nat)} (h1 : Cond.methodLink own idx y ∈ lw_all) (h2 : Cond.instanceMethod y ∈ lw_all) (h3 : Cond.selects C y y ∈ lw_all) (h4 : Cond.initialized C ∈ lw_all) (h5 : Cond.codeWith y b L r hh ∈ lw_all) : GoodIn lw_all (wsV own idx C y (wsW_ y b L r hh)) := by
  refine lw_app ?_ (lw_methW h5)
  intro w hw
  simp only [List.mem_cons, List.not_mem_nil, or_false] at hw
  rcases hw with e | e | e | e
  · rw [e]; exact h1
  · rw [e]; exact h2
  · rw [e]; exact h3
  · rw [e]; exact h4
theorem lw_SW {own : String} {idx : Nat} {y : MethodName} {b : ByteArray} {L : Nat} {r : Option FieldType} {hh : List (Nat × Nat × Nat × Nat)} (h1 : Cond.methodLink own idx y ∈ lw_all) (h2 : Cond.static y ∈ lw_all) (h3 : Cond.initialized y.cls ∈ lw_all) (h4 : Cond.codeWith y b L r hh ∈ lw_all) : GoodIn lw_all (va_wsS own idx y (wsW_ y b L r hh)) := by
  refine lw_app ?_ (lw_methW h4)
  intro w hw
  simp only [List.mem_cons, List.not_mem_nil, or_false] at hw
  rcases hw with e | e | e
  · rw [e]; exact h1
  · rw [e]; exact h2
  · rw [e]; exact h3
/-- a word by its place in its run of the tables -/
theorem lw_at {r : List Cond} (hr : ∀ w ∈ r, w ∈ lw_tbl) {w : Cond} (i : Nat) (h : r[i]? = some w) : w ∈ lw_tbl := hr w (List.mem_of_getElem? h)
theorem lw_g {w : Cond} (h : w ∈ lw_tbl) (g : goodWord w = true) : w ∈ lw_all := List.mem_filter.mpr ⟨h, g⟩
theorem lw_ms : ∀ w ∈ k2_sels lw_privs, w ∈ lw_tbl := fun w h => show w ∈ k2_sels lw_privs ++ tables_1 from List.mem_append_left _ h
theorem lw_m1 : ∀ w ∈ tables_1_1, w ∈ lw_tbl := fun w h => show w ∈ k2_sels lw_privs ++ tables_1 from List.mem_append_right (k2_sels lw_privs) (show w ∈ tables_1 from List.mem_append_left _ h)
theorem lw_m2 : ∀ w ∈ tables_1_2, w ∈ lw_tbl := fun w h => show w ∈ k2_sels lw_privs ++ tables_1 from List.mem_append_right (k2_sels lw_privs) (show w ∈ tables_1 from List.mem_append_right _ h)
theorem qs0 : (Cond.selects "DeltaCycles" ⟨"DeltaCycles", "putDown", "(III)V"⟩ ⟨"DeltaCycles", "putDown", "(III)V"⟩) ∈ lw_all := lw_g (lw_at lw_ms 0 rfl) rfl
theorem qs1 : (Cond.selects "DeltaCycles" ⟨"DeltaCycles", "slotAfter", "(I)I"⟩ ⟨"DeltaCycles", "slotAfter", "(I)I"⟩) ∈ lw_all := lw_g (lw_at lw_ms 1 rfl) rfl
theorem qs2 : (Cond.selects "DeltaCycles" ⟨"DeltaCycles", "carryOut", "(I)V"⟩ ⟨"DeltaCycles", "carryOut", "(I)V"⟩) ∈ lw_all := lw_g (lw_at lw_ms 2 rfl) rfl
theorem qs3 : (Cond.selects "DeltaCycles" ⟨"DeltaCycles", "result", "(I)I"⟩ ⟨"DeltaCycles", "result", "(I)I"⟩) ∈ lw_all := lw_g (lw_at lw_ms 3 rfl) rfl
theorem qs4 : (Cond.selects "DeltaCycles" ⟨"DeltaCycles", "part", "(II)I"⟩ ⟨"DeltaCycles", "part", "(II)I"⟩) ∈ lw_all := lw_g (lw_at lw_ms 4 rfl) rfl
theorem qs5 : (Cond.selects "DeltaCycles" ⟨"DeltaCycles", "nextUnits", "()I"⟩ ⟨"DeltaCycles", "nextUnits", "()I"⟩) ∈ lw_all := lw_g (lw_at lw_ms 5 rfl) rfl
theorem qs6 : (Cond.selects "DeltaCycles" ⟨"DeltaCycles", "takeChanges", "(I)I"⟩ ⟨"DeltaCycles", "takeChanges", "(I)I"⟩) ∈ lw_all := lw_g (lw_at lw_ms 6 rfl) rfl
theorem qs7 : (Cond.selects "DeltaCycles" ⟨"DeltaCycles", "changeBit", "(II)I"⟩ ⟨"DeltaCycles", "changeBit", "(II)I"⟩) ∈ lw_all := lw_g (lw_at lw_ms 7 rfl) rfl
theorem qs8 : (Cond.selects "DeltaCycles" ⟨"DeltaCycles", "update", "(II)Z"⟩ ⟨"DeltaCycles", "update", "(II)Z"⟩) ∈ lw_all := lw_g (lw_at lw_ms 8 rfl) rfl
theorem qs9 : (Cond.selects "DeltaCycles" ⟨"DeltaCycles", "due", "(I)Z"⟩ ⟨"DeltaCycles", "due", "(I)Z"⟩) ∈ lw_all := lw_g (lw_at lw_ms 9 rfl) rfl
theorem qs10 : (Cond.selects "DeltaCyclesModel" ⟨"DeltaCyclesModel", "isSignal", "(I)Z"⟩ ⟨"DeltaCyclesModel", "isSignal", "(I)Z"⟩) ∈ lw_all := lw_g (lw_at lw_ms 10 rfl) rfl
theorem qs11 : (Cond.selects "DeltaCyclesModel" ⟨"DeltaCyclesModel", "put", "(III)V"⟩ ⟨"DeltaCyclesModel", "put", "(III)V"⟩) ∈ lw_all := lw_g (lw_at lw_ms 11 rfl) rfl
theorem qs12 : (Cond.selects "DeltaCyclesModel" ⟨"DeltaCyclesModel", "move", "(II)V"⟩ ⟨"DeltaCyclesModel", "move", "(II)V"⟩) ∈ lw_all := lw_g (lw_at lw_ms 12 rfl) rfl
theorem qs13 : (Cond.selects "DeltaCyclesModel" ⟨"DeltaCyclesModel", "carryOut", "(I)V"⟩ ⟨"DeltaCyclesModel", "carryOut", "(I)V"⟩) ∈ lw_all := lw_g (lw_at lw_ms 13 rfl) rfl
theorem qs14 : (Cond.selects "DeltaCyclesModel" ⟨"DeltaCyclesModel", "anyNext", "()Z"⟩ ⟨"DeltaCyclesModel", "anyNext", "()Z"⟩) ∈ lw_all := lw_g (lw_at lw_ms 14 rfl) rfl
theorem qs15 : (Cond.selects "DeltaCyclesModel" ⟨"DeltaCyclesModel", "update", "(Z)I"⟩ ⟨"DeltaCyclesModel", "update", "(Z)I"⟩) ∈ lw_all := lw_g (lw_at lw_ms 15 rfl) rfl
end
section
set_option maxRecDepth 100000
/-! java/lang/Object -/
def RJ0 : String := "java/lang/Object"
abbrev cJ0_init : ByteArray := object_method_1_code
def yJ0_init : MethodName := ⟨RJ0, "<init>", "()V"⟩
theorem q25 : (Jvm.Cond.instanceMethod ({ cls := "java/lang/Object", name := "<init>", desc := "()V" } : Jvm.MethodName)) ∈ lw_all := lw_g (lw_at lw_m1 9 rfl) rfl
theorem q26 : (Jvm.Cond.code ({ cls := "java/lang/Object", name := "<init>", desc := "()V" } : Jvm.MethodName) object_method_1_code (1 : Nat) (Option.none : Option Jvm.ClassFile.FieldType)) ∈ lw_all := lw_g (lw_at lw_m1 10 rfl) rfl
theorem q70 : (Jvm.Cond.arrayClass Jvm.ClassFile.FieldType.int) ∈ lw_all := lw_g (lw_at lw_m1 54 rfl) rfl
theorem q223 : (Jvm.Cond.arrayClass Jvm.ClassFile.FieldType.boolean) ∈ lw_all := lw_g (lw_at lw_m1 207 rfl) rfl
/-! DeltaCycles -/
def RX0 : String := "DeltaCycles"
def TX0 : u_T := fun k => match k with
  | 0 => ("DeltaCycles", "values", "[I", true)
  | 1 => ("DeltaCycles", "eventCount", "[I", true)
  | 2 => ("DeltaCycles", "processes", "I", false)
  | 3 => ("DeltaCycles", "kind", "[I", true)
  | 4 => ("DeltaCycles", "delay", "[I", true)
  | 5 => ("DeltaCycles", "packed", "[I", true)
  | 6 => ("DeltaCycles", "constant", "[I", true)
  | 7 => ("DeltaCycles", "watched", "[I", true)
  | 8 => ("DeltaCycles", "time", "I", false)
  | 9 => ("DeltaCycles", "done", "I", false)
  | 10 => ("DeltaCycles", "deltaSet", "I", false)
  | 11 => ("DeltaCycles", "deltaValue", "[I", true)
  | 12 => ("DeltaCycles", "wheelSet", "[I", true)
  | _ => ("DeltaCycles", "wheelValue", "[I", true)
def tyX0 : Nat → FieldType := fun k => match k with
  | 0 => .array .int
  | 1 => .array .int
  | 2 => .int
  | 3 => .array .int
  | 4 => .array .int
  | 5 => .array .int
  | 6 => .array .int
  | 7 => .array .int
  | 8 => .int
  | 9 => .int
  | 10 => .int
  | 11 => .array .int
  | 12 => .array .int
  | _ => .array .int
abbrev wsX00 : List Cond := u_ws RX0 TX0 14
set_option maxRecDepth 100000 in
theorem nmX0 : ∀ a, a < 14 → ∀ b, b < 14 → a ≠ b → (TX0 a).2.1 ≠ (TX0 b).2.1 := by decide +kernel
set_option maxRecDepth 100000 in
theorem tyX0_ok : ∀ k, k < 14 → parseFieldDescriptor (TX0 k).2.2.1 = some (tyX0 k) := by decide +kernel
abbrev cX0_init : ByteArray := prog_1_method_1_code
def yX0_init : MethodName := ⟨RX0, "<init>", "()V"⟩
abbrev cX0_process : ByteArray := prog_1_method_4_code
def yX0_process : MethodName := ⟨RX0, "process", "(IIII)I"⟩
abbrev cX0_bad : ByteArray := prog_1_method_2_code
def yX0_bad : MethodName := ⟨RX0, "bad", "(I)Z"⟩
abbrev cX0_drive : ByteArray := prog_1_method_7_code
def yX0_drive : MethodName := ⟨RX0, "drive", "(III)I"⟩
abbrev cX0_putDown : ByteArray := prog_1_method_6_code
def yX0_putDown : MethodName := ⟨RX0, "putDown", "(III)V"⟩
abbrev cX0_slotAfter : ByteArray := prog_1_method_5_code
def yX0_slotAfter : MethodName := ⟨RX0, "slotAfter", "(I)I"⟩
abbrev cX0_pending : ByteArray := prog_1_method_22_code
def yX0_pending : MethodName := ⟨RX0, "pending", "()I"⟩
abbrev cX0_bits : ByteArray := prog_1_method_15_code
def yX0_bits : MethodName := ⟨RX0, "bits", "(I)I"⟩
abbrev cX0_poke : ByteArray := prog_1_method_10_code
def yX0_poke : MethodName := ⟨RX0, "poke", "(I)I"⟩
abbrev cX0_carryOut : ByteArray := prog_1_method_9_code
def yX0_carryOut : MethodName := ⟨RX0, "carryOut", "(I)V"⟩
abbrev cX0_result : ByteArray := prog_1_method_8_code
def yX0_result : MethodName := ⟨RX0, "result", "(I)I"⟩
abbrev cX0_part : ByteArray := prog_1_method_3_code
def yX0_part : MethodName := ⟨RX0, "part", "(II)I"⟩
abbrev cX0_step : ByteArray := prog_1_method_16_code
def yX0_step : MethodName := ⟨RX0, "step", "()I"⟩
abbrev cX0_nextUnits : ByteArray := prog_1_method_11_code
def yX0_nextUnits : MethodName := ⟨RX0, "nextUnits", "()I"⟩
abbrev cX0_takeChanges : ByteArray := prog_1_method_13_code
def yX0_takeChanges : MethodName := ⟨RX0, "takeChanges", "(I)I"⟩
abbrev cX0_changeBit : ByteArray := prog_1_method_14_code
def yX0_changeBit : MethodName := ⟨RX0, "changeBit", "(II)I"⟩
abbrev cX0_update : ByteArray := prog_1_method_12_code
def yX0_update : MethodName := ⟨RX0, "update", "(II)Z"⟩
abbrev cX0_run : ByteArray := prog_1_method_17_code
def yX0_run : MethodName := ⟨RX0, "run", "(II)I"⟩
abbrev cX0_due : ByteArray := prog_1_method_18_code
def yX0_due : MethodName := ⟨RX0, "due", "(I)Z"⟩
abbrev cX0_reset : ByteArray := prog_1_method_19_code
def yX0_reset : MethodName := ⟨RX0, "reset", "()V"⟩
abbrev cX0_value : ByteArray := prog_1_method_20_code
def yX0_value : MethodName := ⟨RX0, "value", "(I)I"⟩
abbrev cX0_time : ByteArray := prog_1_method_21_code
def yX0_time : MethodName := ⟨RX0, "time", "()I"⟩
abbrev cX0_nextTime : ByteArray := prog_1_method_23_code
def yX0_nextTime : MethodName := ⟨RX0, "nextTime", "()I"⟩
abbrev cX0_events : ByteArray := prog_1_method_24_code
def yX0_events : MethodName := ⟨RX0, "events", "(I)I"⟩
abbrev cX0_cycles : ByteArray := prog_1_method_25_code
def yX0_cycles : MethodName := ⟨RX0, "cycles", "()I"⟩
abbrev cX0_coming : ByteArray := prog_1_method_26_code
def yX0_coming : MethodName := ⟨RX0, "coming", "(I)I"⟩
theorem q17 : (Jvm.Cond.initialized "DeltaCycles") ∈ lw_all := lw_g (lw_at lw_m1 1 rfl) rfl
theorem q20 : (Jvm.Cond.instantiable "DeltaCycles" (14 : Nat)) ∈ lw_all := lw_g (lw_at lw_m1 4 rfl) rfl
theorem q22 : (Jvm.Cond.instanceMethod ({ cls := "DeltaCycles", name := "<init>", desc := "()V" } : Jvm.MethodName)) ∈ lw_all := lw_g (lw_at lw_m1 6 rfl) rfl
theorem q23 : (Jvm.Cond.code ({ cls := "DeltaCycles", name := "<init>", desc := "()V" } : Jvm.MethodName) prog_1_method_1_code (1 : Nat) (Option.none : Option Jvm.ClassFile.FieldType)) ∈ lw_all := lw_g (lw_at lw_m1 7 rfl) rfl
theorem q24 : (Jvm.Cond.methodLink "DeltaCycles" (1 : Nat) ({ cls := "java/lang/Object", name := "<init>", desc := "()V" } : Jvm.MethodName)) ∈ lw_all := lw_g (lw_at lw_m1 8 rfl) rfl
theorem q27 : (Jvm.Cond.fieldLink "DeltaCycles" (7 : Nat) "DeltaCycles" "values" "[I") ∈ lw_all := lw_g (lw_at lw_m1 11 rfl) rfl
theorem q28 : (Jvm.Cond.fieldLink "DeltaCycles" (13 : Nat) "DeltaCycles" "eventCount" "[I") ∈ lw_all := lw_g (lw_at lw_m1 12 rfl) rfl
theorem q29 : (Jvm.Cond.fieldLink "DeltaCycles" (48 : Nat) "DeltaCycles" "processes" "I") ∈ lw_all := lw_g (lw_at lw_m1 13 rfl) rfl
theorem q30 : (Jvm.Cond.fieldLink "DeltaCycles" (16 : Nat) "DeltaCycles" "kind" "[I") ∈ lw_all := lw_g (lw_at lw_m1 14 rfl) rfl
theorem q31 : (Jvm.Cond.fieldLink "DeltaCycles" (19 : Nat) "DeltaCycles" "delay" "[I") ∈ lw_all := lw_g (lw_at lw_m1 15 rfl) rfl
theorem q32 : (Jvm.Cond.fieldLink "DeltaCycles" (22 : Nat) "DeltaCycles" "packed" "[I") ∈ lw_all := lw_g (lw_at lw_m1 16 rfl) rfl
theorem q33 : (Jvm.Cond.fieldLink "DeltaCycles" (25 : Nat) "DeltaCycles" "constant" "[I") ∈ lw_all := lw_g (lw_at lw_m1 17 rfl) rfl
theorem q34 : (Jvm.Cond.fieldLink "DeltaCycles" (28 : Nat) "DeltaCycles" "watched" "[I") ∈ lw_all := lw_g (lw_at lw_m1 18 rfl) rfl
theorem q35 : (Jvm.Cond.fieldLink "DeltaCycles" (40 : Nat) "DeltaCycles" "time" "I") ∈ lw_all := lw_g (lw_at lw_m1 19 rfl) rfl
theorem q36 : (Jvm.Cond.fieldLink "DeltaCycles" (90 : Nat) "DeltaCycles" "done" "I") ∈ lw_all := lw_g (lw_at lw_m1 20 rfl) rfl
theorem q37 : (Jvm.Cond.fieldLink "DeltaCycles" (55 : Nat) "DeltaCycles" "deltaSet" "I") ∈ lw_all := lw_g (lw_at lw_m1 21 rfl) rfl
theorem q38 : (Jvm.Cond.fieldLink "DeltaCycles" (31 : Nat) "DeltaCycles" "deltaValue" "[I") ∈ lw_all := lw_g (lw_at lw_m1 22 rfl) rfl
theorem q39 : (Jvm.Cond.fieldLink "DeltaCycles" (34 : Nat) "DeltaCycles" "wheelSet" "[I") ∈ lw_all := lw_g (lw_at lw_m1 23 rfl) rfl
theorem q40 : (Jvm.Cond.fieldLink "DeltaCycles" (37 : Nat) "DeltaCycles" "wheelValue" "[I") ∈ lw_all := lw_g (lw_at lw_m1 24 rfl) rfl
theorem q41 : (Jvm.Cond.laysFinal "DeltaCycles" "DeltaCycles" "values" "[I") ∈ lw_all := lw_g (lw_at lw_m1 25 rfl) rfl
theorem q42 : (Jvm.Cond.soleField "DeltaCycles" "values") ∈ lw_all := lw_g (lw_at lw_m1 26 rfl) rfl
theorem q43 : (Jvm.Cond.laysFinal "DeltaCycles" "DeltaCycles" "eventCount" "[I") ∈ lw_all := lw_g (lw_at lw_m1 27 rfl) rfl
theorem q44 : (Jvm.Cond.soleField "DeltaCycles" "eventCount") ∈ lw_all := lw_g (lw_at lw_m1 28 rfl) rfl
theorem q45 : (Jvm.Cond.lays "DeltaCycles" "DeltaCycles" "processes" "I") ∈ lw_all := lw_g (lw_at lw_m1 29 rfl) rfl
theorem q46 : (Jvm.Cond.soleField "DeltaCycles" "processes") ∈ lw_all := lw_g (lw_at lw_m1 30 rfl) rfl
theorem q47 : (Jvm.Cond.laysFinal "DeltaCycles" "DeltaCycles" "kind" "[I") ∈ lw_all := lw_g (lw_at lw_m1 31 rfl) rfl
theorem q48 : (Jvm.Cond.soleField "DeltaCycles" "kind") ∈ lw_all := lw_g (lw_at lw_m1 32 rfl) rfl
theorem q49 : (Jvm.Cond.laysFinal "DeltaCycles" "DeltaCycles" "delay" "[I") ∈ lw_all := lw_g (lw_at lw_m1 33 rfl) rfl
theorem q50 : (Jvm.Cond.soleField "DeltaCycles" "delay") ∈ lw_all := lw_g (lw_at lw_m1 34 rfl) rfl
theorem q51 : (Jvm.Cond.laysFinal "DeltaCycles" "DeltaCycles" "packed" "[I") ∈ lw_all := lw_g (lw_at lw_m1 35 rfl) rfl
theorem q52 : (Jvm.Cond.soleField "DeltaCycles" "packed") ∈ lw_all := lw_g (lw_at lw_m1 36 rfl) rfl
theorem q53 : (Jvm.Cond.laysFinal "DeltaCycles" "DeltaCycles" "constant" "[I") ∈ lw_all := lw_g (lw_at lw_m1 37 rfl) rfl
theorem q54 : (Jvm.Cond.soleField "DeltaCycles" "constant") ∈ lw_all := lw_g (lw_at lw_m1 38 rfl) rfl
theorem q55 : (Jvm.Cond.laysFinal "DeltaCycles" "DeltaCycles" "watched" "[I") ∈ lw_all := lw_g (lw_at lw_m1 39 rfl) rfl
theorem q56 : (Jvm.Cond.soleField "DeltaCycles" "watched") ∈ lw_all := lw_g (lw_at lw_m1 40 rfl) rfl
theorem q57 : (Jvm.Cond.lays "DeltaCycles" "DeltaCycles" "time" "I") ∈ lw_all := lw_g (lw_at lw_m1 41 rfl) rfl
theorem q58 : (Jvm.Cond.soleField "DeltaCycles" "time") ∈ lw_all := lw_g (lw_at lw_m1 42 rfl) rfl
theorem q59 : (Jvm.Cond.lays "DeltaCycles" "DeltaCycles" "done" "I") ∈ lw_all := lw_g (lw_at lw_m1 43 rfl) rfl
theorem q60 : (Jvm.Cond.soleField "DeltaCycles" "done") ∈ lw_all := lw_g (lw_at lw_m1 44 rfl) rfl
theorem q61 : (Jvm.Cond.lays "DeltaCycles" "DeltaCycles" "deltaSet" "I") ∈ lw_all := lw_g (lw_at lw_m1 45 rfl) rfl
theorem q62 : (Jvm.Cond.soleField "DeltaCycles" "deltaSet") ∈ lw_all := lw_g (lw_at lw_m1 46 rfl) rfl
theorem q63 : (Jvm.Cond.laysFinal "DeltaCycles" "DeltaCycles" "deltaValue" "[I") ∈ lw_all := lw_g (lw_at lw_m1 47 rfl) rfl
theorem q64 : (Jvm.Cond.soleField "DeltaCycles" "deltaValue") ∈ lw_all := lw_g (lw_at lw_m1 48 rfl) rfl
theorem q65 : (Jvm.Cond.laysFinal "DeltaCycles" "DeltaCycles" "wheelSet" "[I") ∈ lw_all := lw_g (lw_at lw_m1 49 rfl) rfl
theorem q66 : (Jvm.Cond.soleField "DeltaCycles" "wheelSet") ∈ lw_all := lw_g (lw_at lw_m1 50 rfl) rfl
theorem q67 : (Jvm.Cond.laysFinal "DeltaCycles" "DeltaCycles" "wheelValue" "[I") ∈ lw_all := lw_g (lw_at lw_m1 51 rfl) rfl
theorem q68 : (Jvm.Cond.soleField "DeltaCycles" "wheelValue") ∈ lw_all := lw_g (lw_at lw_m1 52 rfl) rfl
theorem q69 : (Jvm.Cond.superclass "DeltaCycles" "java/lang/Object") ∈ lw_all := lw_g (lw_at lw_m1 53 rfl) rfl
theorem q72 : (Jvm.Cond.instanceMethod ({ cls := "DeltaCycles", name := "process", desc := "(IIII)I" } : Jvm.MethodName)) ∈ lw_all := lw_g (lw_at lw_m1 56 rfl) rfl
theorem q73 : (Jvm.Cond.selects "DeltaCycles" ({ cls := "DeltaCycles", name := "process", desc := "(IIII)I" } : Jvm.MethodName) ({ cls := "DeltaCycles", name := "process", desc := "(IIII)I" } : Jvm.MethodName)) ∈ lw_all := lw_g (lw_at lw_m1 57 rfl) rfl
theorem q74 : (Jvm.Cond.code ({ cls := "DeltaCycles", name := "process", desc := "(IIII)I" } : Jvm.MethodName) prog_1_method_4_code (8 : Nat) (Option.some Jvm.ClassFile.FieldType.int)) ∈ lw_all := lw_g (lw_at lw_m1 58 rfl) rfl
theorem q75 : (Jvm.Cond.methodLink "DeltaCycles" (44 : Nat) ({ cls := "DeltaCycles", name := "bad", desc := "(I)Z" } : Jvm.MethodName)) ∈ lw_all := lw_g (lw_at lw_m1 59 rfl) rfl
theorem q76 : (Jvm.Cond.static ({ cls := "DeltaCycles", name := "bad", desc := "(I)Z" } : Jvm.MethodName)) ∈ lw_all := lw_g (lw_at lw_m1 60 rfl) rfl
theorem q77 : (Jvm.Cond.code ({ cls := "DeltaCycles", name := "bad", desc := "(I)Z" } : Jvm.MethodName) prog_1_method_2_code (1 : Nat) (Option.some Jvm.ClassFile.FieldType.boolean)) ∈ lw_all := lw_g (lw_at lw_m1 61 rfl) rfl
theorem q79 : (Jvm.Cond.instanceMethod ({ cls := "DeltaCycles", name := "drive", desc := "(III)I" } : Jvm.MethodName)) ∈ lw_all := lw_g (lw_at lw_m1 63 rfl) rfl
theorem q80 : (Jvm.Cond.selects "DeltaCycles" ({ cls := "DeltaCycles", name := "drive", desc := "(III)I" } : Jvm.MethodName) ({ cls := "DeltaCycles", name := "drive", desc := "(III)I" } : Jvm.MethodName)) ∈ lw_all := lw_g (lw_at lw_m1 64 rfl) rfl
theorem q81 : (Jvm.Cond.code ({ cls := "DeltaCycles", name := "drive", desc := "(III)I" } : Jvm.MethodName) prog_1_method_7_code (4 : Nat) (Option.some Jvm.ClassFile.FieldType.int)) ∈ lw_all := lw_g (lw_at lw_m1 65 rfl) rfl
theorem q82 : (Jvm.Cond.methodLink "DeltaCycles" (58 : Nat) ({ cls := "DeltaCycles", name := "putDown", desc := "(III)V" } : Jvm.MethodName)) ∈ lw_all := lw_g (lw_at lw_m1 66 rfl) rfl
theorem q83 : (Jvm.Cond.privateMethod ({ cls := "DeltaCycles", name := "putDown", desc := "(III)V" } : Jvm.MethodName)) ∈ lw_tbl := lw_at lw_m1 67 rfl
theorem q84 : (Jvm.Cond.instanceMethod ({ cls := "DeltaCycles", name := "putDown", desc := "(III)V" } : Jvm.MethodName)) ∈ lw_all := lw_g (lw_at lw_m1 68 rfl) rfl
theorem q85 : (Jvm.Cond.code ({ cls := "DeltaCycles", name := "putDown", desc := "(III)V" } : Jvm.MethodName) prog_1_method_6_code (6 : Nat) (Option.none : Option Jvm.ClassFile.FieldType)) ∈ lw_all := lw_g (lw_at lw_m1 69 rfl) rfl
theorem q86 : (Jvm.Cond.methodLink "DeltaCycles" (51 : Nat) ({ cls := "DeltaCycles", name := "slotAfter", desc := "(I)I" } : Jvm.MethodName)) ∈ lw_all := lw_g (lw_at lw_m1 70 rfl) rfl
theorem q87 : (Jvm.Cond.privateMethod ({ cls := "DeltaCycles", name := "slotAfter", desc := "(I)I" } : Jvm.MethodName)) ∈ lw_tbl := lw_at lw_m1 71 rfl
theorem q88 : (Jvm.Cond.instanceMethod ({ cls := "DeltaCycles", name := "slotAfter", desc := "(I)I" } : Jvm.MethodName)) ∈ lw_all := lw_g (lw_at lw_m1 72 rfl) rfl
theorem q89 : (Jvm.Cond.code ({ cls := "DeltaCycles", name := "slotAfter", desc := "(I)I" } : Jvm.MethodName) prog_1_method_5_code (2 : Nat) (Option.some Jvm.ClassFile.FieldType.int)) ∈ lw_all := lw_g (lw_at lw_m1 73 rfl) rfl
theorem q90 : (Jvm.Cond.methodLink "DeltaCycles" (62 : Nat) ({ cls := "DeltaCycles", name := "pending", desc := "()I" } : Jvm.MethodName)) ∈ lw_all := lw_g (lw_at lw_m1 74 rfl) rfl
theorem q91 : (Jvm.Cond.instanceMethod ({ cls := "DeltaCycles", name := "pending", desc := "()I" } : Jvm.MethodName)) ∈ lw_all := lw_g (lw_at lw_m1 75 rfl) rfl
theorem q92 : (Jvm.Cond.selects "DeltaCycles" ({ cls := "DeltaCycles", name := "pending", desc := "()I" } : Jvm.MethodName) ({ cls := "DeltaCycles", name := "pending", desc := "()I" } : Jvm.MethodName)) ∈ lw_all := lw_g (lw_at lw_m1 76 rfl) rfl
theorem q93 : (Jvm.Cond.code ({ cls := "DeltaCycles", name := "pending", desc := "()I" } : Jvm.MethodName) prog_1_method_22_code (3 : Nat) (Option.some Jvm.ClassFile.FieldType.int)) ∈ lw_all := lw_g (lw_at lw_m1 77 rfl) rfl
theorem q94 : (Jvm.Cond.methodLink "DeltaCycles" (93 : Nat) ({ cls := "DeltaCycles", name := "bits", desc := "(I)I" } : Jvm.MethodName)) ∈ lw_all := lw_g (lw_at lw_m1 78 rfl) rfl
theorem q95 : (Jvm.Cond.static ({ cls := "DeltaCycles", name := "bits", desc := "(I)I" } : Jvm.MethodName)) ∈ lw_all := lw_g (lw_at lw_m1 79 rfl) rfl
theorem q96 : (Jvm.Cond.code ({ cls := "DeltaCycles", name := "bits", desc := "(I)I" } : Jvm.MethodName) prog_1_method_15_code (3 : Nat) (Option.some Jvm.ClassFile.FieldType.int)) ∈ lw_all := lw_g (lw_at lw_m1 80 rfl) rfl
theorem q98 : (Jvm.Cond.instanceMethod ({ cls := "DeltaCycles", name := "poke", desc := "(I)I" } : Jvm.MethodName)) ∈ lw_all := lw_g (lw_at lw_m1 82 rfl) rfl
theorem q99 : (Jvm.Cond.selects "DeltaCycles" ({ cls := "DeltaCycles", name := "poke", desc := "(I)I" } : Jvm.MethodName) ({ cls := "DeltaCycles", name := "poke", desc := "(I)I" } : Jvm.MethodName)) ∈ lw_all := lw_g (lw_at lw_m1 83 rfl) rfl
theorem q100 : (Jvm.Cond.code ({ cls := "DeltaCycles", name := "poke", desc := "(I)I" } : Jvm.MethodName) prog_1_method_10_code (2 : Nat) (Option.some Jvm.ClassFile.FieldType.int)) ∈ lw_all := lw_g (lw_at lw_m1 84 rfl) rfl
theorem q101 : (Jvm.Cond.methodLink "DeltaCycles" (73 : Nat) ({ cls := "DeltaCycles", name := "carryOut", desc := "(I)V" } : Jvm.MethodName)) ∈ lw_all := lw_g (lw_at lw_m1 85 rfl) rfl
theorem q102 : (Jvm.Cond.privateMethod ({ cls := "DeltaCycles", name := "carryOut", desc := "(I)V" } : Jvm.MethodName)) ∈ lw_tbl := lw_at lw_m1 86 rfl
theorem q103 : (Jvm.Cond.instanceMethod ({ cls := "DeltaCycles", name := "carryOut", desc := "(I)V" } : Jvm.MethodName)) ∈ lw_all := lw_g (lw_at lw_m1 87 rfl) rfl
theorem q104 : (Jvm.Cond.code ({ cls := "DeltaCycles", name := "carryOut", desc := "(I)V" } : Jvm.MethodName) prog_1_method_9_code (4 : Nat) (Option.none : Option Jvm.ClassFile.FieldType)) ∈ lw_all := lw_g (lw_at lw_m1 88 rfl) rfl
theorem q105 : (Jvm.Cond.methodLink "DeltaCycles" (70 : Nat) ({ cls := "DeltaCycles", name := "result", desc := "(I)I" } : Jvm.MethodName)) ∈ lw_all := lw_g (lw_at lw_m1 89 rfl) rfl
theorem q106 : (Jvm.Cond.privateMethod ({ cls := "DeltaCycles", name := "result", desc := "(I)I" } : Jvm.MethodName)) ∈ lw_tbl := lw_at lw_m1 90 rfl
theorem q107 : (Jvm.Cond.instanceMethod ({ cls := "DeltaCycles", name := "result", desc := "(I)I" } : Jvm.MethodName)) ∈ lw_all := lw_g (lw_at lw_m1 91 rfl) rfl
theorem q108 : (Jvm.Cond.code ({ cls := "DeltaCycles", name := "result", desc := "(I)I" } : Jvm.MethodName) prog_1_method_8_code (4 : Nat) (Option.some Jvm.ClassFile.FieldType.int)) ∈ lw_all := lw_g (lw_at lw_m1 92 rfl) rfl
theorem q109 : (Jvm.Cond.methodLink "DeltaCycles" (66 : Nat) ({ cls := "DeltaCycles", name := "part", desc := "(II)I" } : Jvm.MethodName)) ∈ lw_all := lw_g (lw_at lw_m1 93 rfl) rfl
theorem q110 : (Jvm.Cond.privateMethod ({ cls := "DeltaCycles", name := "part", desc := "(II)I" } : Jvm.MethodName)) ∈ lw_tbl := lw_at lw_m1 94 rfl
theorem q111 : (Jvm.Cond.instanceMethod ({ cls := "DeltaCycles", name := "part", desc := "(II)I" } : Jvm.MethodName)) ∈ lw_all := lw_g (lw_at lw_m1 95 rfl) rfl
theorem q112 : (Jvm.Cond.code ({ cls := "DeltaCycles", name := "part", desc := "(II)I" } : Jvm.MethodName) prog_1_method_3_code (3 : Nat) (Option.some Jvm.ClassFile.FieldType.int)) ∈ lw_all := lw_g (lw_at lw_m1 96 rfl) rfl
theorem q114 : (Jvm.Cond.instanceMethod ({ cls := "DeltaCycles", name := "step", desc := "()I" } : Jvm.MethodName)) ∈ lw_all := lw_g (lw_at lw_m1 98 rfl) rfl
theorem q115 : (Jvm.Cond.selects "DeltaCycles" ({ cls := "DeltaCycles", name := "step", desc := "()I" } : Jvm.MethodName) ({ cls := "DeltaCycles", name := "step", desc := "()I" } : Jvm.MethodName)) ∈ lw_all := lw_g (lw_at lw_m1 99 rfl) rfl
theorem q116 : (Jvm.Cond.code ({ cls := "DeltaCycles", name := "step", desc := "()I" } : Jvm.MethodName) prog_1_method_16_code (4 : Nat) (Option.some Jvm.ClassFile.FieldType.int)) ∈ lw_all := lw_g (lw_at lw_m1 100 rfl) rfl
theorem q117 : (Jvm.Cond.methodLink "DeltaCycles" (84 : Nat) ({ cls := "DeltaCycles", name := "nextUnits", desc := "()I" } : Jvm.MethodName)) ∈ lw_all := lw_g (lw_at lw_m1 101 rfl) rfl
theorem q118 : (Jvm.Cond.privateMethod ({ cls := "DeltaCycles", name := "nextUnits", desc := "()I" } : Jvm.MethodName)) ∈ lw_tbl := lw_at lw_m1 102 rfl
theorem q119 : (Jvm.Cond.instanceMethod ({ cls := "DeltaCycles", name := "nextUnits", desc := "()I" } : Jvm.MethodName)) ∈ lw_all := lw_g (lw_at lw_m1 103 rfl) rfl
theorem q120 : (Jvm.Cond.code ({ cls := "DeltaCycles", name := "nextUnits", desc := "()I" } : Jvm.MethodName) prog_1_method_11_code (2 : Nat) (Option.some Jvm.ClassFile.FieldType.int)) ∈ lw_all := lw_g (lw_at lw_m1 104 rfl) rfl
theorem q121 : (Jvm.Cond.methodLink "DeltaCycles" (87 : Nat) ({ cls := "DeltaCycles", name := "takeChanges", desc := "(I)I" } : Jvm.MethodName)) ∈ lw_all := lw_g (lw_at lw_m1 105 rfl) rfl
theorem q122 : (Jvm.Cond.privateMethod ({ cls := "DeltaCycles", name := "takeChanges", desc := "(I)I" } : Jvm.MethodName)) ∈ lw_tbl := lw_at lw_m1 106 rfl
theorem q123 : (Jvm.Cond.instanceMethod ({ cls := "DeltaCycles", name := "takeChanges", desc := "(I)I" } : Jvm.MethodName)) ∈ lw_all := lw_g (lw_at lw_m1 107 rfl) rfl
theorem q124 : (Jvm.Cond.code ({ cls := "DeltaCycles", name := "takeChanges", desc := "(I)I" } : Jvm.MethodName) prog_1_method_13_code (6 : Nat) (Option.some Jvm.ClassFile.FieldType.int)) ∈ lw_all := lw_g (lw_at lw_m1 108 rfl) rfl
theorem q125 : (Jvm.Cond.methodLink "DeltaCycles" (77 : Nat) ({ cls := "DeltaCycles", name := "changeBit", desc := "(II)I" } : Jvm.MethodName)) ∈ lw_all := lw_g (lw_at lw_m1 109 rfl) rfl
theorem q126 : (Jvm.Cond.privateMethod ({ cls := "DeltaCycles", name := "changeBit", desc := "(II)I" } : Jvm.MethodName)) ∈ lw_tbl := lw_at lw_m1 110 rfl
theorem q127 : (Jvm.Cond.instanceMethod ({ cls := "DeltaCycles", name := "changeBit", desc := "(II)I" } : Jvm.MethodName)) ∈ lw_all := lw_g (lw_at lw_m1 111 rfl) rfl
theorem q128 : (Jvm.Cond.code ({ cls := "DeltaCycles", name := "changeBit", desc := "(II)I" } : Jvm.MethodName) prog_1_method_14_code (4 : Nat) (Option.some Jvm.ClassFile.FieldType.int)) ∈ lw_all := lw_g (lw_at lw_m1 112 rfl) rfl
theorem q129 : (Jvm.Cond.methodLink "DeltaCycles" (80 : Nat) ({ cls := "DeltaCycles", name := "update", desc := "(II)Z" } : Jvm.MethodName)) ∈ lw_all := lw_g (lw_at lw_m1 113 rfl) rfl
theorem q130 : (Jvm.Cond.privateMethod ({ cls := "DeltaCycles", name := "update", desc := "(II)Z" } : Jvm.MethodName)) ∈ lw_tbl := lw_at lw_m1 114 rfl
theorem q131 : (Jvm.Cond.instanceMethod ({ cls := "DeltaCycles", name := "update", desc := "(II)Z" } : Jvm.MethodName)) ∈ lw_all := lw_g (lw_at lw_m1 115 rfl) rfl
theorem q132 : (Jvm.Cond.code ({ cls := "DeltaCycles", name := "update", desc := "(II)Z" } : Jvm.MethodName) prog_1_method_12_code (3 : Nat) (Option.some Jvm.ClassFile.FieldType.boolean)) ∈ lw_all := lw_g (lw_at lw_m1 116 rfl) rfl
theorem q134 : (Jvm.Cond.instanceMethod ({ cls := "DeltaCycles", name := "run", desc := "(II)I" } : Jvm.MethodName)) ∈ lw_all := lw_g (lw_at lw_m1 118 rfl) rfl
theorem q135 : (Jvm.Cond.selects "DeltaCycles" ({ cls := "DeltaCycles", name := "run", desc := "(II)I" } : Jvm.MethodName) ({ cls := "DeltaCycles", name := "run", desc := "(II)I" } : Jvm.MethodName)) ∈ lw_all := lw_g (lw_at lw_m1 119 rfl) rfl
theorem q136 : (Jvm.Cond.code ({ cls := "DeltaCycles", name := "run", desc := "(II)I" } : Jvm.MethodName) prog_1_method_17_code (8 : Nat) (Option.some Jvm.ClassFile.FieldType.int)) ∈ lw_all := lw_g (lw_at lw_m1 120 rfl) rfl
theorem q137 : (Jvm.Cond.methodLink "DeltaCycles" (96 : Nat) ({ cls := "DeltaCycles", name := "due", desc := "(I)Z" } : Jvm.MethodName)) ∈ lw_all := lw_g (lw_at lw_m1 121 rfl) rfl
theorem q138 : (Jvm.Cond.privateMethod ({ cls := "DeltaCycles", name := "due", desc := "(I)Z" } : Jvm.MethodName)) ∈ lw_tbl := lw_at lw_m1 122 rfl
theorem q139 : (Jvm.Cond.instanceMethod ({ cls := "DeltaCycles", name := "due", desc := "(I)Z" } : Jvm.MethodName)) ∈ lw_all := lw_g (lw_at lw_m1 123 rfl) rfl
theorem q140 : (Jvm.Cond.code ({ cls := "DeltaCycles", name := "due", desc := "(I)Z" } : Jvm.MethodName) prog_1_method_18_code (3 : Nat) (Option.some Jvm.ClassFile.FieldType.boolean)) ∈ lw_all := lw_g (lw_at lw_m1 124 rfl) rfl
theorem q141 : (Jvm.Cond.methodLink "DeltaCycles" (99 : Nat) ({ cls := "DeltaCycles", name := "step", desc := "()I" } : Jvm.MethodName)) ∈ lw_all := lw_g (lw_at lw_m1 125 rfl) rfl
theorem q143 : (Jvm.Cond.instanceMethod ({ cls := "DeltaCycles", name := "reset", desc := "()V" } : Jvm.MethodName)) ∈ lw_all := lw_g (lw_at lw_m1 127 rfl) rfl
theorem q144 : (Jvm.Cond.selects "DeltaCycles" ({ cls := "DeltaCycles", name := "reset", desc := "()V" } : Jvm.MethodName) ({ cls := "DeltaCycles", name := "reset", desc := "()V" } : Jvm.MethodName)) ∈ lw_all := lw_g (lw_at lw_m1 128 rfl) rfl
theorem q145 : (Jvm.Cond.code ({ cls := "DeltaCycles", name := "reset", desc := "()V" } : Jvm.MethodName) prog_1_method_19_code (2 : Nat) (Option.none : Option Jvm.ClassFile.FieldType)) ∈ lw_all := lw_g (lw_at lw_m1 129 rfl) rfl
theorem q147 : (Jvm.Cond.instanceMethod ({ cls := "DeltaCycles", name := "value", desc := "(I)I" } : Jvm.MethodName)) ∈ lw_all := lw_g (lw_at lw_m1 131 rfl) rfl
theorem q148 : (Jvm.Cond.selects "DeltaCycles" ({ cls := "DeltaCycles", name := "value", desc := "(I)I" } : Jvm.MethodName) ({ cls := "DeltaCycles", name := "value", desc := "(I)I" } : Jvm.MethodName)) ∈ lw_all := lw_g (lw_at lw_m1 132 rfl) rfl
theorem q149 : (Jvm.Cond.code ({ cls := "DeltaCycles", name := "value", desc := "(I)I" } : Jvm.MethodName) prog_1_method_20_code (2 : Nat) (Option.some Jvm.ClassFile.FieldType.int)) ∈ lw_all := lw_g (lw_at lw_m1 133 rfl) rfl
theorem q151 : (Jvm.Cond.instanceMethod ({ cls := "DeltaCycles", name := "time", desc := "()I" } : Jvm.MethodName)) ∈ lw_all := lw_g (lw_at lw_m1 135 rfl) rfl
theorem q152 : (Jvm.Cond.selects "DeltaCycles" ({ cls := "DeltaCycles", name := "time", desc := "()I" } : Jvm.MethodName) ({ cls := "DeltaCycles", name := "time", desc := "()I" } : Jvm.MethodName)) ∈ lw_all := lw_g (lw_at lw_m1 136 rfl) rfl
theorem q153 : (Jvm.Cond.code ({ cls := "DeltaCycles", name := "time", desc := "()I" } : Jvm.MethodName) prog_1_method_21_code (1 : Nat) (Option.some Jvm.ClassFile.FieldType.int)) ∈ lw_all := lw_g (lw_at lw_m1 137 rfl) rfl
theorem q156 : (Jvm.Cond.instanceMethod ({ cls := "DeltaCycles", name := "nextTime", desc := "()I" } : Jvm.MethodName)) ∈ lw_all := lw_g (lw_at lw_m1 140 rfl) rfl
theorem q157 : (Jvm.Cond.selects "DeltaCycles" ({ cls := "DeltaCycles", name := "nextTime", desc := "()I" } : Jvm.MethodName) ({ cls := "DeltaCycles", name := "nextTime", desc := "()I" } : Jvm.MethodName)) ∈ lw_all := lw_g (lw_at lw_m1 141 rfl) rfl
theorem q158 : (Jvm.Cond.code ({ cls := "DeltaCycles", name := "nextTime", desc := "()I" } : Jvm.MethodName) prog_1_method_23_code (2 : Nat) (Option.some Jvm.ClassFile.FieldType.int)) ∈ lw_all := lw_g (lw_at lw_m1 142 rfl) rfl
theorem q160 : (Jvm.Cond.instanceMethod ({ cls := "DeltaCycles", name := "events", desc := "(I)I" } : Jvm.MethodName)) ∈ lw_all := lw_g (lw_at lw_m1 144 rfl) rfl
theorem q161 : (Jvm.Cond.selects "DeltaCycles" ({ cls := "DeltaCycles", name := "events", desc := "(I)I" } : Jvm.MethodName) ({ cls := "DeltaCycles", name := "events", desc := "(I)I" } : Jvm.MethodName)) ∈ lw_all := lw_g (lw_at lw_m1 145 rfl) rfl
theorem q162 : (Jvm.Cond.code ({ cls := "DeltaCycles", name := "events", desc := "(I)I" } : Jvm.MethodName) prog_1_method_24_code (2 : Nat) (Option.some Jvm.ClassFile.FieldType.int)) ∈ lw_all := lw_g (lw_at lw_m1 146 rfl) rfl
theorem q164 : (Jvm.Cond.instanceMethod ({ cls := "DeltaCycles", name := "cycles", desc := "()I" } : Jvm.MethodName)) ∈ lw_all := lw_g (lw_at lw_m1 148 rfl) rfl
theorem q165 : (Jvm.Cond.selects "DeltaCycles" ({ cls := "DeltaCycles", name := "cycles", desc := "()I" } : Jvm.MethodName) ({ cls := "DeltaCycles", name := "cycles", desc := "()I" } : Jvm.MethodName)) ∈ lw_all := lw_g (lw_at lw_m1 149 rfl) rfl
theorem q166 : (Jvm.Cond.code ({ cls := "DeltaCycles", name := "cycles", desc := "()I" } : Jvm.MethodName) prog_1_method_25_code (1 : Nat) (Option.some Jvm.ClassFile.FieldType.int)) ∈ lw_all := lw_g (lw_at lw_m1 150 rfl) rfl
theorem q168 : (Jvm.Cond.instanceMethod ({ cls := "DeltaCycles", name := "coming", desc := "(I)I" } : Jvm.MethodName)) ∈ lw_all := lw_g (lw_at lw_m1 152 rfl) rfl
theorem q169 : (Jvm.Cond.selects "DeltaCycles" ({ cls := "DeltaCycles", name := "coming", desc := "(I)I" } : Jvm.MethodName) ({ cls := "DeltaCycles", name := "coming", desc := "(I)I" } : Jvm.MethodName)) ∈ lw_all := lw_g (lw_at lw_m1 153 rfl) rfl
theorem q170 : (Jvm.Cond.code ({ cls := "DeltaCycles", name := "coming", desc := "(I)I" } : Jvm.MethodName) prog_1_method_26_code (4 : Nat) (Option.some Jvm.ClassFile.FieldType.int)) ∈ lw_all := lw_g (lw_at lw_m1 154 rfl) rfl
theorem in_X0 : ∀ w ∈ wsX00, w ∈ lw_all := lw_in wsX00 [41, 43, 45, 47, 49, 51, 53, 55, 57, 59, 61, 63, 65, 67] (by decide +kernel) (by decide +kernel)
/-! DeltaCyclesModel -/
def RX1 : String := "DeltaCyclesModel"
def TX1 : u_T := fun k => match k with
  | 0 => ("DeltaCyclesModel", "values", "[I", true)
  | 1 => ("DeltaCyclesModel", "eventCounts", "[I", true)
  | 2 => ("DeltaCyclesModel", "kinds", "[I", true)
  | 3 => ("DeltaCyclesModel", "delays", "[I", true)
  | 4 => ("DeltaCyclesModel", "operands", "[I", true)
  | 5 => ("DeltaCyclesModel", "constants", "[I", true)
  | 6 => ("DeltaCyclesModel", "watches", "[I", true)
  | 7 => ("DeltaCyclesModel", "processes", "I", false)
  | 8 => ("DeltaCyclesModel", "changeSignal", "[I", true)
  | 9 => ("DeltaCyclesModel", "changeValue", "[I", true)
  | 10 => ("DeltaCyclesModel", "changeTime", "[I", true)
  | 11 => ("DeltaCyclesModel", "changeNext", "[Z", true)
  | 12 => ("DeltaCyclesModel", "changes", "I", false)
  | 13 => ("DeltaCyclesModel", "now", "I", false)
  | _ => ("DeltaCyclesModel", "done", "I", false)
def tyX1 : Nat → FieldType := fun k => match k with
  | 0 => .array .int
  | 1 => .array .int
  | 2 => .array .int
  | 3 => .array .int
  | 4 => .array .int
  | 5 => .array .int
  | 6 => .array .int
  | 7 => .int
  | 8 => .array .int
  | 9 => .array .int
  | 10 => .array .int
  | 11 => .array .boolean
  | 12 => .int
  | 13 => .int
  | _ => .int
abbrev wsX10 : List Cond := u_ws RX1 TX1 15
set_option maxRecDepth 100000 in
theorem nmX1 : ∀ a, a < 15 → ∀ b, b < 15 → a ≠ b → (TX1 a).2.1 ≠ (TX1 b).2.1 := by decide +kernel
set_option maxRecDepth 100000 in
theorem tyX1_ok : ∀ k, k < 15 → parseFieldDescriptor (TX1 k).2.2.1 = some (tyX1 k) := by decide +kernel
abbrev cX1_init : ByteArray := prog_3_method_1_code
def yX1_init : MethodName := ⟨RX1, "<init>", "()V"⟩
abbrev cX1_process : ByteArray := prog_3_method_2_code
def yX1_process : MethodName := ⟨RX1, "process", "(IIII)I"⟩
abbrev cX1_drive : ByteArray := prog_3_method_6_code
def yX1_drive : MethodName := ⟨RX1, "drive", "(III)I"⟩
abbrev cX1_isSignal : ByteArray := prog_3_method_5_code
def yX1_isSignal : MethodName := ⟨RX1, "isSignal", "(I)Z"⟩
abbrev cX1_put : ByteArray := prog_3_method_3_code
def yX1_put : MethodName := ⟨RX1, "put", "(III)V"⟩
abbrev cX1_move : ByteArray := prog_3_method_4_code
def yX1_move : MethodName := ⟨RX1, "move", "(II)V"⟩
abbrev cX1_poke : ByteArray := prog_3_method_8_code
def yX1_poke : MethodName := ⟨RX1, "poke", "(I)I"⟩
abbrev cX1_carryOut : ByteArray := prog_3_method_7_code
def yX1_carryOut : MethodName := ⟨RX1, "carryOut", "(I)V"⟩
abbrev cX1_step : ByteArray := prog_3_method_11_code
def yX1_step : MethodName := ⟨RX1, "step", "()I"⟩
abbrev cX1_anyNext : ByteArray := prog_3_method_9_code
def yX1_anyNext : MethodName := ⟨RX1, "anyNext", "()Z"⟩
abbrev cX1_nextTime : ByteArray := prog_3_method_17_code
def yX1_nextTime : MethodName := ⟨RX1, "nextTime", "()I"⟩
abbrev cX1_update : ByteArray := prog_3_method_10_code
def yX1_update : MethodName := ⟨RX1, "update", "(Z)I"⟩
abbrev cX1_run : ByteArray := prog_3_method_12_code
def yX1_run : MethodName := ⟨RX1, "run", "(II)I"⟩
abbrev cX1_reset : ByteArray := prog_3_method_13_code
def yX1_reset : MethodName := ⟨RX1, "reset", "()V"⟩
abbrev cX1_value : ByteArray := prog_3_method_14_code
def yX1_value : MethodName := ⟨RX1, "value", "(I)I"⟩
abbrev cX1_time : ByteArray := prog_3_method_15_code
def yX1_time : MethodName := ⟨RX1, "time", "()I"⟩
abbrev cX1_pending : ByteArray := prog_3_method_16_code
def yX1_pending : MethodName := ⟨RX1, "pending", "()I"⟩
abbrev cX1_events : ByteArray := prog_3_method_18_code
def yX1_events : MethodName := ⟨RX1, "events", "(I)I"⟩
abbrev cX1_cycles : ByteArray := prog_3_method_19_code
def yX1_cycles : MethodName := ⟨RX1, "cycles", "()I"⟩
abbrev cX1_coming : ByteArray := prog_3_method_20_code
def yX1_coming : MethodName := ⟨RX1, "coming", "(I)I"⟩
theorem q18 : (Jvm.Cond.initialized "DeltaCyclesModel") ∈ lw_all := lw_g (lw_at lw_m1 2 rfl) rfl
theorem q172 : (Jvm.Cond.instantiable "DeltaCyclesModel" (15 : Nat)) ∈ lw_all := lw_g (lw_at lw_m1 156 rfl) rfl
theorem q174 : (Jvm.Cond.instanceMethod ({ cls := "DeltaCyclesModel", name := "<init>", desc := "()V" } : Jvm.MethodName)) ∈ lw_all := lw_g (lw_at lw_m1 158 rfl) rfl
theorem q175 : (Jvm.Cond.code ({ cls := "DeltaCyclesModel", name := "<init>", desc := "()V" } : Jvm.MethodName) prog_3_method_1_code (1 : Nat) (Option.none : Option Jvm.ClassFile.FieldType)) ∈ lw_all := lw_g (lw_at lw_m1 159 rfl) rfl
theorem q176 : (Jvm.Cond.methodLink "DeltaCyclesModel" (1 : Nat) ({ cls := "java/lang/Object", name := "<init>", desc := "()V" } : Jvm.MethodName)) ∈ lw_all := lw_g (lw_at lw_m1 160 rfl) rfl
theorem q177 : (Jvm.Cond.fieldLink "DeltaCyclesModel" (7 : Nat) "DeltaCyclesModel" "values" "[I") ∈ lw_all := lw_g (lw_at lw_m1 161 rfl) rfl
theorem q178 : (Jvm.Cond.fieldLink "DeltaCyclesModel" (13 : Nat) "DeltaCyclesModel" "eventCounts" "[I") ∈ lw_all := lw_g (lw_at lw_m1 162 rfl) rfl
theorem q179 : (Jvm.Cond.fieldLink "DeltaCyclesModel" (16 : Nat) "DeltaCyclesModel" "kinds" "[I") ∈ lw_all := lw_g (lw_at lw_m1 163 rfl) rfl
theorem q180 : (Jvm.Cond.fieldLink "DeltaCyclesModel" (19 : Nat) "DeltaCyclesModel" "delays" "[I") ∈ lw_all := lw_g (lw_at lw_m1 164 rfl) rfl
theorem q181 : (Jvm.Cond.fieldLink "DeltaCyclesModel" (22 : Nat) "DeltaCyclesModel" "operands" "[I") ∈ lw_all := lw_g (lw_at lw_m1 165 rfl) rfl
theorem q182 : (Jvm.Cond.fieldLink "DeltaCyclesModel" (25 : Nat) "DeltaCyclesModel" "constants" "[I") ∈ lw_all := lw_g (lw_at lw_m1 166 rfl) rfl
theorem q183 : (Jvm.Cond.fieldLink "DeltaCyclesModel" (28 : Nat) "DeltaCyclesModel" "watches" "[I") ∈ lw_all := lw_g (lw_at lw_m1 167 rfl) rfl
theorem q184 : (Jvm.Cond.fieldLink "DeltaCyclesModel" (44 : Nat) "DeltaCyclesModel" "processes" "I") ∈ lw_all := lw_g (lw_at lw_m1 168 rfl) rfl
theorem q185 : (Jvm.Cond.fieldLink "DeltaCyclesModel" (31 : Nat) "DeltaCyclesModel" "changeSignal" "[I") ∈ lw_all := lw_g (lw_at lw_m1 169 rfl) rfl
theorem q186 : (Jvm.Cond.fieldLink "DeltaCyclesModel" (34 : Nat) "DeltaCyclesModel" "changeValue" "[I") ∈ lw_all := lw_g (lw_at lw_m1 170 rfl) rfl
theorem q187 : (Jvm.Cond.fieldLink "DeltaCyclesModel" (37 : Nat) "DeltaCyclesModel" "changeTime" "[I") ∈ lw_all := lw_g (lw_at lw_m1 171 rfl) rfl
theorem q188 : (Jvm.Cond.fieldLink "DeltaCyclesModel" (40 : Nat) "DeltaCyclesModel" "changeNext" "[Z") ∈ lw_all := lw_g (lw_at lw_m1 172 rfl) rfl
theorem q189 : (Jvm.Cond.fieldLink "DeltaCyclesModel" (49 : Nat) "DeltaCyclesModel" "changes" "I") ∈ lw_all := lw_g (lw_at lw_m1 173 rfl) rfl
theorem q190 : (Jvm.Cond.fieldLink "DeltaCyclesModel" (52 : Nat) "DeltaCyclesModel" "now" "I") ∈ lw_all := lw_g (lw_at lw_m1 174 rfl) rfl
theorem q191 : (Jvm.Cond.fieldLink "DeltaCyclesModel" (83 : Nat) "DeltaCyclesModel" "done" "I") ∈ lw_all := lw_g (lw_at lw_m1 175 rfl) rfl
theorem q192 : (Jvm.Cond.laysFinal "DeltaCyclesModel" "DeltaCyclesModel" "values" "[I") ∈ lw_all := lw_g (lw_at lw_m1 176 rfl) rfl
theorem q193 : (Jvm.Cond.soleField "DeltaCyclesModel" "values") ∈ lw_all := lw_g (lw_at lw_m1 177 rfl) rfl
theorem q194 : (Jvm.Cond.laysFinal "DeltaCyclesModel" "DeltaCyclesModel" "eventCounts" "[I") ∈ lw_all := lw_g (lw_at lw_m1 178 rfl) rfl
theorem q195 : (Jvm.Cond.soleField "DeltaCyclesModel" "eventCounts") ∈ lw_all := lw_g (lw_at lw_m1 179 rfl) rfl
theorem q196 : (Jvm.Cond.laysFinal "DeltaCyclesModel" "DeltaCyclesModel" "kinds" "[I") ∈ lw_all := lw_g (lw_at lw_m1 180 rfl) rfl
theorem q197 : (Jvm.Cond.soleField "DeltaCyclesModel" "kinds") ∈ lw_all := lw_g (lw_at lw_m1 181 rfl) rfl
theorem q198 : (Jvm.Cond.laysFinal "DeltaCyclesModel" "DeltaCyclesModel" "delays" "[I") ∈ lw_all := lw_g (lw_at lw_m1 182 rfl) rfl
theorem q199 : (Jvm.Cond.soleField "DeltaCyclesModel" "delays") ∈ lw_all := lw_g (lw_at lw_m1 183 rfl) rfl
theorem q200 : (Jvm.Cond.laysFinal "DeltaCyclesModel" "DeltaCyclesModel" "operands" "[I") ∈ lw_all := lw_g (lw_at lw_m1 184 rfl) rfl
theorem q201 : (Jvm.Cond.soleField "DeltaCyclesModel" "operands") ∈ lw_all := lw_g (lw_at lw_m1 185 rfl) rfl
theorem q202 : (Jvm.Cond.laysFinal "DeltaCyclesModel" "DeltaCyclesModel" "constants" "[I") ∈ lw_all := lw_g (lw_at lw_m1 186 rfl) rfl
theorem q203 : (Jvm.Cond.soleField "DeltaCyclesModel" "constants") ∈ lw_all := lw_g (lw_at lw_m1 187 rfl) rfl
theorem q204 : (Jvm.Cond.laysFinal "DeltaCyclesModel" "DeltaCyclesModel" "watches" "[I") ∈ lw_all := lw_g (lw_at lw_m1 188 rfl) rfl
theorem q205 : (Jvm.Cond.soleField "DeltaCyclesModel" "watches") ∈ lw_all := lw_g (lw_at lw_m1 189 rfl) rfl
theorem q206 : (Jvm.Cond.lays "DeltaCyclesModel" "DeltaCyclesModel" "processes" "I") ∈ lw_all := lw_g (lw_at lw_m1 190 rfl) rfl
theorem q207 : (Jvm.Cond.soleField "DeltaCyclesModel" "processes") ∈ lw_all := lw_g (lw_at lw_m1 191 rfl) rfl
theorem q208 : (Jvm.Cond.laysFinal "DeltaCyclesModel" "DeltaCyclesModel" "changeSignal" "[I") ∈ lw_all := lw_g (lw_at lw_m1 192 rfl) rfl
theorem q209 : (Jvm.Cond.soleField "DeltaCyclesModel" "changeSignal") ∈ lw_all := lw_g (lw_at lw_m1 193 rfl) rfl
theorem q210 : (Jvm.Cond.laysFinal "DeltaCyclesModel" "DeltaCyclesModel" "changeValue" "[I") ∈ lw_all := lw_g (lw_at lw_m1 194 rfl) rfl
theorem q211 : (Jvm.Cond.soleField "DeltaCyclesModel" "changeValue") ∈ lw_all := lw_g (lw_at lw_m1 195 rfl) rfl
theorem q212 : (Jvm.Cond.laysFinal "DeltaCyclesModel" "DeltaCyclesModel" "changeTime" "[I") ∈ lw_all := lw_g (lw_at lw_m1 196 rfl) rfl
theorem q213 : (Jvm.Cond.soleField "DeltaCyclesModel" "changeTime") ∈ lw_all := lw_g (lw_at lw_m1 197 rfl) rfl
theorem q214 : (Jvm.Cond.laysFinal "DeltaCyclesModel" "DeltaCyclesModel" "changeNext" "[Z") ∈ lw_all := lw_g (lw_at lw_m1 198 rfl) rfl
theorem q215 : (Jvm.Cond.soleField "DeltaCyclesModel" "changeNext") ∈ lw_all := lw_g (lw_at lw_m1 199 rfl) rfl
theorem q216 : (Jvm.Cond.lays "DeltaCyclesModel" "DeltaCyclesModel" "changes" "I") ∈ lw_all := lw_g (lw_at lw_m1 200 rfl) rfl
theorem q217 : (Jvm.Cond.soleField "DeltaCyclesModel" "changes") ∈ lw_all := lw_g (lw_at lw_m1 201 rfl) rfl
theorem q218 : (Jvm.Cond.lays "DeltaCyclesModel" "DeltaCyclesModel" "now" "I") ∈ lw_all := lw_g (lw_at lw_m1 202 rfl) rfl
theorem q219 : (Jvm.Cond.soleField "DeltaCyclesModel" "now") ∈ lw_all := lw_g (lw_at lw_m1 203 rfl) rfl
theorem q220 : (Jvm.Cond.lays "DeltaCyclesModel" "DeltaCyclesModel" "done" "I") ∈ lw_all := lw_g (lw_at lw_m1 204 rfl) rfl
theorem q221 : (Jvm.Cond.soleField "DeltaCyclesModel" "done") ∈ lw_all := lw_g (lw_at lw_m1 205 rfl) rfl
theorem q222 : (Jvm.Cond.superclass "DeltaCyclesModel" "java/lang/Object") ∈ lw_all := lw_g (lw_at lw_m1 206 rfl) rfl
theorem q225 : (Jvm.Cond.instanceMethod ({ cls := "DeltaCyclesModel", name := "process", desc := "(IIII)I" } : Jvm.MethodName)) ∈ lw_all := lw_g (lw_at lw_m1 209 rfl) rfl
theorem q226 : (Jvm.Cond.selects "DeltaCyclesModel" ({ cls := "DeltaCyclesModel", name := "process", desc := "(IIII)I" } : Jvm.MethodName) ({ cls := "DeltaCyclesModel", name := "process", desc := "(IIII)I" } : Jvm.MethodName)) ∈ lw_all := lw_g (lw_at lw_m1 210 rfl) rfl
theorem q227 : (Jvm.Cond.code ({ cls := "DeltaCyclesModel", name := "process", desc := "(IIII)I" } : Jvm.MethodName) prog_3_method_2_code (6 : Nat) (Option.some Jvm.ClassFile.FieldType.int)) ∈ lw_all := lw_g (lw_at lw_m1 211 rfl) rfl
theorem q228 : (Jvm.Cond.constant "DeltaCyclesModel" (48 : Nat) (65535 : Int32)) ∈ lw_all := lw_g (lw_at lw_m1 212 rfl) rfl
theorem q230 : (Jvm.Cond.instanceMethod ({ cls := "DeltaCyclesModel", name := "drive", desc := "(III)I" } : Jvm.MethodName)) ∈ lw_all := lw_g (lw_at lw_m1 214 rfl) rfl
theorem q231 : (Jvm.Cond.selects "DeltaCyclesModel" ({ cls := "DeltaCyclesModel", name := "drive", desc := "(III)I" } : Jvm.MethodName) ({ cls := "DeltaCyclesModel", name := "drive", desc := "(III)I" } : Jvm.MethodName)) ∈ lw_all := lw_g (lw_at lw_m1 215 rfl) rfl
theorem q232 : (Jvm.Cond.code ({ cls := "DeltaCyclesModel", name := "drive", desc := "(III)I" } : Jvm.MethodName) prog_3_method_6_code (4 : Nat) (Option.some Jvm.ClassFile.FieldType.int)) ∈ lw_all := lw_g (lw_at lw_m1 216 rfl) rfl
theorem q233 : (Jvm.Cond.methodLink "DeltaCyclesModel" (59 : Nat) ({ cls := "DeltaCyclesModel", name := "isSignal", desc := "(I)Z" } : Jvm.MethodName)) ∈ lw_all := lw_g (lw_at lw_m1 217 rfl) rfl
theorem q234 : (Jvm.Cond.privateMethod ({ cls := "DeltaCyclesModel", name := "isSignal", desc := "(I)Z" } : Jvm.MethodName)) ∈ lw_tbl := lw_at lw_m1 218 rfl
theorem q235 : (Jvm.Cond.instanceMethod ({ cls := "DeltaCyclesModel", name := "isSignal", desc := "(I)Z" } : Jvm.MethodName)) ∈ lw_all := lw_g (lw_at lw_m1 219 rfl) rfl
theorem q236 : (Jvm.Cond.code ({ cls := "DeltaCyclesModel", name := "isSignal", desc := "(I)Z" } : Jvm.MethodName) prog_3_method_5_code (2 : Nat) (Option.some Jvm.ClassFile.FieldType.boolean)) ∈ lw_all := lw_g (lw_at lw_m1 220 rfl) rfl
theorem q237 : (Jvm.Cond.methodLink "DeltaCyclesModel" (63 : Nat) ({ cls := "DeltaCyclesModel", name := "put", desc := "(III)V" } : Jvm.MethodName)) ∈ lw_all := lw_g (lw_at lw_m1 221 rfl) rfl
theorem q238 : (Jvm.Cond.privateMethod ({ cls := "DeltaCyclesModel", name := "put", desc := "(III)V" } : Jvm.MethodName)) ∈ lw_tbl := lw_at lw_m1 222 rfl
theorem q239 : (Jvm.Cond.instanceMethod ({ cls := "DeltaCyclesModel", name := "put", desc := "(III)V" } : Jvm.MethodName)) ∈ lw_all := lw_g (lw_at lw_m1 223 rfl) rfl
theorem q240 : (Jvm.Cond.code ({ cls := "DeltaCyclesModel", name := "put", desc := "(III)V" } : Jvm.MethodName) prog_3_method_3_code (6 : Nat) (Option.none : Option Jvm.ClassFile.FieldType)) ∈ lw_all := lw_g (lw_at lw_m1 224 rfl) rfl
theorem q241 : (Jvm.Cond.methodLink "DeltaCyclesModel" (55 : Nat) ({ cls := "DeltaCyclesModel", name := "move", desc := "(II)V" } : Jvm.MethodName)) ∈ lw_all := lw_g (lw_at lw_m1 225 rfl) rfl
theorem q242 : (Jvm.Cond.privateMethod ({ cls := "DeltaCyclesModel", name := "move", desc := "(II)V" } : Jvm.MethodName)) ∈ lw_tbl := lw_at lw_m1 226 rfl
theorem q243 : (Jvm.Cond.instanceMethod ({ cls := "DeltaCyclesModel", name := "move", desc := "(II)V" } : Jvm.MethodName)) ∈ lw_all := lw_g (lw_at lw_m1 227 rfl) rfl
theorem q244 : (Jvm.Cond.code ({ cls := "DeltaCyclesModel", name := "move", desc := "(II)V" } : Jvm.MethodName) prog_3_method_4_code (3 : Nat) (Option.none : Option Jvm.ClassFile.FieldType)) ∈ lw_all := lw_g (lw_at lw_m1 228 rfl) rfl
theorem q246 : (Jvm.Cond.instanceMethod ({ cls := "DeltaCyclesModel", name := "poke", desc := "(I)I" } : Jvm.MethodName)) ∈ lw_all := lw_g (lw_at lw_m1 230 rfl) rfl
theorem q247 : (Jvm.Cond.selects "DeltaCyclesModel" ({ cls := "DeltaCyclesModel", name := "poke", desc := "(I)I" } : Jvm.MethodName) ({ cls := "DeltaCyclesModel", name := "poke", desc := "(I)I" } : Jvm.MethodName)) ∈ lw_all := lw_g (lw_at lw_m1 231 rfl) rfl
theorem q248 : (Jvm.Cond.code ({ cls := "DeltaCyclesModel", name := "poke", desc := "(I)I" } : Jvm.MethodName) prog_3_method_8_code (2 : Nat) (Option.some Jvm.ClassFile.FieldType.int)) ∈ lw_all := lw_g (lw_at lw_m1 232 rfl) rfl
theorem q249 : (Jvm.Cond.methodLink "DeltaCyclesModel" (67 : Nat) ({ cls := "DeltaCyclesModel", name := "carryOut", desc := "(I)V" } : Jvm.MethodName)) ∈ lw_all := lw_g (lw_at lw_m1 233 rfl) rfl
theorem q250 : (Jvm.Cond.privateMethod ({ cls := "DeltaCyclesModel", name := "carryOut", desc := "(I)V" } : Jvm.MethodName)) ∈ lw_tbl := lw_at lw_m1 234 rfl
theorem q251 : (Jvm.Cond.instanceMethod ({ cls := "DeltaCyclesModel", name := "carryOut", desc := "(I)V" } : Jvm.MethodName)) ∈ lw_all := lw_g (lw_at lw_m1 235 rfl) rfl
theorem q252 : (Jvm.Cond.code ({ cls := "DeltaCyclesModel", name := "carryOut", desc := "(I)V" } : Jvm.MethodName) prog_3_method_7_code (6 : Nat) (Option.none : Option Jvm.ClassFile.FieldType)) ∈ lw_all := lw_g (lw_at lw_m1 236 rfl) rfl
theorem q254 : (Jvm.Cond.instanceMethod ({ cls := "DeltaCyclesModel", name := "step", desc := "()I" } : Jvm.MethodName)) ∈ lw_all := lw_g (lw_at lw_m1 238 rfl) rfl
theorem q255 : (Jvm.Cond.selects "DeltaCyclesModel" ({ cls := "DeltaCyclesModel", name := "step", desc := "()I" } : Jvm.MethodName) ({ cls := "DeltaCyclesModel", name := "step", desc := "()I" } : Jvm.MethodName)) ∈ lw_all := lw_g (lw_at lw_m1 239 rfl) rfl
theorem q256 : (Jvm.Cond.code ({ cls := "DeltaCyclesModel", name := "step", desc := "()I" } : Jvm.MethodName) prog_3_method_11_code (5 : Nat) (Option.some Jvm.ClassFile.FieldType.int)) ∈ lw_all := lw_g (lw_at lw_m2 0 rfl) rfl
theorem q257 : (Jvm.Cond.methodLink "DeltaCyclesModel" (71 : Nat) ({ cls := "DeltaCyclesModel", name := "anyNext", desc := "()Z" } : Jvm.MethodName)) ∈ lw_all := lw_g (lw_at lw_m2 1 rfl) rfl
theorem q258 : (Jvm.Cond.privateMethod ({ cls := "DeltaCyclesModel", name := "anyNext", desc := "()Z" } : Jvm.MethodName)) ∈ lw_tbl := lw_at lw_m2 2 rfl
theorem q259 : (Jvm.Cond.instanceMethod ({ cls := "DeltaCyclesModel", name := "anyNext", desc := "()Z" } : Jvm.MethodName)) ∈ lw_all := lw_g (lw_at lw_m2 3 rfl) rfl
theorem q260 : (Jvm.Cond.code ({ cls := "DeltaCyclesModel", name := "anyNext", desc := "()Z" } : Jvm.MethodName) prog_3_method_9_code (2 : Nat) (Option.some Jvm.ClassFile.FieldType.boolean)) ∈ lw_all := lw_g (lw_at lw_m2 4 rfl) rfl
theorem q261 : (Jvm.Cond.methodLink "DeltaCyclesModel" (75 : Nat) ({ cls := "DeltaCyclesModel", name := "nextTime", desc := "()I" } : Jvm.MethodName)) ∈ lw_all := lw_g (lw_at lw_m2 5 rfl) rfl
theorem q262 : (Jvm.Cond.instanceMethod ({ cls := "DeltaCyclesModel", name := "nextTime", desc := "()I" } : Jvm.MethodName)) ∈ lw_all := lw_g (lw_at lw_m2 6 rfl) rfl
theorem q263 : (Jvm.Cond.selects "DeltaCyclesModel" ({ cls := "DeltaCyclesModel", name := "nextTime", desc := "()I" } : Jvm.MethodName) ({ cls := "DeltaCyclesModel", name := "nextTime", desc := "()I" } : Jvm.MethodName)) ∈ lw_all := lw_g (lw_at lw_m2 7 rfl) rfl
theorem q264 : (Jvm.Cond.code ({ cls := "DeltaCyclesModel", name := "nextTime", desc := "()I" } : Jvm.MethodName) prog_3_method_17_code (3 : Nat) (Option.some Jvm.ClassFile.FieldType.int)) ∈ lw_all := lw_g (lw_at lw_m2 8 rfl) rfl
theorem q265 : (Jvm.Cond.methodLink "DeltaCyclesModel" (79 : Nat) ({ cls := "DeltaCyclesModel", name := "update", desc := "(Z)I" } : Jvm.MethodName)) ∈ lw_all := lw_g (lw_at lw_m2 9 rfl) rfl
theorem q266 : (Jvm.Cond.privateMethod ({ cls := "DeltaCyclesModel", name := "update", desc := "(Z)I" } : Jvm.MethodName)) ∈ lw_tbl := lw_at lw_m2 10 rfl
theorem q267 : (Jvm.Cond.instanceMethod ({ cls := "DeltaCyclesModel", name := "update", desc := "(Z)I" } : Jvm.MethodName)) ∈ lw_all := lw_g (lw_at lw_m2 11 rfl) rfl
theorem q268 : (Jvm.Cond.code ({ cls := "DeltaCyclesModel", name := "update", desc := "(Z)I" } : Jvm.MethodName) prog_3_method_10_code (6 : Nat) (Option.some Jvm.ClassFile.FieldType.int)) ∈ lw_all := lw_g (lw_at lw_m2 12 rfl) rfl
theorem q270 : (Jvm.Cond.instanceMethod ({ cls := "DeltaCyclesModel", name := "run", desc := "(II)I" } : Jvm.MethodName)) ∈ lw_all := lw_g (lw_at lw_m2 14 rfl) rfl
theorem q271 : (Jvm.Cond.selects "DeltaCyclesModel" ({ cls := "DeltaCyclesModel", name := "run", desc := "(II)I" } : Jvm.MethodName) ({ cls := "DeltaCyclesModel", name := "run", desc := "(II)I" } : Jvm.MethodName)) ∈ lw_all := lw_g (lw_at lw_m2 15 rfl) rfl
theorem q272 : (Jvm.Cond.code ({ cls := "DeltaCyclesModel", name := "run", desc := "(II)I" } : Jvm.MethodName) prog_3_method_12_code (6 : Nat) (Option.some Jvm.ClassFile.FieldType.int)) ∈ lw_all := lw_g (lw_at lw_m2 16 rfl) rfl
theorem q273 : (Jvm.Cond.methodLink "DeltaCyclesModel" (86 : Nat) ({ cls := "DeltaCyclesModel", name := "step", desc := "()I" } : Jvm.MethodName)) ∈ lw_all := lw_g (lw_at lw_m2 17 rfl) rfl
theorem q275 : (Jvm.Cond.instanceMethod ({ cls := "DeltaCyclesModel", name := "reset", desc := "()V" } : Jvm.MethodName)) ∈ lw_all := lw_g (lw_at lw_m2 19 rfl) rfl
theorem q276 : (Jvm.Cond.selects "DeltaCyclesModel" ({ cls := "DeltaCyclesModel", name := "reset", desc := "()V" } : Jvm.MethodName) ({ cls := "DeltaCyclesModel", name := "reset", desc := "()V" } : Jvm.MethodName)) ∈ lw_all := lw_g (lw_at lw_m2 20 rfl) rfl
theorem q277 : (Jvm.Cond.code ({ cls := "DeltaCyclesModel", name := "reset", desc := "()V" } : Jvm.MethodName) prog_3_method_13_code (2 : Nat) (Option.none : Option Jvm.ClassFile.FieldType)) ∈ lw_all := lw_g (lw_at lw_m2 21 rfl) rfl
theorem q279 : (Jvm.Cond.instanceMethod ({ cls := "DeltaCyclesModel", name := "value", desc := "(I)I" } : Jvm.MethodName)) ∈ lw_all := lw_g (lw_at lw_m2 23 rfl) rfl
theorem q280 : (Jvm.Cond.selects "DeltaCyclesModel" ({ cls := "DeltaCyclesModel", name := "value", desc := "(I)I" } : Jvm.MethodName) ({ cls := "DeltaCyclesModel", name := "value", desc := "(I)I" } : Jvm.MethodName)) ∈ lw_all := lw_g (lw_at lw_m2 24 rfl) rfl
theorem q281 : (Jvm.Cond.code ({ cls := "DeltaCyclesModel", name := "value", desc := "(I)I" } : Jvm.MethodName) prog_3_method_14_code (2 : Nat) (Option.some Jvm.ClassFile.FieldType.int)) ∈ lw_all := lw_g (lw_at lw_m2 25 rfl) rfl
theorem q283 : (Jvm.Cond.instanceMethod ({ cls := "DeltaCyclesModel", name := "time", desc := "()I" } : Jvm.MethodName)) ∈ lw_all := lw_g (lw_at lw_m2 27 rfl) rfl
theorem q284 : (Jvm.Cond.selects "DeltaCyclesModel" ({ cls := "DeltaCyclesModel", name := "time", desc := "()I" } : Jvm.MethodName) ({ cls := "DeltaCyclesModel", name := "time", desc := "()I" } : Jvm.MethodName)) ∈ lw_all := lw_g (lw_at lw_m2 28 rfl) rfl
theorem q285 : (Jvm.Cond.code ({ cls := "DeltaCyclesModel", name := "time", desc := "()I" } : Jvm.MethodName) prog_3_method_15_code (1 : Nat) (Option.some Jvm.ClassFile.FieldType.int)) ∈ lw_all := lw_g (lw_at lw_m2 29 rfl) rfl
theorem q287 : (Jvm.Cond.instanceMethod ({ cls := "DeltaCyclesModel", name := "pending", desc := "()I" } : Jvm.MethodName)) ∈ lw_all := lw_g (lw_at lw_m2 31 rfl) rfl
theorem q288 : (Jvm.Cond.selects "DeltaCyclesModel" ({ cls := "DeltaCyclesModel", name := "pending", desc := "()I" } : Jvm.MethodName) ({ cls := "DeltaCyclesModel", name := "pending", desc := "()I" } : Jvm.MethodName)) ∈ lw_all := lw_g (lw_at lw_m2 32 rfl) rfl
theorem q289 : (Jvm.Cond.code ({ cls := "DeltaCyclesModel", name := "pending", desc := "()I" } : Jvm.MethodName) prog_3_method_16_code (1 : Nat) (Option.some Jvm.ClassFile.FieldType.int)) ∈ lw_all := lw_g (lw_at lw_m2 33 rfl) rfl
theorem q292 : (Jvm.Cond.instanceMethod ({ cls := "DeltaCyclesModel", name := "events", desc := "(I)I" } : Jvm.MethodName)) ∈ lw_all := lw_g (lw_at lw_m2 36 rfl) rfl
theorem q293 : (Jvm.Cond.selects "DeltaCyclesModel" ({ cls := "DeltaCyclesModel", name := "events", desc := "(I)I" } : Jvm.MethodName) ({ cls := "DeltaCyclesModel", name := "events", desc := "(I)I" } : Jvm.MethodName)) ∈ lw_all := lw_g (lw_at lw_m2 37 rfl) rfl
theorem q294 : (Jvm.Cond.code ({ cls := "DeltaCyclesModel", name := "events", desc := "(I)I" } : Jvm.MethodName) prog_3_method_18_code (2 : Nat) (Option.some Jvm.ClassFile.FieldType.int)) ∈ lw_all := lw_g (lw_at lw_m2 38 rfl) rfl
theorem q296 : (Jvm.Cond.instanceMethod ({ cls := "DeltaCyclesModel", name := "cycles", desc := "()I" } : Jvm.MethodName)) ∈ lw_all := lw_g (lw_at lw_m2 40 rfl) rfl
theorem q297 : (Jvm.Cond.selects "DeltaCyclesModel" ({ cls := "DeltaCyclesModel", name := "cycles", desc := "()I" } : Jvm.MethodName) ({ cls := "DeltaCyclesModel", name := "cycles", desc := "()I" } : Jvm.MethodName)) ∈ lw_all := lw_g (lw_at lw_m2 41 rfl) rfl
theorem q298 : (Jvm.Cond.code ({ cls := "DeltaCyclesModel", name := "cycles", desc := "()I" } : Jvm.MethodName) prog_3_method_19_code (1 : Nat) (Option.some Jvm.ClassFile.FieldType.int)) ∈ lw_all := lw_g (lw_at lw_m2 42 rfl) rfl
theorem q300 : (Jvm.Cond.instanceMethod ({ cls := "DeltaCyclesModel", name := "coming", desc := "(I)I" } : Jvm.MethodName)) ∈ lw_all := lw_g (lw_at lw_m2 44 rfl) rfl
theorem q301 : (Jvm.Cond.selects "DeltaCyclesModel" ({ cls := "DeltaCyclesModel", name := "coming", desc := "(I)I" } : Jvm.MethodName) ({ cls := "DeltaCyclesModel", name := "coming", desc := "(I)I" } : Jvm.MethodName)) ∈ lw_all := lw_g (lw_at lw_m2 45 rfl) rfl
theorem q302 : (Jvm.Cond.code ({ cls := "DeltaCyclesModel", name := "coming", desc := "(I)I" } : Jvm.MethodName) prog_3_method_20_code (4 : Nat) (Option.some Jvm.ClassFile.FieldType.int)) ∈ lw_all := lw_g (lw_at lw_m2 46 rfl) rfl
theorem in_X1 : ∀ w ∈ wsX10, w ∈ lw_all := lw_in wsX10 [192, 194, 196, 198, 200, 202, 204, 206, 208, 210, 212, 214, 216, 218, 220] (by decide +kernel) (by decide +kernel)
/-! the law's own entry -/
abbrev cL_law : ByteArray := code
theorem q16 : (Jvm.Cond.initialized "DeltaCyclesLaw") ∈ lw_all := lw_g (lw_at lw_m1 0 rfl) rfl
theorem q19 : (Jvm.Cond.classLink "DeltaCyclesLaw" (7 : Nat) "DeltaCycles") ∈ lw_all := lw_g (lw_at lw_m1 3 rfl) rfl
theorem q21 : (Jvm.Cond.methodLink "DeltaCyclesLaw" (9 : Nat) ({ cls := "DeltaCycles", name := "<init>", desc := "()V" } : Jvm.MethodName)) ∈ lw_all := lw_g (lw_at lw_m1 5 rfl) rfl
theorem q71 : (Jvm.Cond.methodLink "DeltaCyclesLaw" (13 : Nat) ({ cls := "DeltaCycles", name := "process", desc := "(IIII)I" } : Jvm.MethodName)) ∈ lw_all := lw_g (lw_at lw_m1 55 rfl) rfl
theorem q78 : (Jvm.Cond.methodLink "DeltaCyclesLaw" (18 : Nat) ({ cls := "DeltaCycles", name := "drive", desc := "(III)I" } : Jvm.MethodName)) ∈ lw_all := lw_g (lw_at lw_m1 62 rfl) rfl
theorem q97 : (Jvm.Cond.methodLink "DeltaCyclesLaw" (23 : Nat) ({ cls := "DeltaCycles", name := "poke", desc := "(I)I" } : Jvm.MethodName)) ∈ lw_all := lw_g (lw_at lw_m1 81 rfl) rfl
theorem q113 : (Jvm.Cond.methodLink "DeltaCyclesLaw" (28 : Nat) ({ cls := "DeltaCycles", name := "step", desc := "()I" } : Jvm.MethodName)) ∈ lw_all := lw_g (lw_at lw_m1 97 rfl) rfl
theorem q133 : (Jvm.Cond.methodLink "DeltaCyclesLaw" (33 : Nat) ({ cls := "DeltaCycles", name := "run", desc := "(II)I" } : Jvm.MethodName)) ∈ lw_all := lw_g (lw_at lw_m1 117 rfl) rfl
theorem q142 : (Jvm.Cond.methodLink "DeltaCyclesLaw" (38 : Nat) ({ cls := "DeltaCycles", name := "reset", desc := "()V" } : Jvm.MethodName)) ∈ lw_all := lw_g (lw_at lw_m1 126 rfl) rfl
theorem q146 : (Jvm.Cond.methodLink "DeltaCyclesLaw" (42 : Nat) ({ cls := "DeltaCycles", name := "value", desc := "(I)I" } : Jvm.MethodName)) ∈ lw_all := lw_g (lw_at lw_m1 130 rfl) rfl
theorem q150 : (Jvm.Cond.methodLink "DeltaCyclesLaw" (46 : Nat) ({ cls := "DeltaCycles", name := "time", desc := "()I" } : Jvm.MethodName)) ∈ lw_all := lw_g (lw_at lw_m1 134 rfl) rfl
theorem q154 : (Jvm.Cond.methodLink "DeltaCyclesLaw" (50 : Nat) ({ cls := "DeltaCycles", name := "pending", desc := "()I" } : Jvm.MethodName)) ∈ lw_all := lw_g (lw_at lw_m1 138 rfl) rfl
theorem q155 : (Jvm.Cond.methodLink "DeltaCyclesLaw" (54 : Nat) ({ cls := "DeltaCycles", name := "nextTime", desc := "()I" } : Jvm.MethodName)) ∈ lw_all := lw_g (lw_at lw_m1 139 rfl) rfl
theorem q159 : (Jvm.Cond.methodLink "DeltaCyclesLaw" (58 : Nat) ({ cls := "DeltaCycles", name := "events", desc := "(I)I" } : Jvm.MethodName)) ∈ lw_all := lw_g (lw_at lw_m1 143 rfl) rfl
theorem q163 : (Jvm.Cond.methodLink "DeltaCyclesLaw" (62 : Nat) ({ cls := "DeltaCycles", name := "cycles", desc := "()I" } : Jvm.MethodName)) ∈ lw_all := lw_g (lw_at lw_m1 147 rfl) rfl
theorem q167 : (Jvm.Cond.methodLink "DeltaCyclesLaw" (66 : Nat) ({ cls := "DeltaCycles", name := "coming", desc := "(I)I" } : Jvm.MethodName)) ∈ lw_all := lw_g (lw_at lw_m1 151 rfl) rfl
theorem q171 : (Jvm.Cond.classLink "DeltaCyclesLaw" (10 : Nat) "DeltaCyclesModel") ∈ lw_all := lw_g (lw_at lw_m1 155 rfl) rfl
theorem q173 : (Jvm.Cond.methodLink "DeltaCyclesLaw" (12 : Nat) ({ cls := "DeltaCyclesModel", name := "<init>", desc := "()V" } : Jvm.MethodName)) ∈ lw_all := lw_g (lw_at lw_m1 157 rfl) rfl
theorem q224 : (Jvm.Cond.methodLink "DeltaCyclesLaw" (17 : Nat) ({ cls := "DeltaCyclesModel", name := "process", desc := "(IIII)I" } : Jvm.MethodName)) ∈ lw_all := lw_g (lw_at lw_m1 208 rfl) rfl
theorem q229 : (Jvm.Cond.methodLink "DeltaCyclesLaw" (22 : Nat) ({ cls := "DeltaCyclesModel", name := "drive", desc := "(III)I" } : Jvm.MethodName)) ∈ lw_all := lw_g (lw_at lw_m1 213 rfl) rfl
theorem q245 : (Jvm.Cond.methodLink "DeltaCyclesLaw" (27 : Nat) ({ cls := "DeltaCyclesModel", name := "poke", desc := "(I)I" } : Jvm.MethodName)) ∈ lw_all := lw_g (lw_at lw_m1 229 rfl) rfl
theorem q253 : (Jvm.Cond.methodLink "DeltaCyclesLaw" (32 : Nat) ({ cls := "DeltaCyclesModel", name := "step", desc := "()I" } : Jvm.MethodName)) ∈ lw_all := lw_g (lw_at lw_m1 237 rfl) rfl
theorem q269 : (Jvm.Cond.methodLink "DeltaCyclesLaw" (37 : Nat) ({ cls := "DeltaCyclesModel", name := "run", desc := "(II)I" } : Jvm.MethodName)) ∈ lw_all := lw_g (lw_at lw_m2 13 rfl) rfl
theorem q274 : (Jvm.Cond.methodLink "DeltaCyclesLaw" (41 : Nat) ({ cls := "DeltaCyclesModel", name := "reset", desc := "()V" } : Jvm.MethodName)) ∈ lw_all := lw_g (lw_at lw_m2 18 rfl) rfl
theorem q278 : (Jvm.Cond.methodLink "DeltaCyclesLaw" (45 : Nat) ({ cls := "DeltaCyclesModel", name := "value", desc := "(I)I" } : Jvm.MethodName)) ∈ lw_all := lw_g (lw_at lw_m2 22 rfl) rfl
theorem q282 : (Jvm.Cond.methodLink "DeltaCyclesLaw" (49 : Nat) ({ cls := "DeltaCyclesModel", name := "time", desc := "()I" } : Jvm.MethodName)) ∈ lw_all := lw_g (lw_at lw_m2 26 rfl) rfl
theorem q286 : (Jvm.Cond.methodLink "DeltaCyclesLaw" (53 : Nat) ({ cls := "DeltaCyclesModel", name := "pending", desc := "()I" } : Jvm.MethodName)) ∈ lw_all := lw_g (lw_at lw_m2 30 rfl) rfl
theorem q290 : (Jvm.Cond.methodLink "DeltaCyclesLaw" (57 : Nat) ({ cls := "DeltaCyclesModel", name := "nextTime", desc := "()I" } : Jvm.MethodName)) ∈ lw_all := lw_g (lw_at lw_m2 34 rfl) rfl
theorem q291 : (Jvm.Cond.methodLink "DeltaCyclesLaw" (61 : Nat) ({ cls := "DeltaCyclesModel", name := "events", desc := "(I)I" } : Jvm.MethodName)) ∈ lw_all := lw_g (lw_at lw_m2 35 rfl) rfl
theorem q295 : (Jvm.Cond.methodLink "DeltaCyclesLaw" (65 : Nat) ({ cls := "DeltaCyclesModel", name := "cycles", desc := "()I" } : Jvm.MethodName)) ∈ lw_all := lw_g (lw_at lw_m2 39 rfl) rfl
theorem q299 : (Jvm.Cond.methodLink "DeltaCyclesLaw" (69 : Nat) ({ cls := "DeltaCyclesModel", name := "coming", desc := "(I)I" } : Jvm.MethodName)) ∈ lw_all := lw_g (lw_at lw_m2 43 rfl) rfl
end
section
set_option maxRecDepth 100000
theorem dX0_init_0 : decode cX0_init 0 = .ok (.aload_n 0, 1) := by decide +kernel
theorem dX0_init_1 : decode cX0_init 1 = .ok (.invokespecial 1, 3) := by decide +kernel
theorem dX0_init_4 : decode cX0_init 4 = .ok (.aload_n 0, 1) := by decide +kernel
theorem dX0_init_5 : decode cX0_init 5 = .ok (.bipush 12, 2) := by decide +kernel
theorem dX0_init_7 : decode cX0_init 7 = .ok (.newarray .int, 2) := by decide +kernel
theorem dX0_init_9 : decode cX0_init 9 = .ok (.putfield 7, 3) := by decide +kernel
theorem dX0_init_12 : decode cX0_init 12 = .ok (.aload_n 0, 1) := by decide +kernel
theorem dX0_init_13 : decode cX0_init 13 = .ok (.bipush 12, 2) := by decide +kernel
theorem dX0_init_15 : decode cX0_init 15 = .ok (.newarray .int, 2) := by decide +kernel
theorem dX0_init_17 : decode cX0_init 17 = .ok (.putfield 13, 3) := by decide +kernel
theorem dX0_init_20 : decode cX0_init 20 = .ok (.aload_n 0, 1) := by decide +kernel
theorem dX0_init_21 : decode cX0_init 21 = .ok (.bipush 8, 2) := by decide +kernel
theorem dX0_init_23 : decode cX0_init 23 = .ok (.newarray .int, 2) := by decide +kernel
theorem dX0_init_25 : decode cX0_init 25 = .ok (.putfield 16, 3) := by decide +kernel
theorem dX0_init_28 : decode cX0_init 28 = .ok (.aload_n 0, 1) := by decide +kernel
theorem dX0_init_29 : decode cX0_init 29 = .ok (.bipush 8, 2) := by decide +kernel
theorem dX0_init_31 : decode cX0_init 31 = .ok (.newarray .int, 2) := by decide +kernel
theorem dX0_init_33 : decode cX0_init 33 = .ok (.putfield 19, 3) := by decide +kernel
theorem dX0_init_36 : decode cX0_init 36 = .ok (.aload_n 0, 1) := by decide +kernel
theorem dX0_init_37 : decode cX0_init 37 = .ok (.bipush 8, 2) := by decide +kernel
theorem dX0_init_39 : decode cX0_init 39 = .ok (.newarray .int, 2) := by decide +kernel
theorem dX0_init_41 : decode cX0_init 41 = .ok (.putfield 22, 3) := by decide +kernel
theorem dX0_init_44 : decode cX0_init 44 = .ok (.aload_n 0, 1) := by decide +kernel
theorem dX0_init_45 : decode cX0_init 45 = .ok (.bipush 8, 2) := by decide +kernel
theorem dX0_init_47 : decode cX0_init 47 = .ok (.newarray .int, 2) := by decide +kernel
theorem dX0_init_49 : decode cX0_init 49 = .ok (.putfield 25, 3) := by decide +kernel
theorem dX0_init_52 : decode cX0_init 52 = .ok (.aload_n 0, 1) := by decide +kernel
theorem dX0_init_53 : decode cX0_init 53 = .ok (.bipush 8, 2) := by decide +kernel
theorem dX0_init_55 : decode cX0_init 55 = .ok (.newarray .int, 2) := by decide +kernel
theorem dX0_init_57 : decode cX0_init 57 = .ok (.putfield 28, 3) := by decide +kernel
theorem dX0_init_60 : decode cX0_init 60 = .ok (.aload_n 0, 1) := by decide +kernel
theorem dX0_init_61 : decode cX0_init 61 = .ok (.bipush 12, 2) := by decide +kernel
theorem dX0_init_63 : decode cX0_init 63 = .ok (.newarray .int, 2) := by decide +kernel
theorem dX0_init_65 : decode cX0_init 65 = .ok (.putfield 31, 3) := by decide +kernel
theorem dX0_init_68 : decode cX0_init 68 = .ok (.aload_n 0, 1) := by decide +kernel
theorem dX0_init_69 : decode cX0_init 69 = .ok (.bipush 10, 2) := by decide +kernel
theorem dX0_init_71 : decode cX0_init 71 = .ok (.newarray .int, 2) := by decide +kernel
theorem dX0_init_73 : decode cX0_init 73 = .ok (.putfield 34, 3) := by decide +kernel
theorem dX0_init_76 : decode cX0_init 76 = .ok (.aload_n 0, 1) := by decide +kernel
theorem dX0_init_77 : decode cX0_init 77 = .ok (.bipush 120, 2) := by decide +kernel
theorem dX0_init_79 : decode cX0_init 79 = .ok (.newarray .int, 2) := by decide +kernel
theorem dX0_init_81 : decode cX0_init 81 = .ok (.putfield 37, 3) := by decide +kernel
theorem dX0_init_84 : decode cX0_init 84 = .ok (.aload_n 0, 1) := by decide +kernel
theorem dX0_init_85 : decode cX0_init 85 = .ok (.iconst 0, 1) := by decide +kernel
theorem dX0_init_86 : decode cX0_init 86 = .ok (.putfield 40, 3) := by decide +kernel
theorem dX0_init_89 : decode cX0_init 89 = .ok (.return_, 1) := by decide +kernel
theorem dX0_process_0 : decode cX0_process 0 = .ok (.iconst 0, 1) := by decide +kernel
theorem dX0_process_1 : decode cX0_process 1 = .ok (.istore 5, 2) := by decide +kernel
theorem dX0_process_3 : decode cX0_process 3 = .ok (.iload 5, 2) := by decide +kernel
theorem dX0_process_5 : decode cX0_process 5 = .ok (.iconst 4, 1) := by decide +kernel
theorem dX0_process_6 : decode cX0_process 6 = .ok (.if_icmp .ge 26, 3) := by decide +kernel
theorem dX0_process_9 : decode cX0_process 9 = .ok (.iload_n 2, 1) := by decide +kernel
theorem dX0_process_10 : decode cX0_process 10 = .ok (.iconst 4, 1) := by decide +kernel
theorem dX0_process_11 : decode cX0_process 11 = .ok (.iload 5, 2) := by decide +kernel
theorem dX0_process_13 : decode cX0_process 13 = .ok (.imul, 1) := by decide +kernel
theorem dX0_process_14 : decode cX0_process 14 = .ok (.ishr, 1) := by decide +kernel
theorem dX0_process_15 : decode cX0_process 15 = .ok (.bipush 15, 2) := by decide +kernel
theorem dX0_process_17 : decode cX0_process 17 = .ok (.iand, 1) := by decide +kernel
theorem dX0_process_18 : decode cX0_process 18 = .ok (.invokestatic 44, 3) := by decide +kernel
theorem dX0_process_21 : decode cX0_process 21 = .ok (.ifCond .eq 5, 3) := by decide +kernel
theorem dX0_process_24 : decode cX0_process 24 = .ok (.iconst (-1), 1) := by decide +kernel
theorem dX0_process_25 : decode cX0_process 25 = .ok (.ireturn, 1) := by decide +kernel
theorem dX0_process_26 : decode cX0_process 26 = .ok (.iinc 5 1, 3) := by decide +kernel
theorem dX0_process_29 : decode cX0_process 29 = .ok (.goto (-26), 3) := by decide +kernel
theorem dX0_process_32 : decode cX0_process 32 = .ok (.iload_n 1, 1) := by decide +kernel
theorem dX0_process_33 : decode cX0_process 33 = .ok (.bipush 7, 2) := by decide +kernel
theorem dX0_process_35 : decode cX0_process 35 = .ok (.iand, 1) := by decide +kernel
theorem dX0_process_36 : decode cX0_process 36 = .ok (.istore 5, 2) := by decide +kernel
theorem dX0_process_38 : decode cX0_process 38 = .ok (.iload_n 1, 1) := by decide +kernel
theorem dX0_process_39 : decode cX0_process 39 = .ok (.iconst 4, 1) := by decide +kernel
theorem dX0_process_40 : decode cX0_process 40 = .ok (.ishr, 1) := by decide +kernel
theorem dX0_process_41 : decode cX0_process 41 = .ok (.bipush 15, 2) := by decide +kernel
theorem dX0_process_43 : decode cX0_process 43 = .ok (.iand, 1) := by decide +kernel
theorem dX0_process_44 : decode cX0_process 44 = .ok (.istore 6, 2) := by decide +kernel
theorem dX0_process_46 : decode cX0_process 46 = .ok (.iload 5, 2) := by decide +kernel
theorem dX0_process_48 : decode cX0_process 48 = .ok (.iconst 5, 1) := by decide +kernel
theorem dX0_process_49 : decode cX0_process 49 = .ok (.if_icmp .le 6, 3) := by decide +kernel
theorem dX0_process_52 : decode cX0_process 52 = .ok (.bipush (-2), 2) := by decide +kernel
theorem dX0_process_54 : decode cX0_process 54 = .ok (.ireturn, 1) := by decide +kernel
theorem dX0_process_55 : decode cX0_process 55 = .ok (.iload 6, 2) := by decide +kernel
theorem dX0_process_57 : decode cX0_process 57 = .ok (.bipush 9, 2) := by decide +kernel
theorem dX0_process_59 : decode cX0_process 59 = .ok (.if_icmp .le 6, 3) := by decide +kernel
theorem dX0_process_62 : decode cX0_process 62 = .ok (.bipush (-3), 2) := by decide +kernel
theorem dX0_process_64 : decode cX0_process 64 = .ok (.ireturn, 1) := by decide +kernel
theorem dX0_process_65 : decode cX0_process 65 = .ok (.aload_n 0, 1) := by decide +kernel
theorem dX0_process_66 : decode cX0_process 66 = .ok (.getfield 48, 3) := by decide +kernel
theorem dX0_process_69 : decode cX0_process 69 = .ok (.bipush 8, 2) := by decide +kernel
theorem dX0_process_71 : decode cX0_process 71 = .ok (.if_icmp .lt 6, 3) := by decide +kernel
theorem dX0_process_74 : decode cX0_process 74 = .ok (.bipush (-4), 2) := by decide +kernel
theorem dX0_process_76 : decode cX0_process 76 = .ok (.ireturn, 1) := by decide +kernel
theorem dX0_process_77 : decode cX0_process 77 = .ok (.aload_n 0, 1) := by decide +kernel
theorem dX0_process_78 : decode cX0_process 78 = .ok (.getfield 48, 3) := by decide +kernel
theorem dX0_process_81 : decode cX0_process 81 = .ok (.istore 7, 2) := by decide +kernel
theorem dX0_process_83 : decode cX0_process 83 = .ok (.aload_n 0, 1) := by decide +kernel
theorem dX0_process_84 : decode cX0_process 84 = .ok (.getfield 16, 3) := by decide +kernel
theorem dX0_process_87 : decode cX0_process 87 = .ok (.iload 7, 2) := by decide +kernel
theorem dX0_process_89 : decode cX0_process 89 = .ok (.iload 5, 2) := by decide +kernel
theorem dX0_process_91 : decode cX0_process 91 = .ok (.iastore, 1) := by decide +kernel
theorem dX0_process_92 : decode cX0_process 92 = .ok (.aload_n 0, 1) := by decide +kernel
theorem dX0_process_93 : decode cX0_process 93 = .ok (.getfield 19, 3) := by decide +kernel
theorem dX0_process_96 : decode cX0_process 96 = .ok (.iload 7, 2) := by decide +kernel
theorem dX0_process_98 : decode cX0_process 98 = .ok (.iload 6, 2) := by decide +kernel
theorem dX0_process_100 : decode cX0_process 100 = .ok (.iastore, 1) := by decide +kernel
theorem dX0_process_101 : decode cX0_process 101 = .ok (.aload_n 0, 1) := by decide +kernel
theorem dX0_process_102 : decode cX0_process 102 = .ok (.getfield 22, 3) := by decide +kernel
theorem dX0_process_105 : decode cX0_process 105 = .ok (.iload 7, 2) := by decide +kernel
theorem dX0_process_107 : decode cX0_process 107 = .ok (.iload_n 2, 1) := by decide +kernel
theorem dX0_process_108 : decode cX0_process 108 = .ok (.iastore, 1) := by decide +kernel
theorem dX0_process_109 : decode cX0_process 109 = .ok (.aload_n 0, 1) := by decide +kernel
theorem dX0_process_110 : decode cX0_process 110 = .ok (.getfield 25, 3) := by decide +kernel
theorem dX0_process_113 : decode cX0_process 113 = .ok (.iload 7, 2) := by decide +kernel
theorem dX0_process_115 : decode cX0_process 115 = .ok (.iload_n 3, 1) := by decide +kernel
theorem dX0_process_116 : decode cX0_process 116 = .ok (.iastore, 1) := by decide +kernel
theorem dX0_process_117 : decode cX0_process 117 = .ok (.aload_n 0, 1) := by decide +kernel
theorem dX0_process_118 : decode cX0_process 118 = .ok (.getfield 28, 3) := by decide +kernel
theorem dX0_process_121 : decode cX0_process 121 = .ok (.iload 7, 2) := by decide +kernel
theorem dX0_process_123 : decode cX0_process 123 = .ok (.iload 4, 2) := by decide +kernel
theorem dX0_process_125 : decode cX0_process 125 = .ok (.sipush 4095, 3) := by decide +kernel
theorem dX0_process_128 : decode cX0_process 128 = .ok (.iand, 1) := by decide +kernel
theorem dX0_process_129 : decode cX0_process 129 = .ok (.iastore, 1) := by decide +kernel
theorem dX0_process_130 : decode cX0_process 130 = .ok (.aload_n 0, 1) := by decide +kernel
theorem dX0_process_131 : decode cX0_process 131 = .ok (.dup, 1) := by decide +kernel
theorem dX0_process_132 : decode cX0_process 132 = .ok (.getfield 48, 3) := by decide +kernel
theorem dX0_process_135 : decode cX0_process 135 = .ok (.iconst 1, 1) := by decide +kernel
theorem dX0_process_136 : decode cX0_process 136 = .ok (.iadd, 1) := by decide +kernel
theorem dX0_process_137 : decode cX0_process 137 = .ok (.putfield 48, 3) := by decide +kernel
theorem dX0_process_140 : decode cX0_process 140 = .ok (.iload 7, 2) := by decide +kernel
theorem dX0_process_142 : decode cX0_process 142 = .ok (.ireturn, 1) := by decide +kernel
theorem dX0_bad_0 : decode cX0_bad 0 = .ok (.iload_n 0, 1) := by decide +kernel
theorem dX0_bad_1 : decode cX0_bad 1 = .ok (.ifCond .lt 9, 3) := by decide +kernel
theorem dX0_bad_4 : decode cX0_bad 4 = .ok (.iload_n 0, 1) := by decide +kernel
theorem dX0_bad_5 : decode cX0_bad 5 = .ok (.bipush 12, 2) := by decide +kernel
theorem dX0_bad_7 : decode cX0_bad 7 = .ok (.if_icmp .lt 7, 3) := by decide +kernel
theorem dX0_bad_10 : decode cX0_bad 10 = .ok (.iconst 1, 1) := by decide +kernel
theorem dX0_bad_11 : decode cX0_bad 11 = .ok (.goto 4, 3) := by decide +kernel
theorem dX0_bad_14 : decode cX0_bad 14 = .ok (.iconst 0, 1) := by decide +kernel
theorem dX0_bad_15 : decode cX0_bad 15 = .ok (.ireturn, 1) := by decide +kernel
theorem dX0_drive_0 : decode cX0_drive 0 = .ok (.iload_n 1, 1) := by decide +kernel
theorem dX0_drive_1 : decode cX0_drive 1 = .ok (.invokestatic 44, 3) := by decide +kernel
theorem dX0_drive_4 : decode cX0_drive 4 = .ok (.ifCond .eq 5, 3) := by decide +kernel
theorem dX0_drive_7 : decode cX0_drive 7 = .ok (.iconst (-1), 1) := by decide +kernel
theorem dX0_drive_8 : decode cX0_drive 8 = .ok (.ireturn, 1) := by decide +kernel
theorem dX0_drive_9 : decode cX0_drive 9 = .ok (.iload_n 3, 1) := by decide +kernel
theorem dX0_drive_10 : decode cX0_drive 10 = .ok (.ifCond .lt 9, 3) := by decide +kernel
theorem dX0_drive_13 : decode cX0_drive 13 = .ok (.iload_n 3, 1) := by decide +kernel
theorem dX0_drive_14 : decode cX0_drive 14 = .ok (.bipush 9, 2) := by decide +kernel
theorem dX0_drive_16 : decode cX0_drive 16 = .ok (.if_icmp .le 6, 3) := by decide +kernel
theorem dX0_drive_19 : decode cX0_drive 19 = .ok (.bipush (-3), 2) := by decide +kernel
theorem dX0_drive_21 : decode cX0_drive 21 = .ok (.ireturn, 1) := by decide +kernel
theorem dX0_drive_22 : decode cX0_drive 22 = .ok (.aload_n 0, 1) := by decide +kernel
theorem dX0_drive_23 : decode cX0_drive 23 = .ok (.iload_n 1, 1) := by decide +kernel
theorem dX0_drive_24 : decode cX0_drive 24 = .ok (.iload_n 2, 1) := by decide +kernel
theorem dX0_drive_25 : decode cX0_drive 25 = .ok (.iload_n 3, 1) := by decide +kernel
theorem dX0_drive_26 : decode cX0_drive 26 = .ok (.invokevirtual 58, 3) := by decide +kernel
theorem dX0_drive_29 : decode cX0_drive 29 = .ok (.aload_n 0, 1) := by decide +kernel
theorem dX0_drive_30 : decode cX0_drive 30 = .ok (.invokevirtual 62, 3) := by decide +kernel
theorem dX0_drive_33 : decode cX0_drive 33 = .ok (.ireturn, 1) := by decide +kernel
theorem dX0_putDown_0 : decode cX0_putDown 0 = .ok (.iconst 1, 1) := by decide +kernel
theorem dX0_putDown_1 : decode cX0_putDown 1 = .ok (.iload_n 1, 1) := by decide +kernel
theorem dX0_putDown_2 : decode cX0_putDown 2 = .ok (.ishl, 1) := by decide +kernel
theorem dX0_putDown_3 : decode cX0_putDown 3 = .ok (.istore 4, 2) := by decide +kernel
theorem dX0_putDown_5 : decode cX0_putDown 5 = .ok (.iload_n 3, 1) := by decide +kernel
theorem dX0_putDown_6 : decode cX0_putDown 6 = .ok (.ifCond .le 7, 3) := by decide +kernel
theorem dX0_putDown_9 : decode cX0_putDown 9 = .ok (.iload_n 3, 1) := by decide +kernel
theorem dX0_putDown_10 : decode cX0_putDown 10 = .ok (.goto 4, 3) := by decide +kernel
theorem dX0_putDown_13 : decode cX0_putDown 13 = .ok (.iconst 1, 1) := by decide +kernel
theorem dX0_putDown_14 : decode cX0_putDown 14 = .ok (.istore 5, 2) := by decide +kernel
theorem dX0_putDown_16 : decode cX0_putDown 16 = .ok (.iload 5, 2) := by decide +kernel
theorem dX0_putDown_18 : decode cX0_putDown 18 = .ok (.bipush 10, 2) := by decide +kernel
theorem dX0_putDown_20 : decode cX0_putDown 20 = .ok (.if_icmp .ge 27, 3) := by decide +kernel
theorem dX0_putDown_23 : decode cX0_putDown 23 = .ok (.aload_n 0, 1) := by decide +kernel
theorem dX0_putDown_24 : decode cX0_putDown 24 = .ok (.getfield 34, 3) := by decide +kernel
theorem dX0_putDown_27 : decode cX0_putDown 27 = .ok (.aload_n 0, 1) := by decide +kernel
theorem dX0_putDown_28 : decode cX0_putDown 28 = .ok (.iload 5, 2) := by decide +kernel
theorem dX0_putDown_30 : decode cX0_putDown 30 = .ok (.invokevirtual 51, 3) := by decide +kernel
theorem dX0_putDown_33 : decode cX0_putDown 33 = .ok (.dup2, 1) := by decide +kernel
theorem dX0_putDown_34 : decode cX0_putDown 34 = .ok (.iaload, 1) := by decide +kernel
theorem dX0_putDown_35 : decode cX0_putDown 35 = .ok (.iload 4, 2) := by decide +kernel
theorem dX0_putDown_37 : decode cX0_putDown 37 = .ok (.iconst (-1), 1) := by decide +kernel
theorem dX0_putDown_38 : decode cX0_putDown 38 = .ok (.ixor, 1) := by decide +kernel
theorem dX0_putDown_39 : decode cX0_putDown 39 = .ok (.iand, 1) := by decide +kernel
theorem dX0_putDown_40 : decode cX0_putDown 40 = .ok (.iastore, 1) := by decide +kernel
theorem dX0_putDown_41 : decode cX0_putDown 41 = .ok (.iinc 5 1, 3) := by decide +kernel
theorem dX0_putDown_44 : decode cX0_putDown 44 = .ok (.goto (-28), 3) := by decide +kernel
theorem dX0_putDown_47 : decode cX0_putDown 47 = .ok (.iload_n 3, 1) := by decide +kernel
theorem dX0_putDown_48 : decode cX0_putDown 48 = .ok (.ifCond .ne 22, 3) := by decide +kernel
theorem dX0_putDown_51 : decode cX0_putDown 51 = .ok (.aload_n 0, 1) := by decide +kernel
theorem dX0_putDown_52 : decode cX0_putDown 52 = .ok (.dup, 1) := by decide +kernel
theorem dX0_putDown_53 : decode cX0_putDown 53 = .ok (.getfield 55, 3) := by decide +kernel
theorem dX0_putDown_56 : decode cX0_putDown 56 = .ok (.iload 4, 2) := by decide +kernel
theorem dX0_putDown_58 : decode cX0_putDown 58 = .ok (.ior, 1) := by decide +kernel
theorem dX0_putDown_59 : decode cX0_putDown 59 = .ok (.putfield 55, 3) := by decide +kernel
theorem dX0_putDown_62 : decode cX0_putDown 62 = .ok (.aload_n 0, 1) := by decide +kernel
theorem dX0_putDown_63 : decode cX0_putDown 63 = .ok (.getfield 31, 3) := by decide +kernel
theorem dX0_putDown_66 : decode cX0_putDown 66 = .ok (.iload_n 1, 1) := by decide +kernel
theorem dX0_putDown_67 : decode cX0_putDown 67 = .ok (.iload_n 2, 1) := by decide +kernel
theorem dX0_putDown_68 : decode cX0_putDown 68 = .ok (.iastore, 1) := by decide +kernel
theorem dX0_putDown_69 : decode cX0_putDown 69 = .ok (.return_, 1) := by decide +kernel
theorem dX0_putDown_70 : decode cX0_putDown 70 = .ok (.aload_n 0, 1) := by decide +kernel
theorem dX0_putDown_71 : decode cX0_putDown 71 = .ok (.iload_n 3, 1) := by decide +kernel
theorem dX0_putDown_72 : decode cX0_putDown 72 = .ok (.invokevirtual 51, 3) := by decide +kernel
theorem dX0_putDown_75 : decode cX0_putDown 75 = .ok (.istore 5, 2) := by decide +kernel
theorem dX0_putDown_77 : decode cX0_putDown 77 = .ok (.aload_n 0, 1) := by decide +kernel
theorem dX0_putDown_78 : decode cX0_putDown 78 = .ok (.getfield 34, 3) := by decide +kernel
theorem dX0_putDown_81 : decode cX0_putDown 81 = .ok (.iload 5, 2) := by decide +kernel
theorem dX0_putDown_83 : decode cX0_putDown 83 = .ok (.dup2, 1) := by decide +kernel
theorem dX0_putDown_84 : decode cX0_putDown 84 = .ok (.iaload, 1) := by decide +kernel
theorem dX0_putDown_85 : decode cX0_putDown 85 = .ok (.iload 4, 2) := by decide +kernel
theorem dX0_putDown_87 : decode cX0_putDown 87 = .ok (.ior, 1) := by decide +kernel
theorem dX0_putDown_88 : decode cX0_putDown 88 = .ok (.iastore, 1) := by decide +kernel
theorem dX0_putDown_89 : decode cX0_putDown 89 = .ok (.aload_n 0, 1) := by decide +kernel
theorem dX0_putDown_90 : decode cX0_putDown 90 = .ok (.getfield 37, 3) := by decide +kernel
theorem dX0_putDown_93 : decode cX0_putDown 93 = .ok (.iload 5, 2) := by decide +kernel
theorem dX0_putDown_95 : decode cX0_putDown 95 = .ok (.bipush 12, 2) := by decide +kernel
theorem dX0_putDown_97 : decode cX0_putDown 97 = .ok (.imul, 1) := by decide +kernel
theorem dX0_putDown_98 : decode cX0_putDown 98 = .ok (.iload_n 1, 1) := by decide +kernel
theorem dX0_putDown_99 : decode cX0_putDown 99 = .ok (.iadd, 1) := by decide +kernel
theorem dX0_putDown_100 : decode cX0_putDown 100 = .ok (.iload_n 2, 1) := by decide +kernel
theorem dX0_putDown_101 : decode cX0_putDown 101 = .ok (.iastore, 1) := by decide +kernel
theorem dX0_putDown_102 : decode cX0_putDown 102 = .ok (.return_, 1) := by decide +kernel
theorem dX0_slotAfter_0 : decode cX0_slotAfter 0 = .ok (.aload_n 0, 1) := by decide +kernel
theorem dX0_slotAfter_1 : decode cX0_slotAfter 1 = .ok (.getfield 40, 3) := by decide +kernel
theorem dX0_slotAfter_4 : decode cX0_slotAfter 4 = .ok (.iload_n 1, 1) := by decide +kernel
theorem dX0_slotAfter_5 : decode cX0_slotAfter 5 = .ok (.iadd, 1) := by decide +kernel
theorem dX0_slotAfter_6 : decode cX0_slotAfter 6 = .ok (.bipush 10, 2) := by decide +kernel
theorem dX0_slotAfter_8 : decode cX0_slotAfter 8 = .ok (.irem, 1) := by decide +kernel
theorem dX0_slotAfter_9 : decode cX0_slotAfter 9 = .ok (.ireturn, 1) := by decide +kernel
theorem dX0_pending_0 : decode cX0_pending 0 = .ok (.aload_n 0, 1) := by decide +kernel
theorem dX0_pending_1 : decode cX0_pending 1 = .ok (.getfield 55, 3) := by decide +kernel
theorem dX0_pending_4 : decode cX0_pending 4 = .ok (.invokestatic 93, 3) := by decide +kernel
theorem dX0_pending_7 : decode cX0_pending 7 = .ok (.istore_n 1, 1) := by decide +kernel
theorem dX0_pending_8 : decode cX0_pending 8 = .ok (.iconst 0, 1) := by decide +kernel
theorem dX0_pending_9 : decode cX0_pending 9 = .ok (.istore_n 2, 1) := by decide +kernel
theorem dX0_pending_10 : decode cX0_pending 10 = .ok (.iload_n 2, 1) := by decide +kernel
theorem dX0_pending_11 : decode cX0_pending 11 = .ok (.bipush 10, 2) := by decide +kernel
theorem dX0_pending_13 : decode cX0_pending 13 = .ok (.if_icmp .ge 21, 3) := by decide +kernel
theorem dX0_pending_16 : decode cX0_pending 16 = .ok (.iload_n 1, 1) := by decide +kernel
theorem dX0_pending_17 : decode cX0_pending 17 = .ok (.aload_n 0, 1) := by decide +kernel
theorem dX0_pending_18 : decode cX0_pending 18 = .ok (.getfield 34, 3) := by decide +kernel
theorem dX0_pending_21 : decode cX0_pending 21 = .ok (.iload_n 2, 1) := by decide +kernel
theorem dX0_pending_22 : decode cX0_pending 22 = .ok (.iaload, 1) := by decide +kernel
theorem dX0_pending_23 : decode cX0_pending 23 = .ok (.invokestatic 93, 3) := by decide +kernel
theorem dX0_pending_26 : decode cX0_pending 26 = .ok (.iadd, 1) := by decide +kernel
theorem dX0_pending_27 : decode cX0_pending 27 = .ok (.istore_n 1, 1) := by decide +kernel
theorem dX0_pending_28 : decode cX0_pending 28 = .ok (.iinc 2 1, 3) := by decide +kernel
theorem dX0_pending_31 : decode cX0_pending 31 = .ok (.goto (-21), 3) := by decide +kernel
theorem dX0_pending_34 : decode cX0_pending 34 = .ok (.iload_n 1, 1) := by decide +kernel
theorem dX0_pending_35 : decode cX0_pending 35 = .ok (.ireturn, 1) := by decide +kernel
theorem dX0_bits_0 : decode cX0_bits 0 = .ok (.iconst 0, 1) := by decide +kernel
theorem dX0_bits_1 : decode cX0_bits 1 = .ok (.istore_n 1, 1) := by decide +kernel
theorem dX0_bits_2 : decode cX0_bits 2 = .ok (.iconst 0, 1) := by decide +kernel
theorem dX0_bits_3 : decode cX0_bits 3 = .ok (.istore_n 2, 1) := by decide +kernel
theorem dX0_bits_4 : decode cX0_bits 4 = .ok (.iload_n 2, 1) := by decide +kernel
theorem dX0_bits_5 : decode cX0_bits 5 = .ok (.bipush 12, 2) := by decide +kernel
theorem dX0_bits_7 : decode cX0_bits 7 = .ok (.if_icmp .ge 17, 3) := by decide +kernel
theorem dX0_bits_10 : decode cX0_bits 10 = .ok (.iload_n 1, 1) := by decide +kernel
theorem dX0_bits_11 : decode cX0_bits 11 = .ok (.iload_n 0, 1) := by decide +kernel
theorem dX0_bits_12 : decode cX0_bits 12 = .ok (.iload_n 2, 1) := by decide +kernel
theorem dX0_bits_13 : decode cX0_bits 13 = .ok (.ishr, 1) := by decide +kernel
theorem dX0_bits_14 : decode cX0_bits 14 = .ok (.iconst 1, 1) := by decide +kernel
theorem dX0_bits_15 : decode cX0_bits 15 = .ok (.iand, 1) := by decide +kernel
theorem dX0_bits_16 : decode cX0_bits 16 = .ok (.iadd, 1) := by decide +kernel
theorem dX0_bits_17 : decode cX0_bits 17 = .ok (.istore_n 1, 1) := by decide +kernel
theorem dX0_bits_18 : decode cX0_bits 18 = .ok (.iinc 2 1, 3) := by decide +kernel
theorem dX0_bits_21 : decode cX0_bits 21 = .ok (.goto (-17), 3) := by decide +kernel
theorem dX0_bits_24 : decode cX0_bits 24 = .ok (.iload_n 1, 1) := by decide +kernel
theorem dX0_bits_25 : decode cX0_bits 25 = .ok (.ireturn, 1) := by decide +kernel
theorem dX0_poke_0 : decode cX0_poke 0 = .ok (.iload_n 1, 1) := by decide +kernel
theorem dX0_poke_1 : decode cX0_poke 1 = .ok (.ifCond .lt 11, 3) := by decide +kernel
theorem dX0_poke_4 : decode cX0_poke 4 = .ok (.iload_n 1, 1) := by decide +kernel
theorem dX0_poke_5 : decode cX0_poke 5 = .ok (.aload_n 0, 1) := by decide +kernel
theorem dX0_poke_6 : decode cX0_poke 6 = .ok (.getfield 48, 3) := by decide +kernel
theorem dX0_poke_9 : decode cX0_poke 9 = .ok (.if_icmp .lt 6, 3) := by decide +kernel
theorem dX0_poke_12 : decode cX0_poke 12 = .ok (.bipush (-2), 2) := by decide +kernel
theorem dX0_poke_14 : decode cX0_poke 14 = .ok (.ireturn, 1) := by decide +kernel
theorem dX0_poke_15 : decode cX0_poke 15 = .ok (.aload_n 0, 1) := by decide +kernel
theorem dX0_poke_16 : decode cX0_poke 16 = .ok (.iload_n 1, 1) := by decide +kernel
theorem dX0_poke_17 : decode cX0_poke 17 = .ok (.invokevirtual 73, 3) := by decide +kernel
theorem dX0_poke_20 : decode cX0_poke 20 = .ok (.aload_n 0, 1) := by decide +kernel
theorem dX0_poke_21 : decode cX0_poke 21 = .ok (.invokevirtual 62, 3) := by decide +kernel
theorem dX0_poke_24 : decode cX0_poke 24 = .ok (.ireturn, 1) := by decide +kernel
theorem dX0_carryOut_0 : decode cX0_carryOut 0 = .ok (.aload_n 0, 1) := by decide +kernel
theorem dX0_carryOut_1 : decode cX0_carryOut 1 = .ok (.iload_n 1, 1) := by decide +kernel
theorem dX0_carryOut_2 : decode cX0_carryOut 2 = .ok (.invokevirtual 70, 3) := by decide +kernel
theorem dX0_carryOut_5 : decode cX0_carryOut 5 = .ok (.istore_n 2, 1) := by decide +kernel
theorem dX0_carryOut_6 : decode cX0_carryOut 6 = .ok (.aload_n 0, 1) := by decide +kernel
theorem dX0_carryOut_7 : decode cX0_carryOut 7 = .ok (.iload_n 1, 1) := by decide +kernel
theorem dX0_carryOut_8 : decode cX0_carryOut 8 = .ok (.iconst 3, 1) := by decide +kernel
theorem dX0_carryOut_9 : decode cX0_carryOut 9 = .ok (.invokevirtual 66, 3) := by decide +kernel
theorem dX0_carryOut_12 : decode cX0_carryOut 12 = .ok (.istore_n 3, 1) := by decide +kernel
theorem dX0_carryOut_13 : decode cX0_carryOut 13 = .ok (.aload_n 0, 1) := by decide +kernel
theorem dX0_carryOut_14 : decode cX0_carryOut 14 = .ok (.iload_n 3, 1) := by decide +kernel
theorem dX0_carryOut_15 : decode cX0_carryOut 15 = .ok (.iload_n 2, 1) := by decide +kernel
theorem dX0_carryOut_16 : decode cX0_carryOut 16 = .ok (.aload_n 0, 1) := by decide +kernel
theorem dX0_carryOut_17 : decode cX0_carryOut 17 = .ok (.getfield 19, 3) := by decide +kernel
theorem dX0_carryOut_20 : decode cX0_carryOut 20 = .ok (.iload_n 1, 1) := by decide +kernel
theorem dX0_carryOut_21 : decode cX0_carryOut 21 = .ok (.iaload, 1) := by decide +kernel
theorem dX0_carryOut_22 : decode cX0_carryOut 22 = .ok (.invokevirtual 58, 3) := by decide +kernel
theorem dX0_carryOut_25 : decode cX0_carryOut 25 = .ok (.return_, 1) := by decide +kernel
theorem dX0_result_0 : decode cX0_result 0 = .ok (.aload_n 0, 1) := by decide +kernel
theorem dX0_result_1 : decode cX0_result 1 = .ok (.getfield 7, 3) := by decide +kernel
theorem dX0_result_4 : decode cX0_result 4 = .ok (.aload_n 0, 1) := by decide +kernel
theorem dX0_result_5 : decode cX0_result 5 = .ok (.iload_n 1, 1) := by decide +kernel
theorem dX0_result_6 : decode cX0_result 6 = .ok (.iconst 0, 1) := by decide +kernel
theorem dX0_result_7 : decode cX0_result 7 = .ok (.invokevirtual 66, 3) := by decide +kernel
theorem dX0_result_10 : decode cX0_result 10 = .ok (.iaload, 1) := by decide +kernel
theorem dX0_result_11 : decode cX0_result 11 = .ok (.istore_n 2, 1) := by decide +kernel
theorem dX0_result_12 : decode cX0_result 12 = .ok (.aload_n 0, 1) := by decide +kernel
theorem dX0_result_13 : decode cX0_result 13 = .ok (.getfield 7, 3) := by decide +kernel
theorem dX0_result_16 : decode cX0_result 16 = .ok (.aload_n 0, 1) := by decide +kernel
theorem dX0_result_17 : decode cX0_result 17 = .ok (.iload_n 1, 1) := by decide +kernel
theorem dX0_result_18 : decode cX0_result 18 = .ok (.iconst 1, 1) := by decide +kernel
theorem dX0_result_19 : decode cX0_result 19 = .ok (.invokevirtual 66, 3) := by decide +kernel
theorem dX0_result_22 : decode cX0_result 22 = .ok (.iaload, 1) := by decide +kernel
theorem dX0_result_23 : decode cX0_result 23 = .ok (.istore_n 3, 1) := by decide +kernel
theorem dX0_result_24 : decode cX0_result 24 = .ok (.aload_n 0, 1) := by decide +kernel
theorem dX0_result_25 : decode cX0_result 25 = .ok (.getfield 16, 3) := by decide +kernel
theorem dX0_result_28 : decode cX0_result 28 = .ok (.iload_n 1, 1) := by decide +kernel
theorem dX0_result_29 : decode cX0_result 29 = .ok (.iaload, 1) := by decide +kernel
theorem dX0_result_30 : decode cX0_result 30 = .ok (.tableswitch 75 0 4 #[34, 38, 42, 46, 55], 34) := by decide +kernel
theorem dX0_result_64 : decode cX0_result 64 = .ok (.iload_n 2, 1) := by decide +kernel
theorem dX0_result_65 : decode cX0_result 65 = .ok (.iload_n 3, 1) := by decide +kernel
theorem dX0_result_66 : decode cX0_result 66 = .ok (.iadd, 1) := by decide +kernel
theorem dX0_result_67 : decode cX0_result 67 = .ok (.ireturn, 1) := by decide +kernel
theorem dX0_result_68 : decode cX0_result 68 = .ok (.iload_n 2, 1) := by decide +kernel
theorem dX0_result_69 : decode cX0_result 69 = .ok (.iload_n 3, 1) := by decide +kernel
theorem dX0_result_70 : decode cX0_result 70 = .ok (.iand, 1) := by decide +kernel
theorem dX0_result_71 : decode cX0_result 71 = .ok (.ireturn, 1) := by decide +kernel
theorem dX0_result_72 : decode cX0_result 72 = .ok (.iload_n 2, 1) := by decide +kernel
theorem dX0_result_73 : decode cX0_result 73 = .ok (.iload_n 3, 1) := by decide +kernel
theorem dX0_result_74 : decode cX0_result 74 = .ok (.ixor, 1) := by decide +kernel
theorem dX0_result_75 : decode cX0_result 75 = .ok (.ireturn, 1) := by decide +kernel
theorem dX0_result_76 : decode cX0_result 76 = .ok (.iload_n 2, 1) := by decide +kernel
theorem dX0_result_77 : decode cX0_result 77 = .ok (.aload_n 0, 1) := by decide +kernel
theorem dX0_result_78 : decode cX0_result 78 = .ok (.getfield 25, 3) := by decide +kernel
theorem dX0_result_81 : decode cX0_result 81 = .ok (.iload_n 1, 1) := by decide +kernel
theorem dX0_result_82 : decode cX0_result 82 = .ok (.iaload, 1) := by decide +kernel
theorem dX0_result_83 : decode cX0_result 83 = .ok (.iadd, 1) := by decide +kernel
theorem dX0_result_84 : decode cX0_result 84 = .ok (.ireturn, 1) := by decide +kernel
theorem dX0_result_85 : decode cX0_result 85 = .ok (.aload_n 0, 1) := by decide +kernel
theorem dX0_result_86 : decode cX0_result 86 = .ok (.getfield 7, 3) := by decide +kernel
theorem dX0_result_89 : decode cX0_result 89 = .ok (.aload_n 0, 1) := by decide +kernel
theorem dX0_result_90 : decode cX0_result 90 = .ok (.iload_n 1, 1) := by decide +kernel
theorem dX0_result_91 : decode cX0_result 91 = .ok (.iconst 2, 1) := by decide +kernel
theorem dX0_result_92 : decode cX0_result 92 = .ok (.invokevirtual 66, 3) := by decide +kernel
theorem dX0_result_95 : decode cX0_result 95 = .ok (.iaload, 1) := by decide +kernel
theorem dX0_result_96 : decode cX0_result 96 = .ok (.ifCond .eq 7, 3) := by decide +kernel
theorem dX0_result_99 : decode cX0_result 99 = .ok (.iload_n 2, 1) := by decide +kernel
theorem dX0_result_100 : decode cX0_result 100 = .ok (.goto 4, 3) := by decide +kernel
theorem dX0_result_103 : decode cX0_result 103 = .ok (.iload_n 3, 1) := by decide +kernel
theorem dX0_result_104 : decode cX0_result 104 = .ok (.ireturn, 1) := by decide +kernel
theorem dX0_result_105 : decode cX0_result 105 = .ok (.iload_n 2, 1) := by decide +kernel
theorem dX0_result_106 : decode cX0_result 106 = .ok (.iconst (-1), 1) := by decide +kernel
theorem dX0_result_107 : decode cX0_result 107 = .ok (.ixor, 1) := by decide +kernel
theorem dX0_result_108 : decode cX0_result 108 = .ok (.ireturn, 1) := by decide +kernel
theorem dX0_part_0 : decode cX0_part 0 = .ok (.aload_n 0, 1) := by decide +kernel
theorem dX0_part_1 : decode cX0_part 1 = .ok (.getfield 22, 3) := by decide +kernel
theorem dX0_part_4 : decode cX0_part 4 = .ok (.iload_n 1, 1) := by decide +kernel
theorem dX0_part_5 : decode cX0_part 5 = .ok (.iaload, 1) := by decide +kernel
theorem dX0_part_6 : decode cX0_part 6 = .ok (.iconst 4, 1) := by decide +kernel
theorem dX0_part_7 : decode cX0_part 7 = .ok (.iload_n 2, 1) := by decide +kernel
theorem dX0_part_8 : decode cX0_part 8 = .ok (.imul, 1) := by decide +kernel
theorem dX0_part_9 : decode cX0_part 9 = .ok (.ishr, 1) := by decide +kernel
theorem dX0_part_10 : decode cX0_part 10 = .ok (.bipush 15, 2) := by decide +kernel
theorem dX0_part_12 : decode cX0_part 12 = .ok (.iand, 1) := by decide +kernel
theorem dX0_part_13 : decode cX0_part 13 = .ok (.ireturn, 1) := by decide +kernel
theorem dX0_step_0 : decode cX0_step 0 = .ok (.aload_n 0, 1) := by decide +kernel
theorem dX0_step_1 : decode cX0_step 1 = .ok (.invokevirtual 84, 3) := by decide +kernel
theorem dX0_step_4 : decode cX0_step 4 = .ok (.istore_n 1, 1) := by decide +kernel
theorem dX0_step_5 : decode cX0_step 5 = .ok (.iload_n 1, 1) := by decide +kernel
theorem dX0_step_6 : decode cX0_step 6 = .ok (.ifCond .ge 6, 3) := by decide +kernel
theorem dX0_step_9 : decode cX0_step 9 = .ok (.bipush (-5), 2) := by decide +kernel
theorem dX0_step_11 : decode cX0_step 11 = .ok (.ireturn, 1) := by decide +kernel
theorem dX0_step_12 : decode cX0_step 12 = .ok (.aload_n 0, 1) := by decide +kernel
theorem dX0_step_13 : decode cX0_step 13 = .ok (.iload_n 1, 1) := by decide +kernel
theorem dX0_step_14 : decode cX0_step 14 = .ok (.invokevirtual 87, 3) := by decide +kernel
theorem dX0_step_17 : decode cX0_step 17 = .ok (.istore_n 2, 1) := by decide +kernel
theorem dX0_step_18 : decode cX0_step 18 = .ok (.aload_n 0, 1) := by decide +kernel
theorem dX0_step_19 : decode cX0_step 19 = .ok (.dup, 1) := by decide +kernel
theorem dX0_step_20 : decode cX0_step 20 = .ok (.getfield 90, 3) := by decide +kernel
theorem dX0_step_23 : decode cX0_step 23 = .ok (.iconst 1, 1) := by decide +kernel
theorem dX0_step_24 : decode cX0_step 24 = .ok (.iadd, 1) := by decide +kernel
theorem dX0_step_25 : decode cX0_step 25 = .ok (.putfield 90, 3) := by decide +kernel
theorem dX0_step_28 : decode cX0_step 28 = .ok (.iconst 0, 1) := by decide +kernel
theorem dX0_step_29 : decode cX0_step 29 = .ok (.istore_n 3, 1) := by decide +kernel
theorem dX0_step_30 : decode cX0_step 30 = .ok (.iload_n 3, 1) := by decide +kernel
theorem dX0_step_31 : decode cX0_step 31 = .ok (.aload_n 0, 1) := by decide +kernel
theorem dX0_step_32 : decode cX0_step 32 = .ok (.getfield 48, 3) := by decide +kernel
theorem dX0_step_35 : decode cX0_step 35 = .ok (.if_icmp .ge 25, 3) := by decide +kernel
theorem dX0_step_38 : decode cX0_step 38 = .ok (.aload_n 0, 1) := by decide +kernel
theorem dX0_step_39 : decode cX0_step 39 = .ok (.getfield 28, 3) := by decide +kernel
theorem dX0_step_42 : decode cX0_step 42 = .ok (.iload_n 3, 1) := by decide +kernel
theorem dX0_step_43 : decode cX0_step 43 = .ok (.iaload, 1) := by decide +kernel
theorem dX0_step_44 : decode cX0_step 44 = .ok (.iload_n 2, 1) := by decide +kernel
theorem dX0_step_45 : decode cX0_step 45 = .ok (.iand, 1) := by decide +kernel
theorem dX0_step_46 : decode cX0_step 46 = .ok (.ifCond .eq 8, 3) := by decide +kernel
theorem dX0_step_49 : decode cX0_step 49 = .ok (.aload_n 0, 1) := by decide +kernel
theorem dX0_step_50 : decode cX0_step 50 = .ok (.iload_n 3, 1) := by decide +kernel
theorem dX0_step_51 : decode cX0_step 51 = .ok (.invokevirtual 73, 3) := by decide +kernel
theorem dX0_step_54 : decode cX0_step 54 = .ok (.iinc 3 1, 3) := by decide +kernel
theorem dX0_step_57 : decode cX0_step 57 = .ok (.goto (-27), 3) := by decide +kernel
theorem dX0_step_60 : decode cX0_step 60 = .ok (.iload_n 2, 1) := by decide +kernel
theorem dX0_step_61 : decode cX0_step 61 = .ok (.invokestatic 93, 3) := by decide +kernel
theorem dX0_step_64 : decode cX0_step 64 = .ok (.ireturn, 1) := by decide +kernel
theorem dX0_nextUnits_0 : decode cX0_nextUnits 0 = .ok (.aload_n 0, 1) := by decide +kernel
theorem dX0_nextUnits_1 : decode cX0_nextUnits 1 = .ok (.getfield 55, 3) := by decide +kernel
theorem dX0_nextUnits_4 : decode cX0_nextUnits 4 = .ok (.ifCond .eq 5, 3) := by decide +kernel
theorem dX0_nextUnits_7 : decode cX0_nextUnits 7 = .ok (.iconst 0, 1) := by decide +kernel
theorem dX0_nextUnits_8 : decode cX0_nextUnits 8 = .ok (.ireturn, 1) := by decide +kernel
theorem dX0_nextUnits_9 : decode cX0_nextUnits 9 = .ok (.iconst 1, 1) := by decide +kernel
theorem dX0_nextUnits_10 : decode cX0_nextUnits 10 = .ok (.istore_n 1, 1) := by decide +kernel
theorem dX0_nextUnits_11 : decode cX0_nextUnits 11 = .ok (.iload_n 1, 1) := by decide +kernel
theorem dX0_nextUnits_12 : decode cX0_nextUnits 12 = .ok (.bipush 10, 2) := by decide +kernel
theorem dX0_nextUnits_14 : decode cX0_nextUnits 14 = .ok (.if_icmp .ge 24, 3) := by decide +kernel
theorem dX0_nextUnits_17 : decode cX0_nextUnits 17 = .ok (.aload_n 0, 1) := by decide +kernel
theorem dX0_nextUnits_18 : decode cX0_nextUnits 18 = .ok (.getfield 34, 3) := by decide +kernel
theorem dX0_nextUnits_21 : decode cX0_nextUnits 21 = .ok (.aload_n 0, 1) := by decide +kernel
theorem dX0_nextUnits_22 : decode cX0_nextUnits 22 = .ok (.iload_n 1, 1) := by decide +kernel
theorem dX0_nextUnits_23 : decode cX0_nextUnits 23 = .ok (.invokevirtual 51, 3) := by decide +kernel
theorem dX0_nextUnits_26 : decode cX0_nextUnits 26 = .ok (.iaload, 1) := by decide +kernel
theorem dX0_nextUnits_27 : decode cX0_nextUnits 27 = .ok (.ifCond .eq 5, 3) := by decide +kernel
theorem dX0_nextUnits_30 : decode cX0_nextUnits 30 = .ok (.iload_n 1, 1) := by decide +kernel
theorem dX0_nextUnits_31 : decode cX0_nextUnits 31 = .ok (.ireturn, 1) := by decide +kernel
theorem dX0_nextUnits_32 : decode cX0_nextUnits 32 = .ok (.iinc 1 1, 3) := by decide +kernel
theorem dX0_nextUnits_35 : decode cX0_nextUnits 35 = .ok (.goto (-24), 3) := by decide +kernel
theorem dX0_nextUnits_38 : decode cX0_nextUnits 38 = .ok (.iconst (-1), 1) := by decide +kernel
theorem dX0_nextUnits_39 : decode cX0_nextUnits 39 = .ok (.ireturn, 1) := by decide +kernel
theorem dX0_takeChanges_0 : decode cX0_takeChanges 0 = .ok (.iconst 0, 1) := by decide +kernel
theorem dX0_takeChanges_1 : decode cX0_takeChanges 1 = .ok (.istore_n 2, 1) := by decide +kernel
theorem dX0_takeChanges_2 : decode cX0_takeChanges 2 = .ok (.iload_n 1, 1) := by decide +kernel
theorem dX0_takeChanges_3 : decode cX0_takeChanges 3 = .ok (.ifCond .ne 57, 3) := by decide +kernel
theorem dX0_takeChanges_6 : decode cX0_takeChanges 6 = .ok (.aload_n 0, 1) := by decide +kernel
theorem dX0_takeChanges_7 : decode cX0_takeChanges 7 = .ok (.getfield 55, 3) := by decide +kernel
theorem dX0_takeChanges_10 : decode cX0_takeChanges 10 = .ok (.istore_n 3, 1) := by decide +kernel
theorem dX0_takeChanges_11 : decode cX0_takeChanges 11 = .ok (.aload_n 0, 1) := by decide +kernel
theorem dX0_takeChanges_12 : decode cX0_takeChanges 12 = .ok (.iconst 0, 1) := by decide +kernel
theorem dX0_takeChanges_13 : decode cX0_takeChanges 13 = .ok (.putfield 55, 3) := by decide +kernel
theorem dX0_takeChanges_16 : decode cX0_takeChanges 16 = .ok (.iconst 0, 1) := by decide +kernel
theorem dX0_takeChanges_17 : decode cX0_takeChanges 17 = .ok (.istore 4, 2) := by decide +kernel
theorem dX0_takeChanges_19 : decode cX0_takeChanges 19 = .ok (.iload 4, 2) := by decide +kernel
theorem dX0_takeChanges_21 : decode cX0_takeChanges 21 = .ok (.bipush 12, 2) := by decide +kernel
theorem dX0_takeChanges_23 : decode cX0_takeChanges 23 = .ok (.if_icmp .ge 35, 3) := by decide +kernel
theorem dX0_takeChanges_26 : decode cX0_takeChanges 26 = .ok (.iload_n 3, 1) := by decide +kernel
theorem dX0_takeChanges_27 : decode cX0_takeChanges 27 = .ok (.iload 4, 2) := by decide +kernel
theorem dX0_takeChanges_29 : decode cX0_takeChanges 29 = .ok (.ishr, 1) := by decide +kernel
theorem dX0_takeChanges_30 : decode cX0_takeChanges 30 = .ok (.iconst 1, 1) := by decide +kernel
theorem dX0_takeChanges_31 : decode cX0_takeChanges 31 = .ok (.iand, 1) := by decide +kernel
theorem dX0_takeChanges_32 : decode cX0_takeChanges 32 = .ok (.iconst 1, 1) := by decide +kernel
theorem dX0_takeChanges_33 : decode cX0_takeChanges 33 = .ok (.if_icmp .ne 19, 3) := by decide +kernel
theorem dX0_takeChanges_36 : decode cX0_takeChanges 36 = .ok (.iload_n 2, 1) := by decide +kernel
theorem dX0_takeChanges_37 : decode cX0_takeChanges 37 = .ok (.aload_n 0, 1) := by decide +kernel
theorem dX0_takeChanges_38 : decode cX0_takeChanges 38 = .ok (.iload 4, 2) := by decide +kernel
theorem dX0_takeChanges_40 : decode cX0_takeChanges 40 = .ok (.aload_n 0, 1) := by decide +kernel
theorem dX0_takeChanges_41 : decode cX0_takeChanges 41 = .ok (.getfield 31, 3) := by decide +kernel
theorem dX0_takeChanges_44 : decode cX0_takeChanges 44 = .ok (.iload 4, 2) := by decide +kernel
theorem dX0_takeChanges_46 : decode cX0_takeChanges 46 = .ok (.iaload, 1) := by decide +kernel
theorem dX0_takeChanges_47 : decode cX0_takeChanges 47 = .ok (.invokevirtual 77, 3) := by decide +kernel
theorem dX0_takeChanges_50 : decode cX0_takeChanges 50 = .ok (.ior, 1) := by decide +kernel
theorem dX0_takeChanges_51 : decode cX0_takeChanges 51 = .ok (.istore_n 2, 1) := by decide +kernel
theorem dX0_takeChanges_52 : decode cX0_takeChanges 52 = .ok (.iinc 4 1, 3) := by decide +kernel
theorem dX0_takeChanges_55 : decode cX0_takeChanges 55 = .ok (.goto (-36), 3) := by decide +kernel
theorem dX0_takeChanges_58 : decode cX0_takeChanges 58 = .ok (.iload_n 2, 1) := by decide +kernel
theorem dX0_takeChanges_59 : decode cX0_takeChanges 59 = .ok (.ireturn, 1) := by decide +kernel
theorem dX0_takeChanges_60 : decode cX0_takeChanges 60 = .ok (.aload_n 0, 1) := by decide +kernel
theorem dX0_takeChanges_61 : decode cX0_takeChanges 61 = .ok (.dup, 1) := by decide +kernel
theorem dX0_takeChanges_62 : decode cX0_takeChanges 62 = .ok (.getfield 40, 3) := by decide +kernel
theorem dX0_takeChanges_65 : decode cX0_takeChanges 65 = .ok (.iload_n 1, 1) := by decide +kernel
theorem dX0_takeChanges_66 : decode cX0_takeChanges 66 = .ok (.iadd, 1) := by decide +kernel
theorem dX0_takeChanges_67 : decode cX0_takeChanges 67 = .ok (.putfield 40, 3) := by decide +kernel
theorem dX0_takeChanges_70 : decode cX0_takeChanges 70 = .ok (.aload_n 0, 1) := by decide +kernel
theorem dX0_takeChanges_71 : decode cX0_takeChanges 71 = .ok (.iconst 0, 1) := by decide +kernel
theorem dX0_takeChanges_72 : decode cX0_takeChanges 72 = .ok (.invokevirtual 51, 3) := by decide +kernel
theorem dX0_takeChanges_75 : decode cX0_takeChanges 75 = .ok (.istore_n 3, 1) := by decide +kernel
theorem dX0_takeChanges_76 : decode cX0_takeChanges 76 = .ok (.aload_n 0, 1) := by decide +kernel
theorem dX0_takeChanges_77 : decode cX0_takeChanges 77 = .ok (.getfield 34, 3) := by decide +kernel
theorem dX0_takeChanges_80 : decode cX0_takeChanges 80 = .ok (.iload_n 3, 1) := by decide +kernel
theorem dX0_takeChanges_81 : decode cX0_takeChanges 81 = .ok (.iaload, 1) := by decide +kernel
theorem dX0_takeChanges_82 : decode cX0_takeChanges 82 = .ok (.istore 4, 2) := by decide +kernel
theorem dX0_takeChanges_84 : decode cX0_takeChanges 84 = .ok (.aload_n 0, 1) := by decide +kernel
theorem dX0_takeChanges_85 : decode cX0_takeChanges 85 = .ok (.getfield 34, 3) := by decide +kernel
theorem dX0_takeChanges_88 : decode cX0_takeChanges 88 = .ok (.iload_n 3, 1) := by decide +kernel
theorem dX0_takeChanges_89 : decode cX0_takeChanges 89 = .ok (.iconst 0, 1) := by decide +kernel
theorem dX0_takeChanges_90 : decode cX0_takeChanges 90 = .ok (.iastore, 1) := by decide +kernel
theorem dX0_takeChanges_91 : decode cX0_takeChanges 91 = .ok (.iconst 0, 1) := by decide +kernel
theorem dX0_takeChanges_92 : decode cX0_takeChanges 92 = .ok (.istore 5, 2) := by decide +kernel
theorem dX0_takeChanges_94 : decode cX0_takeChanges 94 = .ok (.iload 5, 2) := by decide +kernel
theorem dX0_takeChanges_96 : decode cX0_takeChanges 96 = .ok (.bipush 12, 2) := by decide +kernel
theorem dX0_takeChanges_98 : decode cX0_takeChanges 98 = .ok (.if_icmp .ge 41, 3) := by decide +kernel
theorem dX0_takeChanges_101 : decode cX0_takeChanges 101 = .ok (.iload 4, 2) := by decide +kernel
theorem dX0_takeChanges_103 : decode cX0_takeChanges 103 = .ok (.iload 5, 2) := by decide +kernel
theorem dX0_takeChanges_105 : decode cX0_takeChanges 105 = .ok (.ishr, 1) := by decide +kernel
theorem dX0_takeChanges_106 : decode cX0_takeChanges 106 = .ok (.iconst 1, 1) := by decide +kernel
theorem dX0_takeChanges_107 : decode cX0_takeChanges 107 = .ok (.iand, 1) := by decide +kernel
theorem dX0_takeChanges_108 : decode cX0_takeChanges 108 = .ok (.iconst 1, 1) := by decide +kernel
theorem dX0_takeChanges_109 : decode cX0_takeChanges 109 = .ok (.if_icmp .ne 24, 3) := by decide +kernel
theorem dX0_takeChanges_112 : decode cX0_takeChanges 112 = .ok (.iload_n 2, 1) := by decide +kernel
theorem dX0_takeChanges_113 : decode cX0_takeChanges 113 = .ok (.aload_n 0, 1) := by decide +kernel
theorem dX0_takeChanges_114 : decode cX0_takeChanges 114 = .ok (.iload 5, 2) := by decide +kernel
theorem dX0_takeChanges_116 : decode cX0_takeChanges 116 = .ok (.aload_n 0, 1) := by decide +kernel
theorem dX0_takeChanges_117 : decode cX0_takeChanges 117 = .ok (.getfield 37, 3) := by decide +kernel
theorem dX0_takeChanges_120 : decode cX0_takeChanges 120 = .ok (.iload_n 3, 1) := by decide +kernel
theorem dX0_takeChanges_121 : decode cX0_takeChanges 121 = .ok (.bipush 12, 2) := by decide +kernel
theorem dX0_takeChanges_123 : decode cX0_takeChanges 123 = .ok (.imul, 1) := by decide +kernel
theorem dX0_takeChanges_124 : decode cX0_takeChanges 124 = .ok (.iload 5, 2) := by decide +kernel
theorem dX0_takeChanges_126 : decode cX0_takeChanges 126 = .ok (.iadd, 1) := by decide +kernel
theorem dX0_takeChanges_127 : decode cX0_takeChanges 127 = .ok (.iaload, 1) := by decide +kernel
theorem dX0_takeChanges_128 : decode cX0_takeChanges 128 = .ok (.invokevirtual 77, 3) := by decide +kernel
theorem dX0_takeChanges_131 : decode cX0_takeChanges 131 = .ok (.ior, 1) := by decide +kernel
theorem dX0_takeChanges_132 : decode cX0_takeChanges 132 = .ok (.istore_n 2, 1) := by decide +kernel
theorem dX0_takeChanges_133 : decode cX0_takeChanges 133 = .ok (.iinc 5 1, 3) := by decide +kernel
theorem dX0_takeChanges_136 : decode cX0_takeChanges 136 = .ok (.goto (-42), 3) := by decide +kernel
theorem dX0_takeChanges_139 : decode cX0_takeChanges 139 = .ok (.iload_n 2, 1) := by decide +kernel
theorem dX0_takeChanges_140 : decode cX0_takeChanges 140 = .ok (.ireturn, 1) := by decide +kernel
theorem dX0_changeBit_0 : decode cX0_changeBit 0 = .ok (.aload_n 0, 1) := by decide +kernel
theorem dX0_changeBit_1 : decode cX0_changeBit 1 = .ok (.iload_n 1, 1) := by decide +kernel
theorem dX0_changeBit_2 : decode cX0_changeBit 2 = .ok (.iload_n 2, 1) := by decide +kernel
theorem dX0_changeBit_3 : decode cX0_changeBit 3 = .ok (.invokevirtual 80, 3) := by decide +kernel
theorem dX0_changeBit_6 : decode cX0_changeBit 6 = .ok (.istore_n 3, 1) := by decide +kernel
theorem dX0_changeBit_7 : decode cX0_changeBit 7 = .ok (.iload_n 3, 1) := by decide +kernel
theorem dX0_changeBit_8 : decode cX0_changeBit 8 = .ok (.ifCond .eq 9, 3) := by decide +kernel
theorem dX0_changeBit_11 : decode cX0_changeBit 11 = .ok (.iconst 1, 1) := by decide +kernel
theorem dX0_changeBit_12 : decode cX0_changeBit 12 = .ok (.iload_n 1, 1) := by decide +kernel
theorem dX0_changeBit_13 : decode cX0_changeBit 13 = .ok (.ishl, 1) := by decide +kernel
theorem dX0_changeBit_14 : decode cX0_changeBit 14 = .ok (.goto 4, 3) := by decide +kernel
theorem dX0_changeBit_17 : decode cX0_changeBit 17 = .ok (.iconst 0, 1) := by decide +kernel
theorem dX0_changeBit_18 : decode cX0_changeBit 18 = .ok (.ireturn, 1) := by decide +kernel
theorem dX0_update_0 : decode cX0_update 0 = .ok (.aload_n 0, 1) := by decide +kernel
theorem dX0_update_1 : decode cX0_update 1 = .ok (.getfield 7, 3) := by decide +kernel
theorem dX0_update_4 : decode cX0_update 4 = .ok (.iload_n 1, 1) := by decide +kernel
theorem dX0_update_5 : decode cX0_update 5 = .ok (.iaload, 1) := by decide +kernel
theorem dX0_update_6 : decode cX0_update 6 = .ok (.iload_n 2, 1) := by decide +kernel
theorem dX0_update_7 : decode cX0_update 7 = .ok (.if_icmp .ne 5, 3) := by decide +kernel
theorem dX0_update_10 : decode cX0_update 10 = .ok (.iconst 0, 1) := by decide +kernel
theorem dX0_update_11 : decode cX0_update 11 = .ok (.ireturn, 1) := by decide +kernel
theorem dX0_update_12 : decode cX0_update 12 = .ok (.aload_n 0, 1) := by decide +kernel
theorem dX0_update_13 : decode cX0_update 13 = .ok (.getfield 7, 3) := by decide +kernel
theorem dX0_update_16 : decode cX0_update 16 = .ok (.iload_n 1, 1) := by decide +kernel
theorem dX0_update_17 : decode cX0_update 17 = .ok (.iload_n 2, 1) := by decide +kernel
theorem dX0_update_18 : decode cX0_update 18 = .ok (.iastore, 1) := by decide +kernel
theorem dX0_update_19 : decode cX0_update 19 = .ok (.aload_n 0, 1) := by decide +kernel
theorem dX0_update_20 : decode cX0_update 20 = .ok (.getfield 13, 3) := by decide +kernel
theorem dX0_update_23 : decode cX0_update 23 = .ok (.iload_n 1, 1) := by decide +kernel
theorem dX0_update_24 : decode cX0_update 24 = .ok (.dup2, 1) := by decide +kernel
theorem dX0_update_25 : decode cX0_update 25 = .ok (.iaload, 1) := by decide +kernel
theorem dX0_update_26 : decode cX0_update 26 = .ok (.iconst 1, 1) := by decide +kernel
theorem dX0_update_27 : decode cX0_update 27 = .ok (.iadd, 1) := by decide +kernel
theorem dX0_update_28 : decode cX0_update 28 = .ok (.iastore, 1) := by decide +kernel
theorem dX0_update_29 : decode cX0_update 29 = .ok (.iconst 1, 1) := by decide +kernel
theorem dX0_update_30 : decode cX0_update 30 = .ok (.ireturn, 1) := by decide +kernel
theorem dX0_run_0 : decode cX0_run 0 = .ok (.iload_n 2, 1) := by decide +kernel
theorem dX0_run_1 : decode cX0_run 1 = .ok (.sipush 200, 3) := by decide +kernel
theorem dX0_run_4 : decode cX0_run 4 = .ok (.if_icmp .le 9, 3) := by decide +kernel
theorem dX0_run_7 : decode cX0_run 7 = .ok (.sipush 200, 3) := by decide +kernel
theorem dX0_run_10 : decode cX0_run 10 = .ok (.goto 4, 3) := by decide +kernel
theorem dX0_run_13 : decode cX0_run 13 = .ok (.iload_n 2, 1) := by decide +kernel
theorem dX0_run_14 : decode cX0_run 14 = .ok (.istore_n 3, 1) := by decide +kernel
theorem dX0_run_15 : decode cX0_run 15 = .ok (.iload_n 1, 1) := by decide +kernel
theorem dX0_run_16 : decode cX0_run 16 = .ok (.istore 4, 2) := by decide +kernel
theorem dX0_run_18 : decode cX0_run 18 = .ok (.iload 4, 2) := by decide +kernel
theorem dX0_run_20 : decode cX0_run 20 = .ok (.ifCond .ge 6, 3) := by decide +kernel
theorem dX0_run_23 : decode cX0_run 23 = .ok (.iconst 0, 1) := by decide +kernel
theorem dX0_run_24 : decode cX0_run 24 = .ok (.istore 4, 2) := by decide +kernel
theorem dX0_run_26 : decode cX0_run 26 = .ok (.iload 4, 2) := by decide +kernel
theorem dX0_run_28 : decode cX0_run 28 = .ok (.sipush 1000, 3) := by decide +kernel
theorem dX0_run_31 : decode cX0_run 31 = .ok (.if_icmp .le 8, 3) := by decide +kernel
theorem dX0_run_34 : decode cX0_run 34 = .ok (.sipush 1000, 3) := by decide +kernel
theorem dX0_run_37 : decode cX0_run 37 = .ok (.istore 4, 2) := by decide +kernel
theorem dX0_run_39 : decode cX0_run 39 = .ok (.aload_n 0, 1) := by decide +kernel
theorem dX0_run_40 : decode cX0_run 40 = .ok (.getfield 40, 3) := by decide +kernel
theorem dX0_run_43 : decode cX0_run 43 = .ok (.iload 4, 2) := by decide +kernel
theorem dX0_run_45 : decode cX0_run 45 = .ok (.iadd, 1) := by decide +kernel
theorem dX0_run_46 : decode cX0_run 46 = .ok (.istore 5, 2) := by decide +kernel
theorem dX0_run_48 : decode cX0_run 48 = .ok (.iconst 0, 1) := by decide +kernel
theorem dX0_run_49 : decode cX0_run 49 = .ok (.istore 6, 2) := by decide +kernel
theorem dX0_run_51 : decode cX0_run 51 = .ok (.aload_n 0, 1) := by decide +kernel
theorem dX0_run_52 : decode cX0_run 52 = .ok (.iload 5, 2) := by decide +kernel
theorem dX0_run_54 : decode cX0_run 54 = .ok (.invokevirtual 96, 3) := by decide +kernel
theorem dX0_run_57 : decode cX0_run 57 = .ok (.istore 7, 2) := by decide +kernel
theorem dX0_run_59 : decode cX0_run 59 = .ok (.iload 6, 2) := by decide +kernel
theorem dX0_run_61 : decode cX0_run 61 = .ok (.iload_n 3, 1) := by decide +kernel
theorem dX0_run_62 : decode cX0_run 62 = .ok (.if_icmp .ge 27, 3) := by decide +kernel
theorem dX0_run_65 : decode cX0_run 65 = .ok (.iload 7, 2) := by decide +kernel
theorem dX0_run_67 : decode cX0_run 67 = .ok (.ifCond .eq 22, 3) := by decide +kernel
theorem dX0_run_70 : decode cX0_run 70 = .ok (.aload_n 0, 1) := by decide +kernel
theorem dX0_run_71 : decode cX0_run 71 = .ok (.invokevirtual 99, 3) := by decide +kernel
theorem dX0_run_74 : decode cX0_run 74 = .ok (.pop, 1) := by decide +kernel
theorem dX0_run_75 : decode cX0_run 75 = .ok (.iinc 6 1, 3) := by decide +kernel
theorem dX0_run_78 : decode cX0_run 78 = .ok (.aload_n 0, 1) := by decide +kernel
theorem dX0_run_79 : decode cX0_run 79 = .ok (.iload 5, 2) := by decide +kernel
theorem dX0_run_81 : decode cX0_run 81 = .ok (.invokevirtual 96, 3) := by decide +kernel
theorem dX0_run_84 : decode cX0_run 84 = .ok (.istore 7, 2) := by decide +kernel
theorem dX0_run_86 : decode cX0_run 86 = .ok (.goto (-27), 3) := by decide +kernel
theorem dX0_run_89 : decode cX0_run 89 = .ok (.iload 6, 2) := by decide +kernel
theorem dX0_run_91 : decode cX0_run 91 = .ok (.ireturn, 1) := by decide +kernel
theorem dX0_due_0 : decode cX0_due 0 = .ok (.aload_n 0, 1) := by decide +kernel
theorem dX0_due_1 : decode cX0_due 1 = .ok (.invokevirtual 84, 3) := by decide +kernel
theorem dX0_due_4 : decode cX0_due 4 = .ok (.istore_n 2, 1) := by decide +kernel
theorem dX0_due_5 : decode cX0_due 5 = .ok (.iload_n 2, 1) := by decide +kernel
theorem dX0_due_6 : decode cX0_due 6 = .ok (.ifCond .lt 17, 3) := by decide +kernel
theorem dX0_due_9 : decode cX0_due 9 = .ok (.aload_n 0, 1) := by decide +kernel
theorem dX0_due_10 : decode cX0_due 10 = .ok (.getfield 40, 3) := by decide +kernel
theorem dX0_due_13 : decode cX0_due 13 = .ok (.iload_n 2, 1) := by decide +kernel
theorem dX0_due_14 : decode cX0_due 14 = .ok (.iadd, 1) := by decide +kernel
theorem dX0_due_15 : decode cX0_due 15 = .ok (.iload_n 1, 1) := by decide +kernel
theorem dX0_due_16 : decode cX0_due 16 = .ok (.if_icmp .gt 7, 3) := by decide +kernel
theorem dX0_due_19 : decode cX0_due 19 = .ok (.iconst 1, 1) := by decide +kernel
theorem dX0_due_20 : decode cX0_due 20 = .ok (.goto 4, 3) := by decide +kernel
theorem dX0_due_23 : decode cX0_due 23 = .ok (.iconst 0, 1) := by decide +kernel
theorem dX0_due_24 : decode cX0_due 24 = .ok (.ireturn, 1) := by decide +kernel
theorem dX0_reset_0 : decode cX0_reset 0 = .ok (.aload_n 0, 1) := by decide +kernel
theorem dX0_reset_1 : decode cX0_reset 1 = .ok (.iconst 0, 1) := by decide +kernel
theorem dX0_reset_2 : decode cX0_reset 2 = .ok (.putfield 40, 3) := by decide +kernel
theorem dX0_reset_5 : decode cX0_reset 5 = .ok (.aload_n 0, 1) := by decide +kernel
theorem dX0_reset_6 : decode cX0_reset 6 = .ok (.iconst 0, 1) := by decide +kernel
theorem dX0_reset_7 : decode cX0_reset 7 = .ok (.putfield 90, 3) := by decide +kernel
theorem dX0_reset_10 : decode cX0_reset 10 = .ok (.aload_n 0, 1) := by decide +kernel
theorem dX0_reset_11 : decode cX0_reset 11 = .ok (.iconst 0, 1) := by decide +kernel
theorem dX0_reset_12 : decode cX0_reset 12 = .ok (.putfield 55, 3) := by decide +kernel
theorem dX0_reset_15 : decode cX0_reset 15 = .ok (.iconst 0, 1) := by decide +kernel
theorem dX0_reset_16 : decode cX0_reset 16 = .ok (.istore_n 1, 1) := by decide +kernel
theorem dX0_reset_17 : decode cX0_reset 17 = .ok (.iload_n 1, 1) := by decide +kernel
theorem dX0_reset_18 : decode cX0_reset 18 = .ok (.bipush 10, 2) := by decide +kernel
theorem dX0_reset_20 : decode cX0_reset 20 = .ok (.if_icmp .ge 16, 3) := by decide +kernel
theorem dX0_reset_23 : decode cX0_reset 23 = .ok (.aload_n 0, 1) := by decide +kernel
theorem dX0_reset_24 : decode cX0_reset 24 = .ok (.getfield 34, 3) := by decide +kernel
theorem dX0_reset_27 : decode cX0_reset 27 = .ok (.iload_n 1, 1) := by decide +kernel
theorem dX0_reset_28 : decode cX0_reset 28 = .ok (.iconst 0, 1) := by decide +kernel
theorem dX0_reset_29 : decode cX0_reset 29 = .ok (.iastore, 1) := by decide +kernel
theorem dX0_reset_30 : decode cX0_reset 30 = .ok (.iinc 1 1, 3) := by decide +kernel
theorem dX0_reset_33 : decode cX0_reset 33 = .ok (.goto (-16), 3) := by decide +kernel
theorem dX0_reset_36 : decode cX0_reset 36 = .ok (.iconst 0, 1) := by decide +kernel
theorem dX0_reset_37 : decode cX0_reset 37 = .ok (.istore_n 1, 1) := by decide +kernel
theorem dX0_reset_38 : decode cX0_reset 38 = .ok (.iload_n 1, 1) := by decide +kernel
theorem dX0_reset_39 : decode cX0_reset 39 = .ok (.bipush 12, 2) := by decide +kernel
theorem dX0_reset_41 : decode cX0_reset 41 = .ok (.if_icmp .ge 23, 3) := by decide +kernel
theorem dX0_reset_44 : decode cX0_reset 44 = .ok (.aload_n 0, 1) := by decide +kernel
theorem dX0_reset_45 : decode cX0_reset 45 = .ok (.getfield 7, 3) := by decide +kernel
theorem dX0_reset_48 : decode cX0_reset 48 = .ok (.iload_n 1, 1) := by decide +kernel
theorem dX0_reset_49 : decode cX0_reset 49 = .ok (.iconst 0, 1) := by decide +kernel
theorem dX0_reset_50 : decode cX0_reset 50 = .ok (.iastore, 1) := by decide +kernel
theorem dX0_reset_51 : decode cX0_reset 51 = .ok (.aload_n 0, 1) := by decide +kernel
theorem dX0_reset_52 : decode cX0_reset 52 = .ok (.getfield 13, 3) := by decide +kernel
theorem dX0_reset_55 : decode cX0_reset 55 = .ok (.iload_n 1, 1) := by decide +kernel
theorem dX0_reset_56 : decode cX0_reset 56 = .ok (.iconst 0, 1) := by decide +kernel
theorem dX0_reset_57 : decode cX0_reset 57 = .ok (.iastore, 1) := by decide +kernel
theorem dX0_reset_58 : decode cX0_reset 58 = .ok (.iinc 1 1, 3) := by decide +kernel
theorem dX0_reset_61 : decode cX0_reset 61 = .ok (.goto (-23), 3) := by decide +kernel
theorem dX0_reset_64 : decode cX0_reset 64 = .ok (.return_, 1) := by decide +kernel
theorem dX0_value_0 : decode cX0_value 0 = .ok (.iload_n 1, 1) := by decide +kernel
theorem dX0_value_1 : decode cX0_value 1 = .ok (.invokestatic 44, 3) := by decide +kernel
theorem dX0_value_4 : decode cX0_value 4 = .ok (.ifCond .eq 7, 3) := by decide +kernel
theorem dX0_value_7 : decode cX0_value 7 = .ok (.iconst 0, 1) := by decide +kernel
theorem dX0_value_8 : decode cX0_value 8 = .ok (.goto 9, 3) := by decide +kernel
theorem dX0_value_11 : decode cX0_value 11 = .ok (.aload_n 0, 1) := by decide +kernel
theorem dX0_value_12 : decode cX0_value 12 = .ok (.getfield 7, 3) := by decide +kernel
theorem dX0_value_15 : decode cX0_value 15 = .ok (.iload_n 1, 1) := by decide +kernel
theorem dX0_value_16 : decode cX0_value 16 = .ok (.iaload, 1) := by decide +kernel
theorem dX0_value_17 : decode cX0_value 17 = .ok (.ireturn, 1) := by decide +kernel
theorem dX0_time_0 : decode cX0_time 0 = .ok (.aload_n 0, 1) := by decide +kernel
theorem dX0_time_1 : decode cX0_time 1 = .ok (.getfield 40, 3) := by decide +kernel
theorem dX0_time_4 : decode cX0_time 4 = .ok (.ireturn, 1) := by decide +kernel
theorem dX0_nextTime_0 : decode cX0_nextTime 0 = .ok (.aload_n 0, 1) := by decide +kernel
theorem dX0_nextTime_1 : decode cX0_nextTime 1 = .ok (.invokevirtual 84, 3) := by decide +kernel
theorem dX0_nextTime_4 : decode cX0_nextTime 4 = .ok (.istore_n 1, 1) := by decide +kernel
theorem dX0_nextTime_5 : decode cX0_nextTime 5 = .ok (.iload_n 1, 1) := by decide +kernel
theorem dX0_nextTime_6 : decode cX0_nextTime 6 = .ok (.ifCond .ge 8, 3) := by decide +kernel
theorem dX0_nextTime_9 : decode cX0_nextTime 9 = .ok (.bipush (-5), 2) := by decide +kernel
theorem dX0_nextTime_11 : decode cX0_nextTime 11 = .ok (.goto 9, 3) := by decide +kernel
theorem dX0_nextTime_14 : decode cX0_nextTime 14 = .ok (.aload_n 0, 1) := by decide +kernel
theorem dX0_nextTime_15 : decode cX0_nextTime 15 = .ok (.getfield 40, 3) := by decide +kernel
theorem dX0_nextTime_18 : decode cX0_nextTime 18 = .ok (.iload_n 1, 1) := by decide +kernel
theorem dX0_nextTime_19 : decode cX0_nextTime 19 = .ok (.iadd, 1) := by decide +kernel
theorem dX0_nextTime_20 : decode cX0_nextTime 20 = .ok (.ireturn, 1) := by decide +kernel
theorem dX0_events_0 : decode cX0_events 0 = .ok (.iload_n 1, 1) := by decide +kernel
theorem dX0_events_1 : decode cX0_events 1 = .ok (.invokestatic 44, 3) := by decide +kernel
theorem dX0_events_4 : decode cX0_events 4 = .ok (.ifCond .eq 7, 3) := by decide +kernel
theorem dX0_events_7 : decode cX0_events 7 = .ok (.iconst 0, 1) := by decide +kernel
theorem dX0_events_8 : decode cX0_events 8 = .ok (.goto 9, 3) := by decide +kernel
theorem dX0_events_11 : decode cX0_events 11 = .ok (.aload_n 0, 1) := by decide +kernel
theorem dX0_events_12 : decode cX0_events 12 = .ok (.getfield 13, 3) := by decide +kernel
theorem dX0_events_15 : decode cX0_events 15 = .ok (.iload_n 1, 1) := by decide +kernel
theorem dX0_events_16 : decode cX0_events 16 = .ok (.iaload, 1) := by decide +kernel
theorem dX0_events_17 : decode cX0_events 17 = .ok (.ireturn, 1) := by decide +kernel
theorem dX0_cycles_0 : decode cX0_cycles 0 = .ok (.aload_n 0, 1) := by decide +kernel
theorem dX0_cycles_1 : decode cX0_cycles 1 = .ok (.getfield 90, 3) := by decide +kernel
theorem dX0_cycles_4 : decode cX0_cycles 4 = .ok (.ireturn, 1) := by decide +kernel
theorem dX0_coming_0 : decode cX0_coming 0 = .ok (.iload_n 1, 1) := by decide +kernel
theorem dX0_coming_1 : decode cX0_coming 1 = .ok (.invokestatic 44, 3) := by decide +kernel
theorem dX0_coming_4 : decode cX0_coming 4 = .ok (.ifCond .eq 5, 3) := by decide +kernel
theorem dX0_coming_7 : decode cX0_coming 7 = .ok (.iconst 0, 1) := by decide +kernel
theorem dX0_coming_8 : decode cX0_coming 8 = .ok (.ireturn, 1) := by decide +kernel
theorem dX0_coming_9 : decode cX0_coming 9 = .ok (.aload_n 0, 1) := by decide +kernel
theorem dX0_coming_10 : decode cX0_coming 10 = .ok (.getfield 55, 3) := by decide +kernel
theorem dX0_coming_13 : decode cX0_coming 13 = .ok (.iload_n 1, 1) := by decide +kernel
theorem dX0_coming_14 : decode cX0_coming 14 = .ok (.ishr, 1) := by decide +kernel
theorem dX0_coming_15 : decode cX0_coming 15 = .ok (.iconst 1, 1) := by decide +kernel
theorem dX0_coming_16 : decode cX0_coming 16 = .ok (.iand, 1) := by decide +kernel
theorem dX0_coming_17 : decode cX0_coming 17 = .ok (.iconst 1, 1) := by decide +kernel
theorem dX0_coming_18 : decode cX0_coming 18 = .ok (.if_icmp .ne 10, 3) := by decide +kernel
theorem dX0_coming_21 : decode cX0_coming 21 = .ok (.aload_n 0, 1) := by decide +kernel
theorem dX0_coming_22 : decode cX0_coming 22 = .ok (.getfield 31, 3) := by decide +kernel
theorem dX0_coming_25 : decode cX0_coming 25 = .ok (.iload_n 1, 1) := by decide +kernel
theorem dX0_coming_26 : decode cX0_coming 26 = .ok (.iaload, 1) := by decide +kernel
theorem dX0_coming_27 : decode cX0_coming 27 = .ok (.ireturn, 1) := by decide +kernel
theorem dX0_coming_28 : decode cX0_coming 28 = .ok (.iconst 1, 1) := by decide +kernel
theorem dX0_coming_29 : decode cX0_coming 29 = .ok (.istore_n 2, 1) := by decide +kernel
theorem dX0_coming_30 : decode cX0_coming 30 = .ok (.iload_n 2, 1) := by decide +kernel
theorem dX0_coming_31 : decode cX0_coming 31 = .ok (.bipush 10, 2) := by decide +kernel
theorem dX0_coming_33 : decode cX0_coming 33 = .ok (.if_icmp .ge 41, 3) := by decide +kernel
theorem dX0_coming_36 : decode cX0_coming 36 = .ok (.aload_n 0, 1) := by decide +kernel
theorem dX0_coming_37 : decode cX0_coming 37 = .ok (.iload_n 2, 1) := by decide +kernel
theorem dX0_coming_38 : decode cX0_coming 38 = .ok (.invokevirtual 51, 3) := by decide +kernel
theorem dX0_coming_41 : decode cX0_coming 41 = .ok (.istore_n 3, 1) := by decide +kernel
theorem dX0_coming_42 : decode cX0_coming 42 = .ok (.aload_n 0, 1) := by decide +kernel
theorem dX0_coming_43 : decode cX0_coming 43 = .ok (.getfield 34, 3) := by decide +kernel
theorem dX0_coming_46 : decode cX0_coming 46 = .ok (.iload_n 3, 1) := by decide +kernel
theorem dX0_coming_47 : decode cX0_coming 47 = .ok (.iaload, 1) := by decide +kernel
theorem dX0_coming_48 : decode cX0_coming 48 = .ok (.iload_n 1, 1) := by decide +kernel
theorem dX0_coming_49 : decode cX0_coming 49 = .ok (.ishr, 1) := by decide +kernel
theorem dX0_coming_50 : decode cX0_coming 50 = .ok (.iconst 1, 1) := by decide +kernel
theorem dX0_coming_51 : decode cX0_coming 51 = .ok (.iand, 1) := by decide +kernel
theorem dX0_coming_52 : decode cX0_coming 52 = .ok (.iconst 1, 1) := by decide +kernel
theorem dX0_coming_53 : decode cX0_coming 53 = .ok (.if_icmp .ne 15, 3) := by decide +kernel
theorem dX0_coming_56 : decode cX0_coming 56 = .ok (.aload_n 0, 1) := by decide +kernel
theorem dX0_coming_57 : decode cX0_coming 57 = .ok (.getfield 37, 3) := by decide +kernel
theorem dX0_coming_60 : decode cX0_coming 60 = .ok (.iload_n 3, 1) := by decide +kernel
theorem dX0_coming_61 : decode cX0_coming 61 = .ok (.bipush 12, 2) := by decide +kernel
theorem dX0_coming_63 : decode cX0_coming 63 = .ok (.imul, 1) := by decide +kernel
theorem dX0_coming_64 : decode cX0_coming 64 = .ok (.iload_n 1, 1) := by decide +kernel
theorem dX0_coming_65 : decode cX0_coming 65 = .ok (.iadd, 1) := by decide +kernel
theorem dX0_coming_66 : decode cX0_coming 66 = .ok (.iaload, 1) := by decide +kernel
theorem dX0_coming_67 : decode cX0_coming 67 = .ok (.ireturn, 1) := by decide +kernel
theorem dX0_coming_68 : decode cX0_coming 68 = .ok (.iinc 2 1, 3) := by decide +kernel
theorem dX0_coming_71 : decode cX0_coming 71 = .ok (.goto (-41), 3) := by decide +kernel
theorem dX0_coming_74 : decode cX0_coming 74 = .ok (.iconst 0, 1) := by decide +kernel
theorem dX0_coming_75 : decode cX0_coming 75 = .ok (.ireturn, 1) := by decide +kernel
end
section
set_option maxRecDepth 100000
theorem dX1_init_0 : decode cX1_init 0 = .ok (.aload_n 0, 1) := by decide +kernel
theorem dX1_init_1 : decode cX1_init 1 = .ok (.invokespecial 1, 3) := by decide +kernel
theorem dX1_init_4 : decode cX1_init 4 = .ok (.aload_n 0, 1) := by decide +kernel
theorem dX1_init_5 : decode cX1_init 5 = .ok (.bipush 12, 2) := by decide +kernel
theorem dX1_init_7 : decode cX1_init 7 = .ok (.newarray .int, 2) := by decide +kernel
theorem dX1_init_9 : decode cX1_init 9 = .ok (.putfield 7, 3) := by decide +kernel
theorem dX1_init_12 : decode cX1_init 12 = .ok (.aload_n 0, 1) := by decide +kernel
theorem dX1_init_13 : decode cX1_init 13 = .ok (.bipush 12, 2) := by decide +kernel
theorem dX1_init_15 : decode cX1_init 15 = .ok (.newarray .int, 2) := by decide +kernel
theorem dX1_init_17 : decode cX1_init 17 = .ok (.putfield 13, 3) := by decide +kernel
theorem dX1_init_20 : decode cX1_init 20 = .ok (.aload_n 0, 1) := by decide +kernel
theorem dX1_init_21 : decode cX1_init 21 = .ok (.bipush 8, 2) := by decide +kernel
theorem dX1_init_23 : decode cX1_init 23 = .ok (.newarray .int, 2) := by decide +kernel
theorem dX1_init_25 : decode cX1_init 25 = .ok (.putfield 16, 3) := by decide +kernel
theorem dX1_init_28 : decode cX1_init 28 = .ok (.aload_n 0, 1) := by decide +kernel
theorem dX1_init_29 : decode cX1_init 29 = .ok (.bipush 8, 2) := by decide +kernel
theorem dX1_init_31 : decode cX1_init 31 = .ok (.newarray .int, 2) := by decide +kernel
theorem dX1_init_33 : decode cX1_init 33 = .ok (.putfield 19, 3) := by decide +kernel
theorem dX1_init_36 : decode cX1_init 36 = .ok (.aload_n 0, 1) := by decide +kernel
theorem dX1_init_37 : decode cX1_init 37 = .ok (.bipush 8, 2) := by decide +kernel
theorem dX1_init_39 : decode cX1_init 39 = .ok (.newarray .int, 2) := by decide +kernel
theorem dX1_init_41 : decode cX1_init 41 = .ok (.putfield 22, 3) := by decide +kernel
theorem dX1_init_44 : decode cX1_init 44 = .ok (.aload_n 0, 1) := by decide +kernel
theorem dX1_init_45 : decode cX1_init 45 = .ok (.bipush 8, 2) := by decide +kernel
theorem dX1_init_47 : decode cX1_init 47 = .ok (.newarray .int, 2) := by decide +kernel
theorem dX1_init_49 : decode cX1_init 49 = .ok (.putfield 25, 3) := by decide +kernel
theorem dX1_init_52 : decode cX1_init 52 = .ok (.aload_n 0, 1) := by decide +kernel
theorem dX1_init_53 : decode cX1_init 53 = .ok (.bipush 8, 2) := by decide +kernel
theorem dX1_init_55 : decode cX1_init 55 = .ok (.newarray .int, 2) := by decide +kernel
theorem dX1_init_57 : decode cX1_init 57 = .ok (.putfield 28, 3) := by decide +kernel
theorem dX1_init_60 : decode cX1_init 60 = .ok (.aload_n 0, 1) := by decide +kernel
theorem dX1_init_61 : decode cX1_init 61 = .ok (.sipush 128, 3) := by decide +kernel
theorem dX1_init_64 : decode cX1_init 64 = .ok (.newarray .int, 2) := by decide +kernel
theorem dX1_init_66 : decode cX1_init 66 = .ok (.putfield 31, 3) := by decide +kernel
theorem dX1_init_69 : decode cX1_init 69 = .ok (.aload_n 0, 1) := by decide +kernel
theorem dX1_init_70 : decode cX1_init 70 = .ok (.sipush 128, 3) := by decide +kernel
theorem dX1_init_73 : decode cX1_init 73 = .ok (.newarray .int, 2) := by decide +kernel
theorem dX1_init_75 : decode cX1_init 75 = .ok (.putfield 34, 3) := by decide +kernel
theorem dX1_init_78 : decode cX1_init 78 = .ok (.aload_n 0, 1) := by decide +kernel
theorem dX1_init_79 : decode cX1_init 79 = .ok (.sipush 128, 3) := by decide +kernel
theorem dX1_init_82 : decode cX1_init 82 = .ok (.newarray .int, 2) := by decide +kernel
theorem dX1_init_84 : decode cX1_init 84 = .ok (.putfield 37, 3) := by decide +kernel
theorem dX1_init_87 : decode cX1_init 87 = .ok (.aload_n 0, 1) := by decide +kernel
theorem dX1_init_88 : decode cX1_init 88 = .ok (.sipush 128, 3) := by decide +kernel
theorem dX1_init_91 : decode cX1_init 91 = .ok (.newarray .boolean, 2) := by decide +kernel
theorem dX1_init_93 : decode cX1_init 93 = .ok (.putfield 40, 3) := by decide +kernel
theorem dX1_init_96 : decode cX1_init 96 = .ok (.return_, 1) := by decide +kernel
theorem dX1_process_0 : decode cX1_process 0 = .ok (.iconst 0, 1) := by decide +kernel
theorem dX1_process_1 : decode cX1_process 1 = .ok (.istore 5, 2) := by decide +kernel
theorem dX1_process_3 : decode cX1_process 3 = .ok (.iload 5, 2) := by decide +kernel
theorem dX1_process_5 : decode cX1_process 5 = .ok (.iconst 4, 1) := by decide +kernel
theorem dX1_process_6 : decode cX1_process 6 = .ok (.if_icmp .ge 25, 3) := by decide +kernel
theorem dX1_process_9 : decode cX1_process 9 = .ok (.iload_n 2, 1) := by decide +kernel
theorem dX1_process_10 : decode cX1_process 10 = .ok (.iconst 4, 1) := by decide +kernel
theorem dX1_process_11 : decode cX1_process 11 = .ok (.iload 5, 2) := by decide +kernel
theorem dX1_process_13 : decode cX1_process 13 = .ok (.imul, 1) := by decide +kernel
theorem dX1_process_14 : decode cX1_process 14 = .ok (.ishr, 1) := by decide +kernel
theorem dX1_process_15 : decode cX1_process 15 = .ok (.bipush 15, 2) := by decide +kernel
theorem dX1_process_17 : decode cX1_process 17 = .ok (.iand, 1) := by decide +kernel
theorem dX1_process_18 : decode cX1_process 18 = .ok (.bipush 11, 2) := by decide +kernel
theorem dX1_process_20 : decode cX1_process 20 = .ok (.if_icmp .le 5, 3) := by decide +kernel
theorem dX1_process_23 : decode cX1_process 23 = .ok (.iconst (-1), 1) := by decide +kernel
theorem dX1_process_24 : decode cX1_process 24 = .ok (.ireturn, 1) := by decide +kernel
theorem dX1_process_25 : decode cX1_process 25 = .ok (.iinc 5 1, 3) := by decide +kernel
theorem dX1_process_28 : decode cX1_process 28 = .ok (.goto (-25), 3) := by decide +kernel
theorem dX1_process_31 : decode cX1_process 31 = .ok (.iload_n 1, 1) := by decide +kernel
theorem dX1_process_32 : decode cX1_process 32 = .ok (.bipush 7, 2) := by decide +kernel
theorem dX1_process_34 : decode cX1_process 34 = .ok (.iand, 1) := by decide +kernel
theorem dX1_process_35 : decode cX1_process 35 = .ok (.iconst 5, 1) := by decide +kernel
theorem dX1_process_36 : decode cX1_process 36 = .ok (.if_icmp .le 6, 3) := by decide +kernel
theorem dX1_process_39 : decode cX1_process 39 = .ok (.bipush (-2), 2) := by decide +kernel
theorem dX1_process_41 : decode cX1_process 41 = .ok (.ireturn, 1) := by decide +kernel
theorem dX1_process_42 : decode cX1_process 42 = .ok (.iload_n 1, 1) := by decide +kernel
theorem dX1_process_43 : decode cX1_process 43 = .ok (.iconst 4, 1) := by decide +kernel
theorem dX1_process_44 : decode cX1_process 44 = .ok (.ishr, 1) := by decide +kernel
theorem dX1_process_45 : decode cX1_process 45 = .ok (.bipush 15, 2) := by decide +kernel
theorem dX1_process_47 : decode cX1_process 47 = .ok (.iand, 1) := by decide +kernel
theorem dX1_process_48 : decode cX1_process 48 = .ok (.bipush 9, 2) := by decide +kernel
theorem dX1_process_50 : decode cX1_process 50 = .ok (.if_icmp .le 6, 3) := by decide +kernel
theorem dX1_process_53 : decode cX1_process 53 = .ok (.bipush (-3), 2) := by decide +kernel
theorem dX1_process_55 : decode cX1_process 55 = .ok (.ireturn, 1) := by decide +kernel
theorem dX1_process_56 : decode cX1_process 56 = .ok (.aload_n 0, 1) := by decide +kernel
theorem dX1_process_57 : decode cX1_process 57 = .ok (.getfield 44, 3) := by decide +kernel
theorem dX1_process_60 : decode cX1_process 60 = .ok (.bipush 8, 2) := by decide +kernel
theorem dX1_process_62 : decode cX1_process 62 = .ok (.if_icmp .ne 6, 3) := by decide +kernel
theorem dX1_process_65 : decode cX1_process 65 = .ok (.bipush (-4), 2) := by decide +kernel
theorem dX1_process_67 : decode cX1_process 67 = .ok (.ireturn, 1) := by decide +kernel
theorem dX1_process_68 : decode cX1_process 68 = .ok (.aload_n 0, 1) := by decide +kernel
theorem dX1_process_69 : decode cX1_process 69 = .ok (.getfield 16, 3) := by decide +kernel
theorem dX1_process_72 : decode cX1_process 72 = .ok (.aload_n 0, 1) := by decide +kernel
theorem dX1_process_73 : decode cX1_process 73 = .ok (.getfield 44, 3) := by decide +kernel
theorem dX1_process_76 : decode cX1_process 76 = .ok (.iload_n 1, 1) := by decide +kernel
theorem dX1_process_77 : decode cX1_process 77 = .ok (.bipush 7, 2) := by decide +kernel
theorem dX1_process_79 : decode cX1_process 79 = .ok (.iand, 1) := by decide +kernel
theorem dX1_process_80 : decode cX1_process 80 = .ok (.iastore, 1) := by decide +kernel
theorem dX1_process_81 : decode cX1_process 81 = .ok (.aload_n 0, 1) := by decide +kernel
theorem dX1_process_82 : decode cX1_process 82 = .ok (.getfield 19, 3) := by decide +kernel
theorem dX1_process_85 : decode cX1_process 85 = .ok (.aload_n 0, 1) := by decide +kernel
theorem dX1_process_86 : decode cX1_process 86 = .ok (.getfield 44, 3) := by decide +kernel
theorem dX1_process_89 : decode cX1_process 89 = .ok (.iload_n 1, 1) := by decide +kernel
theorem dX1_process_90 : decode cX1_process 90 = .ok (.iconst 4, 1) := by decide +kernel
theorem dX1_process_91 : decode cX1_process 91 = .ok (.ishr, 1) := by decide +kernel
theorem dX1_process_92 : decode cX1_process 92 = .ok (.bipush 15, 2) := by decide +kernel
theorem dX1_process_94 : decode cX1_process 94 = .ok (.iand, 1) := by decide +kernel
theorem dX1_process_95 : decode cX1_process 95 = .ok (.iastore, 1) := by decide +kernel
theorem dX1_process_96 : decode cX1_process 96 = .ok (.aload_n 0, 1) := by decide +kernel
theorem dX1_process_97 : decode cX1_process 97 = .ok (.getfield 22, 3) := by decide +kernel
theorem dX1_process_100 : decode cX1_process 100 = .ok (.aload_n 0, 1) := by decide +kernel
theorem dX1_process_101 : decode cX1_process 101 = .ok (.getfield 44, 3) := by decide +kernel
theorem dX1_process_104 : decode cX1_process 104 = .ok (.iload_n 2, 1) := by decide +kernel
theorem dX1_process_105 : decode cX1_process 105 = .ok (.ldc 48, 2) := by decide +kernel
theorem dX1_process_107 : decode cX1_process 107 = .ok (.iand, 1) := by decide +kernel
theorem dX1_process_108 : decode cX1_process 108 = .ok (.iastore, 1) := by decide +kernel
theorem dX1_process_109 : decode cX1_process 109 = .ok (.aload_n 0, 1) := by decide +kernel
theorem dX1_process_110 : decode cX1_process 110 = .ok (.getfield 25, 3) := by decide +kernel
theorem dX1_process_113 : decode cX1_process 113 = .ok (.aload_n 0, 1) := by decide +kernel
theorem dX1_process_114 : decode cX1_process 114 = .ok (.getfield 44, 3) := by decide +kernel
theorem dX1_process_117 : decode cX1_process 117 = .ok (.iload_n 3, 1) := by decide +kernel
theorem dX1_process_118 : decode cX1_process 118 = .ok (.iastore, 1) := by decide +kernel
theorem dX1_process_119 : decode cX1_process 119 = .ok (.aload_n 0, 1) := by decide +kernel
theorem dX1_process_120 : decode cX1_process 120 = .ok (.getfield 28, 3) := by decide +kernel
theorem dX1_process_123 : decode cX1_process 123 = .ok (.aload_n 0, 1) := by decide +kernel
theorem dX1_process_124 : decode cX1_process 124 = .ok (.getfield 44, 3) := by decide +kernel
theorem dX1_process_127 : decode cX1_process 127 = .ok (.iload 4, 2) := by decide +kernel
theorem dX1_process_129 : decode cX1_process 129 = .ok (.sipush 4095, 3) := by decide +kernel
theorem dX1_process_132 : decode cX1_process 132 = .ok (.iand, 1) := by decide +kernel
theorem dX1_process_133 : decode cX1_process 133 = .ok (.iastore, 1) := by decide +kernel
theorem dX1_process_134 : decode cX1_process 134 = .ok (.aload_n 0, 1) := by decide +kernel
theorem dX1_process_135 : decode cX1_process 135 = .ok (.dup, 1) := by decide +kernel
theorem dX1_process_136 : decode cX1_process 136 = .ok (.getfield 44, 3) := by decide +kernel
theorem dX1_process_139 : decode cX1_process 139 = .ok (.iconst 1, 1) := by decide +kernel
theorem dX1_process_140 : decode cX1_process 140 = .ok (.iadd, 1) := by decide +kernel
theorem dX1_process_141 : decode cX1_process 141 = .ok (.putfield 44, 3) := by decide +kernel
theorem dX1_process_144 : decode cX1_process 144 = .ok (.aload_n 0, 1) := by decide +kernel
theorem dX1_process_145 : decode cX1_process 145 = .ok (.getfield 44, 3) := by decide +kernel
theorem dX1_process_148 : decode cX1_process 148 = .ok (.iconst 1, 1) := by decide +kernel
theorem dX1_process_149 : decode cX1_process 149 = .ok (.isub, 1) := by decide +kernel
theorem dX1_process_150 : decode cX1_process 150 = .ok (.ireturn, 1) := by decide +kernel
theorem dX1_drive_0 : decode cX1_drive 0 = .ok (.aload_n 0, 1) := by decide +kernel
theorem dX1_drive_1 : decode cX1_drive 1 = .ok (.iload_n 1, 1) := by decide +kernel
theorem dX1_drive_2 : decode cX1_drive 2 = .ok (.invokevirtual 59, 3) := by decide +kernel
theorem dX1_drive_5 : decode cX1_drive 5 = .ok (.ifCond .ne 5, 3) := by decide +kernel
theorem dX1_drive_8 : decode cX1_drive 8 = .ok (.iconst (-1), 1) := by decide +kernel
theorem dX1_drive_9 : decode cX1_drive 9 = .ok (.ireturn, 1) := by decide +kernel
theorem dX1_drive_10 : decode cX1_drive 10 = .ok (.iload_n 3, 1) := by decide +kernel
theorem dX1_drive_11 : decode cX1_drive 11 = .ok (.ifCond .lt 9, 3) := by decide +kernel
theorem dX1_drive_14 : decode cX1_drive 14 = .ok (.iload_n 3, 1) := by decide +kernel
theorem dX1_drive_15 : decode cX1_drive 15 = .ok (.bipush 9, 2) := by decide +kernel
theorem dX1_drive_17 : decode cX1_drive 17 = .ok (.if_icmp .le 6, 3) := by decide +kernel
theorem dX1_drive_20 : decode cX1_drive 20 = .ok (.bipush (-3), 2) := by decide +kernel
theorem dX1_drive_22 : decode cX1_drive 22 = .ok (.ireturn, 1) := by decide +kernel
theorem dX1_drive_23 : decode cX1_drive 23 = .ok (.aload_n 0, 1) := by decide +kernel
theorem dX1_drive_24 : decode cX1_drive 24 = .ok (.iload_n 1, 1) := by decide +kernel
theorem dX1_drive_25 : decode cX1_drive 25 = .ok (.iload_n 2, 1) := by decide +kernel
theorem dX1_drive_26 : decode cX1_drive 26 = .ok (.iload_n 3, 1) := by decide +kernel
theorem dX1_drive_27 : decode cX1_drive 27 = .ok (.invokevirtual 63, 3) := by decide +kernel
theorem dX1_drive_30 : decode cX1_drive 30 = .ok (.aload_n 0, 1) := by decide +kernel
theorem dX1_drive_31 : decode cX1_drive 31 = .ok (.getfield 49, 3) := by decide +kernel
theorem dX1_drive_34 : decode cX1_drive 34 = .ok (.ireturn, 1) := by decide +kernel
theorem dX1_isSignal_0 : decode cX1_isSignal 0 = .ok (.iload_n 1, 1) := by decide +kernel
theorem dX1_isSignal_1 : decode cX1_isSignal 1 = .ok (.ifCond .lt 13, 3) := by decide +kernel
theorem dX1_isSignal_4 : decode cX1_isSignal 4 = .ok (.iload_n 1, 1) := by decide +kernel
theorem dX1_isSignal_5 : decode cX1_isSignal 5 = .ok (.bipush 12, 2) := by decide +kernel
theorem dX1_isSignal_7 : decode cX1_isSignal 7 = .ok (.if_icmp .ge 7, 3) := by decide +kernel
theorem dX1_isSignal_10 : decode cX1_isSignal 10 = .ok (.iconst 1, 1) := by decide +kernel
theorem dX1_isSignal_11 : decode cX1_isSignal 11 = .ok (.goto 4, 3) := by decide +kernel
theorem dX1_isSignal_14 : decode cX1_isSignal 14 = .ok (.iconst 0, 1) := by decide +kernel
theorem dX1_isSignal_15 : decode cX1_isSignal 15 = .ok (.ireturn, 1) := by decide +kernel
theorem dX1_put_0 : decode cX1_put 0 = .ok (.iconst 0, 1) := by decide +kernel
theorem dX1_put_1 : decode cX1_put 1 = .ok (.istore 4, 2) := by decide +kernel
theorem dX1_put_3 : decode cX1_put 3 = .ok (.iconst 0, 1) := by decide +kernel
theorem dX1_put_4 : decode cX1_put 4 = .ok (.istore 5, 2) := by decide +kernel
theorem dX1_put_6 : decode cX1_put 6 = .ok (.iload 5, 2) := by decide +kernel
theorem dX1_put_8 : decode cX1_put 8 = .ok (.aload_n 0, 1) := by decide +kernel
theorem dX1_put_9 : decode cX1_put 9 = .ok (.getfield 49, 3) := by decide +kernel
theorem dX1_put_12 : decode cX1_put 12 = .ok (.if_icmp .ge 47, 3) := by decide +kernel
theorem dX1_put_15 : decode cX1_put 15 = .ok (.aload_n 0, 1) := by decide +kernel
theorem dX1_put_16 : decode cX1_put 16 = .ok (.getfield 31, 3) := by decide +kernel
theorem dX1_put_19 : decode cX1_put 19 = .ok (.iload 5, 2) := by decide +kernel
theorem dX1_put_21 : decode cX1_put 21 = .ok (.iaload, 1) := by decide +kernel
theorem dX1_put_22 : decode cX1_put 22 = .ok (.iload_n 1, 1) := by decide +kernel
theorem dX1_put_23 : decode cX1_put 23 = .ok (.if_icmp .ne 19, 3) := by decide +kernel
theorem dX1_put_26 : decode cX1_put 26 = .ok (.aload_n 0, 1) := by decide +kernel
theorem dX1_put_27 : decode cX1_put 27 = .ok (.getfield 37, 3) := by decide +kernel
theorem dX1_put_30 : decode cX1_put 30 = .ok (.iload 5, 2) := by decide +kernel
theorem dX1_put_32 : decode cX1_put 32 = .ok (.iaload, 1) := by decide +kernel
theorem dX1_put_33 : decode cX1_put 33 = .ok (.aload_n 0, 1) := by decide +kernel
theorem dX1_put_34 : decode cX1_put 34 = .ok (.getfield 52, 3) := by decide +kernel
theorem dX1_put_37 : decode cX1_put 37 = .ok (.iload_n 3, 1) := by decide +kernel
theorem dX1_put_38 : decode cX1_put 38 = .ok (.iadd, 1) := by decide +kernel
theorem dX1_put_39 : decode cX1_put 39 = .ok (.if_icmp .ge 14, 3) := by decide +kernel
theorem dX1_put_42 : decode cX1_put 42 = .ok (.aload_n 0, 1) := by decide +kernel
theorem dX1_put_43 : decode cX1_put 43 = .ok (.iload 5, 2) := by decide +kernel
theorem dX1_put_45 : decode cX1_put 45 = .ok (.iload 4, 2) := by decide +kernel
theorem dX1_put_47 : decode cX1_put 47 = .ok (.invokevirtual 55, 3) := by decide +kernel
theorem dX1_put_50 : decode cX1_put 50 = .ok (.iinc 4 1, 3) := by decide +kernel
theorem dX1_put_53 : decode cX1_put 53 = .ok (.iinc 5 1, 3) := by decide +kernel
theorem dX1_put_56 : decode cX1_put 56 = .ok (.goto (-50), 3) := by decide +kernel
theorem dX1_put_59 : decode cX1_put 59 = .ok (.aload_n 0, 1) := by decide +kernel
theorem dX1_put_60 : decode cX1_put 60 = .ok (.getfield 31, 3) := by decide +kernel
theorem dX1_put_63 : decode cX1_put 63 = .ok (.iload 4, 2) := by decide +kernel
theorem dX1_put_65 : decode cX1_put 65 = .ok (.iload_n 1, 1) := by decide +kernel
theorem dX1_put_66 : decode cX1_put 66 = .ok (.iastore, 1) := by decide +kernel
theorem dX1_put_67 : decode cX1_put 67 = .ok (.aload_n 0, 1) := by decide +kernel
theorem dX1_put_68 : decode cX1_put 68 = .ok (.getfield 34, 3) := by decide +kernel
theorem dX1_put_71 : decode cX1_put 71 = .ok (.iload 4, 2) := by decide +kernel
theorem dX1_put_73 : decode cX1_put 73 = .ok (.iload_n 2, 1) := by decide +kernel
theorem dX1_put_74 : decode cX1_put 74 = .ok (.iastore, 1) := by decide +kernel
theorem dX1_put_75 : decode cX1_put 75 = .ok (.aload_n 0, 1) := by decide +kernel
theorem dX1_put_76 : decode cX1_put 76 = .ok (.getfield 37, 3) := by decide +kernel
theorem dX1_put_79 : decode cX1_put 79 = .ok (.iload 4, 2) := by decide +kernel
theorem dX1_put_81 : decode cX1_put 81 = .ok (.aload_n 0, 1) := by decide +kernel
theorem dX1_put_82 : decode cX1_put 82 = .ok (.getfield 52, 3) := by decide +kernel
theorem dX1_put_85 : decode cX1_put 85 = .ok (.iload_n 3, 1) := by decide +kernel
theorem dX1_put_86 : decode cX1_put 86 = .ok (.iadd, 1) := by decide +kernel
theorem dX1_put_87 : decode cX1_put 87 = .ok (.iastore, 1) := by decide +kernel
theorem dX1_put_88 : decode cX1_put 88 = .ok (.aload_n 0, 1) := by decide +kernel
theorem dX1_put_89 : decode cX1_put 89 = .ok (.getfield 40, 3) := by decide +kernel
theorem dX1_put_92 : decode cX1_put 92 = .ok (.iload 4, 2) := by decide +kernel
theorem dX1_put_94 : decode cX1_put 94 = .ok (.iload_n 3, 1) := by decide +kernel
theorem dX1_put_95 : decode cX1_put 95 = .ok (.ifCond .ne 7, 3) := by decide +kernel
theorem dX1_put_98 : decode cX1_put 98 = .ok (.iconst 1, 1) := by decide +kernel
theorem dX1_put_99 : decode cX1_put 99 = .ok (.goto 4, 3) := by decide +kernel
theorem dX1_put_102 : decode cX1_put 102 = .ok (.iconst 0, 1) := by decide +kernel
theorem dX1_put_103 : decode cX1_put 103 = .ok (.bastore, 1) := by decide +kernel
theorem dX1_put_104 : decode cX1_put 104 = .ok (.aload_n 0, 1) := by decide +kernel
theorem dX1_put_105 : decode cX1_put 105 = .ok (.iload 4, 2) := by decide +kernel
theorem dX1_put_107 : decode cX1_put 107 = .ok (.iconst 1, 1) := by decide +kernel
theorem dX1_put_108 : decode cX1_put 108 = .ok (.iadd, 1) := by decide +kernel
theorem dX1_put_109 : decode cX1_put 109 = .ok (.putfield 49, 3) := by decide +kernel
theorem dX1_put_112 : decode cX1_put 112 = .ok (.return_, 1) := by decide +kernel
theorem dX1_move_0 : decode cX1_move 0 = .ok (.aload_n 0, 1) := by decide +kernel
theorem dX1_move_1 : decode cX1_move 1 = .ok (.getfield 31, 3) := by decide +kernel
theorem dX1_move_4 : decode cX1_move 4 = .ok (.iload_n 2, 1) := by decide +kernel
theorem dX1_move_5 : decode cX1_move 5 = .ok (.aload_n 0, 1) := by decide +kernel
theorem dX1_move_6 : decode cX1_move 6 = .ok (.getfield 31, 3) := by decide +kernel
theorem dX1_move_9 : decode cX1_move 9 = .ok (.iload_n 1, 1) := by decide +kernel
theorem dX1_move_10 : decode cX1_move 10 = .ok (.iaload, 1) := by decide +kernel
theorem dX1_move_11 : decode cX1_move 11 = .ok (.iastore, 1) := by decide +kernel
theorem dX1_move_12 : decode cX1_move 12 = .ok (.aload_n 0, 1) := by decide +kernel
theorem dX1_move_13 : decode cX1_move 13 = .ok (.getfield 34, 3) := by decide +kernel
theorem dX1_move_16 : decode cX1_move 16 = .ok (.iload_n 2, 1) := by decide +kernel
theorem dX1_move_17 : decode cX1_move 17 = .ok (.aload_n 0, 1) := by decide +kernel
theorem dX1_move_18 : decode cX1_move 18 = .ok (.getfield 34, 3) := by decide +kernel
theorem dX1_move_21 : decode cX1_move 21 = .ok (.iload_n 1, 1) := by decide +kernel
theorem dX1_move_22 : decode cX1_move 22 = .ok (.iaload, 1) := by decide +kernel
theorem dX1_move_23 : decode cX1_move 23 = .ok (.iastore, 1) := by decide +kernel
theorem dX1_move_24 : decode cX1_move 24 = .ok (.aload_n 0, 1) := by decide +kernel
theorem dX1_move_25 : decode cX1_move 25 = .ok (.getfield 37, 3) := by decide +kernel
theorem dX1_move_28 : decode cX1_move 28 = .ok (.iload_n 2, 1) := by decide +kernel
theorem dX1_move_29 : decode cX1_move 29 = .ok (.aload_n 0, 1) := by decide +kernel
theorem dX1_move_30 : decode cX1_move 30 = .ok (.getfield 37, 3) := by decide +kernel
theorem dX1_move_33 : decode cX1_move 33 = .ok (.iload_n 1, 1) := by decide +kernel
theorem dX1_move_34 : decode cX1_move 34 = .ok (.iaload, 1) := by decide +kernel
theorem dX1_move_35 : decode cX1_move 35 = .ok (.iastore, 1) := by decide +kernel
theorem dX1_move_36 : decode cX1_move 36 = .ok (.aload_n 0, 1) := by decide +kernel
theorem dX1_move_37 : decode cX1_move 37 = .ok (.getfield 40, 3) := by decide +kernel
theorem dX1_move_40 : decode cX1_move 40 = .ok (.iload_n 2, 1) := by decide +kernel
theorem dX1_move_41 : decode cX1_move 41 = .ok (.aload_n 0, 1) := by decide +kernel
theorem dX1_move_42 : decode cX1_move 42 = .ok (.getfield 40, 3) := by decide +kernel
theorem dX1_move_45 : decode cX1_move 45 = .ok (.iload_n 1, 1) := by decide +kernel
theorem dX1_move_46 : decode cX1_move 46 = .ok (.baload, 1) := by decide +kernel
theorem dX1_move_47 : decode cX1_move 47 = .ok (.bastore, 1) := by decide +kernel
theorem dX1_move_48 : decode cX1_move 48 = .ok (.return_, 1) := by decide +kernel
theorem dX1_poke_0 : decode cX1_poke 0 = .ok (.iload_n 1, 1) := by decide +kernel
theorem dX1_poke_1 : decode cX1_poke 1 = .ok (.ifCond .lt 11, 3) := by decide +kernel
theorem dX1_poke_4 : decode cX1_poke 4 = .ok (.iload_n 1, 1) := by decide +kernel
theorem dX1_poke_5 : decode cX1_poke 5 = .ok (.aload_n 0, 1) := by decide +kernel
theorem dX1_poke_6 : decode cX1_poke 6 = .ok (.getfield 44, 3) := by decide +kernel
theorem dX1_poke_9 : decode cX1_poke 9 = .ok (.if_icmp .lt 6, 3) := by decide +kernel
theorem dX1_poke_12 : decode cX1_poke 12 = .ok (.bipush (-2), 2) := by decide +kernel
theorem dX1_poke_14 : decode cX1_poke 14 = .ok (.ireturn, 1) := by decide +kernel
theorem dX1_poke_15 : decode cX1_poke 15 = .ok (.aload_n 0, 1) := by decide +kernel
theorem dX1_poke_16 : decode cX1_poke 16 = .ok (.iload_n 1, 1) := by decide +kernel
theorem dX1_poke_17 : decode cX1_poke 17 = .ok (.invokevirtual 67, 3) := by decide +kernel
theorem dX1_poke_20 : decode cX1_poke 20 = .ok (.aload_n 0, 1) := by decide +kernel
theorem dX1_poke_21 : decode cX1_poke 21 = .ok (.getfield 49, 3) := by decide +kernel
theorem dX1_poke_24 : decode cX1_poke 24 = .ok (.ireturn, 1) := by decide +kernel
theorem dX1_carryOut_0 : decode cX1_carryOut 0 = .ok (.aload_n 0, 1) := by decide +kernel
theorem dX1_carryOut_1 : decode cX1_carryOut 1 = .ok (.getfield 7, 3) := by decide +kernel
theorem dX1_carryOut_4 : decode cX1_carryOut 4 = .ok (.aload_n 0, 1) := by decide +kernel
theorem dX1_carryOut_5 : decode cX1_carryOut 5 = .ok (.getfield 22, 3) := by decide +kernel
theorem dX1_carryOut_8 : decode cX1_carryOut 8 = .ok (.iload_n 1, 1) := by decide +kernel
theorem dX1_carryOut_9 : decode cX1_carryOut 9 = .ok (.iaload, 1) := by decide +kernel
theorem dX1_carryOut_10 : decode cX1_carryOut 10 = .ok (.bipush 15, 2) := by decide +kernel
theorem dX1_carryOut_12 : decode cX1_carryOut 12 = .ok (.iand, 1) := by decide +kernel
theorem dX1_carryOut_13 : decode cX1_carryOut 13 = .ok (.iaload, 1) := by decide +kernel
theorem dX1_carryOut_14 : decode cX1_carryOut 14 = .ok (.istore_n 2, 1) := by decide +kernel
theorem dX1_carryOut_15 : decode cX1_carryOut 15 = .ok (.aload_n 0, 1) := by decide +kernel
theorem dX1_carryOut_16 : decode cX1_carryOut 16 = .ok (.getfield 7, 3) := by decide +kernel
theorem dX1_carryOut_19 : decode cX1_carryOut 19 = .ok (.aload_n 0, 1) := by decide +kernel
theorem dX1_carryOut_20 : decode cX1_carryOut 20 = .ok (.getfield 22, 3) := by decide +kernel
theorem dX1_carryOut_23 : decode cX1_carryOut 23 = .ok (.iload_n 1, 1) := by decide +kernel
theorem dX1_carryOut_24 : decode cX1_carryOut 24 = .ok (.iaload, 1) := by decide +kernel
theorem dX1_carryOut_25 : decode cX1_carryOut 25 = .ok (.iconst 4, 1) := by decide +kernel
theorem dX1_carryOut_26 : decode cX1_carryOut 26 = .ok (.ishr, 1) := by decide +kernel
theorem dX1_carryOut_27 : decode cX1_carryOut 27 = .ok (.bipush 15, 2) := by decide +kernel
theorem dX1_carryOut_29 : decode cX1_carryOut 29 = .ok (.iand, 1) := by decide +kernel
theorem dX1_carryOut_30 : decode cX1_carryOut 30 = .ok (.iaload, 1) := by decide +kernel
theorem dX1_carryOut_31 : decode cX1_carryOut 31 = .ok (.istore_n 3, 1) := by decide +kernel
theorem dX1_carryOut_32 : decode cX1_carryOut 32 = .ok (.aload_n 0, 1) := by decide +kernel
theorem dX1_carryOut_33 : decode cX1_carryOut 33 = .ok (.getfield 7, 3) := by decide +kernel
theorem dX1_carryOut_36 : decode cX1_carryOut 36 = .ok (.aload_n 0, 1) := by decide +kernel
theorem dX1_carryOut_37 : decode cX1_carryOut 37 = .ok (.getfield 22, 3) := by decide +kernel
theorem dX1_carryOut_40 : decode cX1_carryOut 40 = .ok (.iload_n 1, 1) := by decide +kernel
theorem dX1_carryOut_41 : decode cX1_carryOut 41 = .ok (.iaload, 1) := by decide +kernel
theorem dX1_carryOut_42 : decode cX1_carryOut 42 = .ok (.bipush 8, 2) := by decide +kernel
theorem dX1_carryOut_44 : decode cX1_carryOut 44 = .ok (.ishr, 1) := by decide +kernel
theorem dX1_carryOut_45 : decode cX1_carryOut 45 = .ok (.bipush 15, 2) := by decide +kernel
theorem dX1_carryOut_47 : decode cX1_carryOut 47 = .ok (.iand, 1) := by decide +kernel
theorem dX1_carryOut_48 : decode cX1_carryOut 48 = .ok (.iaload, 1) := by decide +kernel
theorem dX1_carryOut_49 : decode cX1_carryOut 49 = .ok (.istore 4, 2) := by decide +kernel
theorem dX1_carryOut_51 : decode cX1_carryOut 51 = .ok (.iload_n 2, 1) := by decide +kernel
theorem dX1_carryOut_52 : decode cX1_carryOut 52 = .ok (.iload_n 3, 1) := by decide +kernel
theorem dX1_carryOut_53 : decode cX1_carryOut 53 = .ok (.iadd, 1) := by decide +kernel
theorem dX1_carryOut_54 : decode cX1_carryOut 54 = .ok (.istore 5, 2) := by decide +kernel
theorem dX1_carryOut_56 : decode cX1_carryOut 56 = .ok (.aload_n 0, 1) := by decide +kernel
theorem dX1_carryOut_57 : decode cX1_carryOut 57 = .ok (.getfield 16, 3) := by decide +kernel
theorem dX1_carryOut_60 : decode cX1_carryOut 60 = .ok (.iload_n 1, 1) := by decide +kernel
theorem dX1_carryOut_61 : decode cX1_carryOut 61 = .ok (.iaload, 1) := by decide +kernel
theorem dX1_carryOut_62 : decode cX1_carryOut 62 = .ok (.iconst 1, 1) := by decide +kernel
theorem dX1_carryOut_63 : decode cX1_carryOut 63 = .ok (.if_icmp .ne 8, 3) := by decide +kernel
theorem dX1_carryOut_66 : decode cX1_carryOut 66 = .ok (.iload_n 2, 1) := by decide +kernel
theorem dX1_carryOut_67 : decode cX1_carryOut 67 = .ok (.iload_n 3, 1) := by decide +kernel
theorem dX1_carryOut_68 : decode cX1_carryOut 68 = .ok (.iand, 1) := by decide +kernel
theorem dX1_carryOut_69 : decode cX1_carryOut 69 = .ok (.istore 5, 2) := by decide +kernel
theorem dX1_carryOut_71 : decode cX1_carryOut 71 = .ok (.aload_n 0, 1) := by decide +kernel
theorem dX1_carryOut_72 : decode cX1_carryOut 72 = .ok (.getfield 16, 3) := by decide +kernel
theorem dX1_carryOut_75 : decode cX1_carryOut 75 = .ok (.iload_n 1, 1) := by decide +kernel
theorem dX1_carryOut_76 : decode cX1_carryOut 76 = .ok (.iaload, 1) := by decide +kernel
theorem dX1_carryOut_77 : decode cX1_carryOut 77 = .ok (.iconst 2, 1) := by decide +kernel
theorem dX1_carryOut_78 : decode cX1_carryOut 78 = .ok (.if_icmp .ne 8, 3) := by decide +kernel
theorem dX1_carryOut_81 : decode cX1_carryOut 81 = .ok (.iload_n 2, 1) := by decide +kernel
theorem dX1_carryOut_82 : decode cX1_carryOut 82 = .ok (.iload_n 3, 1) := by decide +kernel
theorem dX1_carryOut_83 : decode cX1_carryOut 83 = .ok (.ixor, 1) := by decide +kernel
theorem dX1_carryOut_84 : decode cX1_carryOut 84 = .ok (.istore 5, 2) := by decide +kernel
theorem dX1_carryOut_86 : decode cX1_carryOut 86 = .ok (.aload_n 0, 1) := by decide +kernel
theorem dX1_carryOut_87 : decode cX1_carryOut 87 = .ok (.getfield 16, 3) := by decide +kernel
theorem dX1_carryOut_90 : decode cX1_carryOut 90 = .ok (.iload_n 1, 1) := by decide +kernel
theorem dX1_carryOut_91 : decode cX1_carryOut 91 = .ok (.iaload, 1) := by decide +kernel
theorem dX1_carryOut_92 : decode cX1_carryOut 92 = .ok (.iconst 3, 1) := by decide +kernel
theorem dX1_carryOut_93 : decode cX1_carryOut 93 = .ok (.if_icmp .ne 13, 3) := by decide +kernel
theorem dX1_carryOut_96 : decode cX1_carryOut 96 = .ok (.iload_n 2, 1) := by decide +kernel
theorem dX1_carryOut_97 : decode cX1_carryOut 97 = .ok (.aload_n 0, 1) := by decide +kernel
theorem dX1_carryOut_98 : decode cX1_carryOut 98 = .ok (.getfield 25, 3) := by decide +kernel
theorem dX1_carryOut_101 : decode cX1_carryOut 101 = .ok (.iload_n 1, 1) := by decide +kernel
theorem dX1_carryOut_102 : decode cX1_carryOut 102 = .ok (.iaload, 1) := by decide +kernel
theorem dX1_carryOut_103 : decode cX1_carryOut 103 = .ok (.iadd, 1) := by decide +kernel
theorem dX1_carryOut_104 : decode cX1_carryOut 104 = .ok (.istore 5, 2) := by decide +kernel
theorem dX1_carryOut_106 : decode cX1_carryOut 106 = .ok (.aload_n 0, 1) := by decide +kernel
theorem dX1_carryOut_107 : decode cX1_carryOut 107 = .ok (.getfield 16, 3) := by decide +kernel
theorem dX1_carryOut_110 : decode cX1_carryOut 110 = .ok (.iload_n 1, 1) := by decide +kernel
theorem dX1_carryOut_111 : decode cX1_carryOut 111 = .ok (.iaload, 1) := by decide +kernel
theorem dX1_carryOut_112 : decode cX1_carryOut 112 = .ok (.iconst 4, 1) := by decide +kernel
theorem dX1_carryOut_113 : decode cX1_carryOut 113 = .ok (.if_icmp .ne 15, 3) := by decide +kernel
theorem dX1_carryOut_116 : decode cX1_carryOut 116 = .ok (.iload 4, 2) := by decide +kernel
theorem dX1_carryOut_118 : decode cX1_carryOut 118 = .ok (.ifCond .eq 7, 3) := by decide +kernel
theorem dX1_carryOut_121 : decode cX1_carryOut 121 = .ok (.iload_n 2, 1) := by decide +kernel
theorem dX1_carryOut_122 : decode cX1_carryOut 122 = .ok (.goto 4, 3) := by decide +kernel
theorem dX1_carryOut_125 : decode cX1_carryOut 125 = .ok (.iload_n 3, 1) := by decide +kernel
theorem dX1_carryOut_126 : decode cX1_carryOut 126 = .ok (.istore 5, 2) := by decide +kernel
theorem dX1_carryOut_128 : decode cX1_carryOut 128 = .ok (.aload_n 0, 1) := by decide +kernel
theorem dX1_carryOut_129 : decode cX1_carryOut 129 = .ok (.getfield 16, 3) := by decide +kernel
theorem dX1_carryOut_132 : decode cX1_carryOut 132 = .ok (.iload_n 1, 1) := by decide +kernel
theorem dX1_carryOut_133 : decode cX1_carryOut 133 = .ok (.iaload, 1) := by decide +kernel
theorem dX1_carryOut_134 : decode cX1_carryOut 134 = .ok (.iconst 5, 1) := by decide +kernel
theorem dX1_carryOut_135 : decode cX1_carryOut 135 = .ok (.if_icmp .ne 8, 3) := by decide +kernel
theorem dX1_carryOut_138 : decode cX1_carryOut 138 = .ok (.iload_n 2, 1) := by decide +kernel
theorem dX1_carryOut_139 : decode cX1_carryOut 139 = .ok (.iconst (-1), 1) := by decide +kernel
theorem dX1_carryOut_140 : decode cX1_carryOut 140 = .ok (.ixor, 1) := by decide +kernel
theorem dX1_carryOut_141 : decode cX1_carryOut 141 = .ok (.istore 5, 2) := by decide +kernel
theorem dX1_carryOut_143 : decode cX1_carryOut 143 = .ok (.aload_n 0, 1) := by decide +kernel
theorem dX1_carryOut_144 : decode cX1_carryOut 144 = .ok (.aload_n 0, 1) := by decide +kernel
theorem dX1_carryOut_145 : decode cX1_carryOut 145 = .ok (.getfield 22, 3) := by decide +kernel
theorem dX1_carryOut_148 : decode cX1_carryOut 148 = .ok (.iload_n 1, 1) := by decide +kernel
theorem dX1_carryOut_149 : decode cX1_carryOut 149 = .ok (.iaload, 1) := by decide +kernel
theorem dX1_carryOut_150 : decode cX1_carryOut 150 = .ok (.bipush 12, 2) := by decide +kernel
theorem dX1_carryOut_152 : decode cX1_carryOut 152 = .ok (.ishr, 1) := by decide +kernel
theorem dX1_carryOut_153 : decode cX1_carryOut 153 = .ok (.iload 5, 2) := by decide +kernel
theorem dX1_carryOut_155 : decode cX1_carryOut 155 = .ok (.aload_n 0, 1) := by decide +kernel
theorem dX1_carryOut_156 : decode cX1_carryOut 156 = .ok (.getfield 19, 3) := by decide +kernel
theorem dX1_carryOut_159 : decode cX1_carryOut 159 = .ok (.iload_n 1, 1) := by decide +kernel
theorem dX1_carryOut_160 : decode cX1_carryOut 160 = .ok (.iaload, 1) := by decide +kernel
theorem dX1_carryOut_161 : decode cX1_carryOut 161 = .ok (.invokevirtual 63, 3) := by decide +kernel
theorem dX1_carryOut_164 : decode cX1_carryOut 164 = .ok (.return_, 1) := by decide +kernel
theorem dX1_step_0 : decode cX1_step 0 = .ok (.aload_n 0, 1) := by decide +kernel
theorem dX1_step_1 : decode cX1_step 1 = .ok (.getfield 49, 3) := by decide +kernel
theorem dX1_step_4 : decode cX1_step 4 = .ok (.ifCond .ne 6, 3) := by decide +kernel
theorem dX1_step_7 : decode cX1_step 7 = .ok (.bipush (-5), 2) := by decide +kernel
theorem dX1_step_9 : decode cX1_step 9 = .ok (.ireturn, 1) := by decide +kernel
theorem dX1_step_10 : decode cX1_step 10 = .ok (.aload_n 0, 1) := by decide +kernel
theorem dX1_step_11 : decode cX1_step 11 = .ok (.invokevirtual 71, 3) := by decide +kernel
theorem dX1_step_14 : decode cX1_step 14 = .ok (.istore_n 1, 1) := by decide +kernel
theorem dX1_step_15 : decode cX1_step 15 = .ok (.aload_n 0, 1) := by decide +kernel
theorem dX1_step_16 : decode cX1_step 16 = .ok (.aload_n 0, 1) := by decide +kernel
theorem dX1_step_17 : decode cX1_step 17 = .ok (.invokevirtual 75, 3) := by decide +kernel
theorem dX1_step_20 : decode cX1_step 20 = .ok (.putfield 52, 3) := by decide +kernel
theorem dX1_step_23 : decode cX1_step 23 = .ok (.aload_n 0, 1) := by decide +kernel
theorem dX1_step_24 : decode cX1_step 24 = .ok (.iload_n 1, 1) := by decide +kernel
theorem dX1_step_25 : decode cX1_step 25 = .ok (.invokevirtual 79, 3) := by decide +kernel
theorem dX1_step_28 : decode cX1_step 28 = .ok (.istore_n 2, 1) := by decide +kernel
theorem dX1_step_29 : decode cX1_step 29 = .ok (.iconst 0, 1) := by decide +kernel
theorem dX1_step_30 : decode cX1_step 30 = .ok (.istore_n 3, 1) := by decide +kernel
theorem dX1_step_31 : decode cX1_step 31 = .ok (.iload_n 3, 1) := by decide +kernel
theorem dX1_step_32 : decode cX1_step 32 = .ok (.aload_n 0, 1) := by decide +kernel
theorem dX1_step_33 : decode cX1_step 33 = .ok (.getfield 44, 3) := by decide +kernel
theorem dX1_step_36 : decode cX1_step 36 = .ok (.if_icmp .ge 25, 3) := by decide +kernel
theorem dX1_step_39 : decode cX1_step 39 = .ok (.aload_n 0, 1) := by decide +kernel
theorem dX1_step_40 : decode cX1_step 40 = .ok (.getfield 28, 3) := by decide +kernel
theorem dX1_step_43 : decode cX1_step 43 = .ok (.iload_n 3, 1) := by decide +kernel
theorem dX1_step_44 : decode cX1_step 44 = .ok (.iaload, 1) := by decide +kernel
theorem dX1_step_45 : decode cX1_step 45 = .ok (.iload_n 2, 1) := by decide +kernel
theorem dX1_step_46 : decode cX1_step 46 = .ok (.iand, 1) := by decide +kernel
theorem dX1_step_47 : decode cX1_step 47 = .ok (.ifCond .eq 8, 3) := by decide +kernel
theorem dX1_step_50 : decode cX1_step 50 = .ok (.aload_n 0, 1) := by decide +kernel
theorem dX1_step_51 : decode cX1_step 51 = .ok (.iload_n 3, 1) := by decide +kernel
theorem dX1_step_52 : decode cX1_step 52 = .ok (.invokevirtual 67, 3) := by decide +kernel
theorem dX1_step_55 : decode cX1_step 55 = .ok (.iinc 3 1, 3) := by decide +kernel
theorem dX1_step_58 : decode cX1_step 58 = .ok (.goto (-27), 3) := by decide +kernel
theorem dX1_step_61 : decode cX1_step 61 = .ok (.aload_n 0, 1) := by decide +kernel
theorem dX1_step_62 : decode cX1_step 62 = .ok (.dup, 1) := by decide +kernel
theorem dX1_step_63 : decode cX1_step 63 = .ok (.getfield 83, 3) := by decide +kernel
theorem dX1_step_66 : decode cX1_step 66 = .ok (.iconst 1, 1) := by decide +kernel
theorem dX1_step_67 : decode cX1_step 67 = .ok (.iadd, 1) := by decide +kernel
theorem dX1_step_68 : decode cX1_step 68 = .ok (.putfield 83, 3) := by decide +kernel
theorem dX1_step_71 : decode cX1_step 71 = .ok (.iconst 0, 1) := by decide +kernel
theorem dX1_step_72 : decode cX1_step 72 = .ok (.istore_n 3, 1) := by decide +kernel
theorem dX1_step_73 : decode cX1_step 73 = .ok (.iconst 0, 1) := by decide +kernel
theorem dX1_step_74 : decode cX1_step 74 = .ok (.istore 4, 2) := by decide +kernel
theorem dX1_step_76 : decode cX1_step 76 = .ok (.iload 4, 2) := by decide +kernel
theorem dX1_step_78 : decode cX1_step 78 = .ok (.bipush 12, 2) := by decide +kernel
theorem dX1_step_80 : decode cX1_step 80 = .ok (.if_icmp .ge 18, 3) := by decide +kernel
theorem dX1_step_83 : decode cX1_step 83 = .ok (.iload_n 3, 1) := by decide +kernel
theorem dX1_step_84 : decode cX1_step 84 = .ok (.iload_n 2, 1) := by decide +kernel
theorem dX1_step_85 : decode cX1_step 85 = .ok (.iload 4, 2) := by decide +kernel
theorem dX1_step_87 : decode cX1_step 87 = .ok (.ishr, 1) := by decide +kernel
theorem dX1_step_88 : decode cX1_step 88 = .ok (.iconst 1, 1) := by decide +kernel
theorem dX1_step_89 : decode cX1_step 89 = .ok (.iand, 1) := by decide +kernel
theorem dX1_step_90 : decode cX1_step 90 = .ok (.iadd, 1) := by decide +kernel
theorem dX1_step_91 : decode cX1_step 91 = .ok (.istore_n 3, 1) := by decide +kernel
theorem dX1_step_92 : decode cX1_step 92 = .ok (.iinc 4 1, 3) := by decide +kernel
theorem dX1_step_95 : decode cX1_step 95 = .ok (.goto (-19), 3) := by decide +kernel
theorem dX1_step_98 : decode cX1_step 98 = .ok (.iload_n 3, 1) := by decide +kernel
theorem dX1_step_99 : decode cX1_step 99 = .ok (.ireturn, 1) := by decide +kernel
theorem dX1_anyNext_0 : decode cX1_anyNext 0 = .ok (.iconst 0, 1) := by decide +kernel
theorem dX1_anyNext_1 : decode cX1_anyNext 1 = .ok (.istore_n 1, 1) := by decide +kernel
theorem dX1_anyNext_2 : decode cX1_anyNext 2 = .ok (.iload_n 1, 1) := by decide +kernel
theorem dX1_anyNext_3 : decode cX1_anyNext 3 = .ok (.aload_n 0, 1) := by decide +kernel
theorem dX1_anyNext_4 : decode cX1_anyNext 4 = .ok (.getfield 49, 3) := by decide +kernel
theorem dX1_anyNext_7 : decode cX1_anyNext 7 = .ok (.if_icmp .ge 20, 3) := by decide +kernel
theorem dX1_anyNext_10 : decode cX1_anyNext 10 = .ok (.aload_n 0, 1) := by decide +kernel
theorem dX1_anyNext_11 : decode cX1_anyNext 11 = .ok (.getfield 40, 3) := by decide +kernel
theorem dX1_anyNext_14 : decode cX1_anyNext 14 = .ok (.iload_n 1, 1) := by decide +kernel
theorem dX1_anyNext_15 : decode cX1_anyNext 15 = .ok (.baload, 1) := by decide +kernel
theorem dX1_anyNext_16 : decode cX1_anyNext 16 = .ok (.ifCond .eq 5, 3) := by decide +kernel
theorem dX1_anyNext_19 : decode cX1_anyNext 19 = .ok (.iconst 1, 1) := by decide +kernel
theorem dX1_anyNext_20 : decode cX1_anyNext 20 = .ok (.ireturn, 1) := by decide +kernel
theorem dX1_anyNext_21 : decode cX1_anyNext 21 = .ok (.iinc 1 1, 3) := by decide +kernel
theorem dX1_anyNext_24 : decode cX1_anyNext 24 = .ok (.goto (-22), 3) := by decide +kernel
theorem dX1_anyNext_27 : decode cX1_anyNext 27 = .ok (.iconst 0, 1) := by decide +kernel
theorem dX1_anyNext_28 : decode cX1_anyNext 28 = .ok (.ireturn, 1) := by decide +kernel
theorem dX1_nextTime_0 : decode cX1_nextTime 0 = .ok (.bipush (-5), 2) := by decide +kernel
theorem dX1_nextTime_2 : decode cX1_nextTime 2 = .ok (.istore_n 1, 1) := by decide +kernel
theorem dX1_nextTime_3 : decode cX1_nextTime 3 = .ok (.iconst 0, 1) := by decide +kernel
theorem dX1_nextTime_4 : decode cX1_nextTime 4 = .ok (.istore_n 2, 1) := by decide +kernel
theorem dX1_nextTime_5 : decode cX1_nextTime 5 = .ok (.iload_n 2, 1) := by decide +kernel
theorem dX1_nextTime_6 : decode cX1_nextTime 6 = .ok (.aload_n 0, 1) := by decide +kernel
theorem dX1_nextTime_7 : decode cX1_nextTime 7 = .ok (.getfield 49, 3) := by decide +kernel
theorem dX1_nextTime_10 : decode cX1_nextTime 10 = .ok (.if_icmp .ge 32, 3) := by decide +kernel
theorem dX1_nextTime_13 : decode cX1_nextTime 13 = .ok (.iload_n 1, 1) := by decide +kernel
theorem dX1_nextTime_14 : decode cX1_nextTime 14 = .ok (.bipush (-5), 2) := by decide +kernel
theorem dX1_nextTime_16 : decode cX1_nextTime 16 = .ok (.if_icmp .eq 13, 3) := by decide +kernel
theorem dX1_nextTime_19 : decode cX1_nextTime 19 = .ok (.aload_n 0, 1) := by decide +kernel
theorem dX1_nextTime_20 : decode cX1_nextTime 20 = .ok (.getfield 37, 3) := by decide +kernel
theorem dX1_nextTime_23 : decode cX1_nextTime 23 = .ok (.iload_n 2, 1) := by decide +kernel
theorem dX1_nextTime_24 : decode cX1_nextTime 24 = .ok (.iaload, 1) := by decide +kernel
theorem dX1_nextTime_25 : decode cX1_nextTime 25 = .ok (.iload_n 1, 1) := by decide +kernel
theorem dX1_nextTime_26 : decode cX1_nextTime 26 = .ok (.if_icmp .ge 10, 3) := by decide +kernel
theorem dX1_nextTime_29 : decode cX1_nextTime 29 = .ok (.aload_n 0, 1) := by decide +kernel
theorem dX1_nextTime_30 : decode cX1_nextTime 30 = .ok (.getfield 37, 3) := by decide +kernel
theorem dX1_nextTime_33 : decode cX1_nextTime 33 = .ok (.iload_n 2, 1) := by decide +kernel
theorem dX1_nextTime_34 : decode cX1_nextTime 34 = .ok (.iaload, 1) := by decide +kernel
theorem dX1_nextTime_35 : decode cX1_nextTime 35 = .ok (.istore_n 1, 1) := by decide +kernel
theorem dX1_nextTime_36 : decode cX1_nextTime 36 = .ok (.iinc 2 1, 3) := by decide +kernel
theorem dX1_nextTime_39 : decode cX1_nextTime 39 = .ok (.goto (-34), 3) := by decide +kernel
theorem dX1_nextTime_42 : decode cX1_nextTime 42 = .ok (.iload_n 1, 1) := by decide +kernel
theorem dX1_nextTime_43 : decode cX1_nextTime 43 = .ok (.ireturn, 1) := by decide +kernel
theorem dX1_update_0 : decode cX1_update 0 = .ok (.iconst 0, 1) := by decide +kernel
theorem dX1_update_1 : decode cX1_update 1 = .ok (.istore_n 2, 1) := by decide +kernel
theorem dX1_update_2 : decode cX1_update 2 = .ok (.iconst 0, 1) := by decide +kernel
theorem dX1_update_3 : decode cX1_update 3 = .ok (.istore_n 3, 1) := by decide +kernel
theorem dX1_update_4 : decode cX1_update 4 = .ok (.iconst 0, 1) := by decide +kernel
theorem dX1_update_5 : decode cX1_update 5 = .ok (.istore 4, 2) := by decide +kernel
theorem dX1_update_7 : decode cX1_update 7 = .ok (.iload 4, 2) := by decide +kernel
theorem dX1_update_9 : decode cX1_update 9 = .ok (.aload_n 0, 1) := by decide +kernel
theorem dX1_update_10 : decode cX1_update 10 = .ok (.getfield 49, 3) := by decide +kernel
theorem dX1_update_13 : decode cX1_update 13 = .ok (.if_icmp .ge 133, 3) := by decide +kernel
theorem dX1_update_16 : decode cX1_update 16 = .ok (.iload_n 1, 1) := by decide +kernel
theorem dX1_update_17 : decode cX1_update 17 = .ok (.ifCond .eq 13, 3) := by decide +kernel
theorem dX1_update_20 : decode cX1_update 20 = .ok (.aload_n 0, 1) := by decide +kernel
theorem dX1_update_21 : decode cX1_update 21 = .ok (.getfield 40, 3) := by decide +kernel
theorem dX1_update_24 : decode cX1_update 24 = .ok (.iload 4, 2) := by decide +kernel
theorem dX1_update_26 : decode cX1_update 26 = .ok (.baload, 1) := by decide +kernel
theorem dX1_update_27 : decode cX1_update 27 = .ok (.goto 22, 3) := by decide +kernel
theorem dX1_update_30 : decode cX1_update 30 = .ok (.aload_n 0, 1) := by decide +kernel
theorem dX1_update_31 : decode cX1_update 31 = .ok (.getfield 37, 3) := by decide +kernel
theorem dX1_update_34 : decode cX1_update 34 = .ok (.iload 4, 2) := by decide +kernel
theorem dX1_update_36 : decode cX1_update 36 = .ok (.iaload, 1) := by decide +kernel
theorem dX1_update_37 : decode cX1_update 37 = .ok (.aload_n 0, 1) := by decide +kernel
theorem dX1_update_38 : decode cX1_update 38 = .ok (.getfield 52, 3) := by decide +kernel
theorem dX1_update_41 : decode cX1_update 41 = .ok (.if_icmp .ne 7, 3) := by decide +kernel
theorem dX1_update_44 : decode cX1_update 44 = .ok (.iconst 1, 1) := by decide +kernel
theorem dX1_update_45 : decode cX1_update 45 = .ok (.goto 4, 3) := by decide +kernel
theorem dX1_update_48 : decode cX1_update 48 = .ok (.iconst 0, 1) := by decide +kernel
theorem dX1_update_49 : decode cX1_update 49 = .ok (.istore 5, 2) := by decide +kernel
theorem dX1_update_51 : decode cX1_update 51 = .ok (.iload 5, 2) := by decide +kernel
theorem dX1_update_53 : decode cX1_update 53 = .ok (.ifCond .eq 72, 3) := by decide +kernel
theorem dX1_update_56 : decode cX1_update 56 = .ok (.aload_n 0, 1) := by decide +kernel
theorem dX1_update_57 : decode cX1_update 57 = .ok (.getfield 7, 3) := by decide +kernel
theorem dX1_update_60 : decode cX1_update 60 = .ok (.aload_n 0, 1) := by decide +kernel
theorem dX1_update_61 : decode cX1_update 61 = .ok (.getfield 31, 3) := by decide +kernel
theorem dX1_update_64 : decode cX1_update 64 = .ok (.iload 4, 2) := by decide +kernel
theorem dX1_update_66 : decode cX1_update 66 = .ok (.iaload, 1) := by decide +kernel
theorem dX1_update_67 : decode cX1_update 67 = .ok (.iaload, 1) := by decide +kernel
theorem dX1_update_68 : decode cX1_update 68 = .ok (.aload_n 0, 1) := by decide +kernel
theorem dX1_update_69 : decode cX1_update 69 = .ok (.getfield 34, 3) := by decide +kernel
theorem dX1_update_72 : decode cX1_update 72 = .ok (.iload 4, 2) := by decide +kernel
theorem dX1_update_74 : decode cX1_update 74 = .ok (.iaload, 1) := by decide +kernel
theorem dX1_update_75 : decode cX1_update 75 = .ok (.if_icmp .eq 50, 3) := by decide +kernel
theorem dX1_update_78 : decode cX1_update 78 = .ok (.aload_n 0, 1) := by decide +kernel
theorem dX1_update_79 : decode cX1_update 79 = .ok (.getfield 7, 3) := by decide +kernel
theorem dX1_update_82 : decode cX1_update 82 = .ok (.aload_n 0, 1) := by decide +kernel
theorem dX1_update_83 : decode cX1_update 83 = .ok (.getfield 31, 3) := by decide +kernel
theorem dX1_update_86 : decode cX1_update 86 = .ok (.iload 4, 2) := by decide +kernel
theorem dX1_update_88 : decode cX1_update 88 = .ok (.iaload, 1) := by decide +kernel
theorem dX1_update_89 : decode cX1_update 89 = .ok (.aload_n 0, 1) := by decide +kernel
theorem dX1_update_90 : decode cX1_update 90 = .ok (.getfield 34, 3) := by decide +kernel
theorem dX1_update_93 : decode cX1_update 93 = .ok (.iload 4, 2) := by decide +kernel
theorem dX1_update_95 : decode cX1_update 95 = .ok (.iaload, 1) := by decide +kernel
theorem dX1_update_96 : decode cX1_update 96 = .ok (.iastore, 1) := by decide +kernel
theorem dX1_update_97 : decode cX1_update 97 = .ok (.aload_n 0, 1) := by decide +kernel
theorem dX1_update_98 : decode cX1_update 98 = .ok (.getfield 13, 3) := by decide +kernel
theorem dX1_update_101 : decode cX1_update 101 = .ok (.aload_n 0, 1) := by decide +kernel
theorem dX1_update_102 : decode cX1_update 102 = .ok (.getfield 31, 3) := by decide +kernel
theorem dX1_update_105 : decode cX1_update 105 = .ok (.iload 4, 2) := by decide +kernel
theorem dX1_update_107 : decode cX1_update 107 = .ok (.iaload, 1) := by decide +kernel
theorem dX1_update_108 : decode cX1_update 108 = .ok (.dup2, 1) := by decide +kernel
theorem dX1_update_109 : decode cX1_update 109 = .ok (.iaload, 1) := by decide +kernel
theorem dX1_update_110 : decode cX1_update 110 = .ok (.iconst 1, 1) := by decide +kernel
theorem dX1_update_111 : decode cX1_update 111 = .ok (.iadd, 1) := by decide +kernel
theorem dX1_update_112 : decode cX1_update 112 = .ok (.iastore, 1) := by decide +kernel
theorem dX1_update_113 : decode cX1_update 113 = .ok (.iload_n 2, 1) := by decide +kernel
theorem dX1_update_114 : decode cX1_update 114 = .ok (.iconst 1, 1) := by decide +kernel
theorem dX1_update_115 : decode cX1_update 115 = .ok (.aload_n 0, 1) := by decide +kernel
theorem dX1_update_116 : decode cX1_update 116 = .ok (.getfield 31, 3) := by decide +kernel
theorem dX1_update_119 : decode cX1_update 119 = .ok (.iload 4, 2) := by decide +kernel
theorem dX1_update_121 : decode cX1_update 121 = .ok (.iaload, 1) := by decide +kernel
theorem dX1_update_122 : decode cX1_update 122 = .ok (.ishl, 1) := by decide +kernel
theorem dX1_update_123 : decode cX1_update 123 = .ok (.ior, 1) := by decide +kernel
theorem dX1_update_124 : decode cX1_update 124 = .ok (.istore_n 2, 1) := by decide +kernel
theorem dX1_update_125 : decode cX1_update 125 = .ok (.iload 5, 2) := by decide +kernel
theorem dX1_update_127 : decode cX1_update 127 = .ok (.ifCond .ne 13, 3) := by decide +kernel
theorem dX1_update_130 : decode cX1_update 130 = .ok (.aload_n 0, 1) := by decide +kernel
theorem dX1_update_131 : decode cX1_update 131 = .ok (.iload 4, 2) := by decide +kernel
theorem dX1_update_133 : decode cX1_update 133 = .ok (.iload_n 3, 1) := by decide +kernel
theorem dX1_update_134 : decode cX1_update 134 = .ok (.invokevirtual 55, 3) := by decide +kernel
theorem dX1_update_137 : decode cX1_update 137 = .ok (.iinc 3 1, 3) := by decide +kernel
theorem dX1_update_140 : decode cX1_update 140 = .ok (.iinc 4 1, 3) := by decide +kernel
theorem dX1_update_143 : decode cX1_update 143 = .ok (.goto (-136), 3) := by decide +kernel
theorem dX1_update_146 : decode cX1_update 146 = .ok (.aload_n 0, 1) := by decide +kernel
theorem dX1_update_147 : decode cX1_update 147 = .ok (.iload_n 3, 1) := by decide +kernel
theorem dX1_update_148 : decode cX1_update 148 = .ok (.putfield 49, 3) := by decide +kernel
theorem dX1_update_151 : decode cX1_update 151 = .ok (.iload_n 2, 1) := by decide +kernel
theorem dX1_update_152 : decode cX1_update 152 = .ok (.ireturn, 1) := by decide +kernel
theorem dX1_run_0 : decode cX1_run 0 = .ok (.aload_n 0, 1) := by decide +kernel
theorem dX1_run_1 : decode cX1_run 1 = .ok (.getfield 52, 3) := by decide +kernel
theorem dX1_run_4 : decode cX1_run 4 = .ok (.iload_n 1, 1) := by decide +kernel
theorem dX1_run_5 : decode cX1_run 5 = .ok (.ifCond .ge 7, 3) := by decide +kernel
theorem dX1_run_8 : decode cX1_run 8 = .ok (.iconst 0, 1) := by decide +kernel
theorem dX1_run_9 : decode cX1_run 9 = .ok (.goto 17, 3) := by decide +kernel
theorem dX1_run_12 : decode cX1_run 12 = .ok (.iload_n 1, 1) := by decide +kernel
theorem dX1_run_13 : decode cX1_run 13 = .ok (.sipush 1000, 3) := by decide +kernel
theorem dX1_run_16 : decode cX1_run 16 = .ok (.if_icmp .le 9, 3) := by decide +kernel
theorem dX1_run_19 : decode cX1_run 19 = .ok (.sipush 1000, 3) := by decide +kernel
theorem dX1_run_22 : decode cX1_run 22 = .ok (.goto 4, 3) := by decide +kernel
theorem dX1_run_25 : decode cX1_run 25 = .ok (.iload_n 1, 1) := by decide +kernel
theorem dX1_run_26 : decode cX1_run 26 = .ok (.iadd, 1) := by decide +kernel
theorem dX1_run_27 : decode cX1_run 27 = .ok (.istore_n 3, 1) := by decide +kernel
theorem dX1_run_28 : decode cX1_run 28 = .ok (.iload_n 2, 1) := by decide +kernel
theorem dX1_run_29 : decode cX1_run 29 = .ok (.ifCond .ge 7, 3) := by decide +kernel
theorem dX1_run_32 : decode cX1_run 32 = .ok (.iconst 0, 1) := by decide +kernel
theorem dX1_run_33 : decode cX1_run 33 = .ok (.goto 17, 3) := by decide +kernel
theorem dX1_run_36 : decode cX1_run 36 = .ok (.iload_n 2, 1) := by decide +kernel
theorem dX1_run_37 : decode cX1_run 37 = .ok (.sipush 200, 3) := by decide +kernel
theorem dX1_run_40 : decode cX1_run 40 = .ok (.if_icmp .le 9, 3) := by decide +kernel
theorem dX1_run_43 : decode cX1_run 43 = .ok (.sipush 200, 3) := by decide +kernel
theorem dX1_run_46 : decode cX1_run 46 = .ok (.goto 4, 3) := by decide +kernel
theorem dX1_run_49 : decode cX1_run 49 = .ok (.iload_n 2, 1) := by decide +kernel
theorem dX1_run_50 : decode cX1_run 50 = .ok (.istore 4, 2) := by decide +kernel
theorem dX1_run_52 : decode cX1_run 52 = .ok (.iconst 0, 1) := by decide +kernel
theorem dX1_run_53 : decode cX1_run 53 = .ok (.istore 5, 2) := by decide +kernel
theorem dX1_run_55 : decode cX1_run 55 = .ok (.iload 5, 2) := by decide +kernel
theorem dX1_run_57 : decode cX1_run 57 = .ok (.iload 4, 2) := by decide +kernel
theorem dX1_run_59 : decode cX1_run 59 = .ok (.if_icmp .ge 29, 3) := by decide +kernel
theorem dX1_run_62 : decode cX1_run 62 = .ok (.aload_n 0, 1) := by decide +kernel
theorem dX1_run_63 : decode cX1_run 63 = .ok (.getfield 49, 3) := by decide +kernel
theorem dX1_run_66 : decode cX1_run 66 = .ok (.ifCond .le 22, 3) := by decide +kernel
theorem dX1_run_69 : decode cX1_run 69 = .ok (.aload_n 0, 1) := by decide +kernel
theorem dX1_run_70 : decode cX1_run 70 = .ok (.invokevirtual 75, 3) := by decide +kernel
theorem dX1_run_73 : decode cX1_run 73 = .ok (.iload_n 3, 1) := by decide +kernel
theorem dX1_run_74 : decode cX1_run 74 = .ok (.if_icmp .gt 14, 3) := by decide +kernel
theorem dX1_run_77 : decode cX1_run 77 = .ok (.aload_n 0, 1) := by decide +kernel
theorem dX1_run_78 : decode cX1_run 78 = .ok (.invokevirtual 86, 3) := by decide +kernel
theorem dX1_run_81 : decode cX1_run 81 = .ok (.pop, 1) := by decide +kernel
theorem dX1_run_82 : decode cX1_run 82 = .ok (.iinc 5 1, 3) := by decide +kernel
theorem dX1_run_85 : decode cX1_run 85 = .ok (.goto (-30), 3) := by decide +kernel
theorem dX1_run_88 : decode cX1_run 88 = .ok (.iload 5, 2) := by decide +kernel
theorem dX1_run_90 : decode cX1_run 90 = .ok (.ireturn, 1) := by decide +kernel
theorem dX1_reset_0 : decode cX1_reset 0 = .ok (.iconst 0, 1) := by decide +kernel
theorem dX1_reset_1 : decode cX1_reset 1 = .ok (.istore_n 1, 1) := by decide +kernel
theorem dX1_reset_2 : decode cX1_reset 2 = .ok (.iload_n 1, 1) := by decide +kernel
theorem dX1_reset_3 : decode cX1_reset 3 = .ok (.bipush 12, 2) := by decide +kernel
theorem dX1_reset_5 : decode cX1_reset 5 = .ok (.if_icmp .ge 23, 3) := by decide +kernel
theorem dX1_reset_8 : decode cX1_reset 8 = .ok (.aload_n 0, 1) := by decide +kernel
theorem dX1_reset_9 : decode cX1_reset 9 = .ok (.getfield 7, 3) := by decide +kernel
theorem dX1_reset_12 : decode cX1_reset 12 = .ok (.iload_n 1, 1) := by decide +kernel
theorem dX1_reset_13 : decode cX1_reset 13 = .ok (.iconst 0, 1) := by decide +kernel
theorem dX1_reset_14 : decode cX1_reset 14 = .ok (.iastore, 1) := by decide +kernel
theorem dX1_reset_15 : decode cX1_reset 15 = .ok (.aload_n 0, 1) := by decide +kernel
theorem dX1_reset_16 : decode cX1_reset 16 = .ok (.getfield 13, 3) := by decide +kernel
theorem dX1_reset_19 : decode cX1_reset 19 = .ok (.iload_n 1, 1) := by decide +kernel
theorem dX1_reset_20 : decode cX1_reset 20 = .ok (.iconst 0, 1) := by decide +kernel
theorem dX1_reset_21 : decode cX1_reset 21 = .ok (.iastore, 1) := by decide +kernel
theorem dX1_reset_22 : decode cX1_reset 22 = .ok (.iinc 1 1, 3) := by decide +kernel
theorem dX1_reset_25 : decode cX1_reset 25 = .ok (.goto (-23), 3) := by decide +kernel
theorem dX1_reset_28 : decode cX1_reset 28 = .ok (.aload_n 0, 1) := by decide +kernel
theorem dX1_reset_29 : decode cX1_reset 29 = .ok (.iconst 0, 1) := by decide +kernel
theorem dX1_reset_30 : decode cX1_reset 30 = .ok (.putfield 49, 3) := by decide +kernel
theorem dX1_reset_33 : decode cX1_reset 33 = .ok (.aload_n 0, 1) := by decide +kernel
theorem dX1_reset_34 : decode cX1_reset 34 = .ok (.iconst 0, 1) := by decide +kernel
theorem dX1_reset_35 : decode cX1_reset 35 = .ok (.putfield 52, 3) := by decide +kernel
theorem dX1_reset_38 : decode cX1_reset 38 = .ok (.aload_n 0, 1) := by decide +kernel
theorem dX1_reset_39 : decode cX1_reset 39 = .ok (.iconst 0, 1) := by decide +kernel
theorem dX1_reset_40 : decode cX1_reset 40 = .ok (.putfield 83, 3) := by decide +kernel
theorem dX1_reset_43 : decode cX1_reset 43 = .ok (.return_, 1) := by decide +kernel
theorem dX1_value_0 : decode cX1_value 0 = .ok (.aload_n 0, 1) := by decide +kernel
theorem dX1_value_1 : decode cX1_value 1 = .ok (.iload_n 1, 1) := by decide +kernel
theorem dX1_value_2 : decode cX1_value 2 = .ok (.invokevirtual 59, 3) := by decide +kernel
theorem dX1_value_5 : decode cX1_value 5 = .ok (.ifCond .eq 12, 3) := by decide +kernel
theorem dX1_value_8 : decode cX1_value 8 = .ok (.aload_n 0, 1) := by decide +kernel
theorem dX1_value_9 : decode cX1_value 9 = .ok (.getfield 7, 3) := by decide +kernel
theorem dX1_value_12 : decode cX1_value 12 = .ok (.iload_n 1, 1) := by decide +kernel
theorem dX1_value_13 : decode cX1_value 13 = .ok (.iaload, 1) := by decide +kernel
theorem dX1_value_14 : decode cX1_value 14 = .ok (.goto 4, 3) := by decide +kernel
theorem dX1_value_17 : decode cX1_value 17 = .ok (.iconst 0, 1) := by decide +kernel
theorem dX1_value_18 : decode cX1_value 18 = .ok (.ireturn, 1) := by decide +kernel
theorem dX1_time_0 : decode cX1_time 0 = .ok (.aload_n 0, 1) := by decide +kernel
theorem dX1_time_1 : decode cX1_time 1 = .ok (.getfield 52, 3) := by decide +kernel
theorem dX1_time_4 : decode cX1_time 4 = .ok (.ireturn, 1) := by decide +kernel
theorem dX1_pending_0 : decode cX1_pending 0 = .ok (.aload_n 0, 1) := by decide +kernel
theorem dX1_pending_1 : decode cX1_pending 1 = .ok (.getfield 49, 3) := by decide +kernel
theorem dX1_pending_4 : decode cX1_pending 4 = .ok (.ireturn, 1) := by decide +kernel
theorem dX1_events_0 : decode cX1_events 0 = .ok (.aload_n 0, 1) := by decide +kernel
theorem dX1_events_1 : decode cX1_events 1 = .ok (.iload_n 1, 1) := by decide +kernel
theorem dX1_events_2 : decode cX1_events 2 = .ok (.invokevirtual 59, 3) := by decide +kernel
theorem dX1_events_5 : decode cX1_events 5 = .ok (.ifCond .eq 12, 3) := by decide +kernel
theorem dX1_events_8 : decode cX1_events 8 = .ok (.aload_n 0, 1) := by decide +kernel
theorem dX1_events_9 : decode cX1_events 9 = .ok (.getfield 13, 3) := by decide +kernel
theorem dX1_events_12 : decode cX1_events 12 = .ok (.iload_n 1, 1) := by decide +kernel
theorem dX1_events_13 : decode cX1_events 13 = .ok (.iaload, 1) := by decide +kernel
theorem dX1_events_14 : decode cX1_events 14 = .ok (.goto 4, 3) := by decide +kernel
theorem dX1_events_17 : decode cX1_events 17 = .ok (.iconst 0, 1) := by decide +kernel
theorem dX1_events_18 : decode cX1_events 18 = .ok (.ireturn, 1) := by decide +kernel
theorem dX1_cycles_0 : decode cX1_cycles 0 = .ok (.aload_n 0, 1) := by decide +kernel
theorem dX1_cycles_1 : decode cX1_cycles 1 = .ok (.getfield 83, 3) := by decide +kernel
theorem dX1_cycles_4 : decode cX1_cycles 4 = .ok (.ireturn, 1) := by decide +kernel
theorem dX1_coming_0 : decode cX1_coming 0 = .ok (.iconst (-1), 1) := by decide +kernel
theorem dX1_coming_1 : decode cX1_coming 1 = .ok (.istore_n 2, 1) := by decide +kernel
theorem dX1_coming_2 : decode cX1_coming 2 = .ok (.iconst 0, 1) := by decide +kernel
theorem dX1_coming_3 : decode cX1_coming 3 = .ok (.istore_n 3, 1) := by decide +kernel
theorem dX1_coming_4 : decode cX1_coming 4 = .ok (.iload_n 3, 1) := by decide +kernel
theorem dX1_coming_5 : decode cX1_coming 5 = .ok (.aload_n 0, 1) := by decide +kernel
theorem dX1_coming_6 : decode cX1_coming 6 = .ok (.getfield 49, 3) := by decide +kernel
theorem dX1_coming_9 : decode cX1_coming 9 = .ok (.if_icmp .ge 40, 3) := by decide +kernel
theorem dX1_coming_12 : decode cX1_coming 12 = .ok (.aload_n 0, 1) := by decide +kernel
theorem dX1_coming_13 : decode cX1_coming 13 = .ok (.getfield 31, 3) := by decide +kernel
theorem dX1_coming_16 : decode cX1_coming 16 = .ok (.iload_n 3, 1) := by decide +kernel
theorem dX1_coming_17 : decode cX1_coming 17 = .ok (.iaload, 1) := by decide +kernel
theorem dX1_coming_18 : decode cX1_coming 18 = .ok (.iload_n 1, 1) := by decide +kernel
theorem dX1_coming_19 : decode cX1_coming 19 = .ok (.if_icmp .ne 24, 3) := by decide +kernel
theorem dX1_coming_22 : decode cX1_coming 22 = .ok (.iload_n 2, 1) := by decide +kernel
theorem dX1_coming_23 : decode cX1_coming 23 = .ok (.ifCond .lt 18, 3) := by decide +kernel
theorem dX1_coming_26 : decode cX1_coming 26 = .ok (.aload_n 0, 1) := by decide +kernel
theorem dX1_coming_27 : decode cX1_coming 27 = .ok (.getfield 37, 3) := by decide +kernel
theorem dX1_coming_30 : decode cX1_coming 30 = .ok (.iload_n 3, 1) := by decide +kernel
theorem dX1_coming_31 : decode cX1_coming 31 = .ok (.iaload, 1) := by decide +kernel
theorem dX1_coming_32 : decode cX1_coming 32 = .ok (.aload_n 0, 1) := by decide +kernel
theorem dX1_coming_33 : decode cX1_coming 33 = .ok (.getfield 37, 3) := by decide +kernel
theorem dX1_coming_36 : decode cX1_coming 36 = .ok (.iload_n 2, 1) := by decide +kernel
theorem dX1_coming_37 : decode cX1_coming 37 = .ok (.iaload, 1) := by decide +kernel
theorem dX1_coming_38 : decode cX1_coming 38 = .ok (.if_icmp .ge 5, 3) := by decide +kernel
theorem dX1_coming_41 : decode cX1_coming 41 = .ok (.iload_n 3, 1) := by decide +kernel
theorem dX1_coming_42 : decode cX1_coming 42 = .ok (.istore_n 2, 1) := by decide +kernel
theorem dX1_coming_43 : decode cX1_coming 43 = .ok (.iinc 3 1, 3) := by decide +kernel
theorem dX1_coming_46 : decode cX1_coming 46 = .ok (.goto (-42), 3) := by decide +kernel
theorem dX1_coming_49 : decode cX1_coming 49 = .ok (.iload_n 2, 1) := by decide +kernel
theorem dX1_coming_50 : decode cX1_coming 50 = .ok (.ifCond .ge 7, 3) := by decide +kernel
theorem dX1_coming_53 : decode cX1_coming 53 = .ok (.iconst 0, 1) := by decide +kernel
theorem dX1_coming_54 : decode cX1_coming 54 = .ok (.goto 9, 3) := by decide +kernel
theorem dX1_coming_57 : decode cX1_coming 57 = .ok (.aload_n 0, 1) := by decide +kernel
theorem dX1_coming_58 : decode cX1_coming 58 = .ok (.getfield 34, 3) := by decide +kernel
theorem dX1_coming_61 : decode cX1_coming 61 = .ok (.iload_n 2, 1) := by decide +kernel
theorem dX1_coming_62 : decode cX1_coming 62 = .ok (.iaload, 1) := by decide +kernel
theorem dX1_coming_63 : decode cX1_coming 63 = .ok (.ireturn, 1) := by decide +kernel
end
section
set_option maxRecDepth 100000
theorem dL_law_0 : decode cL_law 0 = .ok (.new 7, 3) := by decide +kernel
theorem dL_law_3 : decode cL_law 3 = .ok (.dup, 1) := by decide +kernel
theorem dL_law_4 : decode cL_law 4 = .ok (.invokespecial 9, 3) := by decide +kernel
theorem dL_law_7 : decode cL_law 7 = .ok (.astore_n 1, 1) := by decide +kernel
theorem dL_law_8 : decode cL_law 8 = .ok (.new 10, 3) := by decide +kernel
theorem dL_law_11 : decode cL_law 11 = .ok (.dup, 1) := by decide +kernel
theorem dL_law_12 : decode cL_law 12 = .ok (.invokespecial 12, 3) := by decide +kernel
theorem dL_law_15 : decode cL_law 15 = .ok (.astore_n 2, 1) := by decide +kernel
theorem dL_law_16 : decode cL_law 16 = .ok (.iconst 0, 1) := by decide +kernel
theorem dL_law_17 : decode cL_law 17 = .ok (.istore_n 3, 1) := by decide +kernel
theorem dL_law_18 : decode cL_law 18 = .ok (.iload_n 3, 1) := by decide +kernel
theorem dL_law_19 : decode cL_law 19 = .ok (.aload_n 0, 1) := by decide +kernel
theorem dL_law_20 : decode cL_law 20 = .ok (.arraylength, 1) := by decide +kernel
theorem dL_law_21 : decode cL_law 21 = .ok (.iconst 5, 1) := by decide +kernel
theorem dL_law_22 : decode cL_law 22 = .ok (.isub, 1) := by decide +kernel
theorem dL_law_23 : decode cL_law 23 = .ok (.if_icmp .gt 380, 3) := by decide +kernel
theorem dL_law_26 : decode cL_law 26 = .ok (.aload_n 0, 1) := by decide +kernel
theorem dL_law_27 : decode cL_law 27 = .ok (.iload_n 3, 1) := by decide +kernel
theorem dL_law_28 : decode cL_law 28 = .ok (.iaload, 1) := by decide +kernel
theorem dL_law_29 : decode cL_law 29 = .ok (.bipush 15, 2) := by decide +kernel
theorem dL_law_31 : decode cL_law 31 = .ok (.iand, 1) := by decide +kernel
theorem dL_law_32 : decode cL_law 32 = .ok (.tableswitch 365 0 12 #[68, 121, 164, 187, 200, 233, 244, 267, 280, 293, 306, 329, 342], 68) := by decide +kernel
theorem dL_law_100 : decode cL_law 100 = .ok (.aload_n 1, 1) := by decide +kernel
theorem dL_law_101 : decode cL_law 101 = .ok (.aload_n 0, 1) := by decide +kernel
theorem dL_law_102 : decode cL_law 102 = .ok (.iload_n 3, 1) := by decide +kernel
theorem dL_law_103 : decode cL_law 103 = .ok (.iconst 1, 1) := by decide +kernel
theorem dL_law_104 : decode cL_law 104 = .ok (.iadd, 1) := by decide +kernel
theorem dL_law_105 : decode cL_law 105 = .ok (.iaload, 1) := by decide +kernel
theorem dL_law_106 : decode cL_law 106 = .ok (.aload_n 0, 1) := by decide +kernel
theorem dL_law_107 : decode cL_law 107 = .ok (.iload_n 3, 1) := by decide +kernel
theorem dL_law_108 : decode cL_law 108 = .ok (.iconst 2, 1) := by decide +kernel
theorem dL_law_109 : decode cL_law 109 = .ok (.iadd, 1) := by decide +kernel
theorem dL_law_110 : decode cL_law 110 = .ok (.iaload, 1) := by decide +kernel
theorem dL_law_111 : decode cL_law 111 = .ok (.aload_n 0, 1) := by decide +kernel
theorem dL_law_112 : decode cL_law 112 = .ok (.iload_n 3, 1) := by decide +kernel
theorem dL_law_113 : decode cL_law 113 = .ok (.iconst 3, 1) := by decide +kernel
theorem dL_law_114 : decode cL_law 114 = .ok (.iadd, 1) := by decide +kernel
theorem dL_law_115 : decode cL_law 115 = .ok (.iaload, 1) := by decide +kernel
theorem dL_law_116 : decode cL_law 116 = .ok (.aload_n 0, 1) := by decide +kernel
theorem dL_law_117 : decode cL_law 117 = .ok (.iload_n 3, 1) := by decide +kernel
theorem dL_law_118 : decode cL_law 118 = .ok (.iconst 4, 1) := by decide +kernel
theorem dL_law_119 : decode cL_law 119 = .ok (.iadd, 1) := by decide +kernel
theorem dL_law_120 : decode cL_law 120 = .ok (.iaload, 1) := by decide +kernel
theorem dL_law_121 : decode cL_law 121 = .ok (.invokevirtual 13, 3) := by decide +kernel
theorem dL_law_124 : decode cL_law 124 = .ok (.aload_n 2, 1) := by decide +kernel
theorem dL_law_125 : decode cL_law 125 = .ok (.aload_n 0, 1) := by decide +kernel
theorem dL_law_126 : decode cL_law 126 = .ok (.iload_n 3, 1) := by decide +kernel
theorem dL_law_127 : decode cL_law 127 = .ok (.iconst 1, 1) := by decide +kernel
theorem dL_law_128 : decode cL_law 128 = .ok (.iadd, 1) := by decide +kernel
theorem dL_law_129 : decode cL_law 129 = .ok (.iaload, 1) := by decide +kernel
theorem dL_law_130 : decode cL_law 130 = .ok (.aload_n 0, 1) := by decide +kernel
theorem dL_law_131 : decode cL_law 131 = .ok (.iload_n 3, 1) := by decide +kernel
theorem dL_law_132 : decode cL_law 132 = .ok (.iconst 2, 1) := by decide +kernel
theorem dL_law_133 : decode cL_law 133 = .ok (.iadd, 1) := by decide +kernel
theorem dL_law_134 : decode cL_law 134 = .ok (.iaload, 1) := by decide +kernel
theorem dL_law_135 : decode cL_law 135 = .ok (.aload_n 0, 1) := by decide +kernel
theorem dL_law_136 : decode cL_law 136 = .ok (.iload_n 3, 1) := by decide +kernel
theorem dL_law_137 : decode cL_law 137 = .ok (.iconst 3, 1) := by decide +kernel
theorem dL_law_138 : decode cL_law 138 = .ok (.iadd, 1) := by decide +kernel
theorem dL_law_139 : decode cL_law 139 = .ok (.iaload, 1) := by decide +kernel
theorem dL_law_140 : decode cL_law 140 = .ok (.aload_n 0, 1) := by decide +kernel
theorem dL_law_141 : decode cL_law 141 = .ok (.iload_n 3, 1) := by decide +kernel
theorem dL_law_142 : decode cL_law 142 = .ok (.iconst 4, 1) := by decide +kernel
theorem dL_law_143 : decode cL_law 143 = .ok (.iadd, 1) := by decide +kernel
theorem dL_law_144 : decode cL_law 144 = .ok (.iaload, 1) := by decide +kernel
theorem dL_law_145 : decode cL_law 145 = .ok (.invokevirtual 17, 3) := by decide +kernel
theorem dL_law_148 : decode cL_law 148 = .ok (.if_icmp .eq 249, 3) := by decide +kernel
theorem dL_law_151 : decode cL_law 151 = .ok (.iconst 0, 1) := by decide +kernel
theorem dL_law_152 : decode cL_law 152 = .ok (.ireturn, 1) := by decide +kernel
theorem dL_law_153 : decode cL_law 153 = .ok (.aload_n 1, 1) := by decide +kernel
theorem dL_law_154 : decode cL_law 154 = .ok (.aload_n 0, 1) := by decide +kernel
theorem dL_law_155 : decode cL_law 155 = .ok (.iload_n 3, 1) := by decide +kernel
theorem dL_law_156 : decode cL_law 156 = .ok (.iconst 1, 1) := by decide +kernel
theorem dL_law_157 : decode cL_law 157 = .ok (.iadd, 1) := by decide +kernel
theorem dL_law_158 : decode cL_law 158 = .ok (.iaload, 1) := by decide +kernel
theorem dL_law_159 : decode cL_law 159 = .ok (.aload_n 0, 1) := by decide +kernel
theorem dL_law_160 : decode cL_law 160 = .ok (.iload_n 3, 1) := by decide +kernel
theorem dL_law_161 : decode cL_law 161 = .ok (.iconst 2, 1) := by decide +kernel
theorem dL_law_162 : decode cL_law 162 = .ok (.iadd, 1) := by decide +kernel
theorem dL_law_163 : decode cL_law 163 = .ok (.iaload, 1) := by decide +kernel
theorem dL_law_164 : decode cL_law 164 = .ok (.aload_n 0, 1) := by decide +kernel
theorem dL_law_165 : decode cL_law 165 = .ok (.iload_n 3, 1) := by decide +kernel
theorem dL_law_166 : decode cL_law 166 = .ok (.iconst 3, 1) := by decide +kernel
theorem dL_law_167 : decode cL_law 167 = .ok (.iadd, 1) := by decide +kernel
theorem dL_law_168 : decode cL_law 168 = .ok (.iaload, 1) := by decide +kernel
theorem dL_law_169 : decode cL_law 169 = .ok (.invokevirtual 18, 3) := by decide +kernel
theorem dL_law_172 : decode cL_law 172 = .ok (.aload_n 2, 1) := by decide +kernel
theorem dL_law_173 : decode cL_law 173 = .ok (.aload_n 0, 1) := by decide +kernel
theorem dL_law_174 : decode cL_law 174 = .ok (.iload_n 3, 1) := by decide +kernel
theorem dL_law_175 : decode cL_law 175 = .ok (.iconst 1, 1) := by decide +kernel
theorem dL_law_176 : decode cL_law 176 = .ok (.iadd, 1) := by decide +kernel
theorem dL_law_177 : decode cL_law 177 = .ok (.iaload, 1) := by decide +kernel
theorem dL_law_178 : decode cL_law 178 = .ok (.aload_n 0, 1) := by decide +kernel
theorem dL_law_179 : decode cL_law 179 = .ok (.iload_n 3, 1) := by decide +kernel
theorem dL_law_180 : decode cL_law 180 = .ok (.iconst 2, 1) := by decide +kernel
theorem dL_law_181 : decode cL_law 181 = .ok (.iadd, 1) := by decide +kernel
theorem dL_law_182 : decode cL_law 182 = .ok (.iaload, 1) := by decide +kernel
theorem dL_law_183 : decode cL_law 183 = .ok (.aload_n 0, 1) := by decide +kernel
theorem dL_law_184 : decode cL_law 184 = .ok (.iload_n 3, 1) := by decide +kernel
theorem dL_law_185 : decode cL_law 185 = .ok (.iconst 3, 1) := by decide +kernel
theorem dL_law_186 : decode cL_law 186 = .ok (.iadd, 1) := by decide +kernel
theorem dL_law_187 : decode cL_law 187 = .ok (.iaload, 1) := by decide +kernel
theorem dL_law_188 : decode cL_law 188 = .ok (.invokevirtual 22, 3) := by decide +kernel
theorem dL_law_191 : decode cL_law 191 = .ok (.if_icmp .eq 206, 3) := by decide +kernel
theorem dL_law_194 : decode cL_law 194 = .ok (.iconst 0, 1) := by decide +kernel
theorem dL_law_195 : decode cL_law 195 = .ok (.ireturn, 1) := by decide +kernel
theorem dL_law_196 : decode cL_law 196 = .ok (.aload_n 1, 1) := by decide +kernel
theorem dL_law_197 : decode cL_law 197 = .ok (.aload_n 0, 1) := by decide +kernel
theorem dL_law_198 : decode cL_law 198 = .ok (.iload_n 3, 1) := by decide +kernel
theorem dL_law_199 : decode cL_law 199 = .ok (.iconst 1, 1) := by decide +kernel
theorem dL_law_200 : decode cL_law 200 = .ok (.iadd, 1) := by decide +kernel
theorem dL_law_201 : decode cL_law 201 = .ok (.iaload, 1) := by decide +kernel
theorem dL_law_202 : decode cL_law 202 = .ok (.invokevirtual 23, 3) := by decide +kernel
theorem dL_law_205 : decode cL_law 205 = .ok (.aload_n 2, 1) := by decide +kernel
theorem dL_law_206 : decode cL_law 206 = .ok (.aload_n 0, 1) := by decide +kernel
theorem dL_law_207 : decode cL_law 207 = .ok (.iload_n 3, 1) := by decide +kernel
theorem dL_law_208 : decode cL_law 208 = .ok (.iconst 1, 1) := by decide +kernel
theorem dL_law_209 : decode cL_law 209 = .ok (.iadd, 1) := by decide +kernel
theorem dL_law_210 : decode cL_law 210 = .ok (.iaload, 1) := by decide +kernel
theorem dL_law_211 : decode cL_law 211 = .ok (.invokevirtual 27, 3) := by decide +kernel
theorem dL_law_214 : decode cL_law 214 = .ok (.if_icmp .eq 183, 3) := by decide +kernel
theorem dL_law_217 : decode cL_law 217 = .ok (.iconst 0, 1) := by decide +kernel
theorem dL_law_218 : decode cL_law 218 = .ok (.ireturn, 1) := by decide +kernel
theorem dL_law_219 : decode cL_law 219 = .ok (.aload_n 1, 1) := by decide +kernel
theorem dL_law_220 : decode cL_law 220 = .ok (.invokevirtual 28, 3) := by decide +kernel
theorem dL_law_223 : decode cL_law 223 = .ok (.aload_n 2, 1) := by decide +kernel
theorem dL_law_224 : decode cL_law 224 = .ok (.invokevirtual 32, 3) := by decide +kernel
theorem dL_law_227 : decode cL_law 227 = .ok (.if_icmp .eq 170, 3) := by decide +kernel
theorem dL_law_230 : decode cL_law 230 = .ok (.iconst 0, 1) := by decide +kernel
theorem dL_law_231 : decode cL_law 231 = .ok (.ireturn, 1) := by decide +kernel
theorem dL_law_232 : decode cL_law 232 = .ok (.aload_n 1, 1) := by decide +kernel
theorem dL_law_233 : decode cL_law 233 = .ok (.aload_n 0, 1) := by decide +kernel
theorem dL_law_234 : decode cL_law 234 = .ok (.iload_n 3, 1) := by decide +kernel
theorem dL_law_235 : decode cL_law 235 = .ok (.iconst 1, 1) := by decide +kernel
theorem dL_law_236 : decode cL_law 236 = .ok (.iadd, 1) := by decide +kernel
theorem dL_law_237 : decode cL_law 237 = .ok (.iaload, 1) := by decide +kernel
theorem dL_law_238 : decode cL_law 238 = .ok (.aload_n 0, 1) := by decide +kernel
theorem dL_law_239 : decode cL_law 239 = .ok (.iload_n 3, 1) := by decide +kernel
theorem dL_law_240 : decode cL_law 240 = .ok (.iconst 2, 1) := by decide +kernel
theorem dL_law_241 : decode cL_law 241 = .ok (.iadd, 1) := by decide +kernel
theorem dL_law_242 : decode cL_law 242 = .ok (.iaload, 1) := by decide +kernel
theorem dL_law_243 : decode cL_law 243 = .ok (.invokevirtual 33, 3) := by decide +kernel
theorem dL_law_246 : decode cL_law 246 = .ok (.aload_n 2, 1) := by decide +kernel
theorem dL_law_247 : decode cL_law 247 = .ok (.aload_n 0, 1) := by decide +kernel
theorem dL_law_248 : decode cL_law 248 = .ok (.iload_n 3, 1) := by decide +kernel
theorem dL_law_249 : decode cL_law 249 = .ok (.iconst 1, 1) := by decide +kernel
theorem dL_law_250 : decode cL_law 250 = .ok (.iadd, 1) := by decide +kernel
theorem dL_law_251 : decode cL_law 251 = .ok (.iaload, 1) := by decide +kernel
theorem dL_law_252 : decode cL_law 252 = .ok (.aload_n 0, 1) := by decide +kernel
theorem dL_law_253 : decode cL_law 253 = .ok (.iload_n 3, 1) := by decide +kernel
theorem dL_law_254 : decode cL_law 254 = .ok (.iconst 2, 1) := by decide +kernel
theorem dL_law_255 : decode cL_law 255 = .ok (.iadd, 1) := by decide +kernel
theorem dL_law_256 : decode cL_law 256 = .ok (.iaload, 1) := by decide +kernel
theorem dL_law_257 : decode cL_law 257 = .ok (.invokevirtual 37, 3) := by decide +kernel
theorem dL_law_260 : decode cL_law 260 = .ok (.if_icmp .eq 137, 3) := by decide +kernel
theorem dL_law_263 : decode cL_law 263 = .ok (.iconst 0, 1) := by decide +kernel
theorem dL_law_264 : decode cL_law 264 = .ok (.ireturn, 1) := by decide +kernel
theorem dL_law_265 : decode cL_law 265 = .ok (.aload_n 1, 1) := by decide +kernel
theorem dL_law_266 : decode cL_law 266 = .ok (.invokevirtual 38, 3) := by decide +kernel
theorem dL_law_269 : decode cL_law 269 = .ok (.aload_n 2, 1) := by decide +kernel
theorem dL_law_270 : decode cL_law 270 = .ok (.invokevirtual 41, 3) := by decide +kernel
theorem dL_law_273 : decode cL_law 273 = .ok (.goto 124, 3) := by decide +kernel
theorem dL_law_276 : decode cL_law 276 = .ok (.aload_n 1, 1) := by decide +kernel
theorem dL_law_277 : decode cL_law 277 = .ok (.aload_n 0, 1) := by decide +kernel
theorem dL_law_278 : decode cL_law 278 = .ok (.iload_n 3, 1) := by decide +kernel
theorem dL_law_279 : decode cL_law 279 = .ok (.iconst 1, 1) := by decide +kernel
theorem dL_law_280 : decode cL_law 280 = .ok (.iadd, 1) := by decide +kernel
theorem dL_law_281 : decode cL_law 281 = .ok (.iaload, 1) := by decide +kernel
theorem dL_law_282 : decode cL_law 282 = .ok (.invokevirtual 42, 3) := by decide +kernel
theorem dL_law_285 : decode cL_law 285 = .ok (.aload_n 2, 1) := by decide +kernel
theorem dL_law_286 : decode cL_law 286 = .ok (.aload_n 0, 1) := by decide +kernel
theorem dL_law_287 : decode cL_law 287 = .ok (.iload_n 3, 1) := by decide +kernel
theorem dL_law_288 : decode cL_law 288 = .ok (.iconst 1, 1) := by decide +kernel
theorem dL_law_289 : decode cL_law 289 = .ok (.iadd, 1) := by decide +kernel
theorem dL_law_290 : decode cL_law 290 = .ok (.iaload, 1) := by decide +kernel
theorem dL_law_291 : decode cL_law 291 = .ok (.invokevirtual 45, 3) := by decide +kernel
theorem dL_law_294 : decode cL_law 294 = .ok (.if_icmp .eq 103, 3) := by decide +kernel
theorem dL_law_297 : decode cL_law 297 = .ok (.iconst 0, 1) := by decide +kernel
theorem dL_law_298 : decode cL_law 298 = .ok (.ireturn, 1) := by decide +kernel
theorem dL_law_299 : decode cL_law 299 = .ok (.aload_n 1, 1) := by decide +kernel
theorem dL_law_300 : decode cL_law 300 = .ok (.invokevirtual 46, 3) := by decide +kernel
theorem dL_law_303 : decode cL_law 303 = .ok (.aload_n 2, 1) := by decide +kernel
theorem dL_law_304 : decode cL_law 304 = .ok (.invokevirtual 49, 3) := by decide +kernel
theorem dL_law_307 : decode cL_law 307 = .ok (.if_icmp .eq 90, 3) := by decide +kernel
theorem dL_law_310 : decode cL_law 310 = .ok (.iconst 0, 1) := by decide +kernel
theorem dL_law_311 : decode cL_law 311 = .ok (.ireturn, 1) := by decide +kernel
theorem dL_law_312 : decode cL_law 312 = .ok (.aload_n 1, 1) := by decide +kernel
theorem dL_law_313 : decode cL_law 313 = .ok (.invokevirtual 50, 3) := by decide +kernel
theorem dL_law_316 : decode cL_law 316 = .ok (.aload_n 2, 1) := by decide +kernel
theorem dL_law_317 : decode cL_law 317 = .ok (.invokevirtual 53, 3) := by decide +kernel
theorem dL_law_320 : decode cL_law 320 = .ok (.if_icmp .eq 77, 3) := by decide +kernel
theorem dL_law_323 : decode cL_law 323 = .ok (.iconst 0, 1) := by decide +kernel
theorem dL_law_324 : decode cL_law 324 = .ok (.ireturn, 1) := by decide +kernel
theorem dL_law_325 : decode cL_law 325 = .ok (.aload_n 1, 1) := by decide +kernel
theorem dL_law_326 : decode cL_law 326 = .ok (.invokevirtual 54, 3) := by decide +kernel
theorem dL_law_329 : decode cL_law 329 = .ok (.aload_n 2, 1) := by decide +kernel
theorem dL_law_330 : decode cL_law 330 = .ok (.invokevirtual 57, 3) := by decide +kernel
theorem dL_law_333 : decode cL_law 333 = .ok (.if_icmp .eq 64, 3) := by decide +kernel
theorem dL_law_336 : decode cL_law 336 = .ok (.iconst 0, 1) := by decide +kernel
theorem dL_law_337 : decode cL_law 337 = .ok (.ireturn, 1) := by decide +kernel
theorem dL_law_338 : decode cL_law 338 = .ok (.aload_n 1, 1) := by decide +kernel
theorem dL_law_339 : decode cL_law 339 = .ok (.aload_n 0, 1) := by decide +kernel
theorem dL_law_340 : decode cL_law 340 = .ok (.iload_n 3, 1) := by decide +kernel
theorem dL_law_341 : decode cL_law 341 = .ok (.iconst 1, 1) := by decide +kernel
theorem dL_law_342 : decode cL_law 342 = .ok (.iadd, 1) := by decide +kernel
theorem dL_law_343 : decode cL_law 343 = .ok (.iaload, 1) := by decide +kernel
theorem dL_law_344 : decode cL_law 344 = .ok (.invokevirtual 58, 3) := by decide +kernel
theorem dL_law_347 : decode cL_law 347 = .ok (.aload_n 2, 1) := by decide +kernel
theorem dL_law_348 : decode cL_law 348 = .ok (.aload_n 0, 1) := by decide +kernel
theorem dL_law_349 : decode cL_law 349 = .ok (.iload_n 3, 1) := by decide +kernel
theorem dL_law_350 : decode cL_law 350 = .ok (.iconst 1, 1) := by decide +kernel
theorem dL_law_351 : decode cL_law 351 = .ok (.iadd, 1) := by decide +kernel
theorem dL_law_352 : decode cL_law 352 = .ok (.iaload, 1) := by decide +kernel
theorem dL_law_353 : decode cL_law 353 = .ok (.invokevirtual 61, 3) := by decide +kernel
theorem dL_law_356 : decode cL_law 356 = .ok (.if_icmp .eq 41, 3) := by decide +kernel
theorem dL_law_359 : decode cL_law 359 = .ok (.iconst 0, 1) := by decide +kernel
theorem dL_law_360 : decode cL_law 360 = .ok (.ireturn, 1) := by decide +kernel
theorem dL_law_361 : decode cL_law 361 = .ok (.aload_n 1, 1) := by decide +kernel
theorem dL_law_362 : decode cL_law 362 = .ok (.invokevirtual 62, 3) := by decide +kernel
theorem dL_law_365 : decode cL_law 365 = .ok (.aload_n 2, 1) := by decide +kernel
theorem dL_law_366 : decode cL_law 366 = .ok (.invokevirtual 65, 3) := by decide +kernel
theorem dL_law_369 : decode cL_law 369 = .ok (.if_icmp .eq 28, 3) := by decide +kernel
theorem dL_law_372 : decode cL_law 372 = .ok (.iconst 0, 1) := by decide +kernel
theorem dL_law_373 : decode cL_law 373 = .ok (.ireturn, 1) := by decide +kernel
theorem dL_law_374 : decode cL_law 374 = .ok (.aload_n 1, 1) := by decide +kernel
theorem dL_law_375 : decode cL_law 375 = .ok (.aload_n 0, 1) := by decide +kernel
theorem dL_law_376 : decode cL_law 376 = .ok (.iload_n 3, 1) := by decide +kernel
theorem dL_law_377 : decode cL_law 377 = .ok (.iconst 1, 1) := by decide +kernel
theorem dL_law_378 : decode cL_law 378 = .ok (.iadd, 1) := by decide +kernel
theorem dL_law_379 : decode cL_law 379 = .ok (.iaload, 1) := by decide +kernel
theorem dL_law_380 : decode cL_law 380 = .ok (.invokevirtual 66, 3) := by decide +kernel
theorem dL_law_383 : decode cL_law 383 = .ok (.aload_n 2, 1) := by decide +kernel
theorem dL_law_384 : decode cL_law 384 = .ok (.aload_n 0, 1) := by decide +kernel
theorem dL_law_385 : decode cL_law 385 = .ok (.iload_n 3, 1) := by decide +kernel
theorem dL_law_386 : decode cL_law 386 = .ok (.iconst 1, 1) := by decide +kernel
theorem dL_law_387 : decode cL_law 387 = .ok (.iadd, 1) := by decide +kernel
theorem dL_law_388 : decode cL_law 388 = .ok (.iaload, 1) := by decide +kernel
theorem dL_law_389 : decode cL_law 389 = .ok (.invokevirtual 69, 3) := by decide +kernel
theorem dL_law_392 : decode cL_law 392 = .ok (.if_icmp .eq 5, 3) := by decide +kernel
theorem dL_law_395 : decode cL_law 395 = .ok (.iconst 0, 1) := by decide +kernel
theorem dL_law_396 : decode cL_law 396 = .ok (.ireturn, 1) := by decide +kernel
theorem dL_law_397 : decode cL_law 397 = .ok (.iinc 3 5, 3) := by decide +kernel
theorem dL_law_400 : decode cL_law 400 = .ok (.goto (-382), 3) := by decide +kernel
theorem dL_law_403 : decode cL_law 403 = .ok (.iconst 1, 1) := by decide +kernel
theorem dL_law_404 : decode cL_law 404 = .ok (.ireturn, 1) := by decide +kernel
theorem dJ0_init_0 : decode cJ0_init 0 = .ok (.return_, 1) := by decide +kernel
end
section
set_option maxRecDepth 100000
def bt (x : Int32) (i : Nat) : Bool := x.toBitVec.getLsbD i
theorem b_ext {x y : Int32} (h : ∀ i, i < 32 → bt x i = bt y i) : x = y := Int32.toBitVec_inj.mp (BitVec.eq_of_getLsbD_eq (fun i hi => h i hi))
theorem b_or (x y : Int32) (i : Nat) : bt (x ||| y) i = (bt x i || bt y i) := by unfold bt; rw [Int32.toBitVec_or, BitVec.getLsbD_or]
theorem b_and (x y : Int32) (i : Nat) : bt (x &&& y) i = (bt x i && bt y i) := by unfold bt; rw [Int32.toBitVec_and, BitVec.getLsbD_and]
theorem b_xor (x y : Int32) (i : Nat) : bt (x ^^^ y) i = (bt x i ^^ bt y i) := by unfold bt; rw [Int32.toBitVec_xor, BitVec.getLsbD_xor]
theorem b_big {x : Int32} {i : Nat} (h : 32 ≤ i) : bt x i = false := BitVec.getLsbD_of_ge _ _ h
theorem b_255 (i : Nat) : bt 255 i = decide (i < 8) := by
  rcases Nat.lt_or_ge i 32 with h | h
  · exact (by decide +kernel : ∀ i, i < 32 → bt 255 i = decide (i < 8)) i h
  · rw [b_big h, decide_eq_false (by omega)]
theorem b_65535 (i : Nat) : bt 65535 i = decide (i < 16) := by
  rcases Nat.lt_or_ge i 32 with h | h
  · exact (by decide +kernel : ∀ i, i < 32 → bt 65535 i = decide (i < 16)) i h
  · rw [b_big h, decide_eq_false (by omega)]
theorem b_m1 : ∀ i, i < 32 → bt (-1) i = true := by decide +kernel
theorem b_0 (i : Nat) : bt 0 i = false := BitVec.getLsbD_zero
theorem s_l : ∀ n, n < 32 → ((nI n &&& 31).toBitVec.smod 32).toNat = n := by decide +kernel
theorem s_u : ∀ n, n < 32 → (((nI n).toUInt32 &&& Int32.toUInt32 31).toBitVec % 32).toNat = n := by decide +kernel
theorem b_shl (n : Nat) (hn : n < 32) (x : Int32) {i : Nat} (hi : i < 32) : bt (x <<< (nI n &&& 31)) i = (decide (n ≤ i) && bt x (i - n)) := by
  unfold bt
  rw [Int32.toBitVec_shiftLeft]
  show (x.toBitVec <<< ((nI n &&& 31).toBitVec.smod 32).toNat).getLsbD i = _
  rw [s_l n hn, BitVec.getLsbD_shiftLeft]
  rcases Nat.lt_or_ge i n with h | h
  · simp [h, Nat.not_le.mpr h]
  · simp [hi, h, Nat.not_lt.mpr h]
theorem b_ushr (n : Nat) (hn : n < 32) (x : Int32) (i : Nat) : bt ((x.toUInt32 >>> ((nI n).toUInt32 &&& Int32.toUInt32 31)).toInt32) i = bt x (n + i) := by
  show (x.toUInt32 >>> ((nI n).toUInt32 &&& Int32.toUInt32 31)).toBitVec.getLsbD i = x.toUInt32.toBitVec.getLsbD (n + i)
  rw [UInt32.toBitVec_shiftRight]
  show (x.toUInt32.toBitVec >>> (((nI n).toUInt32 &&& Int32.toUInt32 31).toBitVec % 32).toNat).getLsbD i = _
  rw [s_u n hn, BitVec.getLsbD_ushiftRight]
theorem b_sshr (n : Nat) (hn : n < 32) (x : Int32) {i : Nat} (hi : i < 32) : bt (x >>> (nI n &&& 31)) i = if n + i < 32 then bt x (n + i) else bt x 31 := by
  unfold bt
  rw [Int32.toBitVec_shiftRight]
  show (x.toBitVec.sshiftRight ((nI n &&& 31).toBitVec.smod 32).toNat).getLsbD i = _
  rw [s_l n hn, BitVec.getLsbD_sshiftRight, BitVec.msb_eq_getLsbD_last]
  simp [hi]
def fb_ct (p : Nat → Bool) : Nat → Nat
  | 0 => 0
  | n + 1 => fb_ct p n + (if p n then 1 else 0)
theorem fb_ct_succ (p : Nat → Bool) (n : Nat) : fb_ct p (n + 1) = fb_ct p n + (if p n then 1 else 0) := rfl
theorem fb_ct_le (p : Nat → Bool) : ∀ n, fb_ct p n ≤ n
  | 0 => Nat.le_refl _
  | n + 1 => by
    have h := fb_ct_le p n
    rw [fb_ct_succ]
    split <;> omega
theorem fb_ct_step (p : Nat → Bool) (m : Nat) : ∀ n, fb_ct p m ≤ fb_ct p (m + n)
  | 0 => Nat.le_refl _
  | n + 1 => by
    have h := fb_ct_step p m n
    show fb_ct p m ≤ fb_ct p (m + n + 1)
    rw [fb_ct_succ]
    omega
theorem fb_ct_mono (p : Nat → Bool) {m n : Nat} (h : m ≤ n) : fb_ct p m ≤ fb_ct p n := by
  have := fb_ct_step p m (n - m)
  rwa [Nat.add_sub_cancel' h] at this
theorem fb_ct_cong {p q : Nat → Bool} : ∀ {n : Nat}, (∀ k, k < n → p k = q k) → fb_ct p n = fb_ct q n
  | 0, _ => rfl
  | n + 1, h => by
    rw [fb_ct_succ, fb_ct_succ, fb_ct_cong (fun k hk => h k (by omega)), h n (by omega)]
/-- one place changed -/
theorem fb_ct_out (p : Nat → Bool) (b : Bool) {i n : Nat} (h : n ≤ i) : fb_ct (fun k => if k = i then b else p k) n = fb_ct p n :=
  fb_ct_cong fun k hk => if_neg (by omega)
theorem fb_ct_upd (p : Nat → Bool) (b : Bool) {i : Nat} : ∀ {n : Nat}, i < n → fb_ct (fun k => if k = i then b else p k) n + (if p i then 1 else 0) = fb_ct p n + (if b then 1 else 0)
  | 0, h => absurd h (Nat.not_lt_zero i)
  | n + 1, h => by
    rw [fb_ct_succ, fb_ct_succ]
    rcases Nat.lt_or_ge i n with q | q
    · have := fb_ct_upd p b q
      have e : (if n = i then b else p n) = p n := if_neg (by omega)
      rw [e]
      omega
    · have e : i = n := by omega
      subst e
      rw [fb_ct_out p b (Nat.le_refl _)]
      simp only [if_true]
      omega
theorem fb_ct_sub {p q : Nat → Bool} : ∀ {n : Nat}, (∀ k, k < n → p k = true → q k = true) → fb_ct p n ≤ fb_ct q n
  | 0, _ => Nat.le_refl _
  | n + 1, h => by
    have h1 := fb_ct_sub (n := n) (p := p) (q := q) (fun k hk => h k (by omega))
    have h2 := h n (by omega)
    rw [fb_ct_succ, fb_ct_succ]
    cases hp : p n <;> cases hq : q n <;> simp_all <;> omega
theorem fb_ct_or {p q : Nat → Bool} : ∀ {n : Nat}, (∀ k, k < n → ¬ (p k = true ∧ q k = true)) → fb_ct (fun k => p k || q k) n = fb_ct p n + fb_ct q n
  | 0, _ => rfl
  | n + 1, h => by
    have h1 := fb_ct_or (n := n) (p := p) (q := q) (fun k hk => h k (by omega))
    have h2 := h n (by omega)
    rw [fb_ct_succ, fb_ct_succ, fb_ct_succ, h1]
    cases hp : p n <;> cases hq : q n <;> simp_all <;> omega
theorem fb_ct_not (p : Nat → Bool) : ∀ n, fb_ct p n + fb_ct (fun k => !p k) n = n
  | 0 => rfl
  | n + 1 => by
    have h := fb_ct_not p n
    rw [fb_ct_succ, fb_ct_succ]
    cases p n <;> simp <;> omega
theorem fb_ct_split (p : Nat → Bool) (m : Nat) : ∀ n, fb_ct p (m + n) = fb_ct p m + fb_ct (fun k => p (m + k)) n
  | 0 => rfl
  | n + 1 => by
    have h := fb_ct_split p m n
    show fb_ct p (m + n + 1) = _
    rw [fb_ct_succ, fb_ct_succ, h, Nat.add_assoc]
theorem fb_ct_zero {p : Nat → Bool} : ∀ {n : Nat}, fb_ct p n = 0 ↔ ∀ k, k < n → p k = false
  | 0 => ⟨fun _ k hk => absurd hk (Nat.not_lt_zero k), fun _ => rfl⟩
  | n + 1 => by
    have h := fb_ct_zero (p := p) (n := n)
    rw [fb_ct_succ]
    constructor
    · intro e k hk
      have e1 : fb_ct p n = 0 := by omega
      rcases Nat.lt_or_ge k n with q | q
      · exact h.mp e1 k q
      · have ek : k = n := by omega
        subst ek
        cases hp : p k
        · rfl
        · simp [hp] at e
    · intro a
      rw [h.mpr (fun k hk => a k (by omega)), a n (by omega)]
      rfl
theorem fb_ct_pos {p : Nat → Bool} {n : Nat} : 0 < fb_ct p n ↔ ∃ k, k < n ∧ p k = true := by
  constructor
  · intro h
    refine Classical.byContradiction fun hx => ?_
    have := fb_ct_zero.mpr (fun k hk => by
      cases hp : p k
      · rfl
      · exact absurd ⟨k, hk, hp⟩ hx : ∀ k, k < n → p k = false)
    omega
  · rintro ⟨k, hk, hp⟩
    rcases Nat.eq_zero_or_pos (fb_ct p n) with e | e
    · have := fb_ct_zero.mp e k hk
      rw [this] at hp
      cases hp
    · exact e
theorem fb_ct_all {p : Nat → Bool} {n : Nat} : fb_ct p n = n ↔ ∀ k, k < n → p k = true := by
  have h := fb_ct_not p n
  constructor
  · intro e k hk
    have z : fb_ct (fun k => !p k) n = 0 := by omega
    have := fb_ct_zero.mp z k hk
    cases hp : p k
    · simp [hp] at this
    · rfl
  · intro a
    have z : fb_ct (fun k => !p k) n = 0 := fb_ct_zero.mpr (fun k hk => by simp [a k hk])
    omega
def fb_sm (f : Nat → Nat) : Nat → Nat
  | 0 => 0
  | n + 1 => fb_sm f n + f n
theorem fb_sm_succ (f : Nat → Nat) (n : Nat) : fb_sm f (n + 1) = fb_sm f n + f n := rfl
theorem fb_sm_cong {f g : Nat → Nat} : ∀ {n : Nat}, (∀ k, k < n → f k = g k) → fb_sm f n = fb_sm g n
  | 0, _ => rfl
  | n + 1, h => by rw [fb_sm_succ, fb_sm_succ, fb_sm_cong (fun k hk => h k (by omega)), h n (by omega)]
theorem fb_sm_out (f : Nat → Nat) (v : Nat) {i n : Nat} (h : n ≤ i) : fb_sm (fun k => if k = i then v else f k) n = fb_sm f n :=
  fb_sm_cong fun k hk => if_neg (by omega)
theorem fb_sm_upd (f : Nat → Nat) (v : Nat) {i : Nat} : ∀ {n : Nat}, i < n → fb_sm (fun k => if k = i then v else f k) n + f i = fb_sm f n + v
  | 0, h => absurd h (Nat.not_lt_zero i)
  | n + 1, h => by
    rw [fb_sm_succ, fb_sm_succ]
    rcases Nat.lt_or_ge i n with q | q
    · have := fb_sm_upd f v q
      have e : (if n = i then v else f n) = f n := if_neg (by omega)
      rw [e]
      omega
    · have e : i = n := by omega
      subst e
      rw [fb_sm_out f v (Nat.le_refl _)]
      simp only [if_true]
      omega
theorem fb_sm_add (f g : Nat → Nat) : ∀ n, fb_sm (fun k => f k + g k) n = fb_sm f n + fb_sm g n
  | 0 => rfl
  | n + 1 => by
    have h := fb_sm_add f g n
    rw [fb_sm_succ, fb_sm_succ, fb_sm_succ, h]
    omega
theorem fb_sm_le {f g : Nat → Nat} : ∀ {n : Nat}, (∀ k, k < n → f k ≤ g k) → fb_sm f n ≤ fb_sm g n
  | 0, _ => Nat.le_refl _
  | n + 1, h => by
    have h1 := fb_sm_le (n := n) (f := f) (g := g) (fun k hk => h k (by omega))
    have h2 := h n (by omega)
    rw [fb_sm_succ, fb_sm_succ]
    omega
theorem fb_sm_const (c : Nat) : ∀ n, fb_sm (fun _ => c) n = n * c
  | 0 => by rw [Nat.zero_mul]; rfl
  | n + 1 => by rw [fb_sm_succ, fb_sm_const c n, Nat.succ_mul]
theorem fb_sm_bound {f : Nat → Nat} {c n : Nat} (h : ∀ k, k < n → f k ≤ c) : fb_sm f n ≤ n * c := by
  rw [← fb_sm_const c n]
  exact fb_sm_le h
theorem fb_sm_mono (f : Nat → Nat) (m : Nat) : ∀ n, fb_sm f m ≤ fb_sm f (m + n)
  | 0 => Nat.le_refl _
  | n + 1 => by
    have h := fb_sm_mono f m n
    show fb_sm f m ≤ fb_sm f (m + n + 1)
    rw [fb_sm_succ]
    omega
theorem fb_sm_part (f : Nat → Nat) {i n : Nat} (h : i < n) : fb_sm f i + f i ≤ fb_sm f n := by
  have := fb_sm_mono f (i + 1) (n - (i + 1))
  rw [fb_sm_succ, show i + 1 + (n - (i + 1)) = n by omega] at this
  exact this
theorem fb_sm_split (f : Nat → Nat) (m : Nat) : ∀ n, fb_sm f (m + n) = fb_sm f m + fb_sm (fun k => f (m + k)) n
  | 0 => rfl
  | n + 1 => by
    have h := fb_sm_split f m n
    show fb_sm f (m + n + 1) = _
    rw [fb_sm_succ, fb_sm_succ, h, Nat.add_assoc]
theorem fb_sm_zero {f : Nat → Nat} {n : Nat} (h : fb_sm f n = 0) : ∀ k, k < n → f k = 0 := fun k hk => by
  have := fb_sm_part f hk
  omega
def fa_fill {α : Type} (f g : Nat → α) (i : Nat) : Nat → α := fun k => if k < i then f k else g k
theorem fa_fill_0 {α : Type} (f g : Nat → α) : fa_fill f g 0 = g := funext fun k => if_neg (Nat.not_lt_zero k)
theorem fa_fill_in {α : Type} {f g : Nat → α} {i k : Nat} (h : k < i) : fa_fill f g i k = f k := if_pos h
theorem fa_fill_out {α : Type} {f g : Nat → α} {i k : Nat} (h : i ≤ k) : fa_fill f g i k = g k := if_neg (Nat.not_lt.mpr h)
theorem fa_fill_succ (f g : Nat → Int32) (i : Nat) : upd (fa_fill f g i) i (f i) = fa_fill f g (i + 1) := by
  funext k
  by_cases e : k = i
  · subst e
    rw [pk_us]
    exact (if_pos (Nat.lt_succ_self k)).symm
  · rw [pk_un e]
    by_cases h : k < i
    · rw [fa_fill_in h, fa_fill_in (Nat.lt_succ_of_lt h)]
    · rw [fa_fill_out (Nat.le_of_not_lt h), fa_fill_out (by omega)]
/-- a store that changes nothing -/
theorem fa_upd_same {f : Nat → Int32} {i : Nat} {x : Int32} (h : f i = x) : upd f i x = f := by
  funext k
  by_cases e : k = i
  · subst e
    rw [pk_us, h]
  · rw [pk_un e]
/-- a store under a condition, told as one -/
theorem fa_upd_if (c : Prop) [Decidable c] (f : Nat → Int32) (i : Nat) (x : Int32) : (if c then upd f i x else f) = upd f i (if c then x else f i) := by
  by_cases h : c
  · rw [if_pos h, if_pos h]
  · rw [if_neg h, if_neg h, fa_upd_same rfl]
/-- two stores at one place, at two -/
theorem fa_upd_twice (f : Nat → Int32) (i : Nat) (x y : Int32) : upd (upd f i x) i y = upd f i y := by
  funext k
  by_cases e : k = i
  · subst e
    rw [pk_us, pk_us]
  · rw [pk_un e, pk_un e, pk_un e]
theorem fa_upd_swap (f : Nat → Int32) {i j : Nat} (h : i ≠ j) (x y : Int32) : upd (upd f i x) j y = upd (upd f j y) i x := by
  funext k
  by_cases e : k = i
  · subst e
    rw [pk_un h, pk_us, pk_us]
  · by_cases e2 : k = j
    · subst e2
      rw [pk_us, pk_un e, pk_us]
    · rw [pk_un e2, pk_un e, pk_un e, pk_un e2]
end
section
set_option maxRecDepth 100000
/-! ===== bits of a small set ===== -/
theorem dc_b1 : ∀ j, j < 32 → bt (nI 1) j = decide (j = 0) := by decide +kernel
theorem dc_one {k i : Nat} (hk : k < 32) (hi : i < 32) : bt (nI 1 <<< (nI k &&& 31)) i = decide (i = k) := by
  rw [b_shl k hk _ hi]
  rcases Nat.lt_or_ge i k with h | h
  · rw [decide_eq_false (Nat.not_le.mpr h), decide_eq_false (show ¬ i = k by omega)]; rfl
  · rw [decide_eq_true h, dc_b1 _ (by omega), Bool.true_and]
    exact decide_eq_decide.mpr (by omega)
theorem dc_tst (x : Int32) {k : Nat} (hk : k < 32) : (x >>> (nI k &&& 31)) &&& nI 1 = nI (if bt x k then 1 else 0) := by
  apply b_ext
  intro i hi
  rw [b_and, dc_b1 i hi, b_sshr k hk x hi]
  by_cases h : i = 0
  · subst h
    rw [if_pos (show k + 0 < 32 by omega), Nat.add_zero]
    cases hb : bt x k <;> decide +kernel
  · rw [decide_eq_false h, Bool.and_false]
    cases hb : bt x k
    · exact (b_0 i).symm
    · show false = bt (nI 1) i
      rw [dc_b1 i hi, decide_eq_false h]
def dc_bits (x : Int32) (f : Nat → Bool) : Prop := ∀ i, i < 32 → bt x i = f i
theorem dc_bits_clr {x : Int32} {f : Nat → Bool} {k : Nat} (h : dc_bits x f) (hk : k < 32) : dc_bits (x &&& ((nI 1 <<< (nI k &&& 31)) ^^^ (-1))) (fun i => if i = k then false else f i) := by
  intro i hi
  rw [b_and, b_xor, dc_one hk hi, b_m1 i hi, h i hi]
  by_cases e : i = k <;> simp [e]
theorem dc_bits_set {x : Int32} {f : Nat → Bool} {k : Nat} (h : dc_bits x f) (hk : k < 32) : dc_bits (x ||| (nI 1 <<< (nI k &&& 31))) (fun i => if i = k then true else f i) := by
  intro i hi
  rw [b_or, dc_one hk hi, h i hi]
  by_cases e : i = k <;> simp [e]
theorem dc_bits_0 : dc_bits 0 (fun _ => false) := fun i _ => b_0 i
theorem dc_bits_eq {x y : Int32} {f g : Nat → Bool} (h : dc_bits x f) (h2 : dc_bits y g) (e : ∀ i, i < 32 → f i = g i) : x = y := b_ext (fun i hi => by rw [h i hi, h2 i hi, e i hi])
theorem dc_bits_to {x : Int32} {f g : Nat → Bool} (h : dc_bits x f) (e : ∀ i, f i = g i) : dc_bits x g := fun i hi => by rw [h i hi, e i]
theorem dc_bits_z {x : Int32} {f : Nat → Bool} (h : dc_bits x f) (e : ∀ i, i < 32 → f i = false) : x = 0 := dc_bits_eq h dc_bits_0 e
theorem dc_bits_nz {x : Int32} {f : Nat → Bool} (h : dc_bits x f) (e : x = 0) : ∀ i, i < 32 → f i = false := fun i hi => by rw [← h i hi, e]; exact b_0 i
/-- the set of the first n with f, as the component's loop makes it -/
def dc_mk (f : Nat → Bool) : Nat → Int32
  | 0 => 0
  | n + 1 => dc_mk f n ||| (if f n then nI 1 <<< (nI n &&& 31) else 0)
theorem dc_or0 (x : Int32) : x ||| 0 = x := b_ext fun i _ => by rw [b_or, b_0, Bool.or_false]
theorem dc_mk_bits (f : Nat → Bool) : ∀ n, n ≤ 32 → dc_bits (dc_mk f n) (fun i => decide (i < n) && f i)
  | 0, _ => fun i hi => by simp [dc_mk, b_0]
  | n + 1, h => fun i hi => by
    have hn : bt (dc_mk f n) i = (decide (i < n) && f i) := dc_mk_bits f n (by omega) i hi
    show bt (dc_mk f n ||| (if f n then nI 1 <<< (nI n &&& 31) else 0)) i = (decide (i < n + 1) && f i)
    rw [b_or, hn]
    by_cases e2 : i = n
    · subst e2
      by_cases e : f i
      · rw [if_pos e, dc_one (by omega) hi]; simp [e]
      · rw [if_neg e, b_0]; simp [e]
    · have e3 : decide (i < n + 1) = decide (i < n) := decide_eq_decide.mpr (by omega)
      by_cases e : f n
      · rw [if_pos e, dc_one (by omega) hi, decide_eq_false e2, e3, Bool.or_false]
      · rw [if_neg e, b_0, e3, Bool.or_false]
/-- a change bit counted in -/
theorem dc_ct_step (x : Int32) {k : Nat} (hk : k < 32) : nI (fb_ct (bt x) k) + ((x >>> (nI k &&& 31)) &&& nI 1) = nI (fb_ct (bt x) (k + 1)) := by
  rw [dc_tst x hk, nI_add, fb_ct_succ]
/-! ===== pending changes by absolute time and signal ===== -/
abbrev dc_Q : Type := Nat → Nat → Option Int32
def dc_ok (t : Nat) (Q : dc_Q) : Prop := ∀ T s, Q T s ≠ none → t ≤ T ∧ T < t + 10 ∧ s < 12
def dc_put (Q : dc_Q) (s T : Nat) (v : Int32) : dc_Q := fun T' s' => if s' = s ∧ T ≤ T' then (if T' = T then some v else none) else Q T' s'
def dc_del (Q : dc_Q) (T s : Nat) : dc_Q := fun T' s' => if T' = T ∧ s' = s then none else Q T' s'
def dc_set (Q : dc_Q) (T s : Nat) (v : Int32) : dc_Q := fun T' s' => if T' = T ∧ s' = s then some v else Q T' s'
/-- the changes of a signal from a time to another (not with it) taken out -/
def dc_cut (Q : dc_Q) (s T1 T2 : Nat) : dc_Q := fun T' s' => if s' = s ∧ T1 ≤ T' ∧ T' < T2 then none else Q T' s'
def dc_tak (Q : dc_Q) (T : Nat) : dc_Q := fun T' s' => if T' = T then none else Q T' s'
def dc_emp (Q : dc_Q) : Prop := ∀ T s, Q T s = none
def dc_nx (Q : dc_Q) (T : Nat) : Prop := (∃ s, Q T s ≠ none) ∧ ∀ T' s, Q T' s ≠ none → T ≤ T'
noncomputable def dc_next (Q : dc_Q) : Nat := @Classical.epsilon Nat ⟨0⟩ (fun T => dc_nx Q T)
theorem dc_nx_one {Q : dc_Q} {T T' : Nat} (h : dc_nx Q T) (h2 : dc_nx Q T') : T = T' := by
  obtain ⟨⟨s, hs⟩, hl⟩ := h
  obtain ⟨⟨s', hs'⟩, hl'⟩ := h2
  exact Nat.le_antisymm (hl T' s' hs') (hl' T s hs)
theorem dc_next_eq {Q : dc_Q} {T : Nat} (h : dc_nx Q T) : dc_next Q = T := dc_nx_one (@Classical.epsilon_spec Nat (fun T => dc_nx Q T) ⟨T, h⟩) h
theorem dc_nx_ex {Q : dc_Q} (h : ¬ dc_emp Q) : ∃ T, dc_nx Q T := by
  have h1 : ∃ T, ∃ s, Q T s ≠ none := by
    refine Classical.byContradiction fun hx => h ?_
    intro T s
    refine Classical.byContradiction fun hq => hx ⟨T, s, hq⟩
  obtain ⟨T, hT, hl⟩ := pk_least (fun T => ∃ s, Q T s ≠ none) h1
  refine ⟨T, hT, fun T' s hq => ?_⟩
  rcases Nat.lt_or_ge T' T with q | q
  · exact absurd ⟨s, hq⟩ (hl T' q)
  · exact q
theorem dc_nx_of {Q : dc_Q} (h : ¬ dc_emp Q) : dc_nx Q (dc_next Q) := by
  obtain ⟨T, hT⟩ := dc_nx_ex h
  rw [dc_next_eq hT]
  exact hT
theorem dc_nx_ne {Q : dc_Q} {T : Nat} (h : dc_nx Q T) : ¬ dc_emp Q := by
  obtain ⟨⟨s, hs⟩, -⟩ := h
  exact fun e => hs (e T s)
def dc_fs (Q : dc_Q) (T : Nat) : Nat → Bool := fun s => (Q T s).isSome
theorem dc_fs_no {Q : dc_Q} {T s : Nat} (h : Q T s = none) : dc_fs Q T s = false := by unfold dc_fs; rw [h]; rfl
theorem dc_fs_f {Q : dc_Q} {T s : Nat} (h : dc_fs Q T s = false) : Q T s = none := by
  unfold dc_fs at h
  cases e : Q T s with
  | none => rfl
  | some v => rw [e] at h; cases h
theorem dc_fs_t {Q : dc_Q} {T s : Nat} (h : dc_fs Q T s = true) : ∃ v, Q T s = some v := by
  unfold dc_fs at h
  cases e : Q T s with
  | none => rw [e] at h; cases h
  | some v => exact ⟨v, rfl⟩
def dc_count (t : Nat) (Q : dc_Q) : Nat := fb_sm (fun u => fb_ct (dc_fs Q (t + u)) 12) 10
theorem dc_count_le (t : Nat) (Q : dc_Q) : dc_count t Q ≤ 120 := fb_sm_bound (c := 12) (n := 10) fun _ _ => fb_ct_le _ _
theorem dc_ok_put {t : Nat} {Q : dc_Q} {s u : Nat} {v : Int32} (h : dc_ok t Q) (hs : s < 12) (hu : u < 10) : dc_ok t (dc_put Q s (t + u) v) := by
  intro T s' hq
  unfold dc_put at hq
  by_cases e : s' = s ∧ t + u ≤ T
  · rw [if_pos e] at hq
    by_cases e2 : T = t + u
    · omega
    · rw [if_neg e2] at hq; exact absurd rfl hq
  · rw [if_neg e] at hq; exact h T s' hq
theorem dc_ok_tak {t T : Nat} {Q : dc_Q} (h : dc_ok t Q) (hn : dc_nx Q T) : dc_ok T (dc_tak Q T) := by
  intro T' s hq
  unfold dc_tak at hq
  by_cases e : T' = T
  · rw [if_pos e] at hq; exact absurd rfl hq
  · rw [if_neg e] at hq
    have h1 := h T' s hq
    have h2 := hn.2 T' s hq
    obtain ⟨⟨s2, hs2⟩, -⟩ := hn
    have h3 := h T s2 hs2
    omega
theorem dc_nx_ok {t T : Nat} {Q : dc_Q} (h : dc_ok t Q) (hn : dc_nx Q T) : t ≤ T ∧ T < t + 10 := by
  obtain ⟨⟨s2, hs2⟩, -⟩ := hn
  have h3 := h T s2 hs2
  omega
/-! ===== the component's picture ===== -/
def dc_RX (t : Nat) (Q : dc_Q) (ds : Int32) (DV WS WV : Nat → Int32) : Prop :=
  dc_ok t Q ∧ dc_bits ds (dc_fs Q t) ∧ (∀ s v, Q t s = some v → DV s = v) ∧ WS (t % 10) = 0 ∧
  ∀ u, 1 ≤ u → u < 10 → dc_bits (WS ((t + u) % 10)) (dc_fs Q (t + u)) ∧ ∀ s v, Q (t + u) s = some v → WV ((t + u) % 10 * 12 + s) = v
theorem rx_clr {t : Nat} {Q : dc_Q} {ds : Int32} {DV WS WV : Nat → Int32} {u s : Nat} (h : dc_RX t Q ds DV WS WV) (h1 : 1 ≤ u) (h2 : u < 10) (hs : s < 12) :
    dc_RX t (dc_del Q (t + u) s) ds DV (upd WS ((t + u) % 10) (WS ((t + u) % 10) &&& ((nI 1 <<< (nI s &&& 31)) ^^^ (-1)))) WV := by
  obtain ⟨hok, hds, hdv, hw0, hu⟩ := h
  refine ⟨?_, ?_, ?_, ?_, ?_⟩
  · intro T s' hq
    unfold dc_del at hq
    by_cases e : T = t + u ∧ s' = s
    · rw [if_pos e] at hq; exact absurd rfl hq
    · rw [if_neg e] at hq; exact hok T s' hq
  · exact dc_bits_to hds (fun i => by unfold dc_fs dc_del; rw [if_neg (by omega)])
  · intro s' v hq
    unfold dc_del at hq
    rw [if_neg (by omega)] at hq
    exact hdv s' v hq
  · rw [pk_un (by omega)]; exact hw0
  · intro u' h1' h2'
    by_cases e : u' = u
    · subst e
      refine ⟨?_, ?_⟩
      · rw [pk_us]
        exact dc_bits_to (dc_bits_clr (hu u' h1' h2').1 (by omega)) (fun i => by unfold dc_fs dc_del; by_cases e : i = s <;> simp [e])
      · intro s' v hq
        unfold dc_del at hq
        by_cases e : t + u' = t + u' ∧ s' = s
        · rw [if_pos e] at hq; cases hq
        · rw [if_neg e] at hq; exact (hu u' h1' h2').2 s' v hq
    · refine ⟨?_, ?_⟩
      · rw [pk_un (by omega)]
        exact dc_bits_to (hu u' h1' h2').1 (fun i => by unfold dc_fs dc_del; rw [if_neg (by omega)])
      · intro s' v hq
        unfold dc_del at hq
        rw [if_neg (by omega)] at hq
        exact (hu u' h1' h2').2 s' v hq
theorem rx_set0 {t : Nat} {Q : dc_Q} {ds : Int32} {DV WS WV : Nat → Int32} {s : Nat} (v : Int32) (h : dc_RX t Q ds DV WS WV) (hs : s < 12) :
    dc_RX t (dc_set Q t s v) (ds ||| (nI 1 <<< (nI s &&& 31))) (upd DV s v) WS WV := by
  obtain ⟨hok, hds, hdv, hw0, hu⟩ := h
  refine ⟨?_, ?_, ?_, hw0, ?_⟩
  · intro T s' hq
    unfold dc_set at hq
    by_cases e : T = t ∧ s' = s
    · omega
    · rw [if_neg e] at hq; exact hok T s' hq
  · exact dc_bits_to (dc_bits_set hds (by omega)) (fun i => by unfold dc_fs dc_set; by_cases e : i = s <;> simp [e])
  · intro s' w hq
    unfold dc_set at hq
    by_cases e : s' = s
    · rw [if_pos ⟨rfl, e⟩] at hq; cases hq; rw [e, pk_us]
    · rw [if_neg (by omega)] at hq; rw [pk_un e]; exact hdv s' w hq
  · intro u h1 h2
    refine ⟨?_, ?_⟩
    · exact dc_bits_to (hu u h1 h2).1 (fun i => by unfold dc_fs dc_set; rw [if_neg (by omega)])
    · intro s' w hq
      unfold dc_set at hq
      rw [if_neg (by omega)] at hq
      exact (hu u h1 h2).2 s' w hq
theorem rx_setu {t : Nat} {Q : dc_Q} {ds : Int32} {DV WS WV : Nat → Int32} {u s : Nat} (v : Int32) (h : dc_RX t Q ds DV WS WV) (h1 : 1 ≤ u) (h2 : u < 10) (hs : s < 12) :
    dc_RX t (dc_set Q (t + u) s v) ds DV (upd WS ((t + u) % 10) (WS ((t + u) % 10) ||| (nI 1 <<< (nI s &&& 31)))) (upd WV ((t + u) % 10 * 12 + s) v) := by
  obtain ⟨hok, hds, hdv, hw0, hu⟩ := h
  refine ⟨?_, ?_, ?_, ?_, ?_⟩
  · intro T s' hq
    unfold dc_set at hq
    by_cases e : T = t + u ∧ s' = s
    · omega
    · rw [if_neg e] at hq; exact hok T s' hq
  · exact dc_bits_to hds (fun i => by unfold dc_fs dc_set; rw [if_neg (by omega)])
  · intro s' w hq
    unfold dc_set at hq
    rw [if_neg (by omega)] at hq
    exact hdv s' w hq
  · rw [pk_un (by omega)]; exact hw0
  · intro u' h1' h2'
    by_cases e : u' = u
    · subst e
      refine ⟨?_, ?_⟩
      · rw [pk_us]
        exact dc_bits_to (dc_bits_set (hu u' h1' h2').1 (by omega)) (fun i => by unfold dc_fs dc_set; by_cases e : i = s <;> simp [e])
      · intro s' w hq
        unfold dc_set at hq
        by_cases e : s' = s
        · rw [if_pos ⟨rfl, e⟩] at hq; cases hq; rw [e, pk_us]
        · rw [if_neg (by omega)] at hq
          rw [pk_un (by omega)]
          exact (hu u' h1' h2').2 s' w hq
    · refine ⟨?_, ?_⟩
      · rw [pk_un (by omega)]
        exact dc_bits_to (hu u' h1' h2').1 (fun i => by unfold dc_fs dc_set; rw [if_neg (by omega)])
      · intro s' w hq
        unfold dc_set at hq
        rw [if_neg (by omega)] at hq
        have hlt := hok (t + u') s' (by rw [hq]; exact Option.some_ne_none w)
        rw [pk_un (by omega)]
        exact (hu u' h1' h2').2 s' w hq
theorem rx_tak0 {t : Nat} {Q : dc_Q} {ds : Int32} {DV WS WV : Nat → Int32} (h : dc_RX t Q ds DV WS WV) : dc_RX t (dc_tak Q t) 0 DV WS WV := by
  obtain ⟨hok, hds, hdv, hw0, hu⟩ := h
  refine ⟨?_, ?_, ?_, hw0, ?_⟩
  · intro T s' hq
    unfold dc_tak at hq
    by_cases e : T = t
    · rw [if_pos e] at hq; exact absurd rfl hq
    · rw [if_neg e] at hq; exact hok T s' hq
  · exact dc_bits_to dc_bits_0 (fun i => by unfold dc_fs dc_tak; rw [if_pos rfl]; rfl)
  · intro s' w hq
    unfold dc_tak at hq
    rw [if_pos rfl] at hq
    cases hq
  · intro u h1 h2
    refine ⟨?_, ?_⟩
    · exact dc_bits_to (hu u h1 h2).1 (fun i => by unfold dc_fs dc_tak; rw [if_neg (by omega)])
    · intro s' w hq
      unfold dc_tak at hq
      rw [if_neg (by omega)] at hq
      exact (hu u h1 h2).2 s' w hq
theorem rx_taku {t : Nat} {Q : dc_Q} {ds : Int32} {DV WS WV : Nat → Int32} {u : Nat} (h : dc_RX t Q ds DV WS WV) (h1 : 1 ≤ u) (h2 : u < 10) (hn : dc_nx Q (t + u)) :
    dc_RX (t + u) (dc_tak Q (t + u)) ds DV (upd WS ((t + u) % 10) 0) WV := by
  have hok' := dc_ok_tak h.1 hn
  obtain ⟨hok, hds, hdv, hw0, hu⟩ := h
  have hno : ∀ T s, T < t + u → Q T s = none := by
    intro T s hT
    refine Classical.byContradiction fun hq => ?_
    have := hn.2 T s hq
    omega
  have hfar : ∀ T s, t + 10 ≤ T → Q T s = none := by
    intro T s hT
    refine Classical.byContradiction fun hq => ?_
    have := hok T s hq
    omega
  refine ⟨hok', ?_, ?_, ?_, ?_⟩
  · refine fun i hi => ?_
    rw [hds i hi, dc_fs_no (hno t i (by omega))]
    exact (dc_fs_no (by unfold dc_tak; rw [if_pos rfl])).symm
  · intro s' w hq
    unfold dc_tak at hq
    rw [if_pos rfl] at hq
    cases hq
  · rw [pk_us]
  · intro u' h1' h2'
    rw [pk_un (by omega)]
    rcases Nat.lt_or_ge (u + u') 10 with q | q
    · have a := hu (u + u') (by omega) q
      rw [show t + (u + u') = t + u + u' by omega] at a
      refine ⟨?_, ?_⟩
      · exact dc_bits_to a.1 (fun i => by unfold dc_fs dc_tak; rw [if_neg (by omega)])
      · intro s' w hq
        unfold dc_tak at hq
        rw [if_neg (by omega)] at hq
        exact a.2 s' w hq
    · have e1 : ∀ i, dc_fs (dc_tak Q (t + u)) (t + u + u') i = false := fun i => dc_fs_no (by unfold dc_tak; rw [if_neg (by omega)]; exact hfar _ _ (by omega))
      refine ⟨?_, ?_⟩
      · by_cases e0 : u + u' = 10
        · rw [show (t + u + u') % 10 = t % 10 by omega, hw0]
          exact dc_bits_to dc_bits_0 (fun i => (e1 i).symm)
        · have a := (hu (u + u' - 10) (by omega) (by omega)).1
          rw [show (t + (u + u' - 10)) % 10 = (t + u + u') % 10 by omega] at a
          exact dc_bits_to a (fun i => by rw [e1 i]; exact dc_fs_no (hno _ _ (by omega)))
      · intro s' w hq
        have := e1 s'
        unfold dc_fs at this
        rw [hq] at this
        cases this
theorem rx_none {ds : Int32} {DV WS WV : Nat → Int32} (h0 : ds = 0) (h : ∀ j, j < 10 → WS j = 0) : dc_RX 0 (fun _ _ => none) ds DV WS WV := by
  refine ⟨fun T s hq => absurd rfl hq, ?_, (fun s v hq => by cases hq), h _ (by omega), fun u h1 h2 => ⟨?_, (fun s v hq => by cases hq)⟩⟩
  · rw [h0]; exact dc_bits_0
  · rw [h _ (by omega)]; exact dc_bits_0
theorem dc_rot (g : Nat → Nat) (t : Nat) : fb_sm (fun u => g ((t + u) % 10)) 10 = fb_sm g 10 := by
  have e : (fun u => g ((t + u) % 10)) = (fun u => g ((t % 10 + u) % 10)) := funext fun u => by rw [show (t + u) % 10 = (t % 10 + u) % 10 by omega]
  rw [e]
  have hr : t % 10 < 10 := Nat.mod_lt _ (by omega)
  generalize t % 10 = r at hr
  rcases (show r = 0 ∨ r = 1 ∨ r = 2 ∨ r = 3 ∨ r = 4 ∨ r = 5 ∨ r = 6 ∨ r = 7 ∨ r = 8 ∨ r = 9 by omega) with h | h | h | h | h | h | h | h | h | h <;> subst h <;> simp [fb_sm] <;> omega
theorem rx_count {t : Nat} {Q : dc_Q} {ds : Int32} {DV WS WV : Nat → Int32} (h : dc_RX t Q ds DV WS WV) : fb_ct (bt ds) 12 + fb_sm (fun j => fb_ct (bt (WS j)) 12) 10 = dc_count t Q := by
  obtain ⟨hok, hds, hdv, hw0, hu⟩ := h
  rw [← dc_rot (fun j => fb_ct (bt (WS j)) 12) t]
  have s1 : fb_sm (fun u => fb_ct (bt (WS ((t + u) % 10))) 12) 10 = fb_sm (fun u => fb_ct (bt (WS ((t + u) % 10))) 12) 1 + fb_sm (fun k => fb_ct (bt (WS ((t + (1 + k)) % 10))) 12) 9 := fb_sm_split _ 1 9
  have s2 : dc_count t Q = fb_sm (fun u => fb_ct (dc_fs Q (t + u)) 12) 1 + fb_sm (fun k => fb_ct (dc_fs Q (t + (1 + k))) 12) 9 := fb_sm_split _ 1 9
  have g1 : fb_sm (fun u => fb_ct (bt (WS ((t + u) % 10))) 12) 1 = 0 + fb_ct (bt (WS ((t + 0) % 10))) 12 := rfl
  have g2 : fb_sm (fun u => fb_ct (dc_fs Q (t + u)) 12) 1 = 0 + fb_ct (dc_fs Q (t + 0)) 12 := rfl
  have e0 : fb_ct (bt ds) 12 = fb_ct (dc_fs Q (t + 0)) 12 := fb_ct_cong fun k hk => hds k (by omega)
  have e1 : fb_ct (bt (WS ((t + 0) % 10))) 12 = 0 := by
    rw [Nat.add_zero, hw0]
    exact fb_ct_zero.mpr fun k _ => b_0 k
  have e2 : fb_sm (fun k => fb_ct (bt (WS ((t + (1 + k)) % 10))) 12) 9 = fb_sm (fun k => fb_ct (dc_fs Q (t + (1 + k))) 12) 9 := fb_sm_cong fun k hk => fb_ct_cong fun i hi => (hu (1 + k) (by omega) (by omega)).1 i (by omega)
  rw [s1, s2, g1, g2, e1, e2, e0]
  omega
end
section
set_option maxRecDepth 100000
/-! ===== the model's list ===== -/
abbrev dc_E : Type := Nat × Nat × Int32
abbrev dc_L : Type := List dc_E
def dc_LQ (L : dc_L) (Q : dc_Q) : Prop := (∀ T s v, (T, s, v) ∈ L ↔ Q T s = some v) ∧ L.Pairwise (fun a b => ¬ (a.1 = b.1 ∧ a.2.1 = b.2.1))
theorem dc_count_del {t : Nat} {Q : dc_Q} {T s : Nat} (hok : dc_ok t Q) (hq : Q T s ≠ none) : dc_count t Q = dc_count t (dc_del Q T s) + 1 := by
  have hb := hok T s hq
  obtain ⟨u, rfl⟩ : ∃ u, T = t + u := ⟨T - t, by omega⟩
  have hu : u < 10 := by omega
  have hs : s < 12 := by omega
  have e1 : fb_ct (dc_fs (dc_del Q (t + u) s) (t + u)) 12 + 1 = fb_ct (dc_fs Q (t + u)) 12 := by
    have a := fb_ct_upd (dc_fs Q (t + u)) false hs
    have b : fb_ct (fun k => if k = s then false else dc_fs Q (t + u) k) 12 = fb_ct (dc_fs (dc_del Q (t + u) s) (t + u)) 12 := fb_ct_cong fun k _ => by
      unfold dc_fs dc_del
      by_cases e : k = s <;> simp [e]
    have c : dc_fs Q (t + u) s = true := by
      cases e : dc_fs Q (t + u) s
      · exact absurd (dc_fs_f e) hq
      · rfl
    rw [b, c] at a
    exact a
  have e2 := fb_sm_upd (fun u' => fb_ct (dc_fs Q (t + u')) 12) (fb_ct (dc_fs (dc_del Q (t + u) s) (t + u)) 12) hu
  have e3 : fb_sm (fun k => if k = u then fb_ct (dc_fs (dc_del Q (t + u) s) (t + u)) 12 else fb_ct (dc_fs Q (t + k)) 12) 10 = dc_count t (dc_del Q (t + u) s) := fb_sm_cong fun k _ => by
    by_cases e : k = u
    · rw [if_pos e, e]
    · rw [if_neg e]
      exact fb_ct_cong fun i _ => by unfold dc_fs dc_del; rw [if_neg (by omega)]
  have e4 : dc_count t Q = fb_sm (fun u' => fb_ct (dc_fs Q (t + u')) 12) 10 := rfl
  rw [e3] at e2
  rw [e4]
  omega
theorem lq_count : ∀ (L : dc_L) (Q : dc_Q) (t : Nat), dc_LQ L Q → dc_ok t Q → L.length = dc_count t Q
  | [], Q, t, h, hok => by
    have hz : ∀ T s, Q T s = none := by
      intro T s
      cases e : Q T s with
      | none => rfl
      | some v => exact absurd ((h.1 T s v).mpr e) List.not_mem_nil
    have e : dc_count t Q = fb_sm (fun _ => 0) 10 := fb_sm_cong fun u _ => fb_ct_zero.mpr fun k _ => dc_fs_no (hz _ _)
    rw [e]
    rfl
  | (T, s, v) :: L, Q, t, h, hok => by
    have hq : Q T s = some v := (h.1 T s v).mp List.mem_cons_self
    have hp := List.pairwise_cons.mp h.2
    have h' : dc_LQ L (dc_del Q T s) := by
      refine ⟨fun T' s' v' => ?_, hp.2⟩
      unfold dc_del
      constructor
      · intro hm
        rw [if_neg (fun e => hp.1 _ hm ⟨e.1.symm, e.2.symm⟩)]
        exact (h.1 T' s' v').mp (List.mem_cons_of_mem _ hm)
      · intro hm
        by_cases e : T' = T ∧ s' = s
        · rw [if_pos e] at hm; cases hm
        · rw [if_neg e] at hm
          rcases List.mem_cons.mp ((h.1 T' s' v').mpr hm) with q | q
          · cases q; exact absurd ⟨rfl, rfl⟩ e
          · exact q
    have hok' : dc_ok t (dc_del Q T s) := by
      intro T' s' hx
      unfold dc_del at hx
      by_cases e : T' = T ∧ s' = s
      · rw [if_pos e] at hx; exact absurd rfl hx
      · rw [if_neg e] at hx; exact hok T' s' hx
    rw [List.length_cons, lq_count L _ t h' hok', dc_count_del hok (by rw [hq]; exact Option.some_ne_none v)]
def dc_kp (s T : Nat) (e : dc_E) : Bool := !(decide (e.2.1 = s) && decide (T ≤ e.1))
theorem dc_kp_t {s T : Nat} {e : dc_E} : dc_kp s T e = true ↔ ¬ (e.2.1 = s ∧ T ≤ e.1) := by
  unfold dc_kp
  by_cases h1 : e.2.1 = s <;> by_cases h2 : T ≤ e.1 <;> simp [h1, h2] <;> omega
theorem lq_put {L : dc_L} {Q : dc_Q} (s T : Nat) (v : Int32) (h : dc_LQ L Q) : dc_LQ (L.filter (dc_kp s T) ++ [(T, s, v)]) (dc_put Q s T v) := by
  refine ⟨fun T' s' v' => ?_, ?_⟩
  · rw [List.mem_append, List.mem_filter, List.mem_singleton, dc_kp_t, h.1 T' s' v']
    unfold dc_put
    by_cases e : s' = s ∧ T ≤ T'
    · rw [if_pos e]
      by_cases e2 : T' = T
      · rw [if_pos e2]
        constructor
        · rintro (⟨-, q⟩ | q)
          · exact absurd e q
          · cases q; rfl
        · intro q
          cases q
          exact Or.inr (by rw [e2, e.1])
      · rw [if_neg e2]
        constructor
        · rintro (⟨-, q⟩ | q)
          · exact absurd e q
          · cases q; exact absurd rfl e2
        · intro q; cases q
    · rw [if_neg e]
      constructor
      · rintro (⟨q, -⟩ | q)
        · exact q
        · cases q; exact absurd ⟨rfl, Nat.le_refl _⟩ e
      · intro q; exact Or.inl ⟨q, e⟩
  · refine List.pairwise_append.mpr ⟨h.2.filter _, List.pairwise_singleton _ _, fun a ha b hb => ?_⟩
    rw [List.mem_singleton] at hb
    subst hb
    have := dc_kp_t.mp (List.mem_filter.mp ha).2
    intro q
    exact this ⟨q.2, Nat.le_of_eq q.1.symm⟩
def dc_nd (T : Nat) (e : dc_E) : Bool := !decide (e.1 = T)
theorem lq_tak {L : dc_L} {Q : dc_Q} (T : Nat) (h : dc_LQ L Q) : dc_LQ (L.filter (dc_nd T)) (dc_tak Q T) := by
  refine ⟨fun T' s' v' => ?_, h.2.filter _⟩
  rw [List.mem_filter, h.1 T' s' v']
  unfold dc_tak dc_nd
  by_cases e : T' = T <;> simp [e]
theorem lq_key {L : dc_L} {Q : dc_Q} (h : dc_LQ L Q) {i j : Nat} {a b : dc_E} (hi : L[i]? = some a) (hj : L[j]? = some b) (e1 : a.1 = b.1) (e2 : a.2.1 = b.2.1) : i = j := by
  have hp := List.pairwise_iff_getElem.mp h.2
  obtain ⟨li, gi⟩ := List.getElem?_eq_some_iff.mp hi
  obtain ⟨lj, gj⟩ := List.getElem?_eq_some_iff.mp hj
  rcases Nat.lt_trichotomy i j with q | q | q
  · exact absurd ⟨by rw [gi, gj]; exact e1, by rw [gi, gj]; exact e2⟩ (hp i j li lj q)
  · exact q
  · exact absurd ⟨by rw [gi, gj]; exact e1.symm, by rw [gi, gj]; exact e2.symm⟩ (hp j i lj li q)
/-! arrays that hold a list -/
def dc_at (t : Nat) (SG VL TM NX : Nat → Int32) (i : Nat) (e : dc_E) : Prop := SG i = nI e.2.1 ∧ VL i = e.2.2 ∧ TM i = nI e.1 ∧ NX i = nI (if e.1 = t then 1 else 0)
def dc_hold (t : Nat) (SG VL TM NX : Nat → Int32) (L : dc_L) : Prop := ∀ i e, L[i]? = some e → dc_at t SG VL TM NX i e
/-- in the midst of a sweep: F is kept in front, L stands from i on -/
def dc_mid (t : Nat) (SG VL TM NX : Nat → Int32) (L F : dc_L) (i : Nat) : Prop := dc_hold t SG VL TM NX F ∧ (∀ j e, i ≤ j → L[j]? = some e → dc_at t SG VL TM NX j e) ∧ F.length ≤ i
theorem mid_0 {t : Nat} {SG VL TM NX : Nat → Int32} {L : dc_L} (h : dc_hold t SG VL TM NX L) : dc_mid t SG VL TM NX L [] 0 := ⟨fun i e q => by simp at q, fun j e _ q => h j e q, Nat.le_refl _⟩
theorem mid_skip {t : Nat} {SG VL TM NX : Nat → Int32} {L F : dc_L} {i : Nat} (h : dc_mid t SG VL TM NX L F i) : dc_mid t SG VL TM NX L F (i + 1) := ⟨h.1, fun j e hj q => h.2.1 j e (by omega) q, Nat.le_succ_of_le h.2.2⟩
theorem mid_move {t : Nat} {SG VL TM NX : Nat → Int32} {L F : dc_L} {i : Nat} {e : dc_E} (h : dc_mid t SG VL TM NX L F i) (hi : L[i]? = some e) :
    dc_mid t (upd SG F.length (SG i)) (upd VL F.length (VL i)) (upd TM F.length (TM i)) (upd NX F.length (NX i)) L (F ++ [e]) (i + 1) := by
  obtain ⟨h1, h2, h3⟩ := h
  refine ⟨fun k f hk => ?_, fun j f hj q => ?_, by rw [List.length_append]; simp; omega⟩
  · rcases Nat.lt_or_ge k F.length with q | q
    · rw [List.getElem?_append_left q] at hk
      have a := h1 k f hk
      unfold dc_at at a ⊢
      rw [pk_un (by omega), pk_un (by omega), pk_un (by omega), pk_un (by omega)]
      exact a
    · rw [List.getElem?_append_right q] at hk
      have hz : k - F.length < 1 := (List.getElem?_eq_some_iff.mp hk).1
      have ek : k = F.length := by omega
      subst ek
      rw [Nat.sub_self] at hk
      cases hk
      have a := h2 i e (Nat.le_refl _) hi
      unfold dc_at at a ⊢
      rw [pk_us, pk_us, pk_us, pk_us]
      exact a
  · have a := h2 j f (by omega) q
    unfold dc_at at a ⊢
    rw [pk_un (by omega), pk_un (by omega), pk_un (by omega), pk_un (by omega)]
    exact a
theorem dc_take_f {L : dc_L} (p : dc_E → Bool) {i : Nat} {e : dc_E} (hi : L[i]? = some e) : (L.take (i + 1)).filter p = (L.take i).filter p ++ (if p e then [e] else []) := by
  obtain ⟨li, gi⟩ := List.getElem?_eq_some_iff.mp hi
  rw [List.take_succ_eq_append_getElem li, List.filter_append, gi]
  congr 1
  by_cases h : p e <;> simp [h]
/-! ===== processes ===== -/
abbrev dc_T : Type := Nat × (Nat → Int32) × (Nat → Int32) × (Nat → Int32) × (Nat → Int32) × (Nat → Int32)
def dc_op (x w : Int32) : Int32 := (x >>> ((nI 4 * w) &&& 31)) &&& nI 15
def dc_bad (x : Int32) : Int32 := if x < 0 then nI 1 else if x < nI 12 then nI 0 else nI 1
theorem dc_bad_ok {s : Nat} (h : s < 12) : dc_bad (nI s) = nI 0 := by
  unfold dc_bad
  rw [if_neg (nI_pos (by omega)), if_pos ((nI_ltI (by omega) (by omega)).mpr h)]
theorem dc_bad_no {x : Int32} (h : dc_bad x = 0) : ∃ s, s < 12 ∧ x = nI s := by
  unfold dc_bad at h
  by_cases h0 : x < 0
  · rw [if_pos h0] at h; exact absurd h (by decide)
  · rw [if_neg h0] at h
    by_cases h1 : x < nI 12
    · obtain ⟨j, hj, e⟩ := nI_of h0
      subst e
      exact ⟨j, (nI_ltI hj (by omega)).mp h1, rfl⟩
    · rw [if_neg h1] at h; exact absurd h (by decide)
theorem dc_bad_yes {x : Int32} (h : ¬ dc_bad x = 0) : ∀ s, s < 12 → x ≠ nI s := fun s hs e => h (by rw [e, dc_bad_ok hs]; rfl)
abbrev dc_sig (x : Int32) : Prop := ∀ w, w < 4 → dc_bad (dc_op x (nI w)) = 0
abbrev dc_prK (how : Int32) : Int32 := how &&& nI 7
abbrev dc_prD (how : Int32) : Int32 := (how >>> (nI 4 &&& 31)) &&& nI 15
def dc_prR (n : Nat) (how sig : Int32) : Int32 := if dc_sig sig then (if dc_prK how ≤ nI 5 then (if dc_prD how ≤ nI 9 then (if n < 8 then nI n else -4) else -3) else -2) else -1
def dc_prG (G : dc_T) (how sig cc w : Int32) : dc_T :=
  if dc_sig sig ∧ dc_prK how ≤ nI 5 ∧ dc_prD how ≤ nI 9 ∧ G.1 < 8 then (G.1 + 1, upd G.2.1 G.1 (dc_prK how), upd G.2.2.1 G.1 (dc_prD how), upd G.2.2.2.1 G.1 sig, upd G.2.2.2.2.1 G.1 cc, upd G.2.2.2.2.2 G.1 (w &&& nI 4095)) else G
def dc_okT (G : dc_T) : Prop := G.1 ≤ 8 ∧ ∀ p, p < G.1 → (∃ k, k ≤ 5 ∧ G.2.1 p = nI k) ∧ (∃ u, u ≤ 9 ∧ G.2.2.1 p = nI u) ∧ ∀ w, w < 4 → ∃ s, s < 12 ∧ dc_op (G.2.2.2.1 p) (nI w) = nI s
theorem dc_okT_pr {G : dc_T} (h : dc_okT G) (how sig cc w : Int32) : dc_okT (dc_prG G how sig cc w) := by
  unfold dc_prG
  by_cases e : dc_sig sig ∧ dc_prK how ≤ nI 5 ∧ dc_prD how ≤ nI 9 ∧ G.1 < 8
  · rw [if_pos e]
    obtain ⟨e1, e2, e3, e4⟩ := e
    refine ⟨Nat.succ_le_of_lt e4, fun p hp => ?_⟩
    dsimp only at hp ⊢
    by_cases ep : p = G.1
    · rw [ep, pk_us, pk_us, pk_us]
      refine ⟨?_, ?_, fun w hw => dc_bad_no (e1 w hw)⟩
      · obtain ⟨j, hj, hx⟩ := pk_andE how (m := nI 7) 3 (by decide)
        refine ⟨j, ?_, hx⟩
        have e2' : nI j ≤ nI 5 := by rw [← hx]; exact e2
        exact (nI_leI (by omega) (by omega)).mp e2'
      · obtain ⟨j, hj, hx⟩ := pk_andE (how >>> (nI 4 &&& 31)) (m := nI 15) 4 (by decide)
        refine ⟨j, ?_, hx⟩
        have e3' : nI j ≤ nI 9 := by rw [← hx]; exact e3
        exact (nI_leI (by omega) (by omega)).mp e3'
    · rw [pk_un ep, pk_un ep, pk_un ep]
      exact h.2 p (by omega)
  · rw [if_neg e]; exact h
/-- what process p computes out of the values -/
def dc_res (G : dc_T) (V : Nat → Int32) (p : Nat) : Int32 :=
  if G.2.1 p = nI 0 then V (dc_op (G.2.2.2.1 p) (nI 0)).toNatClampNeg + V (dc_op (G.2.2.2.1 p) (nI 1)).toNatClampNeg
  else if G.2.1 p = nI 1 then V (dc_op (G.2.2.2.1 p) (nI 0)).toNatClampNeg &&& V (dc_op (G.2.2.2.1 p) (nI 1)).toNatClampNeg
  else if G.2.1 p = nI 2 then V (dc_op (G.2.2.2.1 p) (nI 0)).toNatClampNeg ^^^ V (dc_op (G.2.2.2.1 p) (nI 1)).toNatClampNeg
  else if G.2.1 p = nI 3 then V (dc_op (G.2.2.2.1 p) (nI 0)).toNatClampNeg + G.2.2.2.2.1 p
  else if G.2.1 p = nI 4 then (if V (dc_op (G.2.2.2.1 p) (nI 2)).toNatClampNeg = 0 then V (dc_op (G.2.2.2.1 p) (nI 1)).toNatClampNeg else V (dc_op (G.2.2.2.1 p) (nI 0)).toNatClampNeg)
  else V (dc_op (G.2.2.2.1 p) (nI 0)).toNatClampNeg ^^^ (-1)
def dc_cry (G : dc_T) (V : Nat → Int32) (t : Nat) (Q : dc_Q) (p : Nat) : dc_Q := dc_put Q (dc_op (G.2.2.2.1 p) (nI 3)).toNatClampNeg (t + (G.2.2.1 p).toNatClampNeg) (dc_res G V p)
theorem dc_ok_cry {G : dc_T} {V : Nat → Int32} {t : Nat} {Q : dc_Q} {p : Nat} (hG : dc_okT G) (hp : p < G.1) (h : dc_ok t Q) : dc_ok t (dc_cry G V t Q p) := by
  obtain ⟨-, ⟨u, hu, e2⟩, hw⟩ := hG.2 p hp
  obtain ⟨s, hs, e3⟩ := hw 3 (by omega)
  unfold dc_cry
  rw [e2, e3, nI_clamp (by omega), nI_clamp (by omega)]
  exact dc_ok_put h hs (by omega)
/-- the processes ahead of k run for a set of changed signals -/
def dc_lp (G : dc_T) (V : Nat → Int32) (t : Nat) (ch : Int32) (Q : dc_Q) : Nat → dc_Q
  | 0 => Q
  | p + 1 => if G.2.2.2.2.2 p &&& ch = 0 then dc_lp G V t ch Q p else dc_cry G V t (dc_lp G V t ch Q p) p
theorem dc_ok_lp {G : dc_T} {V : Nat → Int32} {t : Nat} {ch : Int32} {Q : dc_Q} (hG : dc_okT G) (h : dc_ok t Q) : ∀ k, k ≤ G.1 → dc_ok t (dc_lp G V t ch Q k)
  | 0, _ => h
  | k + 1, hk => by
    have ih := dc_ok_lp (V := V) (ch := ch) hG h k (by omega)
    unfold dc_lp
    by_cases e : G.2.2.2.2.2 k &&& ch = 0
    · rw [if_pos e]; exact ih
    · rw [if_neg e]; exact dc_ok_cry hG (by omega) ih
/-! ===== a cycle ===== -/
def dc_tV (Q : dc_Q) (T : Nat) (V : Nat → Int32) : Nat → Int32 := fun s => (Q T s).getD (V s)
def dc_ch (Q : dc_Q) (T : Nat) (V : Nat → Int32) : Nat → Bool := fun s => (Q T s).any (fun v => !decide (V s = v))
def dc_tE (Q : dc_Q) (T : Nat) (V E : Nat → Int32) : Nat → Int32 := fun s => if dc_ch Q T V s then E s + nI 1 else E s
abbrev dc_S : Type := dc_Q × (Nat → Int32) × (Nat → Int32) × Nat × Int32
noncomputable def dc_stp (G : dc_T) (S : dc_S) : dc_S :=
  (dc_lp G (dc_tV S.1 (dc_next S.1) S.2.1) (dc_next S.1) (dc_mk (dc_ch S.1 (dc_next S.1) S.2.1) 12) (dc_tak S.1 (dc_next S.1)) G.1, dc_tV S.1 (dc_next S.1) S.2.1, dc_tE S.1 (dc_next S.1) S.2.1 S.2.2.1, dc_next S.1, S.2.2.2.2 + nI 1)
noncomputable def dc_st (G : dc_T) (S : dc_S) : dc_S := @ite _ (dc_emp S.1) (Classical.propDecidable _) S (dc_stp G S)
noncomputable def dc_stR (S : dc_S) : Int32 := @ite _ (dc_emp S.1) (Classical.propDecidable _) (-5) (nI (fb_ct (dc_ch S.1 (dc_next S.1) S.2.1) 12))
theorem dc_st_e {G : dc_T} {S : dc_S} (h : dc_emp S.1) : dc_st G S = S ∧ dc_stR S = -5 := by
  unfold dc_st dc_stR
  rw [if_pos h, if_pos h]
  exact ⟨rfl, rfl⟩
theorem dc_st_n {G : dc_T} {S : dc_S} (h : ¬ dc_emp S.1) : dc_st G S = dc_stp G S ∧ dc_stR S = nI (fb_ct (dc_ch S.1 (dc_next S.1) S.2.1) 12) := by
  unfold dc_st dc_stR
  rw [if_neg h, if_neg h]
  exact ⟨rfl, rfl⟩
theorem dc_ok_st {G : dc_T} {S : dc_S} (hG : dc_okT G) (h : dc_ok S.2.2.2.1 S.1) : dc_ok (dc_st G S).2.2.2.1 (dc_st G S).1 ∧ (dc_st G S).2.2.2.1 ≤ S.2.2.2.1 + 9 := by
  by_cases e : dc_emp S.1
  · rw [(dc_st_e e).1]; exact ⟨h, by omega⟩
  · have hn := dc_nx_of e
    have hb := dc_nx_ok h hn
    rw [(dc_st_n e).1]
    exact ⟨dc_ok_lp hG (dc_ok_tak h hn) G.1 (Nat.le_refl _), by show dc_next S.1 ≤ _; omega⟩
def dc_go (e : Nat) (S : dc_S) : Prop := ¬ dc_emp S.1 ∧ dc_next S.1 ≤ e
noncomputable def dc_run (G : dc_T) (e : Nat) : Nat → dc_S → dc_S × Nat
  | 0, S => (S, 0)
  | k + 1, S => @ite _ (dc_go e S) (Classical.propDecidable _) ((dc_run G e k (dc_st G S)).1, (dc_run G e k (dc_st G S)).2 + 1) (S, 0)
theorem dc_run_y {G : dc_T} {e k : Nat} {S : dc_S} (h : dc_go e S) : dc_run G e (k + 1) S = ((dc_run G e k (dc_st G S)).1, (dc_run G e k (dc_st G S)).2 + 1) := by
  rw [dc_run, if_pos h]
theorem dc_run_n {G : dc_T} {e k : Nat} {S : dc_S} (h : ¬ dc_go e S) : dc_run G e k S = (S, 0) := by
  cases k with
  | zero => rfl
  | succ k => rw [dc_run, if_neg h]
theorem dc_ok_run {G : dc_T} (hG : dc_okT G) {e : Nat} : ∀ (k : Nat) (S : dc_S), dc_ok S.2.2.2.1 S.1 → dc_ok (dc_run G e k S).1.2.2.2.1 (dc_run G e k S).1.1 ∧ (dc_run G e k S).1.2.2.2.1 ≤ S.2.2.2.1 + 9 * k
  | 0, S, h => ⟨h, by show S.2.2.2.1 ≤ _; omega⟩
  | k + 1, S, h => by
    by_cases q : dc_go e S
    · rw [dc_run_y q]
      have a := dc_ok_st hG h
      have b := dc_ok_run hG (e := e) k (dc_st G S) a.1
      exact ⟨b.1, by show (dc_run G e k (dc_st G S)).1.2.2.2.1 ≤ _; omega⟩
    · rw [dc_run_n q]
      exact ⟨h, by show S.2.2.2.1 ≤ _; omega⟩
/-! ===== questions with one answer ===== -/
def dc_ntR (Q : dc_Q) (r : Int32) : Prop := (dc_emp Q ∧ r = -5) ∨ ∃ T, dc_nx Q T ∧ r = nI T
theorem dc_nt_one {Q : dc_Q} {r r' : Int32} (h : dc_ntR Q r) (h' : dc_ntR Q r') : r = r' := by
  rcases h with ⟨h, e⟩ | ⟨T, h, e⟩ <;> rcases h' with ⟨h', e'⟩ | ⟨T', h', e'⟩
  · rw [e, e']
  · exact absurd h (dc_nx_ne h')
  · exact absurd h' (dc_nx_ne h)
  · rw [e, e', dc_nx_one h h']
def dc_comR (Q : dc_Q) (sg r : Int32) : Prop := (∃ s T v, s < 12 ∧ sg = nI s ∧ Q T s = some v ∧ (∀ T', Q T' s ≠ none → T ≤ T') ∧ r = v) ∨ ((∀ s, s < 12 → sg = nI s → ∀ T, Q T s = none) ∧ r = 0)
theorem dc_com_one {Q : dc_Q} {sg r r' : Int32} (h : dc_comR Q sg r) (h' : dc_comR Q sg r') : r = r' := by
  rcases h with ⟨s, T, v, hs, e1, e2, e3, e⟩ | ⟨h, e⟩ <;> rcases h' with ⟨s', T', v', hs', e1', e2', e3', e'⟩ | ⟨h', e'⟩
  · have es : s = s' := (nI_eq (by omega) (by omega)).mp (e1.symm.trans e1')
    subst es
    have eT : T = T' := Nat.le_antisymm (e3 T' (by rw [e2']; exact Option.some_ne_none _)) (e3' T (by rw [e2]; exact Option.some_ne_none _))
    subst eT
    rw [e, e']
    exact Option.some.inj (e2.symm.trans e2')
  · exact absurd (e2.symm.trans (h' s hs e1 T)) (Option.some_ne_none _)
  · exact absurd (e2'.symm.trans (h s' hs' e1' T')) (Option.some_ne_none _)
  · rw [e, e']
def dc_drQ (t : Nat) (Q : dc_Q) (sg v dl : Int32) : dc_Q := if dc_bad sg = 0 ∧ ¬ dl < 0 ∧ dl ≤ nI 9 then dc_put Q sg.toNatClampNeg (t + dl.toNatClampNeg) v else Q
def dc_drR (t : Nat) (Q : dc_Q) (sg v dl : Int32) : Int32 := if dc_bad sg = 0 then (if ¬ dl < 0 ∧ dl ≤ nI 9 then nI (dc_count t (dc_drQ t Q sg v dl)) else -3) else -1
theorem dc_ok_dr {t : Nat} {Q : dc_Q} (h : dc_ok t Q) (sg v dl : Int32) : dc_ok t (dc_drQ t Q sg v dl) := by
  unfold dc_drQ
  by_cases e : dc_bad sg = 0 ∧ ¬ dl < 0 ∧ dl ≤ nI 9
  · rw [if_pos e]
    obtain ⟨s, hs, e1⟩ := dc_bad_no e.1
    obtain ⟨u, hu, e2⟩ := nI_of e.2.1
    subst e1; subst e2
    have := (nI_leI hu (by omega)).mp e.2.2
    rw [nI_clamp (by omega), nI_clamp (by omega)]
    exact dc_ok_put h hs (by omega)
  · rw [if_neg e]; exact h
def dc_pkQ (G : dc_T) (V : Nat → Int32) (t : Nat) (Q : dc_Q) (p : Int32) : dc_Q := if ¬ p < 0 ∧ p < nI G.1 then dc_cry G V t Q p.toNatClampNeg else Q
def dc_pkR (G : dc_T) (V : Nat → Int32) (t : Nat) (Q : dc_Q) (p : Int32) : Int32 := if ¬ p < 0 ∧ p < nI G.1 then nI (dc_count t (dc_pkQ G V t Q p)) else -2
theorem dc_ok_pk {G : dc_T} (hG : dc_okT G) {V : Nat → Int32} {t : Nat} {Q : dc_Q} (h : dc_ok t Q) (p : Int32) : dc_ok t (dc_pkQ G V t Q p) := by
  unfold dc_pkQ
  by_cases e : ¬ p < 0 ∧ p < nI G.1
  · rw [if_pos e]
    obtain ⟨j, hj, e2⟩ := nI_of e.1
    subst e2
    have h8 := hG.1
    have := (nI_ltI hj (by omega)).mp e.2
    rw [nI_clamp hj]
    exact dc_ok_cry hG this h
  · rw [if_neg e]; exact h
def dc_vaR (V : Nat → Int32) (sg : Int32) : Int32 := if dc_bad sg = 0 then V sg.toNatClampNeg else 0
end
section
set_option maxRecDepth 100000
/-! ===== the worlds of the two classes, and the rows over them ===== -/
abbrev vwCl : List vw_C := [(RX0, TX0, 14), (RX1, TX1, 15)]
abbrev dc_ty (d : ClassId × ClassId) : List (ClassId × FieldType) := [(d.1, .int), (d.2, .boolean)]
def dc_wX (d : ClassId × ClassId) (a : Nat → Nat) (V E : Nat → Int32) (np : Int32) (K D P C W : Nat → Int32) (tm dn ds : Int32) (DV WS WV : Nat → Int32) : va_W :=
  [(a 0, .inr (0, [.ref (a 1), .ref (a 2), .int np, .ref (a 3), .ref (a 4), .ref (a 5), .ref (a 6), .ref (a 7), .int tm, .int dn, .int ds, .ref (a 8), .ref (a 9), .ref (a 10)])),
   (a 1, .inl (d.1, 12, .inl V)), (a 2, .inl (d.1, 12, .inl E)), (a 3, .inl (d.1, 8, .inl K)), (a 4, .inl (d.1, 8, .inl D)), (a 5, .inl (d.1, 8, .inl P)), (a 6, .inl (d.1, 8, .inl C)), (a 7, .inl (d.1, 8, .inl W)),
   (a 8, .inl (d.1, 12, .inl DV)), (a 9, .inl (d.1, 10, .inl WS)), (a 10, .inl (d.1, 120, .inl WV))]
def dc_wM (d : ClassId × ClassId) (a : Nat → Nat) (V E K D P C W : Nat → Int32) (np : Int32) (SG VL TM NX : Nat → Int32) (ch tm dn : Int32) : va_W :=
  [(a 0, .inr (1, [.ref (a 1), .ref (a 2), .ref (a 3), .ref (a 4), .ref (a 5), .ref (a 6), .ref (a 7), .int np, .ref (a 8), .ref (a 9), .ref (a 10), .ref (a 11), .int ch, .int tm, .int dn])),
   (a 1, .inl (d.1, 12, .inl V)), (a 2, .inl (d.1, 12, .inl E)), (a 3, .inl (d.1, 8, .inl K)), (a 4, .inl (d.1, 8, .inl D)), (a 5, .inl (d.1, 8, .inl P)), (a 6, .inl (d.1, 8, .inl C)), (a 7, .inl (d.1, 8, .inl W)),
   (a 8, .inl (d.1, 128, .inl SG)), (a 9, .inl (d.1, 128, .inl VL)), (a 10, .inl (d.1, 128, .inl TM)), (a 11, .inl (d.2, 128, .inl NX))]
/-- the machine's heap holds the world ws; since the start nothing outside A has changed -/
def dc_Wd (D : va_G) (d : ClassId × ClassId) (A : Nat → Prop) (s : State) (ws : va_W) (H : Heap) (locs : List Loc) : Prop :=
  va_K D vwCl (dc_ty d) s ∧ va_P D vwCl ws H ∧ va_D A ws ∧ va_S A s.heap H locs ∧ ∀ q : Nat, s.heap.size ≤ q → A q
def dc_Pre (D : va_G) (d : ClassId × ClassId) (av : List Value) (ws : va_W) (sz : Nat) : Array Value → State → Prop :=
  va_Pc av (fun U => U.heap.size = sz ∧ va_P D vwCl ws U.heap ∧ va_K D vwCl (dc_ty d) U ∧ va_D (fun _ => True) ws)
def dc_B (D : va_G) (d : ClassId × ClassId) (A : Nat → Prop) {S : Type} (wf : S → va_W) (u : S) (t : State) : Prop := va_P D vwCl (wf u) t.heap ∧ va_K D vwCl (dc_ty d) t ∧ va_D A (wf u)
theorem dc_blind {D : va_G} {d : ClassId × ClassId} {av : List Value} {ws : va_W} {sz : Nat} : FrameBlind (dc_Pre D d av ws sz) := fun a U g mk q => by
  obtain ⟨q0, q1, qP, qK, qD⟩ := q
  exact ⟨q0, q1, qP, va_K.moved (u := U) (U := U.calling g mk a) (Vm.Alike.refl U.vm) qK, qD⟩
theorem dc_pre {D : va_G} {d : ClassId × ClassId} {A : Nat → Prop} {s : State} {ws : va_W} {H : Heap} {locs : List Loc} (hw : dc_Wd D d A s ws H locs) (av : List Value) : ∀ U : State, U.heap = H → s.WarmedH U.vm → dc_Pre D d av ws H.size av.toArray U :=
  fun U hU hW => ⟨rfl, by rw [hU], by rw [hU]; exact hw.2.1, va_K.moved hW.alike hw.1, hw.2.2.1.weaken (fun _ _ _ _ => trivial)⟩
section MET
variable {l : Launch} {y : MethodName} {cc : ByteArray} {maxL : Nat} {ret : FieldType} {rm : Room} {D : va_G} {d : ClassId × ClassId} {av : List Value} {ws : va_W} {sz : Nat}
/-- a method that only reads -/
theorem dc_metR {post : Int32 → Prop} (hpl : plainName y.cls = true) (hlen : (lg_sl av).length ≤ maxL)
    (body : ∀ (p : Program) (e : Env) (s : State) (m : MethodId) (below : List Frame) (meth : Method) (c : Code) (A : Nat → Prop) (Q : State → Prop) (ls : Array Slot), CallFix p m c cc maxL s av.toArray lw_all y.cls → dc_Wd D d A s ws s.heap [] → lv_has ls maxL (lv_args 0 av) →
      (∀ (pc : Nat) (ls : Array Slot) (r : Int32), decode cc pc = .ok (.ireturn, 1) → narrow ret (.int r) = .int r → post r → W p l e rm s m av.toArray below meth c s.heap [] 0 0 Q (F0 m pc ls [.int r])) →
      W p l e rm s m av.toArray below meth c s.heap [] 0 0 Q (F0 m 0 ls [])) :
    Met l y (ws_ y cc maxL (some ret)) rm (dc_Pre D d av ws sz) (vp_Si post) 0 0 (fun _ => False) := by
  refine Met.ofW (cc := cc) (maxL := maxL) (ret := some ret) hpl rfl ?_
  intro p e s m args below meth c s₁ B hml hv
  obtain ⟨rfl, hsz, hP, hK, hD0⟩ := hv
  have hts := atoms_spec (ws := ws_ y cc maxL (some ret)) B.pre
  have hts : ∀ w ∈ lw_all, w.before av.toArray s = true := fun w h => hts w (List.mem_cons_of_mem _ h)
  have hown : s.vm.findClass y.cls = some m.cls := findClass_of_methodNamed B.named
  have hl := lv_entry av (n := maxL) hlen
  rw [lg_entry_eq]
  exact body p e s m below meth c (va_A ws s.heap.size) _ _ ⟨B.exec, B.bytes, hml, hown, hts⟩ ⟨hK, hP, hD0.self, va_S.rf, fun q h => Or.inr h⟩ hl
    (fun pc ls r hd hn hp => W.zret B.exec B.bytes B.returns hn (fun t ht hW => ⟨r, rfl, hp, ht⟩) (fun q h => by cases h) hd B.notSynchronized)
/-- a static method of numbers alone -/
theorem dc_metS {post : Int32 → Prop} (hpl : plainName y.cls = true) (hlen : (lg_sl av).length ≤ maxL)
    (body : ∀ (p : Program) (e : Env) (s : State) (m : MethodId) (below : List Frame) (meth : Method) (c : Code) (Q : State → Prop) (ls : Array Slot), CallFix p m c cc maxL s av.toArray lw_all y.cls → lv_has ls maxL (lv_args 0 av) →
      (∀ (pc : Nat) (ls : Array Slot) (r : Int32), decode cc pc = .ok (.ireturn, 1) → narrow ret (.int r) = .int r → post r → W p l e rm s m av.toArray below meth c s.heap [] 0 0 Q (F0 m pc ls [.int r])) →
      W p l e rm s m av.toArray below meth c s.heap [] 0 0 Q (F0 m 0 ls [])) :
    Met l y (ws_ y cc maxL (some ret)) rm (va_Pc av (fun _ => True)) (vp_Si post) 0 0 (fun _ => False) := by
  refine Met.ofW (cc := cc) (maxL := maxL) (ret := some ret) hpl rfl ?_
  intro p e s m args below meth c s₁ B hml hv
  obtain ⟨rfl, -⟩ := hv
  have hts := atoms_spec (ws := ws_ y cc maxL (some ret)) B.pre
  have hts : ∀ w ∈ lw_all, w.before av.toArray s = true := fun w h => hts w (List.mem_cons_of_mem _ h)
  have hown : s.vm.findClass y.cls = some m.cls := findClass_of_methodNamed B.named
  have hl := lv_entry av (n := maxL) hlen
  rw [lg_entry_eq]
  exact body p e s m below meth c _ _ ⟨B.exec, B.bytes, hml, hown, hts⟩ hl
    (fun pc ls r hd hn hp => W.zret B.exec B.bytes B.returns hn (fun t ht hW => ⟨r, rfl, hp, ht⟩) (fun q h => by cases h) hd B.notSynchronized)
/-- a method that writes its object's cells and answers an int -/
theorem dc_metI {S : Type} {post : Int32 → S → Prop} {wf : S → va_W} (hpl : plainName y.cls = true) (hlen : (lg_sl av).length ≤ maxL)
    (body : ∀ (p : Program) (e : Env) (s : State) (m : MethodId) (below : List Frame) (meth : Method) (c : Code) (A : Nat → Prop) (Q : State → Prop) (ls : Array Slot), CallFix p m c cc maxL s av.toArray lw_all y.cls → dc_Wd D d A s ws s.heap [] → lv_has ls maxL (lv_args 0 av) →
      (∀ (pc : Nat) (ls : Array Slot) (H : Heap) (locs : List Loc) (r : Int32) (u : S), decode cc pc = .ok (.ireturn, 1) → narrow ret (.int r) = .int r → post r u → dc_Wd D d A s (wf u) H locs → W p l e rm s m av.toArray below meth c H locs 0 0 Q (F0 m pc ls [.int r])) →
      W p l e rm s m av.toArray below meth c s.heap [] 0 0 Q (F0 m 0 ls [])) :
    Met l y (ws_ y cc maxL (some ret)) rm (dc_Pre D d av ws sz) (va_Qi post (dc_B D d (va_A ws sz) wf) (va_A ws sz)) 0 0 (va_A ws sz) := by
  refine Met.ofW (cc := cc) (maxL := maxL) (ret := some ret) hpl rfl ?_
  intro p e s m args below meth c s₁ B hml hv
  obtain ⟨rfl, hsz, hP, hK, hD0⟩ := hv
  subst hsz
  have hts := atoms_spec (ws := ws_ y cc maxL (some ret)) B.pre
  have hts : ∀ w ∈ lw_all, w.before av.toArray s = true := fun w h => hts w (List.mem_cons_of_mem _ h)
  have hown : s.vm.findClass y.cls = some m.cls := findClass_of_methodNamed B.named
  have hl := lv_entry av (n := maxL) hlen
  rw [lg_entry_eq]
  exact body p e s m below meth c (va_A ws s.heap.size) _ _ ⟨B.exec, B.bytes, hml, hown, hts⟩ ⟨hK, hP, hD0.self, va_S.rf, fun q h => Or.inr h⟩ hl
    (fun pc ls H locs r u hd hn hp hw => W.zret B.exec B.bytes B.returns hn (fun t ht hW => ⟨⟨r, u, rfl, hp, by rw [ht]; exact hw.2.1, va_K.moved hW.alike hw.1, hw.2.2.1⟩, hw.2.2.2.1.F ht⟩) hw.2.2.2.1.2.2 hd B.notSynchronized)
/-- .. and answers nothing -/
theorem dc_metV {S : Type} {post : S → Prop} {wf : S → va_W} (hpl : plainName y.cls = true) (hlen : (lg_sl av).length ≤ maxL)
    (body : ∀ (p : Program) (e : Env) (s : State) (m : MethodId) (below : List Frame) (meth : Method) (c : Code) (A : Nat → Prop) (Q : State → Prop) (ls : Array Slot), CallFix p m c cc maxL s av.toArray lw_all y.cls → dc_Wd D d A s ws s.heap [] → lv_has ls maxL (lv_args 0 av) →
      (∀ (pc : Nat) (ls : Array Slot) (H : Heap) (locs : List Loc) (u : S), decode cc pc = .ok (.return_, 1) → post u → dc_Wd D d A s (wf u) H locs → W p l e rm s m av.toArray below meth c H locs 0 0 Q (F0 m pc ls [])) →
      W p l e rm s m av.toArray below meth c s.heap [] 0 0 Q (F0 m 0 ls [])) :
    Met l y (ws_ y cc maxL none) rm (dc_Pre D d av ws sz) (va_Qv post (dc_B D d (va_A ws sz) wf) (va_A ws sz)) 0 0 (va_A ws sz) := by
  refine Met.ofW (cc := cc) (maxL := maxL) (ret := none) hpl rfl ?_
  intro p e s m args below meth c s₁ B hml hv
  obtain ⟨rfl, hsz, hP, hK, hD0⟩ := hv
  subst hsz
  have hts := atoms_spec (ws := ws_ y cc maxL none) B.pre
  have hts : ∀ w ∈ lw_all, w.before av.toArray s = true := fun w h => hts w (List.mem_cons_of_mem _ h)
  have hown : s.vm.findClass y.cls = some m.cls := findClass_of_methodNamed B.named
  have hl := lv_entry av (n := maxL) hlen
  rw [lg_entry_eq]
  exact body p e s m below meth c (va_A ws s.heap.size) _ _ ⟨B.exec, B.bytes, hml, hown, hts⟩ ⟨hK, hP, hD0.self, va_S.rf, fun q h => Or.inr h⟩ hl
    (fun pc ls H locs u hd hp hw => W.vret B.exec B.bytes B.returns (fun t ht hW => ⟨⟨u, rfl, hp, by rw [ht]; exact hw.2.1, va_K.moved hW.alike hw.1, hw.2.2.1⟩, hw.2.2.2.1.F ht⟩) hw.2.2.2.1.2.2 hd B.notSynchronized)
end MET
section ROWS
variable {p : Program} {l : Launch} {e : Env} {R : Room} {s : State} {m : MethodId} {args : Array Value} {below : List Frame} {meth : Method} {c : Code} {H : Heap} {locs : List Loc} {cells slots : Nat} {Q : State → Prop}
variable {cc : ByteArray} {pc nL : Nat} {ls : Array Slot} {rest : List Value} {own : String} {D : va_G} {d : ClassId × ClassId} {A : Nat → Prop} {ws : va_W}
theorem x0_get (S : CallFix p m c cc nL s args lw_all RX0) (hw : dc_Wd D d A s ws H locs) {a : Nat} {fs : List Value} (he : ws[0]? = some (a, .inr (0, fs))) (k : Nat) (hk : k < 14) {idx : Nat} (hq : Cond.fieldLink RX0 idx (TX0 k).1 (TX0 k).2.1 (TX0 k).2.2.1 ∈ lw_all) {v : Value} (hv : fs[k]? = some v) (hdg : decode cc pc = .ok (.getfield idx, 3))
    (kk : W p l e R s m args below meth c H locs cells slots Q (F0 m (pc + 3) ls (v :: rest))) : W p l e R s m args below meth c H locs cells slots Q (F0 m pc ls (.ref a :: rest)) :=
  va_get (D := D) (ci := 0) (C := RX0) (T := TX0) (N := 14) S.1 S.2.1 S.2.2.2.2 in_X0 S.2.2.2.1 hw.1 hw.2.1 0 he rfl k hk (S.2.2.2.2 _ hq) (fun _ h => h) hv hdg kk
theorem x1_get (S : CallFix p m c cc nL s args lw_all RX1) (hw : dc_Wd D d A s ws H locs) {a : Nat} {fs : List Value} (he : ws[0]? = some (a, .inr (1, fs))) (k : Nat) (hk : k < 15) {idx : Nat} (hq : Cond.fieldLink RX1 idx (TX1 k).1 (TX1 k).2.1 (TX1 k).2.2.1 ∈ lw_all) {v : Value} (hv : fs[k]? = some v) (hdg : decode cc pc = .ok (.getfield idx, 3))
    (kk : W p l e R s m args below meth c H locs cells slots Q (F0 m (pc + 3) ls (v :: rest))) : W p l e R s m args below meth c H locs cells slots Q (F0 m pc ls (.ref a :: rest)) :=
  va_get (D := D) (ci := 1) (C := RX1) (T := TX1) (N := 15) S.1 S.2.1 S.2.2.2.2 in_X1 S.2.2.2.1 hw.1 hw.2.1 0 he rfl k hk (S.2.2.2.2 _ hq) (fun _ h => h) hv hdg kk
theorem x0_put (S : CallFix p m c cc nL s args lw_all RX0) (hw : dc_Wd D d A s ws H locs) {a : Nat} {fs : List Value} (he : ws[0]? = some (a, .inr (0, fs))) (k : Nat) (hk : k < 14) {idx : Nat} (hq : Cond.fieldLink RX0 idx (TX0 k).1 (TX0 k).2.1 (TX0 k).2.2.1 ∈ lw_all) (hfin : (TX0 k).2.2.2 = false) (hd : parseFieldDescriptor (TX0 k).2.2.1 = some .int) (hl : k < fs.length) {x : Int32} {ws' : va_W} (hws : ws.set 0 (a, .inr (0, fs.set k (.int x))) = ws') (hdg : decode cc pc = .ok (.putfield idx, 3))
    (kk : ∀ (H1 : Heap) (locs1 : List Loc), dc_Wd D d A s ws' H1 locs1 → W p l e R s m args below meth c H1 locs1 cells slots Q (F0 m (pc + 3) ls rest)) : W p l e R s m args below meth c H locs cells slots Q (F0 m pc ls (.int x :: .ref a :: rest)) := by
  subst hws
  exact va_put (D := D) (ci := 0) (C := RX0) (T := TX0) (N := 14) S.1 S.2.1 S.2.2.2.2 in_X0 tyX0 tyX0_ok nmX0 S.2.2.2.1 hw.1 hw.2.1 hw.2.2.1 hw.2.2.2.1 0 he rfl k hk (S.2.2.2.2 _ hq) (fun _ h => h) hfin hd (vp_nar_int x) rfl hl hdg (fun H1 locs1 h1 h2 h3 => kk H1 locs1 ⟨hw.1, h1, h2, h3, hw.2.2.2.2⟩)
theorem x1_put (S : CallFix p m c cc nL s args lw_all RX1) (hw : dc_Wd D d A s ws H locs) {a : Nat} {fs : List Value} (he : ws[0]? = some (a, .inr (1, fs))) (k : Nat) (hk : k < 15) {idx : Nat} (hq : Cond.fieldLink RX1 idx (TX1 k).1 (TX1 k).2.1 (TX1 k).2.2.1 ∈ lw_all) (hfin : (TX1 k).2.2.2 = false) (hd : parseFieldDescriptor (TX1 k).2.2.1 = some .int) (hl : k < fs.length) {x : Int32} {ws' : va_W} (hws : ws.set 0 (a, .inr (1, fs.set k (.int x))) = ws') (hdg : decode cc pc = .ok (.putfield idx, 3))
    (kk : ∀ (H1 : Heap) (locs1 : List Loc), dc_Wd D d A s ws' H1 locs1 → W p l e R s m args below meth c H1 locs1 cells slots Q (F0 m (pc + 3) ls rest)) : W p l e R s m args below meth c H locs cells slots Q (F0 m pc ls (.int x :: .ref a :: rest)) := by
  subst hws
  exact va_put (D := D) (ci := 1) (C := RX1) (T := TX1) (N := 15) S.1 S.2.1 S.2.2.2.2 in_X1 tyX1 tyX1_ok nmX1 S.2.2.2.1 hw.1 hw.2.1 hw.2.2.1 hw.2.2.2.1 0 he rfl k hk (S.2.2.2.2 _ hq) (fun _ h => h) hfin hd (vp_nar_int x) rfl hl hdg (fun H1 locs1 h1 h2 h3 => kk H1 locs1 ⟨hw.1, h1, h2, h3, hw.2.2.2.2⟩)
theorem dc_ild (S : CallFix p m c cc nL s args lw_all own) (hw : dc_Wd D d A s ws H locs) (q0 : Nat) {a n : Nat} {f : Nat → Int32} (ha : ws[q0]? = some (a, .inl (d.1, n, .inl f))) {i : Nat} (hi : i < n) (hn : n < 2 ^ 31) (hdg : decode cc pc = .ok (.iaload, 1))
    (kk : W p l e R s m args below meth c H locs cells slots Q (F0 m (pc + 1) ls (.int (f i) :: rest))) : W p l e R s m args below meth c H locs cells slots Q (F0 m pc ls (.int (nI i) :: .ref a :: rest)) :=
  va_iald (D := D) (cl := vwCl) (tys := dc_ty d) S.1 S.2.1 hw.1 hw.2.1 q0 0 ha rfl (vp_in_nI hi hn) hdg (by rw [nI_clamp (by omega)]; exact kk)
theorem dc_ist (S : CallFix p m c cc nL s args lw_all own) (hw : dc_Wd D d A s ws H locs) (q0 : Nat) {a n : Nat} {f : Nat → Int32} (ha : ws[q0]? = some (a, .inl (d.1, n, .inl f))) {i : Nat} (hi : i < n) (hn : n < 2 ^ 31) {x : Int32} {ws' : va_W} (hws : ws.set q0 (a, .inl (d.1, n, .inl (upd f i x))) = ws') (hdg : decode cc pc = .ok (.iastore, 1))
    (kk : ∀ (H1 : Heap) (locs1 : List Loc), dc_Wd D d A s ws' H1 locs1 → W p l e R s m args below meth c H1 locs1 cells slots Q (F0 m (pc + 1) ls rest)) : W p l e R s m args below meth c H locs cells slots Q (F0 m pc ls (.int x :: .int (nI i) :: .ref a :: rest)) := by
  subst hws
  refine va_iast (D := D) (cl := vwCl) (tys := dc_ty d) S.1 S.2.1 hw.1 hw.2.1 hw.2.2.1 hw.2.2.2.1 q0 0 ha rfl (vp_in_nI hi hn) hdg (fun H1 locs1 h1 h2 h3 => ?_)
  rw [nI_clamp (by omega)] at h1 h2
  exact kk H1 locs1 ⟨hw.1, h1, h2, h3, hw.2.2.2.2⟩
theorem dc_zld (S : CallFix p m c cc nL s args lw_all own) (hw : dc_Wd D d A s ws H locs) (q0 : Nat) {a n : Nat} {f : Nat → Int32} (ha : ws[q0]? = some (a, .inl (d.2, n, .inl f))) {i : Nat} (hi : i < n) (hn : n < 2 ^ 31) (hdg : decode cc pc = .ok (.baload, 1))
    (kk : W p l e R s m args below meth c H locs cells slots Q (F0 m (pc + 1) ls (.int (f i) :: rest))) : W p l e R s m args below meth c H locs cells slots Q (F0 m pc ls (.int (nI i) :: .ref a :: rest)) :=
  va_zald (D := D) (cl := vwCl) (tys := dc_ty d) S.1 S.2.1 hw.1 hw.2.1 q0 1 ha rfl (vp_in_nI hi hn) hdg (by rw [nI_clamp (by omega)]; exact kk)
theorem dc_zst (S : CallFix p m c cc nL s args lw_all own) (hw : dc_Wd D d A s ws H locs) (q0 : Nat) {a n : Nat} {f : Nat → Int32} (ha : ws[q0]? = some (a, .inl (d.2, n, .inl f))) {i : Nat} (hi : i < n) (hn : n < 2 ^ 31) {x : Int32} (hx : vp_nar .boolean x = x) {ws' : va_W} (hws : ws.set q0 (a, .inl (d.2, n, .inl (upd f i x))) = ws') (hdg : decode cc pc = .ok (.bastore, 1))
    (kk : ∀ (H1 : Heap) (locs1 : List Loc), dc_Wd D d A s ws' H1 locs1 → W p l e R s m args below meth c H1 locs1 cells slots Q (F0 m (pc + 1) ls rest)) : W p l e R s m args below meth c H locs cells slots Q (F0 m pc ls (.int x :: .int (nI i) :: .ref a :: rest)) := by
  subst hws
  refine va_zast (D := D) (cl := vwCl) (tys := dc_ty d) S.1 S.2.1 hw.1 hw.2.1 hw.2.2.1 hw.2.2.2.1 q0 1 ha rfl (vp_in_nI hi hn) hdg (fun H1 locs1 h1 h2 h3 => ?_)
  rw [nI_clamp (by omega), hx] at h1 h2
  exact kk H1 locs1 ⟨hw.1, h1, h2, h3, hw.2.2.2.2⟩
/-! numbers -/
theorem dc_addN (hx : p.tables.exec = Jvm.exec) (hb : c.code = cc) {a b : Nat} (hdg : decode cc pc = .ok (.iadd, 1)) (k : W p l e R s m args below meth c H locs cells slots Q (F0 m (pc + 1) ls (.int (nI (a + b)) :: rest))) : W p l e R s m args below meth c H locs cells slots Q (F0 m pc ls (.int (nI b) :: .int (nI a) :: rest)) := lv_iadd hx hb hdg (by rw [nI_add]; exact k)
theorem dc_mulN (hx : p.tables.exec = Jvm.exec) (hb : c.code = cc) {a b : Nat} (hdg : decode cc pc = .ok (.imul, 1)) (k : W p l e R s m args below meth c H locs cells slots Q (F0 m (pc + 1) ls (.int (nI (a * b)) :: rest))) : W p l e R s m args below meth c H locs cells slots Q (F0 m pc ls (.int (nI b) :: .int (nI a) :: rest)) := lv_imul hx hb hdg (by rw [pk_mul]; exact k)
theorem dc_remN (hx : p.tables.exec = Jvm.exec) (hb : c.code = cc) {a b : Nat} (ha : a < 2 ^ 31) (h0 : 0 < b) (hb2 : b < 2 ^ 31) (hdg : decode cc pc = .ok (.irem, 1)) (k : W p l e R s m args below meth c H locs cells slots Q (F0 m (pc + 1) ls (.int (nI (a % b)) :: rest))) : W p l e R s m args below meth c H locs cells slots Q (F0 m pc ls (.int (nI b) :: .int (nI a) :: rest)) := lv_irem hx hb hdg (nI_ne0 h0 hb2) (by rw [pk_rem ha h0 hb2]; exact k)
/-- the top of the stack under another name -/
theorem dc_top {x y : Int32} (h : x = y) (k : W p l e R s m args below meth c H locs cells slots Q (F0 m pc ls (.int y :: rest))) : W p l e R s m args below meth c H locs cells slots Q (F0 m pc ls (.int x :: rest)) := by rw [h]; exact k
theorem dc_inc (k : Nat) : nI k + Int32.ofInt 1 = nI (k + 1) := nI_1 k
theorem dc_ge (hx : p.tables.exec = Jvm.exec) (hb : c.code = cc) {a b : Nat} (ha : a < 2 ^ 31) (hb2 : b < 2 ^ 31) {off : Int} {tgt : Nat} (hdg : decode cc pc = .ok (.if_icmp .ge off, 3)) (ht : (pc : Int) + off = (tgt : Int))
    (kt : b ≤ a → W p l e R s m args below meth c H locs cells slots Q (F0 m tgt ls rest)) (kf : a < b → W p l e R s m args below meth c H locs cells slots Q (F0 m (pc + 3) ls rest)) : W p l e R s m args below meth c H locs cells slots Q (F0 m pc ls (.int (nI b) :: .int (nI a) :: rest)) :=
  lv_icmp_ge hx hb hdg ht (fun h => kt ((nI_leI hb2 ha).mp h)) (fun h => kf (Nat.not_le.mp fun q => h ((nI_leI hb2 ha).mpr q)))
theorem dc_gt (hx : p.tables.exec = Jvm.exec) (hb : c.code = cc) {a b : Nat} (ha : a < 2 ^ 31) (hb2 : b < 2 ^ 31) {off : Int} {tgt : Nat} (hdg : decode cc pc = .ok (.if_icmp .gt off, 3)) (ht : (pc : Int) + off = (tgt : Int))
    (kt : b < a → W p l e R s m args below meth c H locs cells slots Q (F0 m tgt ls rest)) (kf : a ≤ b → W p l e R s m args below meth c H locs cells slots Q (F0 m (pc + 3) ls rest)) : W p l e R s m args below meth c H locs cells slots Q (F0 m pc ls (.int (nI b) :: .int (nI a) :: rest)) :=
  lv_icmp_gt hx hb hdg ht (fun h => kt ((nI_ltI hb2 ha).mp h)) (fun h => kf (Nat.not_lt.mp fun q => h ((nI_ltI hb2 ha).mpr q)))
theorem dc_ne (hx : p.tables.exec = Jvm.exec) (hb : c.code = cc) {a b : Nat} (ha : a < 2 ^ 31) (hb2 : b < 2 ^ 31) {off : Int} {tgt : Nat} (hdg : decode cc pc = .ok (.if_icmp .ne off, 3)) (ht : (pc : Int) + off = (tgt : Int))
    (kt : a ≠ b → W p l e R s m args below meth c H locs cells slots Q (F0 m tgt ls rest)) (kf : a = b → W p l e R s m args below meth c H locs cells slots Q (F0 m (pc + 3) ls rest)) : W p l e R s m args below meth c H locs cells slots Q (F0 m pc ls (.int (nI b) :: .int (nI a) :: rest)) :=
  lv_icmp_ne hx hb hdg ht (fun h => kt (fun q => h ((nI_eq ha hb2).mpr q))) (fun h => kf ((nI_eq ha hb2).mp h))
theorem dc_eq (hx : p.tables.exec = Jvm.exec) (hb : c.code = cc) {a b : Nat} (ha : a < 2 ^ 31) (hb2 : b < 2 ^ 31) {off : Int} {tgt : Nat} (hdg : decode cc pc = .ok (.if_icmp .eq off, 3)) (ht : (pc : Int) + off = (tgt : Int))
    (kt : a = b → W p l e R s m args below meth c H locs cells slots Q (F0 m tgt ls rest)) (kf : a ≠ b → W p l e R s m args below meth c H locs cells slots Q (F0 m (pc + 3) ls rest)) : W p l e R s m args below meth c H locs cells slots Q (F0 m pc ls (.int (nI b) :: .int (nI a) :: rest)) :=
  lv_icmp_eq hx hb hdg ht (fun h => kt ((nI_eq ha hb2).mp h)) (fun h => kf (fun q => h ((nI_eq ha hb2).mpr q)))
theorem dc_z {n : Nat} (h : n < 2 ^ 31) : nI n = 0 ↔ n = 0 := nI_eq h (b := 0) (by decide)
theorem dc_if0 (hx : p.tables.exec = Jvm.exec) (hb : c.code = cc) {a : Nat} (ha : a < 2 ^ 31) {off : Int} {tgt : Nat} (hdg : decode cc pc = .ok (.ifCond .eq off, 3)) (ht : (pc : Int) + off = (tgt : Int))
    (kt : a = 0 → W p l e R s m args below meth c H locs cells slots Q (F0 m tgt ls rest)) (kf : a ≠ 0 → W p l e R s m args below meth c H locs cells slots Q (F0 m (pc + 3) ls rest)) : W p l e R s m args below meth c H locs cells slots Q (F0 m pc ls (.int (nI a) :: rest)) :=
  lv_if_eq hx hb hdg ht (fun h => kt ((dc_z ha).mp h)) (fun h => kf (fun q => h ((dc_z ha).mpr q)))
theorem dc_ifn (hx : p.tables.exec = Jvm.exec) (hb : c.code = cc) {a : Nat} (ha : a < 2 ^ 31) {off : Int} {tgt : Nat} (hdg : decode cc pc = .ok (.ifCond .ne off, 3)) (ht : (pc : Int) + off = (tgt : Int))
    (kt : a ≠ 0 → W p l e R s m args below meth c H locs cells slots Q (F0 m tgt ls rest)) (kf : a = 0 → W p l e R s m args below meth c H locs cells slots Q (F0 m (pc + 3) ls rest)) : W p l e R s m args below meth c H locs cells slots Q (F0 m pc ls (.int (nI a) :: rest)) :=
  lv_if_ne hx hb hdg ht (fun h => kt (fun q => h ((dc_z ha).mpr q))) (fun h => kf ((dc_z ha).mp h))
theorem dc_ifle (hx : p.tables.exec = Jvm.exec) (hb : c.code = cc) {a : Nat} (ha : a < 2 ^ 31) {off : Int} {tgt : Nat} (hdg : decode cc pc = .ok (.ifCond .le off, 3)) (ht : (pc : Int) + off = (tgt : Int))
    (kt : a = 0 → W p l e R s m args below meth c H locs cells slots Q (F0 m tgt ls rest)) (kf : 0 < a → W p l e R s m args below meth c H locs cells slots Q (F0 m (pc + 3) ls rest)) : W p l e R s m args below meth c H locs cells slots Q (F0 m pc ls (.int (nI a) :: rest)) :=
  lv_if_le hx hb hdg ht (fun h => kt (by have h : nI a ≤ nI 0 := h; have := (nI_leI ha (by decide)).mp h; omega)) (fun h => kf (Nat.pos_of_ne_zero fun q => h (show nI a ≤ nI 0 from (nI_leI ha (by decide)).mpr (by omega))))
/-! calls -/
variable {y : MethodName} {bytes : ByteArray} {maxL n idx : Nat} {ret : Option FieldType} {rm : Room} {As st : List Value} {a ci : Nat} {q : vw_C} {fs : List Value}
theorem dc_callR {post : Int32 → Prop} (S : CallFix p m c cc nL s args lw_all own) (hw : dc_Wd D d A s ws H locs) (hM : Met l y (ws_ y bytes maxL ret) rm (dc_Pre D d (.ref a :: As) ws H.size) (vp_Si post) 0 0 (fun _ => False))
    (hcw : CallW R s args own y.cls idx y bytes maxL ret (ws_ y bytes maxL ret) rm 0 0 n) (hc : vwCl[ci]? = some q) (hC : q.1 = y.cls) (he : ws[0]? = some (a, .inr (ci, fs))) (hn : As.length = n) (hls : ls.size = nL) (hst : st = As.reverse ++ .ref a :: rest) (hW : (rest.map fun v => v.category).sum ≤ 8) (hdg : decode cc pc = .ok (.invokevirtual idx, 3)) (hf : cells ≤ R.cells ∧ slots ≤ R.slots)
    (kk : ∀ r : Int32, post r → W p l e R s m args below meth c H locs cells slots Q (F0 m (pc + 3) ls (.int r :: rest))) : W p l e R s m args below meth c H locs cells slots Q (F0 m pc ls st) := by
  subst hst
  exact vp_callSi (W.runV S hM hcw ⟨dc_blind, by rw [← hC]; exact va_recv hw.1 hw.2.1 hc he, dc_pre hw _⟩ rfl hn hls rfl (lv_room hW) hdg hf) kk
theorem dc_callS {post : Int32 → Prop} (S : CallFix p m c cc nL s args lw_all own) (hM : Met l y (ws_ y bytes maxL ret) rm (va_Pc As (fun _ => True)) (vp_Si post) 0 0 (fun _ => False))
    (hcw : CallB R s args own idx y bytes maxL ret (ws_ y bytes maxL ret) rm 0 0 n ∧ (Cond.static y).before args s = true) (hn : As.length = n) (hls : ls.size = nL) (hst : st = As.reverse ++ rest) (hW : (rest.map fun v => v.category).sum ≤ 8) (hdg : decode cc pc = .ok (.invokestatic idx, 3)) (hf : cells ≤ R.cells ∧ slots ≤ R.slots)
    (kk : ∀ r : Int32, post r → W p l e R s m args below meth c H locs cells slots Q (F0 m (pc + 3) ls (.int r :: rest))) : W p l e R s m args below meth c H locs cells slots Q (F0 m pc ls st) := by
  subst hst
  exact vp_callSi (W.runS S hM hcw ⟨fun a U g mk q => q, fun U hU hW => ⟨rfl, trivial⟩⟩ rfl hn hls rfl (lv_room hW) hdg hf) kk
theorem dc_free (hw : dc_Wd D d A s ws H locs) : ∀ q, va_A ws H.size q → A q := fun q h => by
  rcases h with ⟨k, e, h⟩ | h
  · exact hw.2.2.1.2 k (q, e) h
  · exact hw.2.2.2.2 q (Nat.le_trans hw.2.2.2.1.1 h)
theorem dc_callI {S0 : Type} {post : Int32 → S0 → Prop} {wf : S0 → va_W} (S : CallFix p m c cc nL s args lw_all own) (hw : dc_Wd D d A s ws H locs) (hM : Met l y (ws_ y bytes maxL ret) rm (dc_Pre D d (.ref a :: As) ws H.size) (va_Qi post (dc_B D d (va_A ws H.size) wf) (va_A ws H.size)) 0 0 (va_A ws H.size))
    (hcw : CallW R s args own y.cls idx y bytes maxL ret (ws_ y bytes maxL ret) rm 0 0 n) (hc : vwCl[ci]? = some q) (hC : q.1 = y.cls) (he : ws[0]? = some (a, .inr (ci, fs))) (hn : As.length = n) (hls : ls.size = nL) (hst : st = As.reverse ++ .ref a :: rest) (hW : (rest.map fun v => v.category).sum ≤ 8) (hdg : decode cc pc = .ok (.invokevirtual idx, 3)) (hf : cells ≤ R.cells ∧ slots ≤ R.slots)
    (kk : ∀ (r : Int32) (u : S0) (H1 : Heap) (locs1 : List Loc), post r u → dc_Wd D d A s (wf u) H1 locs1 → W p l e R s m args below meth c H1 locs1 cells slots Q (F0 m (pc + 3) ls (.int r :: rest))) : W p l e R s m args below meth c H locs cells slots Q (F0 m pc ls st) := by
  subst hst
  refine va_calli (va_runV S hM hcw ⟨dc_blind, by rw [← hC]; exact va_recv hw.1 hw.2.1 hc he, dc_pre hw _⟩ rfl hn hls rfl (lv_room hW) hdg hf) hw.2.2.2.1 (fun q _ h => dc_free hw q h) (dc_free hw) (fun r u t H1 locs1 ht hvm hp hB hz hk hS => ?_)
  exact kk r u H1 locs1 hp ⟨hw.1, by rw [← ht]; exact hB.1, hB.2.2.weaken (fun k q _ h => dc_free hw q.1 h), hS, hw.2.2.2.2⟩
theorem dc_callV {S0 : Type} {post : S0 → Prop} {wf : S0 → va_W} (S : CallFix p m c cc nL s args lw_all own) (hw : dc_Wd D d A s ws H locs) (hM : Met l y (ws_ y bytes maxL ret) rm (dc_Pre D d (.ref a :: As) ws H.size) (va_Qv post (dc_B D d (va_A ws H.size) wf) (va_A ws H.size)) 0 0 (va_A ws H.size))
    (hcw : CallW R s args own y.cls idx y bytes maxL ret (ws_ y bytes maxL ret) rm 0 0 n) (hc : vwCl[ci]? = some q) (hC : q.1 = y.cls) (he : ws[0]? = some (a, .inr (ci, fs))) (hn : As.length = n) (hls : ls.size = nL) (hst : st = As.reverse ++ .ref a :: rest) (hW : (rest.map fun v => v.category).sum ≤ 8) (hdg : decode cc pc = .ok (.invokevirtual idx, 3)) (hf : cells ≤ R.cells ∧ slots ≤ R.slots)
    (kk : ∀ (u : S0) (H1 : Heap) (locs1 : List Loc), post u → dc_Wd D d A s (wf u) H1 locs1 → W p l e R s m args below meth c H1 locs1 cells slots Q (F0 m (pc + 3) ls rest)) : W p l e R s m args below meth c H locs cells slots Q (F0 m pc ls st) := by
  subst hst
  refine va_callv (va_runV S hM hcw ⟨dc_blind, by rw [← hC]; exact va_recv hw.1 hw.2.1 hc he, dc_pre hw _⟩ rfl hn hls rfl (lv_room hW) hdg hf) hw.2.2.2.1 (fun q _ h => dc_free hw q h) (dc_free hw) (fun u t H1 locs1 ht hvm hp hB hz hk hS => ?_)
  exact kk u H1 locs1 hp ⟨hw.1, by rw [← ht]; exact hB.1, hB.2.2.weaken (fun k q _ h => dc_free hw q.1 h), hS, hw.2.2.2.2⟩
end ROWS
end
section
set_option maxRecDepth 100000
theorem dc_cut_nil (Q : dc_Q) (s T : Nat) : dc_cut Q s T T = Q := by
  funext T' s'
  unfold dc_cut
  rw [if_neg (by omega)]
theorem dc_cut_del (Q : dc_Q) {s T1 T : Nat} (h : T1 ≤ T) : dc_del (dc_cut Q s T1 T) T s = dc_cut Q s T1 (T + 1) := by
  funext T' s'
  unfold dc_del dc_cut
  by_cases e : T' = T ∧ s' = s
  · rw [if_pos e, if_pos (by omega)]
  · rw [if_neg e]
    by_cases e2 : s' = s ∧ T1 ≤ T' ∧ T' < T
    · rw [if_pos e2, if_pos (by omega)]
    · rw [if_neg e2, if_neg (by omega)]
theorem dc_ok_far {t : Nat} {Q : dc_Q} (h : dc_ok t Q) {T s : Nat} (hT : T < t ∨ t + 10 ≤ T ∨ 12 ≤ s) : Q T s = none := by
  refine Classical.byContradiction fun hq => ?_
  have := h T s hq
  omega
theorem dc_cut_put {t u : Nat} {Q : dc_Q} (h : dc_ok t Q) (s k0 : Nat) (v : Int32) (hk : u = 0 ∧ k0 = 1 ∨ 0 < u ∧ k0 = u) : dc_set (dc_cut Q s (t + k0) (t + 10)) (t + u) s v = dc_put Q s (t + u) v := by
  funext T' s'
  unfold dc_set dc_cut dc_put
  by_cases e : T' = t + u ∧ s' = s
  · rw [if_pos e, if_pos (by omega), if_pos e.1]
  · rw [if_neg e]
    by_cases e2 : s' = s ∧ t + u ≤ T'
    · rw [if_pos e2, if_neg (show ¬ T' = t + u by omega)]
      by_cases e3 : s' = s ∧ t + k0 ≤ T' ∧ T' < t + 10
      · rw [if_pos e3]
      · rw [if_neg e3]
        exact dc_ok_far h (by omega)
    · rw [if_neg e2, if_neg (by omega)]
theorem dc_dr_in {t si u : Nat} {Q : dc_Q} {v : Int32} (hs : si < 12) (hu : u < 10) : dc_drQ t Q (nI si) v (nI u) = dc_put Q si (t + u) v ∧ dc_drR t Q (nI si) v (nI u) = nI (dc_count t (dc_put Q si (t + u) v)) := by
  have h1 : dc_bad (nI si) = 0 := dc_bad_ok hs
  have h2 : ¬ nI u < 0 := nI_pos (by omega)
  have h3 : nI u ≤ nI 9 := (nI_leI (by omega) (by omega)).mpr (by omega)
  have e : dc_drQ t Q (nI si) v (nI u) = dc_put Q si (t + u) v := by
    unfold dc_drQ
    rw [if_pos ⟨h1, h2, h3⟩, nI_clamp (by omega), nI_clamp (by omega)]
  refine ⟨e, ?_⟩
  unfold dc_drR
  rw [if_pos h1, if_pos ⟨h2, h3⟩, e]
theorem dc_pk_in {G : dc_T} {V : Nat → Int32} {t p : Nat} {Q : dc_Q} (hG : dc_okT G) (hp : p < G.1) : dc_pkQ G V t Q (nI p) = dc_cry G V t Q p ∧ dc_pkR G V t Q (nI p) = nI (dc_count t (dc_cry G V t Q p)) := by
  have h8 := hG.1
  have h2 : ¬ nI p < 0 := nI_pos (by omega)
  have h3 : nI p < nI G.1 := (nI_ltI (by omega) (by omega)).mpr hp
  have e : dc_pkQ G V t Q (nI p) = dc_cry G V t Q p := by
    unfold dc_pkQ
    rw [if_pos ⟨h2, h3⟩, nI_clamp (by omega)]
  refine ⟨e, ?_⟩
  unfold dc_pkR
  rw [if_pos ⟨h2, h3⟩, e]
/-- the component's way to the next time -/
theorem rx_nx0 {t : Nat} {Q : dc_Q} {ds : Int32} {DV WS WV : Nat → Int32} (h : dc_RX t Q ds DV WS WV) (hd : ¬ ds = 0) : dc_nx Q t := by
  refine ⟨?_, fun T' s hq => (h.1 T' s hq).1⟩
  refine Classical.byContradiction fun hx => hd (dc_bits_z h.2.1 fun i _ => dc_fs_no ?_)
  exact Classical.byContradiction fun hq => hx ⟨i, hq⟩
theorem rx_no0 {t : Nat} {Q : dc_Q} {ds : Int32} {DV WS WV : Nat → Int32} (h : dc_RX t Q ds DV WS WV) (hd : ds = 0) : ∀ s, Q t s = none := by
  intro s
  refine Classical.byContradiction fun hq => ?_
  have hs := h.1 t s hq
  exact hq (dc_fs_f (dc_bits_nz h.2.1 hd s (by omega)))
theorem rx_nxu {t u : Nat} {Q : dc_Q} {ds : Int32} {DV WS WV : Nat → Int32} (h : dc_RX t Q ds DV WS WV) (h1 : 1 ≤ u) (h2 : u < 10) (hn : ∀ T, T < t + u → ∀ s, Q T s = none) (hd : ¬ WS ((t + u) % 10) = 0) : dc_nx Q (t + u) := by
  refine ⟨?_, fun T' s hq => ?_⟩
  · refine Classical.byContradiction fun hx => hd (dc_bits_z (h.2.2.2.2 u h1 h2).1 fun i _ => dc_fs_no ?_)
    exact Classical.byContradiction fun hq => hx ⟨i, hq⟩
  · rcases Nat.lt_or_ge T' (t + u) with q | q
    · exact absurd (hn T' q s) hq
    · exact q
theorem rx_nou {t u : Nat} {Q : dc_Q} {ds : Int32} {DV WS WV : Nat → Int32} (h : dc_RX t Q ds DV WS WV) (h1 : 1 ≤ u) (h2 : u < 10) (hd : WS ((t + u) % 10) = 0) : ∀ s, Q (t + u) s = none := by
  intro s
  refine Classical.byContradiction fun hq => ?_
  have hs := h.1 _ s hq
  exact hq (dc_fs_f (dc_bits_nz (h.2.2.2.2 u h1 h2).1 hd s (by omega)))
/-- one signal's bit, asked for -/
theorem dc_ask {x : Int32} {f : Nat → Bool} (h : dc_bits x f) {k : Nat} (hk : k < 32) : ((x >>> (nI k &&& 31)) &&& nI 1 = nI 1) ↔ f k = true := by
  rw [dc_tst x hk, h k hk]
  cases f k <;> decide
/-! taking the changes, signal by signal -/
theorem dc_tk_none {Q : dc_Q} {T k : Nat} {V E : Nat → Int32} (h : Q T k = none) : dc_tV Q T V k = V k ∧ dc_tE Q T V E k = E k ∧ dc_ch Q T V k = false := by
  have h3 : dc_ch Q T V k = false := by unfold dc_ch; rw [h]; rfl
  refine ⟨by unfold dc_tV; rw [h]; rfl, ?_, h3⟩
  unfold dc_tE
  rw [if_neg (by rw [h3]; decide)]
theorem dc_tk_same {Q : dc_Q} {T k : Nat} {V E : Nat → Int32} {v : Int32} (h : Q T k = some v) (hv : V k = v) : dc_tV Q T V k = v ∧ dc_tE Q T V E k = E k ∧ dc_ch Q T V k = false := by
  have h3 : dc_ch Q T V k = false := by unfold dc_ch; rw [h]; simp [hv]
  refine ⟨by unfold dc_tV; rw [h]; rfl, ?_, h3⟩
  unfold dc_tE
  rw [if_neg (by rw [h3]; decide)]
theorem dc_tk_diff {Q : dc_Q} {T k : Nat} {V E : Nat → Int32} {v : Int32} (h : Q T k = some v) (hv : ¬ V k = v) : dc_tV Q T V k = v ∧ dc_tE Q T V E k = E k + nI 1 ∧ dc_ch Q T V k = true := by
  have h3 : dc_ch Q T V k = true := by unfold dc_ch; rw [h]; simp [hv]
  refine ⟨by unfold dc_tV; rw [h]; rfl, ?_, h3⟩
  unfold dc_tE
  rw [if_pos h3]
theorem dc_fill_same {f g : Nat → Int32} {k : Nat} (h : f k = g k) : fa_fill f g k = fa_fill f g (k + 1) := by
  rw [← fa_fill_succ, fa_upd_same]
  rw [fa_fill_out (Nat.le_refl _), h]
theorem dc_fill_end {f g : Nat → Int32} {n : Nat} (h : ∀ k, n ≤ k → f k = g k) : fa_fill f g n = f := by
  funext k
  rcases Nat.lt_or_ge k n with q | q
  · exact fa_fill_in q
  · rw [fa_fill_out q, h k q]
/-- one signal's step: its value, its events, its bit -/
theorem dc_tk_none_step {Q : dc_Q} {T k : Nat} {V E : Nat → Int32} (h : Q T k = none) : fa_fill (dc_tV Q T V) V k = fa_fill (dc_tV Q T V) V (k + 1) ∧ fa_fill (dc_tE Q T V E) E k = fa_fill (dc_tE Q T V E) E (k + 1) ∧ dc_mk (dc_ch Q T V) k = dc_mk (dc_ch Q T V) (k + 1) := by
  obtain ⟨a, b, c⟩ := dc_tk_none (V := V) (E := E) h
  refine ⟨dc_fill_same a, dc_fill_same b, ?_⟩
  rw [dc_mk, if_neg (by rw [c]; decide), dc_or0]
theorem dc_tk_step {Q : dc_Q} {T k : Nat} {V E : Nat → Int32} {v : Int32} (h : Q T k = some v) :
    upd (fa_fill (dc_tV Q T V) V k) k v = fa_fill (dc_tV Q T V) V (k + 1) ∧
    (if fa_fill (dc_tV Q T V) V k k = v then fa_fill (dc_tE Q T V E) E k else upd (fa_fill (dc_tE Q T V E) E k) k (fa_fill (dc_tE Q T V E) E k k + nI 1)) = fa_fill (dc_tE Q T V E) E (k + 1) ∧
    dc_mk (dc_ch Q T V) k ||| (if fa_fill (dc_tV Q T V) V k k = v then 0 else nI 1 <<< (nI k &&& 31)) = dc_mk (dc_ch Q T V) (k + 1) := by
  have eV : fa_fill (dc_tV Q T V) V k k = V k := fa_fill_out (Nat.le_refl _)
  have eE : fa_fill (dc_tE Q T V E) E k k = E k := fa_fill_out (Nat.le_refl _)
  rw [eV, eE]
  by_cases hv : V k = v
  · obtain ⟨a, b, c⟩ := dc_tk_same (E := E) h hv
    refine ⟨?_, ?_, ?_⟩
    · rw [← fa_fill_succ, a]
    · rw [if_pos hv]; exact dc_fill_same b
    · rw [if_pos hv, dc_mk, if_neg (by rw [c]; decide)]
  · obtain ⟨a, b, c⟩ := dc_tk_diff (E := E) h hv
    refine ⟨?_, ?_, ?_⟩
    · rw [← fa_fill_succ, a]
    · rw [if_neg hv, ← fa_fill_succ, b]
    · rw [if_neg hv, dc_mk, if_pos c]
theorem dc_tk_end {t T : Nat} {Q : dc_Q} (h : dc_ok t Q) (V E : Nat → Int32) : fa_fill (dc_tV Q T V) V 12 = dc_tV Q T V ∧ fa_fill (dc_tE Q T V E) E 12 = dc_tE Q T V E :=
  ⟨dc_fill_end fun k hk => (dc_tk_none (E := E) (dc_ok_far h (by omega))).1, dc_fill_end fun k hk => (dc_tk_none (dc_ok_far h (by omega))).2.1⟩
/-- the bits of the set of changed signals -/
theorem dc_ch_bits {t T : Nat} {Q : dc_Q} (h : dc_ok t Q) (V : Nat → Int32) : dc_bits (dc_mk (dc_ch Q T V) 12) (dc_ch Q T V) := dc_bits_to (dc_mk_bits _ 12 (by omega)) fun i => by
  rcases Nat.lt_or_ge i 12 with q | q
  · rw [decide_eq_true q, Bool.true_and]
  · rw [(dc_tk_none (V := V) (E := V) (dc_ok_far (T := T) (s := i) h (by omega))).2.2, Bool.and_false]
theorem dc_ch_ct {t T : Nat} {Q : dc_Q} (h : dc_ok t Q) (V : Nat → Int32) : fb_ct (bt (dc_mk (dc_ch Q T V) 12)) 12 = fb_ct (dc_ch Q T V) 12 := fb_ct_cong fun k hk => dc_ch_bits h V k (by omega)
end
section
set_option maxRecDepth 100000
set_option maxHeartbeats 4000000 in
set_option maxRecDepth 100000 in
theorem mX0_bad (l : Launch) (x : Int32) : Met l yX0_bad (ws_ yX0_bad cX0_bad 1 (some .boolean)) ({ frames := 0, cells := 0, slots := 0, locals := 0 } : Room) (va_Pc [.int x] (fun _ => True)) (vp_Si (fun r : Int32 => r = dc_bad x)) 0 0 (fun _ => False) := by
  refine dc_metS (by decide) (Nat.le_of_ble_eq_true rfl) (fun p e s m below meth c Qz ls S hl ret => ?_)
  have hx := S.1
  have hb := S.2.1
  have hl : lv_has ls 1 [(0, .int x)] := hl
  refine lv_iload_n hx hb dX0_bad_0 rfl (lv_at hl 0 rfl) ?_
  refine lv_if_lt (tgt := 10) hx hb dX0_bad_1 (by decide) (fun c_1 => ?_) (fun c_1 => ?_)
  · refine lv_iconst (v := nI 1) hx hb dX0_bad_10 (by decide) ?_
    refine lv_goto (tgt := 15) hx hb dX0_bad_11 (by decide) ?_
    exact ret 15 _ _ dX0_bad_15 rfl (by unfold dc_bad; rw [if_pos c_1])
  · refine lv_iload_n hx hb dX0_bad_4 rfl (lv_at hl 0 rfl) ?_
    refine lv_bipush (v := nI 12) hx hb dX0_bad_5 (by decide) ?_
    refine lv_icmp_lt (tgt := 14) hx hb dX0_bad_7 (by decide) (fun c_7 => ?_) (fun c_7 => ?_)
    · refine lv_iconst (v := nI 0) hx hb dX0_bad_14 (by decide) ?_
      exact ret 15 _ _ dX0_bad_15 rfl (by unfold dc_bad; rw [if_neg c_1, if_pos c_7])
    · refine lv_iconst (v := nI 1) hx hb dX0_bad_10 (by decide) ?_
      refine lv_goto (tgt := 15) hx hb dX0_bad_11 (by decide) ?_
      exact ret 15 _ _ dX0_bad_15 rfl (by unfold dc_bad; rw [if_neg c_1, if_neg c_7])
set_option maxHeartbeats 4000000 in
set_option maxRecDepth 100000 in
theorem mX0_part (l : Launch) (dg : va_G) (d : ClassId × ClassId) (a : Nat → Nat) (sz : Nat) (V : Nat → Int32) (E : Nat → Int32) (np : Int32) (K : Nat → Int32) (Y : Nat → Int32) (P : Nat → Int32) (C : Nat → Int32) (Wt : Nat → Int32) (tm : Int32) (dn : Int32) (ds : Int32) (DV : Nat → Int32) (WS : Nat → Int32) (WV : Nat → Int32) (pp : Nat) (w : Int32) (hp : pp < 8) : Met l yX0_part (ws_ yX0_part cX0_part 3 (some .int)) ({ frames := 0, cells := 0, slots := 0, locals := 0 } : Room) (dc_Pre dg d [.ref (a 0), .int (nI pp), .int w] (dc_wX d a V E np K Y P C Wt tm dn ds DV WS WV) sz) (vp_Si (fun r : Int32 => r = dc_op (P pp) w)) 0 0 (fun _ => False) := by
  refine dc_metR (by decide) (Nat.le_of_ble_eq_true rfl) (fun p e s m below meth c A Qz ls S hw hl ret => ?_)
  have hx := S.1
  have hb := S.2.1
  have hl : lv_has ls 3 [(0, .ref (a 0)), (1, .int (nI pp)), (2, .int w)] := hl
  refine lv_aload_n hx hb dX0_part_0 rfl (lv_at hl 0 rfl) ?_
  refine x0_get (v := .ref (a 5)) S hw rfl 5 (by decide) q32 rfl dX0_part_1 ?_
  refine lv_iload_n hx hb dX0_part_4 rfl (lv_at hl 1 rfl) ?_
  refine dc_ild S hw 5 rfl (i := pp) (by omega) (by decide) dX0_part_5 ?_
  refine lv_iconst (v := nI 4) hx hb dX0_part_6 (by decide) ?_
  refine lv_iload_n hx hb dX0_part_7 rfl (lv_at hl 2 rfl) ?_
  refine lv_imul hx hb dX0_part_8 ?_
  refine lv_ishr hx hb dX0_part_9 ?_
  refine lv_bipush (v := nI 15) hx hb dX0_part_10 (by decide) ?_
  refine lv_iand hx hb dX0_part_12 ?_
  exact ret 13 _ _ dX0_part_13 rfl rfl
set_option maxHeartbeats 4000000 in
set_option maxRecDepth 100000 in
theorem mX0_slotAfter (l : Launch) (dg : va_G) (d : ClassId × ClassId) (a : Nat → Nat) (sz : Nat) (V : Nat → Int32) (E : Nat → Int32) (np : Int32) (K : Nat → Int32) (Y : Nat → Int32) (P : Nat → Int32) (C : Nat → Int32) (Wt : Nat → Int32) (t : Nat) (dn : Int32) (ds : Int32) (DV : Nat → Int32) (WS : Nat → Int32) (WV : Nat → Int32) (u : Nat) (htu : t + u < 2 ^ 31) : Met l yX0_slotAfter (ws_ yX0_slotAfter cX0_slotAfter 2 (some .int)) ({ frames := 0, cells := 0, slots := 0, locals := 0 } : Room) (dc_Pre dg d [.ref (a 0), .int (nI u)] (dc_wX d a V E np K Y P C Wt (nI t) dn ds DV WS WV) sz) (vp_Si (fun r : Int32 => r = nI ((t + u) % 10))) 0 0 (fun _ => False) := by
  refine dc_metR (by decide) (Nat.le_of_ble_eq_true rfl) (fun p e s m below meth c A Qz ls S hw hl ret => ?_)
  have hx := S.1
  have hb := S.2.1
  have hl : lv_has ls 2 [(0, .ref (a 0)), (1, .int (nI u))] := hl
  refine lv_aload_n hx hb dX0_slotAfter_0 rfl (lv_at hl 0 rfl) ?_
  refine x0_get (v := .int (nI t)) S hw rfl 8 (by decide) q35 rfl dX0_slotAfter_1 ?_
  refine lv_iload_n hx hb dX0_slotAfter_4 rfl (lv_at hl 1 rfl) ?_
  refine dc_addN hx hb dX0_slotAfter_5 ?_
  refine lv_bipush (v := nI 10) hx hb dX0_slotAfter_6 (by decide) ?_
  refine dc_remN hx hb (by omega) (by decide) (by decide) dX0_slotAfter_8 ?_
  exact ret 9 _ _ dX0_slotAfter_9 rfl rfl
set_option maxHeartbeats 4000000 in
set_option maxRecDepth 100000 in
theorem mX0_bits (l : Launch) (x : Int32) : Met l yX0_bits (ws_ yX0_bits cX0_bits 3 (some .int)) ({ frames := 0, cells := 0, slots := 0, locals := 0 } : Room) (va_Pc [.int x] (fun _ => True)) (vp_Si (fun r : Int32 => r = nI (fb_ct (bt x) 12))) 0 0 (fun _ => False) := by
  refine dc_metS (by decide) (Nat.le_of_ble_eq_true rfl) (fun p e s m below meth c Qz ls S hl ret => ?_)
  have hx := S.1
  have hb := S.2.1
  have hl : lv_has ls 3 [(0, .int x)] := hl
  have lp : ∀ (n : Nat) (k : Nat), k ≤ 12 → 13 ≤ k + n → ∀ ls : Array Slot, lv_has ls 3 [(2, .int (nI k)), (1, .int (nI (fb_ct (bt x) k))), (0, .int x)] → W p l e ({ frames := 0, cells := 0, slots := 0, locals := 0 } : Room) s m ([.int x] : List Value).toArray below meth c s.heap [] 0 0 Qz (F0 m 4 ls []) := by
    intro n
    induction n with
    | zero =>
      intro k hk hn ls hl
      exact absurd hn (by omega)
    | succ n ih =>
      intro k hk hn ls hl
      refine lv_iload_n hx hb dX0_bits_4 rfl (lv_at hl 0 rfl) ?_
      refine lv_bipush (v := nI 12) hx hb dX0_bits_5 (by decide) ?_
      refine dc_ge (tgt := 24) hx hb (by omega) (by omega) dX0_bits_7 (by decide) (fun c_7 => ?_) (fun c_7 => ?_)
      · have ek : k = 12 := by omega
        subst ek
        refine lv_iload_n hx hb dX0_bits_24 rfl (lv_at hl 1 rfl) ?_
        exact ret 25 _ _ dX0_bits_25 rfl rfl
      · refine lv_iload_n hx hb dX0_bits_10 rfl (lv_at hl 1 rfl) ?_
        refine lv_iload_n hx hb dX0_bits_11 rfl (lv_at hl 2 rfl) ?_
        refine lv_iload_n hx hb dX0_bits_12 rfl (lv_at hl 0 rfl) ?_
        refine lv_ishr hx hb dX0_bits_13 ?_
        refine lv_iconst (v := nI 1) hx hb dX0_bits_14 (by decide) ?_
        refine lv_iand hx hb dX0_bits_15 ?_
        refine lv_iadd hx hb dX0_bits_16 ?_
        refine dc_top (y := nI (fb_ct (bt x) (k + 1))) (dc_ct_step x (by omega)) ?_
        refine lv_istore_n (lv' := [(1, .int (nI (fb_ct (bt x) (k + 1)))), (2, .int (nI k)), (0, .int x)]) hx hb dX0_bits_17 rfl hl (by decide) rfl (fun ls hl => ?_)
        refine lv_iinc (v := nI (k + 1)) (lv' := [(2, .int (nI (k + 1))), (1, .int (nI (fb_ct (bt x) (k + 1)))), (0, .int x)]) hx hb dX0_bits_18 hl (k := 1) rfl (dc_inc _) (by decide) rfl (fun ls hl => ?_)
        refine lv_goto (tgt := 4) hx hb dX0_bits_21 (by decide) ?_
        exact ih (k + 1) (by omega) (by omega) ls (lv_sub hl [0, 1, 2] rfl)
  refine lv_iconst (v := nI 0) hx hb dX0_bits_0 (by decide) ?_
  refine lv_istore_n (lv' := [(1, .int (nI 0)), (0, .int x)]) hx hb dX0_bits_1 rfl hl (by decide) rfl (fun ls hl => ?_)
  refine lv_iconst (v := nI 0) hx hb dX0_bits_2 (by decide) ?_
  refine lv_istore_n (lv' := [(2, .int (nI 0)), (1, .int (nI 0)), (0, .int x)]) hx hb dX0_bits_3 rfl hl (by decide) rfl (fun ls hl => ?_)
  exact lp 13 0 (by omega) (by omega) ls (lv_sub hl [0, 1, 2] rfl)
set_option maxHeartbeats 4000000 in
set_option maxRecDepth 100000 in
theorem mX0_update (l : Launch) (dg : va_G) (d : ClassId × ClassId) (a : Nat → Nat) (sz : Nat) (V : Nat → Int32) (E : Nat → Int32) (np : Int32) (K : Nat → Int32) (Y : Nat → Int32) (P : Nat → Int32) (C : Nat → Int32) (Wt : Nat → Int32) (tm : Int32) (dn : Int32) (ds : Int32) (DV : Nat → Int32) (WS : Nat → Int32) (WV : Nat → Int32) (si : Nat) (v : Int32) (hs : si < 12) : Met l yX0_update (ws_ yX0_update cX0_update 3 (some .boolean)) ({ frames := 0, cells := 0, slots := 0, locals := 0 } : Room) (dc_Pre dg d [.ref (a 0), .int (nI si), .int v] (dc_wX d a V E np K Y P C Wt tm dn ds DV WS WV) sz) (va_Qi (fun (r : Int32) (z : (Nat → Int32) × (Nat → Int32)) => r = (if V si = v then nI 0 else nI 1) ∧ z.1 = upd V si v ∧ z.2 = (if V si = v then E else upd E si (E si + nI 1))) (dc_B dg d (va_A (dc_wX d a V E np K Y P C Wt tm dn ds DV WS WV) sz) (fun z : (Nat → Int32) × (Nat → Int32) => dc_wX d a z.1 z.2 np K Y P C Wt tm dn ds DV WS WV)) (va_A (dc_wX d a V E np K Y P C Wt tm dn ds DV WS WV) sz)) 0 0 (va_A (dc_wX d a V E np K Y P C Wt tm dn ds DV WS WV) sz) := by
  refine dc_metI (by decide) (Nat.le_of_ble_eq_true rfl) (fun p e s m below meth c A Qz ls S hw hl ret => ?_)
  have hx := S.1
  have hb := S.2.1
  have hl : lv_has ls 3 [(0, .ref (a 0)), (1, .int (nI si)), (2, .int v)] := hl
  refine lv_aload_n hx hb dX0_update_0 rfl (lv_at hl 0 rfl) ?_
  refine x0_get (v := .ref (a 1)) S hw rfl 0 (by decide) q27 rfl dX0_update_1 ?_
  refine lv_iload_n hx hb dX0_update_4 rfl (lv_at hl 1 rfl) ?_
  refine dc_ild S hw 1 rfl (i := si) (by omega) (by decide) dX0_update_5 ?_
  refine lv_iload_n hx hb dX0_update_6 rfl (lv_at hl 2 rfl) ?_
  refine lv_icmp_ne (tgt := 12) hx hb dX0_update_7 (by decide) (fun c_7 => ?_) (fun c_7 => ?_)
  · refine lv_aload_n hx hb dX0_update_12 rfl (lv_at hl 0 rfl) ?_
    refine x0_get (v := .ref (a 1)) S hw rfl 0 (by decide) q27 rfl dX0_update_13 ?_
    refine lv_iload_n hx hb dX0_update_16 rfl (lv_at hl 1 rfl) ?_
    refine lv_iload_n hx hb dX0_update_17 rfl (lv_at hl 2 rfl) ?_
    refine dc_ist (ws' := dc_wX d a (upd V si v) E np K Y P C Wt tm dn ds DV WS WV) S hw 1 rfl (i := si) (by omega) (by decide) rfl dX0_update_18 (fun H locs hw => ?_)
    refine lv_aload_n hx hb dX0_update_19 rfl (lv_at hl 0 rfl) ?_
    refine x0_get (v := .ref (a 2)) S hw rfl 1 (by decide) q28 rfl dX0_update_20 ?_
    refine lv_iload_n hx hb dX0_update_23 rfl (lv_at hl 1 rfl) ?_
    refine lv_dup2_11 hx hb dX0_update_24 rfl rfl ?_
    refine dc_ild S hw 2 rfl (i := si) (by omega) (by decide) dX0_update_25 ?_
    refine lv_iconst (v := nI 1) hx hb dX0_update_26 (by decide) ?_
    refine lv_iadd hx hb dX0_update_27 ?_
    refine dc_ist (ws' := dc_wX d a (upd V si v) (upd E si ((E si) + (nI 1))) np K Y P C Wt tm dn ds DV WS WV) S hw 2 rfl (i := si) (by omega) (by decide) rfl dX0_update_28 (fun H locs hw => ?_)
    refine lv_iconst (v := nI 1) hx hb dX0_update_29 (by decide) ?_
    exact ret 30 _ _ _ _ (upd V si v, upd E si ((E si) + (nI 1))) dX0_update_30 rfl ⟨by rw [if_neg c_7], rfl, by rw [if_neg c_7]⟩ hw
  · refine lv_iconst (v := nI 0) hx hb dX0_update_10 (by decide) ?_
    exact ret 11 _ _ _ _ (V, E) dX0_update_11 rfl ⟨by rw [if_pos c_7], (fa_upd_same c_7).symm, by rw [if_pos c_7]⟩ hw
set_option maxHeartbeats 4000000 in
set_option maxRecDepth 100000 in
theorem mX0_changeBit (l : Launch) (dg : va_G) (d : ClassId × ClassId) (a : Nat → Nat) (sz : Nat) (V : Nat → Int32) (E : Nat → Int32) (np : Int32) (K : Nat → Int32) (Y : Nat → Int32) (P : Nat → Int32) (C : Nat → Int32) (Wt : Nat → Int32) (tm : Int32) (dn : Int32) (ds : Int32) (DV : Nat → Int32) (WS : Nat → Int32) (WV : Nat → Int32) (si : Nat) (v : Int32) (hs : si < 12) : Met l yX0_changeBit (ws_ yX0_changeBit cX0_changeBit 4 (some .int)) ({ frames := 1, cells := 0, slots := 0, locals := 22 } : Room) (dc_Pre dg d [.ref (a 0), .int (nI si), .int v] (dc_wX d a V E np K Y P C Wt tm dn ds DV WS WV) sz) (va_Qi (fun (r : Int32) (z : (Nat → Int32) × (Nat → Int32)) => r = (if V si = v then 0 else nI 1 <<< (nI si &&& 31)) ∧ z.1 = upd V si v ∧ z.2 = (if V si = v then E else upd E si (E si + nI 1))) (dc_B dg d (va_A (dc_wX d a V E np K Y P C Wt tm dn ds DV WS WV) sz) (fun z : (Nat → Int32) × (Nat → Int32) => dc_wX d a z.1 z.2 np K Y P C Wt tm dn ds DV WS WV)) (va_A (dc_wX d a V E np K Y P C Wt tm dn ds DV WS WV) sz)) 0 0 (va_A (dc_wX d a V E np K Y P C Wt tm dn ds DV WS WV) sz) := by
  refine dc_metI (by decide) (Nat.le_of_ble_eq_true rfl) (fun p e s m below meth c A Qz ls S hw hl ret => ?_)
  have hx := S.1
  have hb := S.2.1
  have hl : lv_has ls 4 [(0, .ref (a 0)), (1, .int (nI si)), (2, .int v)] := hl
  refine lv_aload_n hx hb dX0_changeBit_0 rfl (lv_at hl 0 rfl) ?_
  refine lv_iload_n hx hb dX0_changeBit_1 rfl (lv_at hl 1 rfl) ?_
  refine lv_iload_n hx hb dX0_changeBit_2 rfl (lv_at hl 2 rfl) ?_
  refine dc_callI (As := [.int (nI si), .int v]) (rest := []) S hw (mX0_update l dg d a _ V E np K Y P C Wt tm dn ds DV WS WV si v hs) (cwV 2 S.2.2.2.2 (lw_V q129 q131 qs8 q17 q132) rfl rfl rfl (by decide +kernel) ⟨Nat.le_of_ble_eq_true rfl, Nat.le_of_ble_eq_true rfl⟩) (ci := 0) rfl rfl rfl rfl hl.1 rfl (Nat.le_of_ble_eq_true rfl) dX0_changeBit_3 ⟨Nat.zero_le _, Nat.zero_le _⟩ (fun r z H locs hr hw => ?_)
  obtain ⟨V1, E1⟩ := z
  obtain ⟨hr, hV, hE⟩ := hr
  have hw : dc_Wd dg d A s (dc_wX d a V1 E1 np K Y P C Wt tm dn ds DV WS WV) H locs := hw
  refine lv_istore_n (lv' := [(3, .int r), (0, .ref (a 0)), (1, .int (nI si)), (2, .int v)]) hx hb dX0_changeBit_6 rfl hl (by decide) rfl (fun ls hl => ?_)
  refine lv_iload_n hx hb dX0_changeBit_7 rfl (lv_at hl 0 rfl) ?_
  refine lv_if_eq (tgt := 17) hx hb dX0_changeBit_8 (by decide) (fun c_8 => ?_) (fun c_8 => ?_)
  · have e : V si = v := Classical.byContradiction fun h => by rw [if_neg h] at hr; rw [hr] at c_8; exact absurd c_8 (by decide)
    refine lv_iconst (v := nI 0) hx hb dX0_changeBit_17 (by decide) ?_
    exact ret 18 _ _ _ _ (V1, E1) dX0_changeBit_18 rfl ⟨by rw [if_pos e]; rfl, hV, hE⟩ hw
  · have e : ¬ V si = v := fun h => by rw [if_pos h] at hr; exact c_8 hr
    refine lv_iconst (v := nI 1) hx hb dX0_changeBit_11 (by decide) ?_
    refine lv_iload_n hx hb dX0_changeBit_12 rfl (lv_at hl 2 rfl) ?_
    refine lv_ishl hx hb dX0_changeBit_13 ?_
    refine lv_goto (tgt := 18) hx hb dX0_changeBit_14 (by decide) ?_
    exact ret 18 _ _ _ _ (V1, E1) dX0_changeBit_18 rfl ⟨by rw [if_neg e], hV, hE⟩ hw
end
section
set_option maxRecDepth 100000
set_option maxHeartbeats 4000000 in
set_option maxRecDepth 100000 in
theorem mX0_putDown (l : Launch) (dg : va_G) (d : ClassId × ClassId) (a : Nat → Nat) (sz : Nat) (V : Nat → Int32) (E : Nat → Int32) (np : Int32) (K : Nat → Int32) (Y : Nat → Int32) (P : Nat → Int32) (C : Nat → Int32) (Wt : Nat → Int32) (t : Nat) (dn : Int32) (ds : Int32) (DV : Nat → Int32) (WS : Nat → Int32) (WV : Nat → Int32) (Q : dc_Q) (si u : Nat) (v : Int32) (hs : si < 12) (hu : u < 10) (ht : t < 2 ^ 30) (hR : dc_RX t Q ds DV WS WV) : Met l yX0_putDown (ws_ yX0_putDown cX0_putDown 6 none) ({ frames := 1, cells := 0, slots := 0, locals := 21 } : Room) (dc_Pre dg d [.ref (a 0), .int (nI si), .int v, .int (nI u)] (dc_wX d a V E np K Y P C Wt (nI t) dn ds DV WS WV) sz) (va_Qv (fun (z : Int32 × (Nat → Int32) × (Nat → Int32) × (Nat → Int32)) => dc_RX t (dc_put Q si (t + u) v) z.1 z.2.1 z.2.2.1 z.2.2.2) (dc_B dg d (va_A (dc_wX d a V E np K Y P C Wt (nI t) dn ds DV WS WV) sz) (fun z : Int32 × (Nat → Int32) × (Nat → Int32) × (Nat → Int32) => dc_wX d a V E np K Y P C Wt (nI t) dn z.1 z.2.1 z.2.2.1 z.2.2.2)) (va_A (dc_wX d a V E np K Y P C Wt (nI t) dn ds DV WS WV) sz)) 0 0 (va_A (dc_wX d a V E np K Y P C Wt (nI t) dn ds DV WS WV) sz) := by
  refine dc_metV (by decide) (Nat.le_of_ble_eq_true rfl) (fun p e s m below meth c A Qz ls S hw hl ret => ?_)
  have hx := S.1
  have hb := S.2.1
  have hl : lv_has ls 6 [(0, .ref (a 0)), (1, .int (nI si)), (2, .int v), (3, .int (nI u))] := hl
  have lq : ∀ k0 : Nat, (u = 0 ∧ k0 = 1 ∨ 0 < u ∧ k0 = u) → ∀ (H : Heap) (locs : List Loc), dc_Wd dg d A s (dc_wX d a V E np K Y P C Wt (nI t) dn ds DV WS WV) H locs → ∀ ls : Array Slot, lv_has ls 6 [(5, .int (nI k0)), (4, .int (nI 1 <<< (nI si &&& 31))), (3, .int (nI u)), (2, .int v), (1, .int (nI si)), (0, .ref (a 0))] → W p l e ({ frames := 1, cells := 0, slots := 0, locals := 21 } : Room) s m ([.ref (a 0), .int (nI si), .int v, .int (nI u)] : List Value).toArray below meth c H locs 0 0 Qz (F0 m 16 ls []) := by
    intro k0 h0
    have lp : ∀ (n : Nat) (k : Nat) (WS1 : Nat → Int32), k0 ≤ k → k ≤ 10 → 11 ≤ k + n → dc_RX t (dc_cut Q si (t + k0) (t + k)) ds DV WS1 WV → ∀ (H : Heap) (locs : List Loc), dc_Wd dg d A s (dc_wX d a V E np K Y P C Wt (nI t) dn ds DV WS1 WV) H locs → ∀ ls : Array Slot, lv_has ls 6 [(5, .int (nI k)), (4, .int (nI 1 <<< (nI si &&& 31))), (3, .int (nI u)), (2, .int v), (1, .int (nI si)), (0, .ref (a 0))] → W p l e ({ frames := 1, cells := 0, slots := 0, locals := 21 } : Room) s m ([.ref (a 0), .int (nI si), .int v, .int (nI u)] : List Value).toArray below meth c H locs 0 0 Qz (F0 m 16 ls []) := by
      intro n
      induction n with
      | zero =>
        intro k WS1 hk0 hk hn hR1 H locs hw ls hl
        exact absurd hn (by omega)
      | succ n ih =>
        intro k WS1 hk0 hk hn hR1 H locs hw ls hl
        refine lv_iload hx hb dX0_putDown_16 (lv_at hl 0 rfl) ?_
        refine lv_bipush (v := nI 10) hx hb dX0_putDown_18 (by decide) ?_
        refine dc_ge (tgt := 47) hx hb (by omega) (by omega) dX0_putDown_20 (by decide) (fun c_20 => ?_) (fun c_20 => ?_)
        · have ek : k = 10 := by omega
          subst ek
          refine lv_iload_n hx hb dX0_putDown_47 rfl (lv_at hl 2 rfl) ?_
          refine dc_ifn (tgt := 70) hx hb (by omega) dX0_putDown_48 (by decide) (fun c_48 => ?_) (fun c_48 => ?_)
          · refine lv_aload_n hx hb dX0_putDown_70 rfl (lv_at hl 5 rfl) ?_
            refine lv_iload_n hx hb dX0_putDown_71 rfl (lv_at hl 2 rfl) ?_
            refine dc_callR (As := [.int (nI u)]) (rest := []) S hw (mX0_slotAfter l dg d a _ V E np K Y P C Wt t dn ds DV WS1 WV u (by omega)) (cwV 1 S.2.2.2.2 (lw_V q86 q88 qs1 q17 q89) rfl rfl rfl (by decide +kernel) ⟨Nat.le_of_ble_eq_true rfl, Nat.le_of_ble_eq_true rfl⟩) (ci := 0) rfl rfl rfl rfl hl.1 rfl (Nat.le_of_ble_eq_true rfl) dX0_putDown_72 ⟨Nat.zero_le _, Nat.zero_le _⟩ (fun r hr => ?_)
            subst hr
            refine lv_istore (lv' := [(5, .int (nI ((t + u) % 10))), (4, .int (nI 1 <<< (nI si &&& 31))), (3, .int (nI u)), (2, .int v), (1, .int (nI si)), (0, .ref (a 0))]) hx hb dX0_putDown_75 hl (by decide) rfl (fun ls hl => ?_)
            refine lv_aload_n hx hb dX0_putDown_77 rfl (lv_at hl 5 rfl) ?_
            refine x0_get (v := .ref (a 9)) S hw rfl 12 (by decide) q39 rfl dX0_putDown_78 ?_
            refine lv_iload hx hb dX0_putDown_81 (lv_at hl 0 rfl) ?_
            refine lv_dup2_11 hx hb dX0_putDown_83 rfl rfl ?_
            refine dc_ild S hw 9 rfl (i := (t + u) % 10) (by omega) (by decide) dX0_putDown_84 ?_
            refine lv_iload hx hb dX0_putDown_85 (lv_at hl 1 rfl) ?_
            refine lv_ior hx hb dX0_putDown_87 ?_
            refine dc_ist (ws' := dc_wX d a V E np K Y P C Wt (nI t) dn ds DV (upd WS1 ((t + u) % 10) ((WS1 ((t + u) % 10)) ||| (nI 1 <<< (nI si &&& 31)))) WV) S hw 9 rfl (i := (t + u) % 10) (by omega) (by decide) rfl dX0_putDown_88 (fun H locs hw => ?_)
            refine lv_aload_n hx hb dX0_putDown_89 rfl (lv_at hl 5 rfl) ?_
            refine x0_get (v := .ref (a 10)) S hw rfl 13 (by decide) q40 rfl dX0_putDown_90 ?_
            refine lv_iload hx hb dX0_putDown_93 (lv_at hl 0 rfl) ?_
            refine lv_bipush (v := nI 12) hx hb dX0_putDown_95 (by decide) ?_
            refine dc_mulN hx hb dX0_putDown_97 ?_
            refine lv_iload_n hx hb dX0_putDown_98 rfl (lv_at hl 4 rfl) ?_
            refine dc_addN hx hb dX0_putDown_99 ?_
            refine lv_iload_n hx hb dX0_putDown_100 rfl (lv_at hl 3 rfl) ?_
            refine dc_ist (ws' := dc_wX d a V E np K Y P C Wt (nI t) dn ds DV (upd WS1 ((t + u) % 10) ((WS1 ((t + u) % 10)) ||| (nI 1 <<< (nI si &&& 31)))) (upd WV ((((t + u) % 10) * 12) + si) v)) S hw 10 rfl (i := (((t + u) % 10) * 12) + si) (by omega) (by decide) rfl dX0_putDown_101 (fun H locs hw => ?_)
            have h9 := rx_setu v hR1 (show 1 ≤ u by omega) hu hs
            rw [dc_cut_put hR.1 si k0 v h0] at h9
            exact ret 102 _ _ _ (ds, DV, upd WS1 ((t + u) % 10) ((WS1 ((t + u) % 10)) ||| (nI 1 <<< (nI si &&& 31))), upd WV ((((t + u) % 10) * 12) + si) v) dX0_putDown_102 h9 hw
          · refine lv_aload_n hx hb dX0_putDown_51 rfl (lv_at hl 5 rfl) ?_
            refine lv_dup hx hb dX0_putDown_52 rfl ?_
            refine x0_get (v := .int ds) S hw rfl 10 (by decide) q37 rfl dX0_putDown_53 ?_
            refine lv_iload hx hb dX0_putDown_56 (lv_at hl 1 rfl) ?_
            refine lv_ior hx hb dX0_putDown_58 ?_
            refine x0_put (ws' := dc_wX d a V E np K Y P C Wt (nI t) dn (ds ||| (nI 1 <<< (nI si &&& 31))) DV WS1 WV) S hw rfl 10 (by decide) q37 rfl (by decide +kernel) (Nat.le_of_ble_eq_true rfl) rfl dX0_putDown_59 (fun H locs hw => ?_)
            refine lv_aload_n hx hb dX0_putDown_62 rfl (lv_at hl 5 rfl) ?_
            refine x0_get (v := .ref (a 8)) S hw rfl 11 (by decide) q38 rfl dX0_putDown_63 ?_
            refine lv_iload_n hx hb dX0_putDown_66 rfl (lv_at hl 4 rfl) ?_
            refine lv_iload_n hx hb dX0_putDown_67 rfl (lv_at hl 3 rfl) ?_
            refine dc_ist (ws' := dc_wX d a V E np K Y P C Wt (nI t) dn (ds ||| (nI 1 <<< (nI si &&& 31))) (upd DV si v) WS1 WV) S hw 8 rfl (i := si) (by omega) (by decide) rfl dX0_putDown_68 (fun H locs hw => ?_)
            have h9 := rx_set0 v hR1 hs
            have h8 := dc_cut_put hR.1 si k0 v h0
            simp only [c_48, Nat.add_zero] at h8
            rw [h8] at h9
            exact ret 69 _ _ _ (ds ||| (nI 1 <<< (nI si &&& 31)), upd DV si v, WS1, WV) dX0_putDown_69 (by rw [c_48, Nat.add_zero]; exact h9) hw
        · refine lv_aload_n hx hb dX0_putDown_23 rfl (lv_at hl 5 rfl) ?_
          refine x0_get (v := .ref (a 9)) S hw rfl 12 (by decide) q39 rfl dX0_putDown_24 ?_
          refine lv_aload_n hx hb dX0_putDown_27 rfl (lv_at hl 5 rfl) ?_
          refine lv_iload hx hb dX0_putDown_28 (lv_at hl 0 rfl) ?_
          refine dc_callR (As := [.int (nI k)]) (rest := [.ref (a 9)]) S hw (mX0_slotAfter l dg d a _ V E np K Y P C Wt t dn ds DV WS1 WV k (by omega)) (cwV 1 S.2.2.2.2 (lw_V q86 q88 qs1 q17 q89) rfl rfl rfl (by decide +kernel) ⟨Nat.le_of_ble_eq_true rfl, Nat.le_of_ble_eq_true rfl⟩) (ci := 0) rfl rfl rfl rfl hl.1 rfl (Nat.le_of_ble_eq_true rfl) dX0_putDown_30 ⟨Nat.zero_le _, Nat.zero_le _⟩ (fun r hr => ?_)
          subst hr
          refine lv_dup2_11 hx hb dX0_putDown_33 rfl rfl ?_
          refine dc_ild S hw 9 rfl (i := (t + k) % 10) (by omega) (by decide) dX0_putDown_34 ?_
          refine lv_iload hx hb dX0_putDown_35 (lv_at hl 1 rfl) ?_
          refine lv_iconst (v := (-1)) hx hb dX0_putDown_37 (by decide) ?_
          refine lv_ixor hx hb dX0_putDown_38 ?_
          refine lv_iand hx hb dX0_putDown_39 ?_
          refine dc_ist (ws' := dc_wX d a V E np K Y P C Wt (nI t) dn ds DV (upd WS1 ((t + k) % 10) ((WS1 ((t + k) % 10)) &&& ((nI 1 <<< (nI si &&& 31)) ^^^ (-1)))) WV) S hw 9 rfl (i := (t + k) % 10) (by omega) (by decide) rfl dX0_putDown_40 (fun H locs hw => ?_)
          refine lv_iinc (v := nI (k + 1)) (lv' := [(5, .int (nI (k + 1))), (4, .int (nI 1 <<< (nI si &&& 31))), (3, .int (nI u)), (2, .int v), (1, .int (nI si)), (0, .ref (a 0))]) hx hb dX0_putDown_41 hl (k := 0) rfl (dc_inc _) (by decide) rfl (fun ls hl => ?_)
          refine lv_goto (tgt := 16) hx hb dX0_putDown_44 (by decide) ?_
          have h9 := rx_clr hR1 (show 1 ≤ k by omega) (show k < 10 by omega) hs
          rw [dc_cut_del Q (show t + k0 ≤ t + k by omega)] at h9
          exact ih (k + 1) _ (by omega) (by omega) (by omega) h9 H locs hw ls (lv_sub hl [0, 1, 2, 3, 4, 5] rfl)
    intro H locs hw ls hl
    exact lp 11 k0 WS (by omega) (by omega) (by omega) (by rw [dc_cut_nil]; exact hR) H locs hw ls hl
  refine lv_iconst (v := nI 1) hx hb dX0_putDown_0 (by decide) ?_
  refine lv_iload_n hx hb dX0_putDown_1 rfl (lv_at hl 1 rfl) ?_
  refine lv_ishl hx hb dX0_putDown_2 ?_
  refine lv_istore (lv' := [(4, .int ((nI 1) <<< ((nI si) &&& 31))), (0, .ref (a 0)), (1, .int (nI si)), (2, .int v), (3, .int (nI u))]) hx hb dX0_putDown_3 hl (by decide) rfl (fun ls hl => ?_)
  refine lv_iload_n hx hb dX0_putDown_5 rfl (lv_at hl 4 rfl) ?_
  refine dc_ifle (tgt := 13) hx hb (by omega) dX0_putDown_6 (by decide) (fun c_6 => ?_) (fun c_6 => ?_)
  · refine lv_iconst (v := nI 1) hx hb dX0_putDown_13 (by decide) ?_
    refine lv_istore (lv' := [(5, .int (nI 1)), (4, .int ((nI 1) <<< ((nI si) &&& 31))), (0, .ref (a 0)), (1, .int (nI si)), (2, .int v), (3, .int (nI u))]) hx hb dX0_putDown_14 hl (by decide) rfl (fun ls hl => ?_)
    exact lq 1 (by omega) _ _ hw ls (lv_sub hl [0, 1, 5, 4, 3, 2] rfl)
  · refine lv_iload_n hx hb dX0_putDown_9 rfl (lv_at hl 4 rfl) ?_
    refine lv_goto (tgt := 14) hx hb dX0_putDown_10 (by decide) ?_
    refine lv_istore (lv' := [(5, .int (nI u)), (4, .int ((nI 1) <<< ((nI si) &&& 31))), (0, .ref (a 0)), (1, .int (nI si)), (2, .int v), (3, .int (nI u))]) hx hb dX0_putDown_14 hl (by decide) rfl (fun ls hl => ?_)
    exact lq u (by omega) _ _ hw ls (lv_sub hl [0, 1, 5, 4, 3, 2] rfl)
set_option maxHeartbeats 4000000 in
set_option maxRecDepth 100000 in
theorem mX0_pending (l : Launch) (dg : va_G) (d : ClassId × ClassId) (a : Nat → Nat) (sz : Nat) (V : Nat → Int32) (E : Nat → Int32) (np : Int32) (K : Nat → Int32) (Y : Nat → Int32) (P : Nat → Int32) (C : Nat → Int32) (Wt : Nat → Int32) (t : Nat) (dn : Int32) (ds : Int32) (DV : Nat → Int32) (WS : Nat → Int32) (WV : Nat → Int32) (Q : dc_Q) (hR : dc_RX t Q ds DV WS WV) : Met l yX0_pending (ws_ yX0_pending cX0_pending 3 (some .int)) ({ frames := 1, cells := 0, slots := 0, locals := 22 } : Room) (dc_Pre dg d [.ref (a 0)] (dc_wX d a V E np K Y P C Wt (nI t) dn ds DV WS WV) sz) (vp_Si (fun r : Int32 => r = nI (dc_count t Q))) 0 0 (fun _ => False) := by
  refine dc_metR (by decide) (Nat.le_of_ble_eq_true rfl) (fun p e s m below meth c A Qz ls S hw hl ret => ?_)
  have hx := S.1
  have hb := S.2.1
  have hl : lv_has ls 3 [(0, .ref (a 0))] := hl
  have lp : ∀ (n : Nat) (k : Nat), k ≤ 10 → 11 ≤ k + n → ∀ ls : Array Slot, lv_has ls 3 [(2, .int (nI k)), (1, .int (nI (fb_ct (bt ds) 12 + fb_sm (fun j => fb_ct (bt (WS j)) 12) k))), (0, .ref (a 0))] → W p l e ({ frames := 1, cells := 0, slots := 0, locals := 22 } : Room) s m ([.ref (a 0)] : List Value).toArray below meth c s.heap [] 0 0 Qz (F0 m 10 ls []) := by
    intro n
    induction n with
    | zero =>
      intro k hk hn ls hl
      exact absurd hn (by omega)
    | succ n ih =>
      intro k hk hn ls hl
      refine lv_iload_n hx hb dX0_pending_10 rfl (lv_at hl 0 rfl) ?_
      refine lv_bipush (v := nI 10) hx hb dX0_pending_11 (by decide) ?_
      refine dc_ge (tgt := 34) hx hb (by omega) (by omega) dX0_pending_13 (by decide) (fun c_13 => ?_) (fun c_13 => ?_)
      · have ek : k = 10 := by omega
        subst ek
        refine lv_iload_n hx hb dX0_pending_34 rfl (lv_at hl 1 rfl) ?_
        exact ret 35 _ _ dX0_pending_35 rfl (by rw [rx_count hR])
      · refine lv_iload_n hx hb dX0_pending_16 rfl (lv_at hl 1 rfl) ?_
        refine lv_aload_n hx hb dX0_pending_17 rfl (lv_at hl 2 rfl) ?_
        refine x0_get (v := .ref (a 9)) S hw rfl 12 (by decide) q39 rfl dX0_pending_18 ?_
        refine lv_iload_n hx hb dX0_pending_21 rfl (lv_at hl 0 rfl) ?_
        refine dc_ild S hw 9 rfl (i := k) (by omega) (by decide) dX0_pending_22 ?_
        refine dc_callS (As := [.int (WS k)]) (rest := [.int (nI (fb_ct (bt ds) 12 + fb_sm (fun j => fb_ct (bt (WS j)) 12) k))]) S (mX0_bits l (WS k)) (va_cwS 1 S.2.2.2.2 (lw_S q94 q95 q17 q96) rfl rfl rfl (by decide +kernel) ⟨Nat.le_of_ble_eq_true rfl, Nat.le_of_ble_eq_true rfl⟩) rfl hl.1 rfl (Nat.le_of_ble_eq_true rfl) dX0_pending_23 ⟨Nat.zero_le _, Nat.zero_le _⟩ (fun r hr => ?_)
        subst hr
        refine dc_addN hx hb dX0_pending_26 ?_
        refine dc_top (y := nI (fb_ct (bt ds) 12 + fb_sm (fun j => fb_ct (bt (WS j)) 12) (k + 1))) (by rw [fb_sm_succ, Nat.add_assoc]) ?_
        refine lv_istore_n (lv' := [(1, .int (nI (fb_ct (bt ds) 12 + fb_sm (fun j => fb_ct (bt (WS j)) 12) (k + 1)))), (2, .int (nI k)), (0, .ref (a 0))]) hx hb dX0_pending_27 rfl hl (by decide) rfl (fun ls hl => ?_)
        refine lv_iinc (v := nI (k + 1)) (lv' := [(2, .int (nI (k + 1))), (1, .int (nI (fb_ct (bt ds) 12 + fb_sm (fun j => fb_ct (bt (WS j)) 12) (k + 1)))), (0, .ref (a 0))]) hx hb dX0_pending_28 hl (k := 1) rfl (dc_inc _) (by decide) rfl (fun ls hl => ?_)
        refine lv_goto (tgt := 10) hx hb dX0_pending_31 (by decide) ?_
        exact ih (k + 1) (by omega) (by omega) ls (lv_sub hl [0, 1, 2] rfl)
  refine lv_aload_n hx hb dX0_pending_0 rfl (lv_at hl 0 rfl) ?_
  refine x0_get (v := .int ds) S hw rfl 10 (by decide) q37 rfl dX0_pending_1 ?_
  refine dc_callS (As := [.int ds]) (rest := []) S (mX0_bits l ds) (va_cwS 1 S.2.2.2.2 (lw_S q94 q95 q17 q96) rfl rfl rfl (by decide +kernel) ⟨Nat.le_of_ble_eq_true rfl, Nat.le_of_ble_eq_true rfl⟩) rfl hl.1 rfl (Nat.le_of_ble_eq_true rfl) dX0_pending_4 ⟨Nat.zero_le _, Nat.zero_le _⟩ (fun r hr => ?_)
  subst hr
  refine lv_istore_n (lv' := [(1, .int (nI (fb_ct (bt ds) 12))), (0, .ref (a 0))]) hx hb dX0_pending_7 rfl hl (by decide) rfl (fun ls hl => ?_)
  refine lv_iconst (v := nI 0) hx hb dX0_pending_8 (by decide) ?_
  refine lv_istore_n (lv' := [(2, .int (nI 0)), (1, .int (nI (fb_ct (bt ds) 12))), (0, .ref (a 0))]) hx hb dX0_pending_9 rfl hl (by decide) rfl (fun ls hl => ?_)
  exact lp 11 0 (by omega) (by omega) ls (lv_sub hl [0, 1, 2] rfl)
end
section
set_option maxRecDepth 100000
section RES
variable {G : dc_T} {V : Nat → Int32} {p s0 s1 s2 : Nat}
theorem dc_res_of (h0 : dc_op (G.2.2.2.1 p) (nI 0) = nI s0) (h1 : dc_op (G.2.2.2.1 p) (nI 1) = nI s1) (h2 : dc_op (G.2.2.2.1 p) (nI 2) = nI s2) (b0 : s0 < 12) (b1 : s1 < 12) (b2 : s2 < 12) :
    dc_res G V p = if G.2.1 p = nI 0 then V s0 + V s1 else if G.2.1 p = nI 1 then V s0 &&& V s1 else if G.2.1 p = nI 2 then V s0 ^^^ V s1 else if G.2.1 p = nI 3 then V s0 + G.2.2.2.2.1 p else if G.2.1 p = nI 4 then (if V s2 = 0 then V s1 else V s0) else V s0 ^^^ (-1) := by
  unfold dc_res
  rw [h0, h1, h2, nI_clamp (show s0 < 2 ^ 31 by omega), nI_clamp (show s1 < 2 ^ 31 by omega), nI_clamp (show s2 < 2 ^ 31 by omega)]
theorem dc_res_k0 (h0 : dc_op (G.2.2.2.1 p) (nI 0) = nI s0) (h1 : dc_op (G.2.2.2.1 p) (nI 1) = nI s1) (h2 : dc_op (G.2.2.2.1 p) (nI 2) = nI s2) (b0 : s0 < 12) (b1 : s1 < 12) (b2 : s2 < 12) (ek : G.2.1 p = nI 0) : dc_res G V p = V s0 + V s1 := by rw [dc_res_of h0 h1 h2 b0 b1 b2, if_pos ek]
theorem dc_res_k1 (h0 : dc_op (G.2.2.2.1 p) (nI 0) = nI s0) (h1 : dc_op (G.2.2.2.1 p) (nI 1) = nI s1) (h2 : dc_op (G.2.2.2.1 p) (nI 2) = nI s2) (b0 : s0 < 12) (b1 : s1 < 12) (b2 : s2 < 12) (ek : G.2.1 p = nI 1) : dc_res G V p = V s0 &&& V s1 := by rw [dc_res_of h0 h1 h2 b0 b1 b2, if_neg (by rw [ek]; decide), if_pos ek]
theorem dc_res_k2 (h0 : dc_op (G.2.2.2.1 p) (nI 0) = nI s0) (h1 : dc_op (G.2.2.2.1 p) (nI 1) = nI s1) (h2 : dc_op (G.2.2.2.1 p) (nI 2) = nI s2) (b0 : s0 < 12) (b1 : s1 < 12) (b2 : s2 < 12) (ek : G.2.1 p = nI 2) : dc_res G V p = V s0 ^^^ V s1 := by rw [dc_res_of h0 h1 h2 b0 b1 b2, if_neg (by rw [ek]; decide), if_neg (by rw [ek]; decide), if_pos ek]
theorem dc_res_k3 (h0 : dc_op (G.2.2.2.1 p) (nI 0) = nI s0) (h1 : dc_op (G.2.2.2.1 p) (nI 1) = nI s1) (h2 : dc_op (G.2.2.2.1 p) (nI 2) = nI s2) (b0 : s0 < 12) (b1 : s1 < 12) (b2 : s2 < 12) (ek : G.2.1 p = nI 3) : dc_res G V p = V s0 + G.2.2.2.2.1 p := by rw [dc_res_of h0 h1 h2 b0 b1 b2, if_neg (by rw [ek]; decide), if_neg (by rw [ek]; decide), if_neg (by rw [ek]; decide), if_pos ek]
theorem dc_res_k4 (h0 : dc_op (G.2.2.2.1 p) (nI 0) = nI s0) (h1 : dc_op (G.2.2.2.1 p) (nI 1) = nI s1) (h2 : dc_op (G.2.2.2.1 p) (nI 2) = nI s2) (b0 : s0 < 12) (b1 : s1 < 12) (b2 : s2 < 12) (ek : G.2.1 p = nI 4) : dc_res G V p = (if V s2 = 0 then V s1 else V s0) := by rw [dc_res_of h0 h1 h2 b0 b1 b2, if_neg (by rw [ek]; decide), if_neg (by rw [ek]; decide), if_neg (by rw [ek]; decide), if_neg (by rw [ek]; decide), if_pos ek]
theorem dc_res_k5 (h0 : dc_op (G.2.2.2.1 p) (nI 0) = nI s0) (h1 : dc_op (G.2.2.2.1 p) (nI 1) = nI s1) (h2 : dc_op (G.2.2.2.1 p) (nI 2) = nI s2) (b0 : s0 < 12) (b1 : s1 < 12) (b2 : s2 < 12) (ek : G.2.1 p = nI 5) : dc_res G V p = V s0 ^^^ (-1) := by rw [dc_res_of h0 h1 h2 b0 b1 b2, if_neg (by rw [ek]; decide), if_neg (by rw [ek]; decide), if_neg (by rw [ek]; decide), if_neg (by rw [ek]; decide), if_neg (by rw [ek]; decide)]
end RES
theorem dc_cry_of {G : dc_T} {V : Nat → Int32} {t p s3 u : Nat} {Q : dc_Q} (h3 : dc_op (G.2.2.2.1 p) (nI 3) = nI s3) (hu : G.2.2.1 p = nI u) (b3 : s3 < 12) (bu : u ≤ 9) : dc_cry G V t Q p = dc_put Q s3 (t + u) (dc_res G V p) := by
  unfold dc_cry
  rw [h3, hu, nI_clamp (show s3 < 2 ^ 31 by omega), nI_clamp (show u < 2 ^ 31 by omega)]
theorem dc_fill0 (g : Nat → Int32) (k : Nat) : upd (fa_fill (fun _ => nI 0) g k) k (nI 0) = fa_fill (fun _ => nI 0) g (k + 1) := fa_fill_succ _ _ _
/-- how many cycles a run may take, how far it may go -/
def dc_most (x : Int32) : Nat := if nI 200 < x then 200 else x.toNatClampNeg
def dc_far (x : Int32) : Nat := if x < 0 then 0 else if nI 1000 < x then 1000 else x.toNatClampNeg
theorem dc_nle {a b : Int32} (h : ¬ a ≤ b) : b < a := by
  rw [Int32.le_iff_toInt_le] at h
  rw [Int32.lt_iff_toInt_lt]
  omega
theorem dc_nlt {a b : Int32} (h : a ≤ b) : ¬ b < a := by
  rw [Int32.le_iff_toInt_le] at h
  rw [Int32.lt_iff_toInt_lt]
  omega
theorem dc_cl_neg {x : Int32} (h : x < 0) : x.toNatClampNeg = 0 := by
  have hc : x.toNatClampNeg = x.toInt.toNat := rfl
  rw [Int32.lt_iff_toInt_lt, Int32.toInt_zero] at h
  rw [hc]
  omega
theorem dc_most_le (x : Int32) : dc_most x ≤ 200 := by
  unfold dc_most
  by_cases h : nI 200 < x
  · rw [if_pos h]; exact Nat.le_refl _
  · rw [if_neg h]
    by_cases h0 : x < 0
    · rw [dc_cl_neg h0]; omega
    · obtain ⟨j, hj, e⟩ := nI_of h0
      subst e
      rw [nI_clamp hj]
      exact Nat.le_of_not_lt fun q => h ((nI_ltI (by omega) hj).mpr q)
theorem dc_most_1 {x : Int32} (h : x ≤ nI 200) (j : Nat) (hj : j ≤ 200) : x ≤ nI j ↔ dc_most x ≤ j := by
  unfold dc_most
  rw [if_neg (dc_nlt h)]
  by_cases h0 : x < 0
  · rw [dc_cl_neg h0]
    refine ⟨fun _ => Nat.zero_le _, fun _ => ?_⟩
    have hp := nI_toInt (n := j) (by omega)
    rw [Int32.lt_iff_toInt_lt, Int32.toInt_zero] at h0
    rw [Int32.le_iff_toInt_le, hp]
    omega
  · obtain ⟨i, hi, e⟩ := nI_of h0
    subst e
    rw [nI_clamp hi]
    exact nI_leI hi (by omega)
theorem dc_most_2 {x : Int32} (h : ¬ x ≤ nI 200) (j : Nat) (hj : j ≤ 200) : nI 200 ≤ nI j ↔ dc_most x ≤ j := by
  unfold dc_most
  rw [if_pos (dc_nle h)]
  exact nI_leI (by omega) (by omega)
theorem dc_far_le (x : Int32) : dc_far x ≤ 1000 := by
  unfold dc_far
  by_cases h0 : x < 0
  · rw [if_pos h0]; omega
  · rw [if_neg h0]
    by_cases h : nI 1000 < x
    · rw [if_pos h]; exact Nat.le_refl _
    · rw [if_neg h]
      obtain ⟨j, hj, e⟩ := nI_of h0
      subst e
      rw [nI_clamp hj]
      exact Nat.le_of_not_lt fun q => h ((nI_ltI (by omega) hj).mpr q)
theorem dc_far_n {x : Int32} (h : x < 0) : dc_far x = 0 := by unfold dc_far; rw [if_pos h]
theorem dc_far_b {x : Int32} (h0 : ¬ x < 0) (h : ¬ x ≤ nI 1000) : dc_far x = 1000 := by unfold dc_far; rw [if_neg h0, if_pos (dc_nle h)]
theorem dc_far_i {x : Int32} (h0 : ¬ x < 0) (h : x ≤ nI 1000) : x = nI (dc_far x) := by
  unfold dc_far
  rw [if_neg h0, if_neg (dc_nlt h)]
  obtain ⟨j, hj, e⟩ := nI_of h0
  subst e
  rw [nI_clamp hj]
theorem dc_ge0 {x : Int32} (h : ¬ 0 ≤ x) : x < 0 := dc_nle h
theorem dc_go_iff {Q : dc_Q} {V E : Nat → Int32} {t te : Nat} {dn : Int32} : dc_go te (Q, V, E, t, dn) ↔ (¬ dc_emp Q ∧ dc_next Q ≤ te) := Iff.rfl
/-- a run told from the midst -/
theorem dc_run_mid {G : dc_T} {te mx j : Nat} {S0 S : dc_S} (hj : j < mx) (hg : dc_go te S) (h : dc_run G te mx S0 = ((dc_run G te (mx - j) S).1, (dc_run G te (mx - j) S).2 + j)) :
    dc_run G te mx S0 = ((dc_run G te (mx - (j + 1)) (dc_st G S)).1, (dc_run G te (mx - (j + 1)) (dc_st G S)).2 + (j + 1)) := by
  rw [h]
  obtain ⟨k, hk⟩ : ∃ k, mx - j = k + 1 := ⟨mx - j - 1, by omega⟩
  rw [hk, dc_run_y hg, show mx - (j + 1) = k by omega]
  show (_, _ + 1 + j) = (_, _ + (j + 1))
  rw [Nat.add_assoc, Nat.add_comm 1 j]
theorem dc_run_stop {G : dc_T} {te mx j : Nat} {S0 S : dc_S} (hg : mx ≤ j ∨ ¬ dc_go te S) (h : dc_run G te mx S0 = ((dc_run G te (mx - j) S).1, (dc_run G te (mx - j) S).2 + j)) : dc_run G te mx S0 = (S, j) := by
  rw [h]
  rcases hg with q | q
  · rw [show mx - j = 0 by omega]
    show (S, 0 + j) = (S, j)
    rw [Nat.zero_add]
  · rw [dc_run_n q]
    show (S, 0 + j) = (S, j)
    rw [Nat.zero_add]
end
section
set_option maxRecDepth 100000
set_option maxHeartbeats 4000000 in
set_option maxRecDepth 100000 in
theorem mX0_process (l : Launch) (dg : va_G) (d : ClassId × ClassId) (a : Nat → Nat) (sz : Nat) (V : Nat → Int32) (E : Nat → Int32) (n0 : Nat) (K : Nat → Int32) (Y : Nat → Int32) (P : Nat → Int32) (C : Nat → Int32) (Wt : Nat → Int32) (tm : Int32) (dn : Int32) (ds : Int32) (DV : Nat → Int32) (WS : Nat → Int32) (WV : Nat → Int32) (how sig cv wv : Int32) (hn0 : n0 ≤ 8) : Met l yX0_process (ws_ yX0_process cX0_process 8 (some .int)) ({ frames := 1, cells := 0, slots := 0, locals := 20 } : Room) (dc_Pre dg d [.ref (a 0), .int how, .int sig, .int cv, .int wv] (dc_wX d a V E (nI n0) K Y P C Wt tm dn ds DV WS WV) sz) (va_Qi (fun (r : Int32) (z : dc_T) => r = dc_prR n0 how sig ∧ z = dc_prG (n0, K, Y, P, C, Wt) how sig cv wv) (dc_B dg d (va_A (dc_wX d a V E (nI n0) K Y P C Wt tm dn ds DV WS WV) sz) (fun z : dc_T => dc_wX d a V E (nI z.1) z.2.1 z.2.2.1 z.2.2.2.1 z.2.2.2.2.1 z.2.2.2.2.2 tm dn ds DV WS WV)) (va_A (dc_wX d a V E (nI n0) K Y P C Wt tm dn ds DV WS WV) sz)) 0 0 (va_A (dc_wX d a V E (nI n0) K Y P C Wt tm dn ds DV WS WV) sz) := by
  refine dc_metI (by decide) (Nat.le_of_ble_eq_true rfl) (fun p e s m below meth c A Qz ls S hw hl ret => ?_)
  have hx := S.1
  have hb := S.2.1
  have hl : lv_has ls 8 [(0, .ref (a 0)), (1, .int how), (2, .int sig), (3, .int cv), (4, .int wv)] := hl
  have lp : ∀ (n : Nat) (k : Nat), k ≤ 4 → 5 ≤ k + n → (∀ w, w < k → dc_bad (dc_op sig (nI w)) = 0) → ∀ ls : Array Slot, lv_has ls 8 [(5, .int (nI k)), (4, .int wv), (3, .int cv), (2, .int sig), (1, .int how), (0, .ref (a 0))] → W p l e ({ frames := 1, cells := 0, slots := 0, locals := 20 } : Room) s m ([.ref (a 0), .int how, .int sig, .int cv, .int wv] : List Value).toArray below meth c s.heap [] 0 0 Qz (F0 m 3 ls []) := by
    intro n
    induction n with
    | zero =>
      intro k hk hn hbd ls hl
      exact absurd hn (by omega)
    | succ n ih =>
      intro k hk hn hbd ls hl
      refine lv_iload hx hb dX0_process_3 (lv_at hl 0 rfl) ?_
      refine lv_iconst (v := nI 4) hx hb dX0_process_5 (by decide) ?_
      refine dc_ge (tgt := 32) hx hb (by omega) (by omega) dX0_process_6 (by decide) (fun c_6 => ?_) (fun c_6 => ?_)
      · have hsg : dc_sig sig := fun w hw9 => hbd w (by omega)
        refine lv_iload_n hx hb dX0_process_32 rfl (lv_at hl 4 rfl) ?_
        refine lv_bipush (v := nI 7) hx hb dX0_process_33 (by decide) ?_
        refine lv_iand hx hb dX0_process_35 ?_
        refine lv_istore (lv' := [(5, .int (how &&& (nI 7))), (4, .int wv), (3, .int cv), (2, .int sig), (1, .int how), (0, .ref (a 0))]) hx hb dX0_process_36 hl (by decide) rfl (fun ls hl => ?_)
        refine lv_iload_n hx hb dX0_process_38 rfl (lv_at hl 4 rfl) ?_
        refine lv_iconst (v := nI 4) hx hb dX0_process_39 (by decide) ?_
        refine lv_ishr hx hb dX0_process_40 ?_
        refine lv_bipush (v := nI 15) hx hb dX0_process_41 (by decide) ?_
        refine lv_iand hx hb dX0_process_43 ?_
        refine lv_istore (lv' := [(6, .int ((how >>> ((nI 4) &&& 31)) &&& (nI 15))), (5, .int (how &&& (nI 7))), (4, .int wv), (3, .int cv), (2, .int sig), (1, .int how), (0, .ref (a 0))]) hx hb dX0_process_44 hl (by decide) rfl (fun ls hl => ?_)
        refine lv_iload hx hb dX0_process_46 (lv_at hl 1 rfl) ?_
        refine lv_iconst (v := nI 5) hx hb dX0_process_48 (by decide) ?_
        refine lv_icmp_le (tgt := 55) hx hb dX0_process_49 (by decide) (fun c_49 => ?_) (fun c_49 => ?_)
        · refine lv_iload hx hb dX0_process_55 (lv_at hl 0 rfl) ?_
          refine lv_bipush (v := nI 9) hx hb dX0_process_57 (by decide) ?_
          refine lv_icmp_le (tgt := 65) hx hb dX0_process_59 (by decide) (fun c_59 => ?_) (fun c_59 => ?_)
          · refine lv_aload_n hx hb dX0_process_65 rfl (lv_at hl 6 rfl) ?_
            refine x0_get (v := .int (nI n0)) S hw rfl 2 (by decide) q29 rfl dX0_process_66 ?_
            refine lv_bipush (v := nI 8) hx hb dX0_process_69 (by decide) ?_
            refine lv_icmp_lt (tgt := 77) hx hb dX0_process_71 (by decide) (fun c_71 => ?_) (fun c_71 => ?_)
            · have h8 : n0 < 8 := (nI_ltI (by omega) (by omega)).mp c_71
              refine lv_aload_n hx hb dX0_process_77 rfl (lv_at hl 6 rfl) ?_
              refine x0_get (v := .int (nI n0)) S hw rfl 2 (by decide) q29 rfl dX0_process_78 ?_
              refine lv_istore (lv' := [(7, .int (nI n0)), (6, .int ((how >>> ((nI 4) &&& 31)) &&& (nI 15))), (5, .int (how &&& (nI 7))), (4, .int wv), (3, .int cv), (2, .int sig), (1, .int how), (0, .ref (a 0))]) hx hb dX0_process_81 hl (by decide) rfl (fun ls hl => ?_)
              refine lv_aload_n hx hb dX0_process_83 rfl (lv_at hl 7 rfl) ?_
              refine x0_get (v := .ref (a 3)) S hw rfl 3 (by decide) q30 rfl dX0_process_84 ?_
              refine lv_iload hx hb dX0_process_87 (lv_at hl 0 rfl) ?_
              refine lv_iload hx hb dX0_process_89 (lv_at hl 2 rfl) ?_
              refine dc_ist (ws' := dc_wX d a V E (nI n0) (upd K n0 (how &&& (nI 7))) Y P C Wt tm dn ds DV WS WV) S hw 3 rfl (i := n0) (by omega) (by decide) rfl dX0_process_91 (fun H locs hw => ?_)
              refine lv_aload_n hx hb dX0_process_92 rfl (lv_at hl 7 rfl) ?_
              refine x0_get (v := .ref (a 4)) S hw rfl 4 (by decide) q31 rfl dX0_process_93 ?_
              refine lv_iload hx hb dX0_process_96 (lv_at hl 0 rfl) ?_
              refine lv_iload hx hb dX0_process_98 (lv_at hl 1 rfl) ?_
              refine dc_ist (ws' := dc_wX d a V E (nI n0) (upd K n0 (how &&& (nI 7))) (upd Y n0 ((how >>> ((nI 4) &&& 31)) &&& (nI 15))) P C Wt tm dn ds DV WS WV) S hw 4 rfl (i := n0) (by omega) (by decide) rfl dX0_process_100 (fun H locs hw => ?_)
              refine lv_aload_n hx hb dX0_process_101 rfl (lv_at hl 7 rfl) ?_
              refine x0_get (v := .ref (a 5)) S hw rfl 5 (by decide) q32 rfl dX0_process_102 ?_
              refine lv_iload hx hb dX0_process_105 (lv_at hl 0 rfl) ?_
              refine lv_iload_n hx hb dX0_process_107 rfl (lv_at hl 5 rfl) ?_
              refine dc_ist (ws' := dc_wX d a V E (nI n0) (upd K n0 (how &&& (nI 7))) (upd Y n0 ((how >>> ((nI 4) &&& 31)) &&& (nI 15))) (upd P n0 sig) C Wt tm dn ds DV WS WV) S hw 5 rfl (i := n0) (by omega) (by decide) rfl dX0_process_108 (fun H locs hw => ?_)
              refine lv_aload_n hx hb dX0_process_109 rfl (lv_at hl 7 rfl) ?_
              refine x0_get (v := .ref (a 6)) S hw rfl 6 (by decide) q33 rfl dX0_process_110 ?_
              refine lv_iload hx hb dX0_process_113 (lv_at hl 0 rfl) ?_
              refine lv_iload_n hx hb dX0_process_115 rfl (lv_at hl 4 rfl) ?_
              refine dc_ist (ws' := dc_wX d a V E (nI n0) (upd K n0 (how &&& (nI 7))) (upd Y n0 ((how >>> ((nI 4) &&& 31)) &&& (nI 15))) (upd P n0 sig) (upd C n0 cv) Wt tm dn ds DV WS WV) S hw 6 rfl (i := n0) (by omega) (by decide) rfl dX0_process_116 (fun H locs hw => ?_)
              refine lv_aload_n hx hb dX0_process_117 rfl (lv_at hl 7 rfl) ?_
              refine x0_get (v := .ref (a 7)) S hw rfl 7 (by decide) q34 rfl dX0_process_118 ?_
              refine lv_iload hx hb dX0_process_121 (lv_at hl 0 rfl) ?_
              refine lv_iload hx hb dX0_process_123 (lv_at hl 3 rfl) ?_
              refine lv_sipush (v := nI 4095) hx hb dX0_process_125 (by decide) ?_
              refine lv_iand hx hb dX0_process_128 ?_
              refine dc_ist (ws' := dc_wX d a V E (nI n0) (upd K n0 (how &&& (nI 7))) (upd Y n0 ((how >>> ((nI 4) &&& 31)) &&& (nI 15))) (upd P n0 sig) (upd C n0 cv) (upd Wt n0 (wv &&& (nI 4095))) tm dn ds DV WS WV) S hw 7 rfl (i := n0) (by omega) (by decide) rfl dX0_process_129 (fun H locs hw => ?_)
              refine lv_aload_n hx hb dX0_process_130 rfl (lv_at hl 7 rfl) ?_
              refine lv_dup hx hb dX0_process_131 rfl ?_
              refine x0_get (v := .int (nI n0)) S hw rfl 2 (by decide) q29 rfl dX0_process_132 ?_
              refine lv_iconst (v := nI 1) hx hb dX0_process_135 (by decide) ?_
              refine dc_addN hx hb dX0_process_136 ?_
              refine x0_put (ws' := dc_wX d a V E (nI (n0 + 1)) (upd K n0 (how &&& (nI 7))) (upd Y n0 ((how >>> ((nI 4) &&& 31)) &&& (nI 15))) (upd P n0 sig) (upd C n0 cv) (upd Wt n0 (wv &&& (nI 4095))) tm dn ds DV WS WV) S hw rfl 2 (by decide) q29 rfl (by decide +kernel) (Nat.le_of_ble_eq_true rfl) rfl dX0_process_137 (fun H locs hw => ?_)
              refine lv_iload hx hb dX0_process_140 (lv_at hl 0 rfl) ?_
              exact ret 142 _ _ _ _ (n0 + 1, upd K n0 (how &&& (nI 7)), upd Y n0 ((how >>> ((nI 4) &&& 31)) &&& (nI 15)), upd P n0 sig, upd C n0 cv, upd Wt n0 (wv &&& (nI 4095))) dX0_process_142 rfl ⟨by unfold dc_prR; rw [if_pos hsg, if_pos c_49, if_pos c_59, if_pos h8], by unfold dc_prG; exact (if_pos ⟨hsg, c_49, c_59, h8⟩).symm⟩ hw
            · have h8 : ¬ n0 < 8 := fun q => c_71 ((nI_ltI (by omega) (by omega)).mpr q)
              refine lv_bipush (v := (-4)) hx hb dX0_process_74 (by decide) ?_
              exact ret 76 _ _ _ _ (n0, K, Y, P, C, Wt) dX0_process_76 rfl ⟨by unfold dc_prR; rw [if_pos hsg, if_pos c_49, if_pos c_59, if_neg h8], by unfold dc_prG; rw [if_neg (fun q => h8 q.2.2.2)]⟩ hw
          · refine lv_bipush (v := (-3)) hx hb dX0_process_62 (by decide) ?_
            exact ret 64 _ _ _ _ (n0, K, Y, P, C, Wt) dX0_process_64 rfl ⟨by unfold dc_prR; rw [if_pos hsg, if_pos c_49, if_neg c_59], by unfold dc_prG; rw [if_neg (fun q => c_59 q.2.2.1)]⟩ hw
        · refine lv_bipush (v := (-2)) hx hb dX0_process_52 (by decide) ?_
          exact ret 54 _ _ _ _ (n0, K, Y, P, C, Wt) dX0_process_54 rfl ⟨by unfold dc_prR; rw [if_pos hsg, if_neg c_49], by unfold dc_prG; rw [if_neg (fun q => c_49 q.2.1)]⟩ hw
      · refine lv_iload_n hx hb dX0_process_9 rfl (lv_at hl 3 rfl) ?_
        refine lv_iconst (v := nI 4) hx hb dX0_process_10 (by decide) ?_
        refine lv_iload hx hb dX0_process_11 (lv_at hl 0 rfl) ?_
        refine lv_imul hx hb dX0_process_13 ?_
        refine lv_ishr hx hb dX0_process_14 ?_
        refine lv_bipush (v := nI 15) hx hb dX0_process_15 (by decide) ?_
        refine lv_iand hx hb dX0_process_17 ?_
        refine dc_top (y := dc_op sig (nI k)) rfl ?_
        refine dc_callS (As := [.int (dc_op sig (nI k))]) (rest := []) S (mX0_bad l (dc_op sig (nI k))) (va_cwS 1 S.2.2.2.2 (lw_S q75 q76 q17 q77) rfl rfl rfl (by decide +kernel) ⟨Nat.le_of_ble_eq_true rfl, Nat.le_of_ble_eq_true rfl⟩) rfl hl.1 rfl (Nat.le_of_ble_eq_true rfl) dX0_process_18 ⟨Nat.zero_le _, Nat.zero_le _⟩ (fun r hr => ?_)
        refine lv_if_eq (tgt := 26) hx hb dX0_process_21 (by decide) (fun c_21 => ?_) (fun c_21 => ?_)
        · refine lv_iinc (v := nI (k + 1)) (lv' := [(5, .int (nI (k + 1))), (4, .int wv), (3, .int cv), (2, .int sig), (1, .int how), (0, .ref (a 0))]) hx hb dX0_process_26 hl (k := 0) rfl (dc_inc _) (by decide) rfl (fun ls hl => ?_)
          refine lv_goto (tgt := 3) hx hb dX0_process_29 (by decide) ?_
          exact ih (k + 1) (by omega) (by omega) (fun w hw9 => by exact (Nat.lt_or_ge w k).elim (fun q => by exact hbd w q) (fun q => by rw [show w = k by omega, ← hr]; exact c_21)) ls (lv_sub hl [0, 1, 2, 3, 4, 5] rfl)
        · refine lv_iconst (v := (-1)) hx hb dX0_process_24 (by decide) ?_
          exact ret 25 _ _ _ _ (n0, K, Y, P, C, Wt) dX0_process_25 rfl ⟨by unfold dc_prR; rw [if_neg (fun q => c_21 (by rw [hr]; exact q k (by omega)))], by unfold dc_prG; rw [if_neg (fun q => c_21 (by rw [hr]; exact q.1 k (by omega)))]⟩ hw
  refine lv_iconst (v := nI 0) hx hb dX0_process_0 (by decide) ?_
  refine lv_istore (lv' := [(5, .int (nI 0)), (0, .ref (a 0)), (1, .int how), (2, .int sig), (3, .int cv), (4, .int wv)]) hx hb dX0_process_1 hl (by decide) rfl (fun ls hl => ?_)
  exact lp 5 0 (by omega) (by omega) (fun w hw9 => absurd hw9 (by omega)) ls (lv_sub hl [0, 5, 4, 3, 2, 1] rfl)
set_option maxHeartbeats 4000000 in
set_option maxRecDepth 100000 in
theorem mX0_drive (l : Launch) (dg : va_G) (d : ClassId × ClassId) (a : Nat → Nat) (sz : Nat) (V : Nat → Int32) (E : Nat → Int32) (np : Int32) (K : Nat → Int32) (Y : Nat → Int32) (P : Nat → Int32) (C : Nat → Int32) (Wt : Nat → Int32) (t : Nat) (dn : Int32) (ds : Int32) (DV : Nat → Int32) (WS : Nat → Int32) (WV : Nat → Int32) (Q : dc_Q) (sg v dl : Int32) (ht : t < 2 ^ 30) (hR : dc_RX t Q ds DV WS WV) : Met l yX0_drive (ws_ yX0_drive cX0_drive 4 (some .int)) ({ frames := 2, cells := 0, slots := 0, locals := 46 } : Room) (dc_Pre dg d [.ref (a 0), .int sg, .int v, .int dl] (dc_wX d a V E np K Y P C Wt (nI t) dn ds DV WS WV) sz) (va_Qi (fun (r : Int32) (z : Int32 × (Nat → Int32) × (Nat → Int32) × (Nat → Int32)) => r = dc_drR t Q sg v dl ∧ dc_RX t (dc_drQ t Q sg v dl) z.1 z.2.1 z.2.2.1 z.2.2.2) (dc_B dg d (va_A (dc_wX d a V E np K Y P C Wt (nI t) dn ds DV WS WV) sz) (fun z : Int32 × (Nat → Int32) × (Nat → Int32) × (Nat → Int32) => dc_wX d a V E np K Y P C Wt (nI t) dn z.1 z.2.1 z.2.2.1 z.2.2.2)) (va_A (dc_wX d a V E np K Y P C Wt (nI t) dn ds DV WS WV) sz)) 0 0 (va_A (dc_wX d a V E np K Y P C Wt (nI t) dn ds DV WS WV) sz) := by
  refine dc_metI (by decide) (Nat.le_of_ble_eq_true rfl) (fun p e s m below meth c A Qz ls S hw hl ret => ?_)
  have hx := S.1
  have hb := S.2.1
  have hl : lv_has ls 4 [(0, .ref (a 0)), (1, .int sg), (2, .int v), (3, .int dl)] := hl
  refine lv_iload_n hx hb dX0_drive_0 rfl (lv_at hl 1 rfl) ?_
  refine dc_callS (As := [.int sg]) (rest := []) S (mX0_bad l sg) (va_cwS 1 S.2.2.2.2 (lw_S q75 q76 q17 q77) rfl rfl rfl (by decide +kernel) ⟨Nat.le_of_ble_eq_true rfl, Nat.le_of_ble_eq_true rfl⟩) rfl hl.1 rfl (Nat.le_of_ble_eq_true rfl) dX0_drive_1 ⟨Nat.zero_le _, Nat.zero_le _⟩ (fun r hr => ?_)
  refine lv_if_eq (tgt := 9) hx hb dX0_drive_4 (by decide) (fun c_4 => ?_) (fun c_4 => ?_)
  · refine lv_iload_n hx hb dX0_drive_9 rfl (lv_at hl 3 rfl) ?_
    refine lv_if_lt (tgt := 19) hx hb dX0_drive_10 (by decide) (fun c_10 => ?_) (fun c_10 => ?_)
    · refine lv_bipush (v := (-3)) hx hb dX0_drive_19 (by decide) ?_
      exact ret 21 _ _ _ _ (ds, DV, WS, WV) dX0_drive_21 rfl ⟨by unfold dc_drR; rw [if_pos (hr ▸ c_4), if_neg (fun q => q.1 c_10)], by unfold dc_drQ; rw [if_neg (fun q => q.2.1 c_10)]; exact hR⟩ hw
    · refine lv_iload_n hx hb dX0_drive_13 rfl (lv_at hl 3 rfl) ?_
      refine lv_bipush (v := nI 9) hx hb dX0_drive_14 (by decide) ?_
      refine lv_icmp_le (tgt := 22) hx hb dX0_drive_16 (by decide) (fun c_16 => ?_) (fun c_16 => ?_)
      · obtain ⟨si, hs, e1⟩ := dc_bad_no (hr ▸ c_4)
        obtain ⟨u, hu0, e2⟩ := nI_of c_10
        subst e1
        subst e2
        have hu : u < 10 := by have := (nI_leI hu0 (by omega)).mp c_16; omega
        refine lv_aload_n hx hb dX0_drive_22 rfl (lv_at hl 0 rfl) ?_
        refine lv_iload_n hx hb dX0_drive_23 rfl (lv_at hl 1 rfl) ?_
        refine lv_iload_n hx hb dX0_drive_24 rfl (lv_at hl 2 rfl) ?_
        refine lv_iload_n hx hb dX0_drive_25 rfl (lv_at hl 3 rfl) ?_
        refine dc_callV (As := [.int (nI si), .int v, .int (nI u)]) (rest := []) S hw (mX0_putDown l dg d a _ V E np K Y P C Wt t dn ds DV WS WV Q si u v hs hu ht hR) (cwV 3 S.2.2.2.2 (lw_V q82 q84 qs0 q17 q85) rfl rfl rfl (by decide +kernel) ⟨Nat.le_of_ble_eq_true rfl, Nat.le_of_ble_eq_true rfl⟩) (ci := 0) rfl rfl rfl rfl hl.1 rfl (Nat.le_of_ble_eq_true rfl) dX0_drive_26 ⟨Nat.zero_le _, Nat.zero_le _⟩ (fun z H locs hz hw => ?_)
        obtain ⟨ds1, DV1, WS1, WV1⟩ := z
        have hw : dc_Wd dg d A s (dc_wX d a V E np K Y P C Wt (nI t) dn ds1 DV1 WS1 WV1) H locs := hw
        have hR1 : dc_RX t (dc_put Q si (t + u) v) ds1 DV1 WS1 WV1 := hz
        refine lv_aload_n hx hb dX0_drive_29 rfl (lv_at hl 0 rfl) ?_
        refine dc_callR (As := []) (rest := []) S hw (mX0_pending l dg d a _ V E np K Y P C Wt t dn ds1 DV1 WS1 WV1 _ hR1) (cwV 0 S.2.2.2.2 (lw_V q90 q91 q92 q17 q93) rfl rfl rfl (by decide +kernel) ⟨Nat.le_of_ble_eq_true rfl, Nat.le_of_ble_eq_true rfl⟩) (ci := 0) rfl rfl rfl rfl hl.1 rfl (Nat.le_of_ble_eq_true rfl) dX0_drive_30 ⟨Nat.zero_le _, Nat.zero_le _⟩ (fun r hr2 => ?_)
        exact ret 33 _ _ _ _ (ds1, DV1, WS1, WV1) dX0_drive_33 rfl ⟨by rw [(dc_dr_in hs hu).2]; exact hr2, by rw [(dc_dr_in hs hu).1]; exact hR1⟩ hw
      · refine lv_bipush (v := (-3)) hx hb dX0_drive_19 (by decide) ?_
        exact ret 21 _ _ _ _ (ds, DV, WS, WV) dX0_drive_21 rfl ⟨by unfold dc_drR; rw [if_pos (hr ▸ c_4), if_neg (fun q => c_16 q.2)], by unfold dc_drQ; rw [if_neg (fun q => c_16 q.2.2)]; exact hR⟩ hw
  · refine lv_iconst (v := (-1)) hx hb dX0_drive_7 (by decide) ?_
    exact ret 8 _ _ _ _ (ds, DV, WS, WV) dX0_drive_8 rfl ⟨by unfold dc_drR; rw [if_neg (fun q => c_4 (hr ▸ q))], by unfold dc_drQ; rw [if_neg (fun q => c_4 (hr ▸ q.1))]; exact hR⟩ hw
set_option maxHeartbeats 4000000 in
set_option maxRecDepth 100000 in
theorem mX0_result (l : Launch) (dg : va_G) (d : ClassId × ClassId) (a : Nat → Nat) (sz : Nat) (V : Nat → Int32) (E : Nat → Int32) (np : Int32) (K : Nat → Int32) (Y : Nat → Int32) (P : Nat → Int32) (C : Nat → Int32) (Wt : Nat → Int32) (tm : Int32) (dn : Int32) (ds : Int32) (DV : Nat → Int32) (WS : Nat → Int32) (WV : Nat → Int32) (n0 pp : Nat) (hG : dc_okT (n0, K, Y, P, C, Wt)) (hp : pp < n0) : Met l yX0_result (ws_ yX0_result cX0_result 4 (some .int)) ({ frames := 1, cells := 0, slots := 0, locals := 22 } : Room) (dc_Pre dg d [.ref (a 0), .int (nI pp)] (dc_wX d a V E np K Y P C Wt tm dn ds DV WS WV) sz) (vp_Si (fun r : Int32 => r = dc_res (n0, K, Y, P, C, Wt) V pp)) 0 0 (fun _ => False) := by
  refine dc_metR (by decide) (Nat.le_of_ble_eq_true rfl) (fun p e s m below meth c A Qz ls S hw hl ret => ?_)
  have hx := S.1
  have hb := S.2.1
  have hl : lv_has ls 4 [(0, .ref (a 0)), (1, .int (nI pp))] := hl
  have h8 : n0 ≤ 8 := hG.1
  obtain ⟨⟨kk, hkk, ek⟩, ⟨uu, huu, eu⟩, hop⟩ := hG.2 pp hp
  have ek : K pp = nI kk := ek
  have eu : Y pp = nI uu := eu
  obtain ⟨s0, hs0, e0⟩ := hop 0 (by omega)
  have e0 : dc_op (P pp) (nI 0) = nI s0 := e0
  obtain ⟨s1, hs1, e1⟩ := hop 1 (by omega)
  have e1 : dc_op (P pp) (nI 1) = nI s1 := e1
  obtain ⟨s2, hs2, e2⟩ := hop 2 (by omega)
  have e2 : dc_op (P pp) (nI 2) = nI s2 := e2
  obtain ⟨s3, hs3, e3⟩ := hop 3 (by omega)
  have e3 : dc_op (P pp) (nI 3) = nI s3 := e3
  refine lv_aload_n hx hb dX0_result_0 rfl (lv_at hl 0 rfl) ?_
  refine x0_get (v := .ref (a 1)) S hw rfl 0 (by decide) q27 rfl dX0_result_1 ?_
  refine lv_aload_n hx hb dX0_result_4 rfl (lv_at hl 0 rfl) ?_
  refine lv_iload_n hx hb dX0_result_5 rfl (lv_at hl 1 rfl) ?_
  refine lv_iconst (v := nI 0) hx hb dX0_result_6 (by decide) ?_
  refine dc_callR (As := [.int (nI pp), .int (nI 0)]) (rest := [.ref (a 1)]) S hw (mX0_part l dg d a _ V E np K Y P C Wt tm dn ds DV WS WV pp (nI 0) (by omega)) (cwV 2 S.2.2.2.2 (lw_V q109 q111 qs4 q17 q112) rfl rfl rfl (by decide +kernel) ⟨Nat.le_of_ble_eq_true rfl, Nat.le_of_ble_eq_true rfl⟩) (ci := 0) rfl rfl rfl rfl hl.1 rfl (Nat.le_of_ble_eq_true rfl) dX0_result_7 ⟨Nat.zero_le _, Nat.zero_le _⟩ (fun r0 hr0 => ?_)
  rw [e0] at hr0
  subst hr0
  refine dc_ild S hw 1 rfl (i := s0) (by omega) (by decide) dX0_result_10 ?_
  refine lv_istore_n (lv' := [(2, .int (V s0)), (0, .ref (a 0)), (1, .int (nI pp))]) hx hb dX0_result_11 rfl hl (by decide) rfl (fun ls hl => ?_)
  refine lv_aload_n hx hb dX0_result_12 rfl (lv_at hl 1 rfl) ?_
  refine x0_get (v := .ref (a 1)) S hw rfl 0 (by decide) q27 rfl dX0_result_13 ?_
  refine lv_aload_n hx hb dX0_result_16 rfl (lv_at hl 1 rfl) ?_
  refine lv_iload_n hx hb dX0_result_17 rfl (lv_at hl 2 rfl) ?_
  refine lv_iconst (v := nI 1) hx hb dX0_result_18 (by decide) ?_
  refine dc_callR (As := [.int (nI pp), .int (nI 1)]) (rest := [.ref (a 1)]) S hw (mX0_part l dg d a _ V E np K Y P C Wt tm dn ds DV WS WV pp (nI 1) (by omega)) (cwV 2 S.2.2.2.2 (lw_V q109 q111 qs4 q17 q112) rfl rfl rfl (by decide +kernel) ⟨Nat.le_of_ble_eq_true rfl, Nat.le_of_ble_eq_true rfl⟩) (ci := 0) rfl rfl rfl rfl hl.1 rfl (Nat.le_of_ble_eq_true rfl) dX0_result_19 ⟨Nat.zero_le _, Nat.zero_le _⟩ (fun r1 hr1 => ?_)
  rw [e1] at hr1
  subst hr1
  refine dc_ild S hw 1 rfl (i := s1) (by omega) (by decide) dX0_result_22 ?_
  refine lv_istore_n (lv' := [(3, .int (V s1)), (2, .int (V s0)), (0, .ref (a 0)), (1, .int (nI pp))]) hx hb dX0_result_23 rfl hl (by decide) rfl (fun ls hl => ?_)
  refine lv_aload_n hx hb dX0_result_24 rfl (lv_at hl 2 rfl) ?_
  refine x0_get (v := .ref (a 3)) S hw rfl 3 (by decide) q30 rfl dX0_result_25 ?_
  refine lv_iload_n hx hb dX0_result_28 rfl (lv_at hl 3 rfl) ?_
  refine dc_ild S hw 3 rfl (i := pp) (by omega) (by decide) dX0_result_29 ?_
  refine dc_top (y := nI kk) ek ?_
  rcases (show kk = 0 ∨ kk = 1 ∨ kk = 2 ∨ kk = 3 ∨ kk = 4 ∨ kk = 5 by omega) with h | h | h | h | h | h <;> subst h
  · refine lv_tableIn (off := 34) (tgt := 64) hx hb dX0_result_30 (by decide) (by decide) rfl (by decide) ?_
    refine lv_iload_n hx hb dX0_result_64 rfl (lv_at hl 1 rfl) ?_
    refine lv_iload_n hx hb dX0_result_65 rfl (lv_at hl 0 rfl) ?_
    refine lv_iadd hx hb dX0_result_66 ?_
    exact ret 67 _ _ dX0_result_67 rfl (dc_res_k0 (G := (n0, K, Y, P, C, Wt)) e0 e1 e2 hs0 hs1 hs2 ek).symm
  · refine lv_tableIn (off := 38) (tgt := 68) hx hb dX0_result_30 (by decide) (by decide) rfl (by decide) ?_
    refine lv_iload_n hx hb dX0_result_68 rfl (lv_at hl 1 rfl) ?_
    refine lv_iload_n hx hb dX0_result_69 rfl (lv_at hl 0 rfl) ?_
    refine lv_iand hx hb dX0_result_70 ?_
    exact ret 71 _ _ dX0_result_71 rfl (dc_res_k1 (G := (n0, K, Y, P, C, Wt)) e0 e1 e2 hs0 hs1 hs2 ek).symm
  · refine lv_tableIn (off := 42) (tgt := 72) hx hb dX0_result_30 (by decide) (by decide) rfl (by decide) ?_
    refine lv_iload_n hx hb dX0_result_72 rfl (lv_at hl 1 rfl) ?_
    refine lv_iload_n hx hb dX0_result_73 rfl (lv_at hl 0 rfl) ?_
    refine lv_ixor hx hb dX0_result_74 ?_
    exact ret 75 _ _ dX0_result_75 rfl (dc_res_k2 (G := (n0, K, Y, P, C, Wt)) e0 e1 e2 hs0 hs1 hs2 ek).symm
  · refine lv_tableIn (off := 46) (tgt := 76) hx hb dX0_result_30 (by decide) (by decide) rfl (by decide) ?_
    refine lv_iload_n hx hb dX0_result_76 rfl (lv_at hl 1 rfl) ?_
    refine lv_aload_n hx hb dX0_result_77 rfl (lv_at hl 2 rfl) ?_
    refine x0_get (v := .ref (a 6)) S hw rfl 6 (by decide) q33 rfl dX0_result_78 ?_
    refine lv_iload_n hx hb dX0_result_81 rfl (lv_at hl 3 rfl) ?_
    refine dc_ild S hw 6 rfl (i := pp) (by omega) (by decide) dX0_result_82 ?_
    refine lv_iadd hx hb dX0_result_83 ?_
    exact ret 84 _ _ dX0_result_84 rfl (dc_res_k3 (G := (n0, K, Y, P, C, Wt)) e0 e1 e2 hs0 hs1 hs2 ek).symm
  · refine lv_tableIn (off := 55) (tgt := 85) hx hb dX0_result_30 (by decide) (by decide) rfl (by decide) ?_
    refine lv_aload_n hx hb dX0_result_85 rfl (lv_at hl 2 rfl) ?_
    refine x0_get (v := .ref (a 1)) S hw rfl 0 (by decide) q27 rfl dX0_result_86 ?_
    refine lv_aload_n hx hb dX0_result_89 rfl (lv_at hl 2 rfl) ?_
    refine lv_iload_n hx hb dX0_result_90 rfl (lv_at hl 3 rfl) ?_
    refine lv_iconst (v := nI 2) hx hb dX0_result_91 (by decide) ?_
    refine dc_callR (As := [.int (nI pp), .int (nI 2)]) (rest := [.ref (a 1)]) S hw (mX0_part l dg d a _ V E np K Y P C Wt tm dn ds DV WS WV pp (nI 2) (by omega)) (cwV 2 S.2.2.2.2 (lw_V q109 q111 qs4 q17 q112) rfl rfl rfl (by decide +kernel) ⟨Nat.le_of_ble_eq_true rfl, Nat.le_of_ble_eq_true rfl⟩) (ci := 0) rfl rfl rfl rfl hl.1 rfl (Nat.le_of_ble_eq_true rfl) dX0_result_92 ⟨Nat.zero_le _, Nat.zero_le _⟩ (fun r2 hr2 => ?_)
    rw [e2] at hr2
    subst hr2
    refine dc_ild S hw 1 rfl (i := s2) (by omega) (by decide) dX0_result_95 ?_
    refine lv_if_eq (tgt := 103) hx hb dX0_result_96 (by decide) (fun c_96 => ?_) (fun c_96 => ?_)
    · refine lv_iload_n hx hb dX0_result_103 rfl (lv_at hl 0 rfl) ?_
      exact ret 104 _ _ dX0_result_104 rfl (by rw [dc_res_k4 (G := (n0, K, Y, P, C, Wt)) e0 e1 e2 hs0 hs1 hs2 ek, if_pos c_96])
    · refine lv_iload_n hx hb dX0_result_99 rfl (lv_at hl 1 rfl) ?_
      refine lv_goto (tgt := 104) hx hb dX0_result_100 (by decide) ?_
      exact ret 104 _ _ dX0_result_104 rfl (by rw [dc_res_k4 (G := (n0, K, Y, P, C, Wt)) e0 e1 e2 hs0 hs1 hs2 ek, if_neg c_96])
  · refine lv_tableOut (tgt := 105) hx hb dX0_result_30 (Or.inr (by decide)) (by decide) ?_
    refine lv_iload_n hx hb dX0_result_105 rfl (lv_at hl 1 rfl) ?_
    refine lv_iconst (v := (-1)) hx hb dX0_result_106 (by decide) ?_
    refine lv_ixor hx hb dX0_result_107 ?_
    exact ret 108 _ _ dX0_result_108 rfl (dc_res_k5 (G := (n0, K, Y, P, C, Wt)) e0 e1 e2 hs0 hs1 hs2 ek).symm
end
section
set_option maxRecDepth 100000
set_option maxHeartbeats 4000000 in
set_option maxRecDepth 100000 in
theorem mX0_carryOut (l : Launch) (dg : va_G) (d : ClassId × ClassId) (a : Nat → Nat) (sz : Nat) (V : Nat → Int32) (E : Nat → Int32) (np : Int32) (K : Nat → Int32) (Y : Nat → Int32) (P : Nat → Int32) (C : Nat → Int32) (Wt : Nat → Int32) (t : Nat) (dn : Int32) (ds : Int32) (DV : Nat → Int32) (WS : Nat → Int32) (WV : Nat → Int32) (Q : dc_Q) (n0 pp : Nat) (hG : dc_okT (n0, K, Y, P, C, Wt)) (hp : pp < n0) (ht : t < 2 ^ 30) (hR : dc_RX t Q ds DV WS WV) : Met l yX0_carryOut (ws_ yX0_carryOut cX0_carryOut 4 none) ({ frames := 2, cells := 0, slots := 0, locals := 46 } : Room) (dc_Pre dg d [.ref (a 0), .int (nI pp)] (dc_wX d a V E np K Y P C Wt (nI t) dn ds DV WS WV) sz) (va_Qv (fun (z : Int32 × (Nat → Int32) × (Nat → Int32) × (Nat → Int32)) => dc_RX t (dc_cry (n0, K, Y, P, C, Wt) V t Q pp) z.1 z.2.1 z.2.2.1 z.2.2.2) (dc_B dg d (va_A (dc_wX d a V E np K Y P C Wt (nI t) dn ds DV WS WV) sz) (fun z : Int32 × (Nat → Int32) × (Nat → Int32) × (Nat → Int32) => dc_wX d a V E np K Y P C Wt (nI t) dn z.1 z.2.1 z.2.2.1 z.2.2.2)) (va_A (dc_wX d a V E np K Y P C Wt (nI t) dn ds DV WS WV) sz)) 0 0 (va_A (dc_wX d a V E np K Y P C Wt (nI t) dn ds DV WS WV) sz) := by
  refine dc_metV (by decide) (Nat.le_of_ble_eq_true rfl) (fun p e s m below meth c A Qz ls S hw hl ret => ?_)
  have hx := S.1
  have hb := S.2.1
  have hl : lv_has ls 4 [(0, .ref (a 0)), (1, .int (nI pp))] := hl
  have h8 : n0 ≤ 8 := hG.1
  obtain ⟨⟨kk, hkk, ek⟩, ⟨uu, huu, eu⟩, hop⟩ := hG.2 pp hp
  have ek : K pp = nI kk := ek
  have eu : Y pp = nI uu := eu
  obtain ⟨s0, hs0, e0⟩ := hop 0 (by omega)
  have e0 : dc_op (P pp) (nI 0) = nI s0 := e0
  obtain ⟨s1, hs1, e1⟩ := hop 1 (by omega)
  have e1 : dc_op (P pp) (nI 1) = nI s1 := e1
  obtain ⟨s2, hs2, e2⟩ := hop 2 (by omega)
  have e2 : dc_op (P pp) (nI 2) = nI s2 := e2
  obtain ⟨s3, hs3, e3⟩ := hop 3 (by omega)
  have e3 : dc_op (P pp) (nI 3) = nI s3 := e3
  refine lv_aload_n hx hb dX0_carryOut_0 rfl (lv_at hl 0 rfl) ?_
  refine lv_iload_n hx hb dX0_carryOut_1 rfl (lv_at hl 1 rfl) ?_
  refine dc_callR (As := [.int (nI pp)]) (rest := []) S hw (mX0_result l dg d a _ V E np K Y P C Wt (nI t) dn ds DV WS WV n0 pp hG hp) (cwV 1 S.2.2.2.2 (lw_V q105 q107 qs3 q17 q108) rfl rfl rfl (by decide +kernel) ⟨Nat.le_of_ble_eq_true rfl, Nat.le_of_ble_eq_true rfl⟩) (ci := 0) rfl rfl rfl rfl hl.1 rfl (Nat.le_of_ble_eq_true rfl) dX0_carryOut_2 ⟨Nat.zero_le _, Nat.zero_le _⟩ (fun v hv => ?_)
  refine lv_istore_n (lv' := [(2, .int v), (0, .ref (a 0)), (1, .int (nI pp))]) hx hb dX0_carryOut_5 rfl hl (by decide) rfl (fun ls hl => ?_)
  refine lv_aload_n hx hb dX0_carryOut_6 rfl (lv_at hl 1 rfl) ?_
  refine lv_iload_n hx hb dX0_carryOut_7 rfl (lv_at hl 2 rfl) ?_
  refine lv_iconst (v := nI 3) hx hb dX0_carryOut_8 (by decide) ?_
  refine dc_callR (As := [.int (nI pp), .int (nI 3)]) (rest := []) S hw (mX0_part l dg d a _ V E np K Y P C Wt (nI t) dn ds DV WS WV pp (nI 3) (by omega)) (cwV 2 S.2.2.2.2 (lw_V q109 q111 qs4 q17 q112) rfl rfl rfl (by decide +kernel) ⟨Nat.le_of_ble_eq_true rfl, Nat.le_of_ble_eq_true rfl⟩) (ci := 0) rfl rfl rfl rfl hl.1 rfl (Nat.le_of_ble_eq_true rfl) dX0_carryOut_9 ⟨Nat.zero_le _, Nat.zero_le _⟩ (fun r3 hr3 => ?_)
  rw [e3] at hr3
  subst hr3
  refine lv_istore_n (lv' := [(3, .int (nI s3)), (2, .int v), (0, .ref (a 0)), (1, .int (nI pp))]) hx hb dX0_carryOut_12 rfl hl (by decide) rfl (fun ls hl => ?_)
  refine lv_aload_n hx hb dX0_carryOut_13 rfl (lv_at hl 2 rfl) ?_
  refine lv_iload_n hx hb dX0_carryOut_14 rfl (lv_at hl 0 rfl) ?_
  refine lv_iload_n hx hb dX0_carryOut_15 rfl (lv_at hl 1 rfl) ?_
  refine lv_aload_n hx hb dX0_carryOut_16 rfl (lv_at hl 2 rfl) ?_
  refine x0_get (v := .ref (a 4)) S hw rfl 4 (by decide) q31 rfl dX0_carryOut_17 ?_
  refine lv_iload_n hx hb dX0_carryOut_20 rfl (lv_at hl 3 rfl) ?_
  refine dc_ild S hw 4 rfl (i := pp) (by omega) (by decide) dX0_carryOut_21 ?_
  refine dc_top (y := nI uu) eu ?_
  refine dc_callV (As := [.int (nI s3), .int v, .int (nI uu)]) (rest := []) S hw (mX0_putDown l dg d a _ V E np K Y P C Wt t dn ds DV WS WV Q s3 uu v hs3 (by omega) ht hR) (cwV 3 S.2.2.2.2 (lw_V q82 q84 qs0 q17 q85) rfl rfl rfl (by decide +kernel) ⟨Nat.le_of_ble_eq_true rfl, Nat.le_of_ble_eq_true rfl⟩) (ci := 0) rfl rfl rfl rfl hl.1 rfl (Nat.le_of_ble_eq_true rfl) dX0_carryOut_22 ⟨Nat.zero_le _, Nat.zero_le _⟩ (fun z H locs hz hw => ?_)
  obtain ⟨ds1, DV1, WS1, WV1⟩ := z
  have hw : dc_Wd dg d A s (dc_wX d a V E np K Y P C Wt (nI t) dn ds1 DV1 WS1 WV1) H locs := hw
  have hR1 : dc_RX t (dc_put Q s3 (t + uu) v) ds1 DV1 WS1 WV1 := hz
  exact ret 25 _ _ _ (ds1, DV1, WS1, WV1) dX0_carryOut_25 (by rw [dc_cry_of (G := (n0, K, Y, P, C, Wt)) e3 eu hs3 huu, ← hv]; exact hR1) hw
set_option maxHeartbeats 4000000 in
set_option maxRecDepth 100000 in
theorem mX0_poke (l : Launch) (dg : va_G) (d : ClassId × ClassId) (a : Nat → Nat) (sz : Nat) (V : Nat → Int32) (E : Nat → Int32) (n0 : Nat) (K : Nat → Int32) (Y : Nat → Int32) (P : Nat → Int32) (C : Nat → Int32) (Wt : Nat → Int32) (t : Nat) (dn : Int32) (ds : Int32) (DV : Nat → Int32) (WS : Nat → Int32) (WV : Nat → Int32) (Q : dc_Q) (x : Int32) (hG : dc_okT (n0, K, Y, P, C, Wt)) (ht : t < 2 ^ 30) (hR : dc_RX t Q ds DV WS WV) : Met l yX0_poke (ws_ yX0_poke cX0_poke 2 (some .int)) ({ frames := 3, cells := 0, slots := 0, locals := 69 } : Room) (dc_Pre dg d [.ref (a 0), .int x] (dc_wX d a V E (nI n0) K Y P C Wt (nI t) dn ds DV WS WV) sz) (va_Qi (fun (r : Int32) (z : Int32 × (Nat → Int32) × (Nat → Int32) × (Nat → Int32)) => r = dc_pkR (n0, K, Y, P, C, Wt) V t Q x ∧ dc_RX t (dc_pkQ (n0, K, Y, P, C, Wt) V t Q x) z.1 z.2.1 z.2.2.1 z.2.2.2) (dc_B dg d (va_A (dc_wX d a V E (nI n0) K Y P C Wt (nI t) dn ds DV WS WV) sz) (fun z : Int32 × (Nat → Int32) × (Nat → Int32) × (Nat → Int32) => dc_wX d a V E (nI n0) K Y P C Wt (nI t) dn z.1 z.2.1 z.2.2.1 z.2.2.2)) (va_A (dc_wX d a V E (nI n0) K Y P C Wt (nI t) dn ds DV WS WV) sz)) 0 0 (va_A (dc_wX d a V E (nI n0) K Y P C Wt (nI t) dn ds DV WS WV) sz) := by
  refine dc_metI (by decide) (Nat.le_of_ble_eq_true rfl) (fun p e s m below meth c A Qz ls S hw hl ret => ?_)
  have hx := S.1
  have hb := S.2.1
  have hl : lv_has ls 2 [(0, .ref (a 0)), (1, .int x)] := hl
  have h8 : n0 ≤ 8 := hG.1
  refine lv_iload_n hx hb dX0_poke_0 rfl (lv_at hl 1 rfl) ?_
  refine lv_if_lt (tgt := 12) hx hb dX0_poke_1 (by decide) (fun c_1 => ?_) (fun c_1 => ?_)
  · refine lv_bipush (v := (-2)) hx hb dX0_poke_12 (by decide) ?_
    exact ret 14 _ _ _ _ (ds, DV, WS, WV) dX0_poke_14 rfl ⟨by unfold dc_pkR; rw [if_neg (fun q => q.1 c_1)], by unfold dc_pkQ; rw [if_neg (fun q => q.1 c_1)]; exact hR⟩ hw
  · refine lv_iload_n hx hb dX0_poke_4 rfl (lv_at hl 1 rfl) ?_
    refine lv_aload_n hx hb dX0_poke_5 rfl (lv_at hl 0 rfl) ?_
    refine x0_get (v := .int (nI n0)) S hw rfl 2 (by decide) q29 rfl dX0_poke_6 ?_
    refine lv_icmp_lt (tgt := 15) hx hb dX0_poke_9 (by decide) (fun c_9 => ?_) (fun c_9 => ?_)
    · obtain ⟨pp, hpp, e1⟩ := nI_of c_1
      subst e1
      have hp : pp < n0 := (nI_ltI hpp (by omega)).mp c_9
      refine lv_aload_n hx hb dX0_poke_15 rfl (lv_at hl 0 rfl) ?_
      refine lv_iload_n hx hb dX0_poke_16 rfl (lv_at hl 1 rfl) ?_
      refine dc_callV (As := [.int (nI pp)]) (rest := []) S hw (mX0_carryOut l dg d a _ V E (nI n0) K Y P C Wt t dn ds DV WS WV Q n0 pp hG hp ht hR) (cwV 1 S.2.2.2.2 (lw_V q101 q103 qs2 q17 q104) rfl rfl rfl (by decide +kernel) ⟨Nat.le_of_ble_eq_true rfl, Nat.le_of_ble_eq_true rfl⟩) (ci := 0) rfl rfl rfl rfl hl.1 rfl (Nat.le_of_ble_eq_true rfl) dX0_poke_17 ⟨Nat.zero_le _, Nat.zero_le _⟩ (fun z H locs hz hw => ?_)
      obtain ⟨ds1, DV1, WS1, WV1⟩ := z
      have hw : dc_Wd dg d A s (dc_wX d a V E (nI n0) K Y P C Wt (nI t) dn ds1 DV1 WS1 WV1) H locs := hw
      have hR1 : dc_RX t (dc_cry (n0, K, Y, P, C, Wt) V t Q pp) ds1 DV1 WS1 WV1 := hz
      refine lv_aload_n hx hb dX0_poke_20 rfl (lv_at hl 0 rfl) ?_
      refine dc_callR (As := []) (rest := []) S hw (mX0_pending l dg d a _ V E (nI n0) K Y P C Wt t dn ds1 DV1 WS1 WV1 _ hR1) (cwV 0 S.2.2.2.2 (lw_V q90 q91 q92 q17 q93) rfl rfl rfl (by decide +kernel) ⟨Nat.le_of_ble_eq_true rfl, Nat.le_of_ble_eq_true rfl⟩) (ci := 0) rfl rfl rfl rfl hl.1 rfl (Nat.le_of_ble_eq_true rfl) dX0_poke_21 ⟨Nat.zero_le _, Nat.zero_le _⟩ (fun r hr2 => ?_)
      exact ret 24 _ _ _ _ (ds1, DV1, WS1, WV1) dX0_poke_24 rfl ⟨by rw [(dc_pk_in hG hp).2]; exact hr2, by rw [(dc_pk_in hG hp).1]; exact hR1⟩ hw
    · refine lv_bipush (v := (-2)) hx hb dX0_poke_12 (by decide) ?_
      exact ret 14 _ _ _ _ (ds, DV, WS, WV) dX0_poke_14 rfl ⟨by unfold dc_pkR; rw [if_neg (fun q => c_9 q.2)], by unfold dc_pkQ; rw [if_neg (fun q => c_9 q.2)]; exact hR⟩ hw
set_option maxHeartbeats 4000000 in
set_option maxRecDepth 100000 in
theorem mX0_nextUnits (l : Launch) (dg : va_G) (d : ClassId × ClassId) (a : Nat → Nat) (sz : Nat) (V : Nat → Int32) (E : Nat → Int32) (np : Int32) (K : Nat → Int32) (Y : Nat → Int32) (P : Nat → Int32) (C : Nat → Int32) (Wt : Nat → Int32) (t : Nat) (dn : Int32) (ds : Int32) (DV : Nat → Int32) (WS : Nat → Int32) (WV : Nat → Int32) (Q : dc_Q) (ht : t < 2 ^ 30) (hR : dc_RX t Q ds DV WS WV) : Met l yX0_nextUnits (ws_ yX0_nextUnits cX0_nextUnits 2 (some .int)) ({ frames := 1, cells := 0, slots := 0, locals := 21 } : Room) (dc_Pre dg d [.ref (a 0)] (dc_wX d a V E np K Y P C Wt (nI t) dn ds DV WS WV) sz) (vp_Si (fun r : Int32 => (dc_emp Q ∧ r = -1) ∨ ∃ u, u < 10 ∧ dc_nx Q (t + u) ∧ r = nI u)) 0 0 (fun _ => False) := by
  refine dc_metR (by decide) (Nat.le_of_ble_eq_true rfl) (fun p e s m below meth c A Qz ls S hw hl ret => ?_)
  have hx := S.1
  have hb := S.2.1
  have hl : lv_has ls 2 [(0, .ref (a 0))] := hl
  have lp : ∀ (n : Nat) (k : Nat), 1 ≤ k → k ≤ 10 → 11 ≤ k + n → (∀ T, T < t + k → ∀ si, Q T si = none) → ∀ ls : Array Slot, lv_has ls 2 [(1, .int (nI k)), (0, .ref (a 0))] → W p l e ({ frames := 1, cells := 0, slots := 0, locals := 21 } : Room) s m ([.ref (a 0)] : List Value).toArray below meth c s.heap [] 0 0 Qz (F0 m 11 ls []) := by
    intro n
    induction n with
    | zero =>
      intro k hk1 hk hn hno ls hl
      exact absurd hn (by omega)
    | succ n ih =>
      intro k hk1 hk hn hno ls hl
      refine lv_iload_n hx hb dX0_nextUnits_11 rfl (lv_at hl 0 rfl) ?_
      refine lv_bipush (v := nI 10) hx hb dX0_nextUnits_12 (by decide) ?_
      refine dc_ge (tgt := 38) hx hb (by omega) (by omega) dX0_nextUnits_14 (by decide) (fun c_14 => ?_) (fun c_14 => ?_)
      · refine lv_iconst (v := (-1)) hx hb dX0_nextUnits_38 (by decide) ?_
        exact ret 39 _ _ dX0_nextUnits_39 rfl (Or.inl ⟨fun T si => by exact (Nat.lt_or_ge T (t + 10)).elim (fun q => by exact hno T (by omega) si) (fun q => by exact dc_ok_far hR.1 (by omega)), rfl⟩)
      · refine lv_aload_n hx hb dX0_nextUnits_17 rfl (lv_at hl 1 rfl) ?_
        refine x0_get (v := .ref (a 9)) S hw rfl 12 (by decide) q39 rfl dX0_nextUnits_18 ?_
        refine lv_aload_n hx hb dX0_nextUnits_21 rfl (lv_at hl 1 rfl) ?_
        refine lv_iload_n hx hb dX0_nextUnits_22 rfl (lv_at hl 0 rfl) ?_
        refine dc_callR (As := [.int (nI k)]) (rest := [.ref (a 9)]) S hw (mX0_slotAfter l dg d a _ V E np K Y P C Wt t dn ds DV WS WV k (by omega)) (cwV 1 S.2.2.2.2 (lw_V q86 q88 qs1 q17 q89) rfl rfl rfl (by decide +kernel) ⟨Nat.le_of_ble_eq_true rfl, Nat.le_of_ble_eq_true rfl⟩) (ci := 0) rfl rfl rfl rfl hl.1 rfl (Nat.le_of_ble_eq_true rfl) dX0_nextUnits_23 ⟨Nat.zero_le _, Nat.zero_le _⟩ (fun r hr => ?_)
        subst hr
        refine dc_ild S hw 9 rfl (i := (t + k) % 10) (by omega) (by decide) dX0_nextUnits_26 ?_
        refine lv_if_eq (tgt := 32) hx hb dX0_nextUnits_27 (by decide) (fun c_27 => ?_) (fun c_27 => ?_)
        · refine lv_iinc (v := nI (k + 1)) (lv' := [(1, .int (nI (k + 1))), (0, .ref (a 0))]) hx hb dX0_nextUnits_32 hl (k := 0) rfl (dc_inc _) (by decide) rfl (fun ls hl => ?_)
          refine lv_goto (tgt := 11) hx hb dX0_nextUnits_35 (by decide) ?_
          exact ih (k + 1) (by omega) (by omega) (by omega) (fun T hT si => by exact (Nat.lt_or_ge T (t + k)).elim (fun q => by exact hno T q si) (fun q => by rw [show T = t + k by omega]; exact rx_nou hR (by omega) (by omega) c_27 si)) ls (lv_sub hl [0, 1] rfl)
        · refine lv_iload_n hx hb dX0_nextUnits_30 rfl (lv_at hl 0 rfl) ?_
          exact ret 31 _ _ dX0_nextUnits_31 rfl (Or.inr ⟨k, by omega, rx_nxu hR (by omega) (by omega) hno c_27, rfl⟩)
  refine lv_aload_n hx hb dX0_nextUnits_0 rfl (lv_at hl 0 rfl) ?_
  refine x0_get (v := .int ds) S hw rfl 10 (by decide) q37 rfl dX0_nextUnits_1 ?_
  refine lv_if_eq (tgt := 9) hx hb dX0_nextUnits_4 (by decide) (fun c_4 => ?_) (fun c_4 => ?_)
  · refine lv_iconst (v := nI 1) hx hb dX0_nextUnits_9 (by decide) ?_
    refine lv_istore_n (lv' := [(1, .int (nI 1)), (0, .ref (a 0))]) hx hb dX0_nextUnits_10 rfl hl (by decide) rfl (fun ls hl => ?_)
    exact lp 10 1 (by omega) (by omega) (by omega) (fun T hT si => by exact (Nat.lt_or_ge T t).elim (fun q => by exact dc_ok_far hR.1 (by omega)) (fun q => by rw [show T = t by omega]; exact rx_no0 hR c_4 si)) ls (lv_sub hl [0, 1] rfl)
  · refine lv_iconst (v := nI 0) hx hb dX0_nextUnits_7 (by decide) ?_
    exact ret 8 _ _ dX0_nextUnits_8 rfl (Or.inr ⟨0, by omega, rx_nx0 hR c_4, rfl⟩)
end
section
set_option maxRecDepth 100000
set_option maxHeartbeats 4000000 in
set_option maxRecDepth 100000 in
theorem mX0_takeChanges (l : Launch) (dg : va_G) (d : ClassId × ClassId) (a : Nat → Nat) (sz : Nat) (V : Nat → Int32) (E : Nat → Int32) (np : Int32) (K : Nat → Int32) (Y : Nat → Int32) (P : Nat → Int32) (C : Nat → Int32) (Wt : Nat → Int32) (t : Nat) (dn : Int32) (ds : Int32) (DV : Nat → Int32) (WS : Nat → Int32) (WV : Nat → Int32) (Q : dc_Q) (u : Nat) (hu : u < 10) (hnx : dc_nx Q (t + u)) (ht : t < 2 ^ 30) (hR : dc_RX t Q ds DV WS WV) : Met l yX0_takeChanges (ws_ yX0_takeChanges cX0_takeChanges 6 (some .int)) ({ frames := 2, cells := 0, slots := 0, locals := 45 } : Room) (dc_Pre dg d [.ref (a 0), .int (nI u)] (dc_wX d a V E np K Y P C Wt (nI t) dn ds DV WS WV) sz) (va_Qi (fun (r : Int32) (z : (Nat → Int32) × (Nat → Int32) × Int32 × (Nat → Int32)) => r = dc_mk (dc_ch Q (t + u) V) 12 ∧ z.1 = dc_tV Q (t + u) V ∧ z.2.1 = dc_tE Q (t + u) V E ∧ dc_RX (t + u) (dc_tak Q (t + u)) z.2.2.1 DV z.2.2.2 WV) (dc_B dg d (va_A (dc_wX d a V E np K Y P C Wt (nI t) dn ds DV WS WV) sz) (fun z : (Nat → Int32) × (Nat → Int32) × Int32 × (Nat → Int32) => dc_wX d a z.1 z.2.1 np K Y P C Wt (nI (t + u)) dn z.2.2.1 DV z.2.2.2 WV)) (va_A (dc_wX d a V E np K Y P C Wt (nI t) dn ds DV WS WV) sz)) 0 0 (va_A (dc_wX d a V E np K Y P C Wt (nI t) dn ds DV WS WV) sz) := by
  refine dc_metI (by decide) (Nat.le_of_ble_eq_true rfl) (fun p e s m below meth c A Qz ls S hw hl ret => ?_)
  have hx := S.1
  have hb := S.2.1
  have hl : lv_has ls 6 [(0, .ref (a 0)), (1, .int (nI u))] := hl
  refine lv_iconst (v := nI 0) hx hb dX0_takeChanges_0 (by decide) ?_
  refine lv_istore_n (lv' := [(2, .int (nI 0)), (0, .ref (a 0)), (1, .int (nI u))]) hx hb dX0_takeChanges_1 rfl hl (by decide) rfl (fun ls hl => ?_)
  refine lv_iload_n hx hb dX0_takeChanges_2 rfl (lv_at hl 2 rfl) ?_
  refine dc_ifn (tgt := 60) hx hb (by omega) dX0_takeChanges_3 (by decide) (fun c_3 => ?_) (fun c_3 => ?_)
  · refine lv_aload_n hx hb dX0_takeChanges_60 rfl (lv_at hl 1 rfl) ?_
    refine lv_dup hx hb dX0_takeChanges_61 rfl ?_
    refine x0_get (v := .int (nI t)) S hw rfl 8 (by decide) q35 rfl dX0_takeChanges_62 ?_
    refine lv_iload_n hx hb dX0_takeChanges_65 rfl (lv_at hl 2 rfl) ?_
    refine dc_addN hx hb dX0_takeChanges_66 ?_
    refine x0_put (ws' := dc_wX d a V E np K Y P C Wt (nI (t + u)) dn ds DV WS WV) S hw rfl 8 (by decide) q35 rfl (by decide +kernel) (Nat.le_of_ble_eq_true rfl) rfl dX0_takeChanges_67 (fun H locs hw => ?_)
    refine lv_aload_n hx hb dX0_takeChanges_70 rfl (lv_at hl 1 rfl) ?_
    refine lv_iconst (v := nI 0) hx hb dX0_takeChanges_71 (by decide) ?_
    refine dc_callR (As := [.int (nI 0)]) (rest := []) S hw (mX0_slotAfter l dg d a _ V E np K Y P C Wt (t + u) dn ds DV WS WV 0 (by omega)) (cwV 1 S.2.2.2.2 (lw_V q86 q88 qs1 q17 q89) rfl rfl rfl (by decide +kernel) ⟨Nat.le_of_ble_eq_true rfl, Nat.le_of_ble_eq_true rfl⟩) (ci := 0) rfl rfl rfl rfl hl.1 rfl (Nat.le_of_ble_eq_true rfl) dX0_takeChanges_72 ⟨Nat.zero_le _, Nat.zero_le _⟩ (fun r hr => ?_)
    subst hr
    refine dc_top (y := nI ((t + u) % 10)) rfl ?_
    refine lv_istore_n (lv' := [(3, .int (nI ((t + u) % 10))), (2, .int (nI 0)), (0, .ref (a 0)), (1, .int (nI u))]) hx hb dX0_takeChanges_75 rfl hl (by decide) rfl (fun ls hl => ?_)
    refine lv_aload_n hx hb dX0_takeChanges_76 rfl (lv_at hl 2 rfl) ?_
    refine x0_get (v := .ref (a 9)) S hw rfl 12 (by decide) q39 rfl dX0_takeChanges_77 ?_
    refine lv_iload_n hx hb dX0_takeChanges_80 rfl (lv_at hl 0 rfl) ?_
    refine dc_ild S hw 9 rfl (i := (t + u) % 10) (by omega) (by decide) dX0_takeChanges_81 ?_
    refine lv_istore (lv' := [(4, .int (WS ((t + u) % 10))), (3, .int (nI ((t + u) % 10))), (2, .int (nI 0)), (0, .ref (a 0)), (1, .int (nI u))]) hx hb dX0_takeChanges_82 hl (by decide) rfl (fun ls hl => ?_)
    refine lv_aload_n hx hb dX0_takeChanges_84 rfl (lv_at hl 3 rfl) ?_
    refine x0_get (v := .ref (a 9)) S hw rfl 12 (by decide) q39 rfl dX0_takeChanges_85 ?_
    refine lv_iload_n hx hb dX0_takeChanges_88 rfl (lv_at hl 1 rfl) ?_
    refine lv_iconst (v := nI 0) hx hb dX0_takeChanges_89 (by decide) ?_
    refine dc_ist (ws' := dc_wX d a V E np K Y P C Wt (nI (t + u)) dn ds DV (upd WS ((t + u) % 10) (nI 0)) WV) S hw 9 rfl (i := (t + u) % 10) (by omega) (by decide) rfl dX0_takeChanges_90 (fun H locs hw => ?_)
    refine lv_iconst (v := nI 0) hx hb dX0_takeChanges_91 (by decide) ?_
    refine lv_istore (lv' := [(5, .int (nI 0)), (4, .int (WS ((t + u) % 10))), (3, .int (nI ((t + u) % 10))), (2, .int (nI 0)), (0, .ref (a 0)), (1, .int (nI u))]) hx hb dX0_takeChanges_92 hl (by decide) rfl (fun ls hl => ?_)
    have lp : ∀ (n : Nat) (k : Nat), k ≤ 12 → 13 ≤ k + n → ∀ (H : Heap) (locs : List Loc), dc_Wd dg d A s (dc_wX d a (fa_fill (dc_tV Q (t + u) V) V k) (fa_fill (dc_tE Q (t + u) V E) E k) np K Y P C Wt (nI (t + u)) dn ds DV (upd WS ((t + u) % 10) (nI 0)) WV) H locs → ∀ ls : Array Slot, lv_has ls 6 [(5, .int (nI k)), (2, .int (dc_mk (dc_ch Q (t + u) V) k)), (4, .int (WS ((t + u) % 10))), (3, .int (nI ((t + u) % 10))), (1, .int (nI u)), (0, .ref (a 0))] → W p l e ({ frames := 2, cells := 0, slots := 0, locals := 45 } : Room) s m ([.ref (a 0), .int (nI u)] : List Value).toArray below meth c H locs 0 0 Qz (F0 m 94 ls []) := by
      intro n
      induction n with
      | zero =>
        intro k hk hn H locs hw ls hl
        exact absurd hn (by omega)
      | succ n ih =>
        intro k hk hn H locs hw ls hl
        refine lv_iload hx hb dX0_takeChanges_94 (lv_at hl 0 rfl) ?_
        refine lv_bipush (v := nI 12) hx hb dX0_takeChanges_96 (by decide) ?_
        refine dc_ge (tgt := 139) hx hb (by omega) (by omega) dX0_takeChanges_98 (by decide) (fun c_98 => ?_) (fun c_98 => ?_)
        · have ek : k = 12 := by omega
          subst ek
          refine lv_iload_n hx hb dX0_takeChanges_139 rfl (lv_at hl 1 rfl) ?_
          exact ret 140 _ _ _ _ (fa_fill (dc_tV Q (t + u) V) V 12, fa_fill (dc_tE Q (t + u) V E) E 12, ds, upd WS ((t + u) % 10) (nI 0)) dX0_takeChanges_140 rfl ⟨rfl, (dc_tk_end hR.1 V E).1, (dc_tk_end hR.1 V E).2, rx_taku hR (by omega) hu hnx⟩ hw
        · refine lv_iload hx hb dX0_takeChanges_101 (lv_at hl 2 rfl) ?_
          refine lv_iload hx hb dX0_takeChanges_103 (lv_at hl 0 rfl) ?_
          refine lv_ishr hx hb dX0_takeChanges_105 ?_
          refine lv_iconst (v := nI 1) hx hb dX0_takeChanges_106 (by decide) ?_
          refine lv_iand hx hb dX0_takeChanges_107 ?_
          refine lv_iconst (v := nI 1) hx hb dX0_takeChanges_108 (by decide) ?_
          refine lv_icmp_ne (tgt := 133) hx hb dX0_takeChanges_109 (by decide) (fun c_109 => ?_) (fun c_109 => ?_)
          · have hq : Q (t + u) k = none := dc_fs_f (Bool.eq_false_iff.mpr fun hf => c_109 ((dc_ask (hR.2.2.2.2 u (by omega) hu).1 (show k < 32 by omega)).mpr hf))
            refine lv_iinc (v := nI (k + 1)) (lv' := [(5, .int (nI (k + 1))), (2, .int (dc_mk (dc_ch Q (t + u) V) k)), (4, .int (WS ((t + u) % 10))), (3, .int (nI ((t + u) % 10))), (1, .int (nI u)), (0, .ref (a 0))]) hx hb dX0_takeChanges_133 hl (k := 0) rfl (dc_inc _) (by decide) rfl (fun ls hl => ?_)
            refine lv_goto (tgt := 94) hx hb dX0_takeChanges_136 (by decide) ?_
            obtain ⟨f1, f2, f3⟩ := dc_tk_none_step (V := V) (E := E) hq
            rw [f1, f2] at hw
            rw [f3] at hl
            exact ih (k + 1) (by omega) (by omega) H locs hw ls (lv_sub hl [0, 1, 2, 3, 4, 5] rfl)
          · obtain ⟨v, hv⟩ := dc_fs_t ((dc_ask (hR.2.2.2.2 u (by omega) hu).1 (show k < 32 by omega)).mp c_109)
            have hv : Q (t + u) k = some (WV ((t + u) % 10 * 12 + k)) := by rw [(hR.2.2.2.2 u (by omega) hu).2 k v hv]; exact hv
            obtain ⟨f1, f2, f3⟩ := dc_tk_step (V := V) (E := E) hv
            refine lv_iload_n hx hb dX0_takeChanges_112 rfl (lv_at hl 1 rfl) ?_
            refine lv_aload_n hx hb dX0_takeChanges_113 rfl (lv_at hl 5 rfl) ?_
            refine lv_iload hx hb dX0_takeChanges_114 (lv_at hl 0 rfl) ?_
            refine lv_aload_n hx hb dX0_takeChanges_116 rfl (lv_at hl 5 rfl) ?_
            refine x0_get (v := .ref (a 10)) S hw rfl 13 (by decide) q40 rfl dX0_takeChanges_117 ?_
            refine lv_iload_n hx hb dX0_takeChanges_120 rfl (lv_at hl 3 rfl) ?_
            refine lv_bipush (v := nI 12) hx hb dX0_takeChanges_121 (by decide) ?_
            refine dc_mulN hx hb dX0_takeChanges_123 ?_
            refine lv_iload hx hb dX0_takeChanges_124 (lv_at hl 0 rfl) ?_
            refine dc_addN hx hb dX0_takeChanges_126 ?_
            refine dc_ild S hw 10 rfl (i := (((t + u) % 10) * 12) + k) (by omega) (by decide) dX0_takeChanges_127 ?_
            refine dc_callI (As := [.int (nI k), .int (WV ((((t + u) % 10) * 12) + k))]) (rest := [.int (dc_mk (dc_ch Q (t + u) V) k)]) S hw (mX0_changeBit l dg d a _ (fa_fill (dc_tV Q (t + u) V) V k) (fa_fill (dc_tE Q (t + u) V E) E k) np K Y P C Wt (nI (t + u)) dn ds DV (upd WS ((t + u) % 10) (nI 0)) WV k (WV ((t + u) % 10 * 12 + k)) (by omega)) (cwV 2 S.2.2.2.2 (lw_V q125 q127 qs7 q17 q128) rfl rfl rfl (by decide +kernel) ⟨Nat.le_of_ble_eq_true rfl, Nat.le_of_ble_eq_true rfl⟩) (ci := 0) rfl rfl rfl rfl hl.1 rfl (Nat.le_of_ble_eq_true rfl) dX0_takeChanges_128 ⟨Nat.zero_le _, Nat.zero_le _⟩ (fun r z H locs hr hw => ?_)
            obtain ⟨V2, E2⟩ := z
            obtain ⟨hr, hV, hE⟩ := hr
            have hV : V2 = _ := hV
            have hE : E2 = _ := hE
            have hw : dc_Wd dg d A s (dc_wX d a V2 E2 np K Y P C Wt (nI (t + u)) dn ds DV (upd WS ((t + u) % 10) (nI 0)) WV) H locs := hw
            refine lv_ior hx hb dX0_takeChanges_131 ?_
            refine lv_istore_n (lv' := [(2, .int ((dc_mk (dc_ch Q (t + u) V) k) ||| r)), (5, .int (nI k)), (4, .int (WS ((t + u) % 10))), (3, .int (nI ((t + u) % 10))), (1, .int (nI u)), (0, .ref (a 0))]) hx hb dX0_takeChanges_132 rfl hl (by decide) rfl (fun ls hl => ?_)
            refine lv_iinc (v := nI (k + 1)) (lv' := [(5, .int (nI (k + 1))), (2, .int ((dc_mk (dc_ch Q (t + u) V) k) ||| r)), (4, .int (WS ((t + u) % 10))), (3, .int (nI ((t + u) % 10))), (1, .int (nI u)), (0, .ref (a 0))]) hx hb dX0_takeChanges_133 hl (k := 1) rfl (dc_inc _) (by decide) rfl (fun ls hl => ?_)
            refine lv_goto (tgt := 94) hx hb dX0_takeChanges_136 (by decide) ?_
            rw [hV, hE, f1, f2] at hw
            rw [hr, f3] at hl
            exact ih (k + 1) (by omega) (by omega) H locs hw ls (lv_sub hl [0, 1, 2, 3, 4, 5] rfl)
    exact lp 13 0 (by omega) (by omega) H locs (by rw [fa_fill_0, fa_fill_0]; exact hw) ls (lv_sub hl [0, 3, 1, 2, 5, 4] rfl)
  · subst c_3
    refine lv_aload_n hx hb dX0_takeChanges_6 rfl (lv_at hl 1 rfl) ?_
    refine x0_get (v := .int ds) S hw rfl 10 (by decide) q37 rfl dX0_takeChanges_7 ?_
    refine lv_istore_n (lv' := [(3, .int ds), (2, .int (nI 0)), (0, .ref (a 0)), (1, .int (nI 0))]) hx hb dX0_takeChanges_10 rfl hl (by decide) rfl (fun ls hl => ?_)
    refine lv_aload_n hx hb dX0_takeChanges_11 rfl (lv_at hl 2 rfl) ?_
    refine lv_iconst (v := nI 0) hx hb dX0_takeChanges_12 (by decide) ?_
    refine x0_put (ws' := dc_wX d a V E np K Y P C Wt (nI t) dn (nI 0) DV WS WV) S hw rfl 10 (by decide) q37 rfl (by decide +kernel) (Nat.le_of_ble_eq_true rfl) rfl dX0_takeChanges_13 (fun H locs hw => ?_)
    refine lv_iconst (v := nI 0) hx hb dX0_takeChanges_16 (by decide) ?_
    refine lv_istore (lv' := [(4, .int (nI 0)), (3, .int ds), (2, .int (nI 0)), (0, .ref (a 0)), (1, .int (nI 0))]) hx hb dX0_takeChanges_17 hl (by decide) rfl (fun ls hl => ?_)
    have lp : ∀ (n : Nat) (k : Nat), k ≤ 12 → 13 ≤ k + n → ∀ (H : Heap) (locs : List Loc), dc_Wd dg d A s (dc_wX d a (fa_fill (dc_tV Q (t + 0) V) V k) (fa_fill (dc_tE Q (t + 0) V E) E k) np K Y P C Wt (nI t) dn (nI 0) DV WS WV) H locs → ∀ ls : Array Slot, lv_has ls 6 [(4, .int (nI k)), (2, .int (dc_mk (dc_ch Q (t + 0) V) k)), (3, .int ds), (1, .int (nI 0)), (0, .ref (a 0))] → W p l e ({ frames := 2, cells := 0, slots := 0, locals := 45 } : Room) s m ([.ref (a 0), .int (nI 0)] : List Value).toArray below meth c H locs 0 0 Qz (F0 m 19 ls []) := by
      intro n
      induction n with
      | zero =>
        intro k hk hn H locs hw ls hl
        exact absurd hn (by omega)
      | succ n ih =>
        intro k hk hn H locs hw ls hl
        refine lv_iload hx hb dX0_takeChanges_19 (lv_at hl 0 rfl) ?_
        refine lv_bipush (v := nI 12) hx hb dX0_takeChanges_21 (by decide) ?_
        refine dc_ge (tgt := 58) hx hb (by omega) (by omega) dX0_takeChanges_23 (by decide) (fun c_23 => ?_) (fun c_23 => ?_)
        · have ek : k = 12 := by omega
          subst ek
          refine lv_iload_n hx hb dX0_takeChanges_58 rfl (lv_at hl 1 rfl) ?_
          exact ret 59 _ _ _ _ (fa_fill (dc_tV Q (t + 0) V) V 12, fa_fill (dc_tE Q (t + 0) V E) E 12, nI 0, WS) dX0_takeChanges_59 rfl ⟨rfl, (dc_tk_end hR.1 V E).1, (dc_tk_end hR.1 V E).2, rx_tak0 hR⟩ hw
        · refine lv_iload_n hx hb dX0_takeChanges_26 rfl (lv_at hl 2 rfl) ?_
          refine lv_iload hx hb dX0_takeChanges_27 (lv_at hl 0 rfl) ?_
          refine lv_ishr hx hb dX0_takeChanges_29 ?_
          refine lv_iconst (v := nI 1) hx hb dX0_takeChanges_30 (by decide) ?_
          refine lv_iand hx hb dX0_takeChanges_31 ?_
          refine lv_iconst (v := nI 1) hx hb dX0_takeChanges_32 (by decide) ?_
          refine lv_icmp_ne (tgt := 52) hx hb dX0_takeChanges_33 (by decide) (fun c_33 => ?_) (fun c_33 => ?_)
          · have hq : Q (t + 0) k = none := dc_fs_f (Bool.eq_false_iff.mpr fun hf => c_33 ((dc_ask hR.2.1 (show k < 32 by omega)).mpr hf))
            refine lv_iinc (v := nI (k + 1)) (lv' := [(4, .int (nI (k + 1))), (2, .int (dc_mk (dc_ch Q (t + 0) V) k)), (3, .int ds), (1, .int (nI 0)), (0, .ref (a 0))]) hx hb dX0_takeChanges_52 hl (k := 0) rfl (dc_inc _) (by decide) rfl (fun ls hl => ?_)
            refine lv_goto (tgt := 19) hx hb dX0_takeChanges_55 (by decide) ?_
            obtain ⟨f1, f2, f3⟩ := dc_tk_none_step (V := V) (E := E) hq
            rw [f1, f2] at hw
            rw [f3] at hl
            exact ih (k + 1) (by omega) (by omega) H locs hw ls (lv_sub hl [0, 1, 2, 3, 4] rfl)
          · obtain ⟨v, hv⟩ := dc_fs_t ((dc_ask hR.2.1 (show k < 32 by omega)).mp c_33)
            have hv : Q (t + 0) k = some (DV k) := by rw [hR.2.2.1 k v hv]; exact hv
            obtain ⟨f1, f2, f3⟩ := dc_tk_step (V := V) (E := E) hv
            refine lv_iload_n hx hb dX0_takeChanges_36 rfl (lv_at hl 1 rfl) ?_
            refine lv_aload_n hx hb dX0_takeChanges_37 rfl (lv_at hl 4 rfl) ?_
            refine lv_iload hx hb dX0_takeChanges_38 (lv_at hl 0 rfl) ?_
            refine lv_aload_n hx hb dX0_takeChanges_40 rfl (lv_at hl 4 rfl) ?_
            refine x0_get (v := .ref (a 8)) S hw rfl 11 (by decide) q38 rfl dX0_takeChanges_41 ?_
            refine lv_iload hx hb dX0_takeChanges_44 (lv_at hl 0 rfl) ?_
            refine dc_ild S hw 8 rfl (i := k) (by omega) (by decide) dX0_takeChanges_46 ?_
            refine dc_callI (As := [.int (nI k), .int (DV k)]) (rest := [.int (dc_mk (dc_ch Q (t + 0) V) k)]) S hw (mX0_changeBit l dg d a _ (fa_fill (dc_tV Q (t + 0) V) V k) (fa_fill (dc_tE Q (t + 0) V E) E k) np K Y P C Wt (nI t) dn (nI 0) DV WS WV k (DV k) (by omega)) (cwV 2 S.2.2.2.2 (lw_V q125 q127 qs7 q17 q128) rfl rfl rfl (by decide +kernel) ⟨Nat.le_of_ble_eq_true rfl, Nat.le_of_ble_eq_true rfl⟩) (ci := 0) rfl rfl rfl rfl hl.1 rfl (Nat.le_of_ble_eq_true rfl) dX0_takeChanges_47 ⟨Nat.zero_le _, Nat.zero_le _⟩ (fun r z H locs hr hw => ?_)
            obtain ⟨V2, E2⟩ := z
            obtain ⟨hr, hV, hE⟩ := hr
            have hV : V2 = _ := hV
            have hE : E2 = _ := hE
            have hw : dc_Wd dg d A s (dc_wX d a V2 E2 np K Y P C Wt (nI t) dn (nI 0) DV WS WV) H locs := hw
            refine lv_ior hx hb dX0_takeChanges_50 ?_
            refine lv_istore_n (lv' := [(2, .int ((dc_mk (dc_ch Q (t + 0) V) k) ||| r)), (4, .int (nI k)), (3, .int ds), (1, .int (nI 0)), (0, .ref (a 0))]) hx hb dX0_takeChanges_51 rfl hl (by decide) rfl (fun ls hl => ?_)
            refine lv_iinc (v := nI (k + 1)) (lv' := [(4, .int (nI (k + 1))), (2, .int ((dc_mk (dc_ch Q (t + 0) V) k) ||| r)), (3, .int ds), (1, .int (nI 0)), (0, .ref (a 0))]) hx hb dX0_takeChanges_52 hl (k := 1) rfl (dc_inc _) (by decide) rfl (fun ls hl => ?_)
            refine lv_goto (tgt := 19) hx hb dX0_takeChanges_55 (by decide) ?_
            rw [hV, hE, f1, f2] at hw
            rw [hr, f3] at hl
            exact ih (k + 1) (by omega) (by omega) H locs hw ls (lv_sub hl [0, 1, 2, 3, 4] rfl)
    exact lp 13 0 (by omega) (by omega) H locs (by rw [fa_fill_0, fa_fill_0]; exact hw) ls (lv_sub hl [0, 2, 1, 4, 3] rfl)
end
section
set_option maxRecDepth 100000
set_option maxHeartbeats 4000000 in
set_option maxRecDepth 100000 in
theorem mX0_step (l : Launch) (dg : va_G) (d : ClassId × ClassId) (a : Nat → Nat) (sz : Nat) (V : Nat → Int32) (E : Nat → Int32) (n0 : Nat) (K : Nat → Int32) (Y : Nat → Int32) (P : Nat → Int32) (C : Nat → Int32) (Wt : Nat → Int32) (t : Nat) (dn : Int32) (ds : Int32) (DV : Nat → Int32) (WS : Nat → Int32) (WV : Nat → Int32) (Q : dc_Q) (hG : dc_okT (n0, K, Y, P, C, Wt)) (ht : t < 2 ^ 29) (hR : dc_RX t Q ds DV WS WV) : Met l yX0_step (ws_ yX0_step cX0_step 4 (some .int)) ({ frames := 3, cells := 0, slots := 0, locals := 70 } : Room) (dc_Pre dg d [.ref (a 0)] (dc_wX d a V E (nI n0) K Y P C Wt (nI t) dn ds DV WS WV) sz) (va_Qi (fun (r : Int32) (z : dc_S × Int32 × (Nat → Int32) × (Nat → Int32) × (Nat → Int32)) => r = dc_stR (Q, V, E, t, dn) ∧ z.1 = dc_st (n0, K, Y, P, C, Wt) (Q, V, E, t, dn) ∧ dc_RX z.1.2.2.2.1 z.1.1 z.2.1 z.2.2.1 z.2.2.2.1 z.2.2.2.2) (dc_B dg d (va_A (dc_wX d a V E (nI n0) K Y P C Wt (nI t) dn ds DV WS WV) sz) (fun z : dc_S × Int32 × (Nat → Int32) × (Nat → Int32) × (Nat → Int32) => dc_wX d a z.1.2.1 z.1.2.2.1 (nI n0) K Y P C Wt (nI z.1.2.2.2.1) z.1.2.2.2.2 z.2.1 z.2.2.1 z.2.2.2.1 z.2.2.2.2)) (va_A (dc_wX d a V E (nI n0) K Y P C Wt (nI t) dn ds DV WS WV) sz)) 0 0 (va_A (dc_wX d a V E (nI n0) K Y P C Wt (nI t) dn ds DV WS WV) sz) := by
  refine dc_metI (by decide) (Nat.le_of_ble_eq_true rfl) (fun p e s m below meth c A Qz ls S hw hl ret => ?_)
  have hx := S.1
  have hb := S.2.1
  have hl : lv_has ls 4 [(0, .ref (a 0))] := hl
  have h8 : n0 ≤ 8 := hG.1
  refine lv_aload_n hx hb dX0_step_0 rfl (lv_at hl 0 rfl) ?_
  refine dc_callR (As := []) (rest := []) S hw (mX0_nextUnits l dg d a _ V E (nI n0) K Y P C Wt t dn ds DV WS WV Q (by omega) hR) (cwV 0 S.2.2.2.2 (lw_V q117 q119 qs5 q17 q120) rfl rfl rfl (by decide +kernel) ⟨Nat.le_of_ble_eq_true rfl, Nat.le_of_ble_eq_true rfl⟩) (ci := 0) rfl rfl rfl rfl hl.1 rfl (Nat.le_of_ble_eq_true rfl) dX0_step_1 ⟨Nat.zero_le _, Nat.zero_le _⟩ (fun r hr => ?_)
  rcases hr with ⟨hem, hr⟩ | ⟨u, hu, hnx, hr⟩ <;> subst hr
  · refine lv_istore_n (lv' := [(1, .int (-1)), (0, .ref (a 0))]) hx hb dX0_step_4 rfl hl (by decide) rfl (fun ls hl => ?_)
    refine lv_iload_n hx hb dX0_step_5 rfl (lv_at hl 0 rfl) ?_
    refine lv_if_ge (tgt := 12) hx hb dX0_step_6 (by decide) (fun c_6 => ?_) (fun c_6 => ?_)
    · exact absurd c_6 (by decide)
    · refine lv_bipush (v := (-5)) hx hb dX0_step_9 (by decide) ?_
      exact ret 11 _ _ _ _ ((Q, V, E, t, dn), ds, DV, WS, WV) dX0_step_11 rfl ⟨(dc_st_e (G := (n0, K, Y, P, C, Wt)) hem).2.symm, (dc_st_e (S := (Q, V, E, t, dn)) hem).1.symm, hR⟩ hw
  · refine lv_istore_n (lv' := [(1, .int (nI u)), (0, .ref (a 0))]) hx hb dX0_step_4 rfl hl (by decide) rfl (fun ls hl => ?_)
    refine lv_iload_n hx hb dX0_step_5 rfl (lv_at hl 0 rfl) ?_
    refine lv_if_ge (tgt := 12) hx hb dX0_step_6 (by decide) (fun c_6 => ?_) (fun c_6 => ?_)
    · refine lv_aload_n hx hb dX0_step_12 rfl (lv_at hl 1 rfl) ?_
      refine lv_iload_n hx hb dX0_step_13 rfl (lv_at hl 0 rfl) ?_
      refine dc_callI (As := [.int (nI u)]) (rest := []) S hw (mX0_takeChanges l dg d a _ V E (nI n0) K Y P C Wt t dn ds DV WS WV Q u hu hnx (by omega) hR) (cwV 1 S.2.2.2.2 (lw_V q121 q123 qs6 q17 q124) rfl rfl rfl (by decide +kernel) ⟨Nat.le_of_ble_eq_true rfl, Nat.le_of_ble_eq_true rfl⟩) (ci := 0) rfl rfl rfl rfl hl.1 rfl (Nat.le_of_ble_eq_true rfl) dX0_step_14 ⟨Nat.zero_le _, Nat.zero_le _⟩ (fun chg z H locs hr hw => ?_)
      obtain ⟨V1, E1, ds1, WS1⟩ := z
      obtain ⟨hch, hV1, hE1, hR1⟩ := hr
      have hV1 : V1 = dc_tV Q (t + u) V := hV1
      have hE1 : E1 = dc_tE Q (t + u) V E := hE1
      have hR1 : dc_RX (t + u) (dc_tak Q (t + u)) ds1 DV WS1 WV := hR1
      have hw : dc_Wd dg d A s (dc_wX d a V1 E1 (nI n0) K Y P C Wt (nI (t + u)) dn ds1 DV WS1 WV) H locs := hw
      refine lv_istore_n (lv' := [(2, .int chg), (1, .int (nI u)), (0, .ref (a 0))]) hx hb dX0_step_17 rfl hl (by decide) rfl (fun ls hl => ?_)
      refine lv_aload_n hx hb dX0_step_18 rfl (lv_at hl 2 rfl) ?_
      refine lv_dup hx hb dX0_step_19 rfl ?_
      refine x0_get (v := .int dn) S hw rfl 9 (by decide) q36 rfl dX0_step_20 ?_
      refine lv_iconst (v := nI 1) hx hb dX0_step_23 (by decide) ?_
      refine lv_iadd hx hb dX0_step_24 ?_
      refine x0_put (ws' := dc_wX d a V1 E1 (nI n0) K Y P C Wt (nI (t + u)) (dn + (nI 1)) ds1 DV WS1 WV) S hw rfl 9 (by decide) q36 rfl (by decide +kernel) (Nat.le_of_ble_eq_true rfl) rfl dX0_step_25 (fun H locs hw => ?_)
      refine lv_iconst (v := nI 0) hx hb dX0_step_28 (by decide) ?_
      refine lv_istore_n (lv' := [(3, .int (nI 0)), (2, .int chg), (1, .int (nI u)), (0, .ref (a 0))]) hx hb dX0_step_29 rfl hl (by decide) rfl (fun ls hl => ?_)
      have lp : ∀ (n : Nat) (k : Nat) (ds2 : Int32) (DV2 WS2 WV2 : Nat → Int32), k ≤ n0 → n0 + 1 ≤ k + n → dc_RX (t + u) (dc_lp (n0, K, Y, P, C, Wt) V1 (t + u) chg (dc_tak Q (t + u)) k) ds2 DV2 WS2 WV2 → ∀ (H : Heap) (locs : List Loc), dc_Wd dg d A s (dc_wX d a V1 E1 (nI n0) K Y P C Wt (nI (t + u)) (dn + (nI 1)) ds2 DV2 WS2 WV2) H locs → ∀ ls : Array Slot, lv_has ls 4 [(3, .int (nI k)), (2, .int chg), (0, .ref (a 0))] → W p l e ({ frames := 3, cells := 0, slots := 0, locals := 70 } : Room) s m ([.ref (a 0)] : List Value).toArray below meth c H locs 0 0 Qz (F0 m 30 ls []) := by
        intro n
        induction n with
        | zero =>
          intro k ds2 DV2 WS2 WV2 hk hn hR2 H locs hw ls hl
          exact absurd hn (by omega)
        | succ n ih =>
          intro k ds2 DV2 WS2 WV2 hk hn hR2 H locs hw ls hl
          refine lv_iload_n hx hb dX0_step_30 rfl (lv_at hl 0 rfl) ?_
          refine lv_aload_n hx hb dX0_step_31 rfl (lv_at hl 2 rfl) ?_
          refine x0_get (v := .int (nI n0)) S hw rfl 2 (by decide) q29 rfl dX0_step_32 ?_
          refine dc_ge (tgt := 60) hx hb (by omega) (by omega) dX0_step_35 (by decide) (fun c_35 => ?_) (fun c_35 => ?_)
          · have ek : k = n0 := by omega
            subst ek
            refine lv_iload_n hx hb dX0_step_60 rfl (lv_at hl 1 rfl) ?_
            refine dc_callS (As := [.int chg]) (rest := []) S (mX0_bits l chg) (va_cwS 1 S.2.2.2.2 (lw_S q94 q95 q17 q96) rfl rfl rfl (by decide +kernel) ⟨Nat.le_of_ble_eq_true rfl, Nat.le_of_ble_eq_true rfl⟩) rfl hl.1 rfl (Nat.le_of_ble_eq_true rfl) dX0_step_61 ⟨Nat.zero_le _, Nat.zero_le _⟩ (fun r hr => ?_)
            have hne := dc_next_eq hnx
            have hnm := dc_nx_ne hnx
            have est : dc_st (k, K, Y, P, C, Wt) (Q, V, E, t, dn) = (dc_lp (k, K, Y, P, C, Wt) V1 (t + u) chg (dc_tak Q (t + u)) k, V1, E1, t + u, dn + nI 1) := by
              rw [(dc_st_n (S := (Q, V, E, t, dn)) hnm).1, hV1, hE1, hch]
              unfold dc_stp
              dsimp only
              rw [hne]
            exact ret 64 _ _ _ _ ((dc_lp (k, K, Y, P, C, Wt) V1 (t + u) chg (dc_tak Q (t + u)) k, V1, E1, t + u, dn + nI 1), ds2, DV2, WS2, WV2) dX0_step_64 rfl ⟨by rw [(dc_st_n (G := (k, K, Y, P, C, Wt)) (S := (Q, V, E, t, dn)) hnm).2, hr]; dsimp only; rw [hne, hch, dc_ch_ct hR.1], est.symm, hR2⟩ hw
          · refine lv_aload_n hx hb dX0_step_38 rfl (lv_at hl 2 rfl) ?_
            refine x0_get (v := .ref (a 7)) S hw rfl 7 (by decide) q34 rfl dX0_step_39 ?_
            refine lv_iload_n hx hb dX0_step_42 rfl (lv_at hl 0 rfl) ?_
            refine dc_ild S hw 7 rfl (i := k) (by omega) (by decide) dX0_step_43 ?_
            refine lv_iload_n hx hb dX0_step_44 rfl (lv_at hl 1 rfl) ?_
            refine lv_iand hx hb dX0_step_45 ?_
            refine lv_if_eq (tgt := 54) hx hb dX0_step_46 (by decide) (fun c_46 => ?_) (fun c_46 => ?_)
            · refine lv_iinc (v := nI (k + 1)) (lv' := [(3, .int (nI (k + 1))), (2, .int chg), (0, .ref (a 0))]) hx hb dX0_step_54 hl (k := 0) rfl (dc_inc _) (by decide) rfl (fun ls hl => ?_)
              refine lv_goto (tgt := 30) hx hb dX0_step_57 (by decide) ?_
              exact ih (k + 1) _ _ _ _ (by omega) (by omega) (by unfold dc_lp; rw [if_pos c_46]; exact hR2) H locs hw ls (lv_sub hl [0, 1, 2] rfl)
            · refine lv_aload_n hx hb dX0_step_49 rfl (lv_at hl 2 rfl) ?_
              refine lv_iload_n hx hb dX0_step_50 rfl (lv_at hl 0 rfl) ?_
              refine dc_callV (As := [.int (nI k)]) (rest := []) S hw (mX0_carryOut l dg d a _ V1 E1 (nI n0) K Y P C Wt (t + u) (dn + (nI 1)) ds2 DV2 WS2 WV2 (dc_lp (n0, K, Y, P, C, Wt) V1 (t + u) chg (dc_tak Q (t + u)) k) n0 k hG (by omega) (by omega) hR2) (cwV 1 S.2.2.2.2 (lw_V q101 q103 qs2 q17 q104) rfl rfl rfl (by decide +kernel) ⟨Nat.le_of_ble_eq_true rfl, Nat.le_of_ble_eq_true rfl⟩) (ci := 0) rfl rfl rfl rfl hl.1 rfl (Nat.le_of_ble_eq_true rfl) dX0_step_51 ⟨Nat.zero_le _, Nat.zero_le _⟩ (fun z H locs hz hw => ?_)
              obtain ⟨ds3, DV3, WS3, WV3⟩ := z
              have hw : dc_Wd dg d A s (dc_wX d a V1 E1 (nI n0) K Y P C Wt (nI (t + u)) (dn + (nI 1)) ds3 DV3 WS3 WV3) H locs := hw
              have hR3 : dc_RX (t + u) (dc_cry (n0, K, Y, P, C, Wt) V1 (t + u) (dc_lp (n0, K, Y, P, C, Wt) V1 (t + u) chg (dc_tak Q (t + u)) k) k) ds3 DV3 WS3 WV3 := hz
              refine lv_iinc (v := nI (k + 1)) (lv' := [(3, .int (nI (k + 1))), (2, .int chg), (0, .ref (a 0))]) hx hb dX0_step_54 hl (k := 0) rfl (dc_inc _) (by decide) rfl (fun ls hl => ?_)
              refine lv_goto (tgt := 30) hx hb dX0_step_57 (by decide) ?_
              exact ih (k + 1) _ _ _ _ (by omega) (by omega) (by unfold dc_lp; rw [if_neg c_46]; exact hR3) H locs hw ls (lv_sub hl [0, 1, 2] rfl)
      exact lp (n0 + 1) 0 _ _ _ _ (by omega) (by omega) hR1 H locs hw ls (lv_sub hl [0, 1, 3] rfl)
    · exact absurd (nI_pos' (by omega)) c_6
set_option maxHeartbeats 4000000 in
set_option maxRecDepth 100000 in
theorem mX0_due (l : Launch) (dg : va_G) (d : ClassId × ClassId) (a : Nat → Nat) (sz : Nat) (V : Nat → Int32) (E : Nat → Int32) (np : Int32) (K : Nat → Int32) (Y : Nat → Int32) (P : Nat → Int32) (C : Nat → Int32) (Wt : Nat → Int32) (t : Nat) (dn : Int32) (ds : Int32) (DV : Nat → Int32) (WS : Nat → Int32) (WV : Nat → Int32) (Q : dc_Q) (te : Nat) (hte : te < 2 ^ 31) (ht : t < 2 ^ 30) (hR : dc_RX t Q ds DV WS WV) : Met l yX0_due (ws_ yX0_due cX0_due 3 (some .boolean)) ({ frames := 2, cells := 0, slots := 0, locals := 42 } : Room) (dc_Pre dg d [.ref (a 0), .int (nI te)] (dc_wX d a V E np K Y P C Wt (nI t) dn ds DV WS WV) sz) (vp_Si (fun r : Int32 => ∃ b, r = nI b ∧ (b = 1 ∧ (¬ dc_emp Q ∧ dc_next Q ≤ te) ∨ b = 0 ∧ ¬ (¬ dc_emp Q ∧ dc_next Q ≤ te)))) 0 0 (fun _ => False) := by
  refine dc_metR (by decide) (Nat.le_of_ble_eq_true rfl) (fun p e s m below meth c A Qz ls S hw hl ret => ?_)
  have hx := S.1
  have hb := S.2.1
  have hl : lv_has ls 3 [(0, .ref (a 0)), (1, .int (nI te))] := hl
  refine lv_aload_n hx hb dX0_due_0 rfl (lv_at hl 0 rfl) ?_
  refine dc_callR (As := []) (rest := []) S hw (mX0_nextUnits l dg d a _ V E np K Y P C Wt t dn ds DV WS WV Q ht hR) (cwV 0 S.2.2.2.2 (lw_V q117 q119 qs5 q17 q120) rfl rfl rfl (by decide +kernel) ⟨Nat.le_of_ble_eq_true rfl, Nat.le_of_ble_eq_true rfl⟩) (ci := 0) rfl rfl rfl rfl hl.1 rfl (Nat.le_of_ble_eq_true rfl) dX0_due_1 ⟨Nat.zero_le _, Nat.zero_le _⟩ (fun r hr => ?_)
  rcases hr with ⟨hem, hr⟩ | ⟨u, hu, hnx, hr⟩ <;> subst hr
  · refine lv_istore_n (lv' := [(2, .int (-1)), (0, .ref (a 0)), (1, .int (nI te))]) hx hb dX0_due_4 rfl hl (by decide) rfl (fun ls hl => ?_)
    refine lv_iload_n hx hb dX0_due_5 rfl (lv_at hl 0 rfl) ?_
    refine lv_if_lt (tgt := 23) hx hb dX0_due_6 (by decide) (fun c_6 => ?_) (fun c_6 => ?_)
    · refine lv_iconst (v := nI 0) hx hb dX0_due_23 (by decide) ?_
      exact ret 24 _ _ dX0_due_24 rfl ⟨0, rfl, Or.inr ⟨rfl, fun q => q.1 hem⟩⟩
    · exact absurd (by decide) c_6
  · refine lv_istore_n (lv' := [(2, .int (nI u)), (0, .ref (a 0)), (1, .int (nI te))]) hx hb dX0_due_4 rfl hl (by decide) rfl (fun ls hl => ?_)
    refine lv_iload_n hx hb dX0_due_5 rfl (lv_at hl 0 rfl) ?_
    refine lv_if_lt (tgt := 23) hx hb dX0_due_6 (by decide) (fun c_6 => ?_) (fun c_6 => ?_)
    · exact absurd c_6 (nI_pos (by omega))
    · have hne := dc_next_eq hnx
      refine lv_aload_n hx hb dX0_due_9 rfl (lv_at hl 1 rfl) ?_
      refine x0_get (v := .int (nI t)) S hw rfl 8 (by decide) q35 rfl dX0_due_10 ?_
      refine lv_iload_n hx hb dX0_due_13 rfl (lv_at hl 0 rfl) ?_
      refine dc_addN hx hb dX0_due_14 ?_
      refine lv_iload_n hx hb dX0_due_15 rfl (lv_at hl 2 rfl) ?_
      refine dc_gt (tgt := 23) hx hb (by omega) (by omega) dX0_due_16 (by decide) (fun c_16 => ?_) (fun c_16 => ?_)
      · refine lv_iconst (v := nI 0) hx hb dX0_due_23 (by decide) ?_
        exact ret 24 _ _ dX0_due_24 rfl ⟨0, rfl, Or.inr ⟨rfl, fun q => by rw [hne] at q; omega⟩⟩
      · refine lv_iconst (v := nI 1) hx hb dX0_due_19 (by decide) ?_
        refine lv_goto (tgt := 24) hx hb dX0_due_20 (by decide) ?_
        exact ret 24 _ _ dX0_due_24 rfl ⟨1, rfl, Or.inl ⟨rfl, dc_nx_ne hnx, by rw [hne]; omega⟩⟩
end
section
set_option maxRecDepth 100000
set_option maxHeartbeats 4000000 in
set_option maxRecDepth 100000 in
theorem mX0_run (l : Launch) (dg : va_G) (d : ClassId × ClassId) (a : Nat → Nat) (sz : Nat) (V : Nat → Int32) (E : Nat → Int32) (n0 : Nat) (K : Nat → Int32) (Y : Nat → Int32) (P : Nat → Int32) (C : Nat → Int32) (Wt : Nat → Int32) (t : Nat) (dn : Int32) (ds : Int32) (DV : Nat → Int32) (WS : Nat → Int32) (WV : Nat → Int32) (Q : dc_Q) (un cn : Int32) (hG : dc_okT (n0, K, Y, P, C, Wt)) (ht : t < 2 ^ 28) (hR : dc_RX t Q ds DV WS WV) : Met l yX0_run (ws_ yX0_run cX0_run 8 (some .int)) ({ frames := 4, cells := 0, slots := 0, locals := 93 } : Room) (dc_Pre dg d [.ref (a 0), .int un, .int cn] (dc_wX d a V E (nI n0) K Y P C Wt (nI t) dn ds DV WS WV) sz) (va_Qi (fun (r : Int32) (z : dc_S × Int32 × (Nat → Int32) × (Nat → Int32) × (Nat → Int32)) => r = nI (dc_run (n0, K, Y, P, C, Wt) (t + dc_far un) (dc_most cn) (Q, V, E, t, dn)).2 ∧ z.1 = (dc_run (n0, K, Y, P, C, Wt) (t + dc_far un) (dc_most cn) (Q, V, E, t, dn)).1 ∧ dc_RX z.1.2.2.2.1 z.1.1 z.2.1 z.2.2.1 z.2.2.2.1 z.2.2.2.2) (dc_B dg d (va_A (dc_wX d a V E (nI n0) K Y P C Wt (nI t) dn ds DV WS WV) sz) (fun z : dc_S × Int32 × (Nat → Int32) × (Nat → Int32) × (Nat → Int32) => dc_wX d a z.1.2.1 z.1.2.2.1 (nI n0) K Y P C Wt (nI z.1.2.2.2.1) z.1.2.2.2.2 z.2.1 z.2.2.1 z.2.2.2.1 z.2.2.2.2)) (va_A (dc_wX d a V E (nI n0) K Y P C Wt (nI t) dn ds DV WS WV) sz)) 0 0 (va_A (dc_wX d a V E (nI n0) K Y P C Wt (nI t) dn ds DV WS WV) sz) := by
  refine dc_metI (by decide) (Nat.le_of_ble_eq_true rfl) (fun p e s m below meth c A Qz ls S hw hl ret => ?_)
  have hx := S.1
  have hb := S.2.1
  have hl : lv_has ls 8 [(0, .ref (a 0)), (1, .int un), (2, .int cn)] := hl
  have hml := dc_most_le cn
  have hfl := dc_far_le un
  have tl : ∀ mo : Int32, (∀ j, j ≤ 200 → (mo ≤ nI j ↔ dc_most cn ≤ j)) → ∀ ls : Array Slot, lv_has ls 8 [(4, .int (nI (dc_far un))), (3, .int mo), (2, .int cn), (1, .int un), (0, .ref (a 0))] → W p l e ({ frames := 4, cells := 0, slots := 0, locals := 93 } : Room) s m ([.ref (a 0), .int un, .int cn] : List Value).toArray below meth c s.heap [] 0 0 Qz (F0 m 39 ls []) := by
    intro mo hmo ls hl
    have lp : ∀ (n : Nat) (j b : Nat) (Q2 : dc_Q) (V2 E2 : Nat → Int32) (t2 : Nat) (dn2 ds2 : Int32) (DV2 WS2 WV2 : Nat → Int32), j ≤ dc_most cn → dc_most cn + 1 ≤ j + n → t2 ≤ t + 9 * j → dc_run (n0, K, Y, P, C, Wt) (t + dc_far un) (dc_most cn) (Q, V, E, t, dn) = ((dc_run (n0, K, Y, P, C, Wt) (t + dc_far un) (dc_most cn - j) (Q2, V2, E2, t2, dn2)).1, (dc_run (n0, K, Y, P, C, Wt) (t + dc_far un) (dc_most cn - j) (Q2, V2, E2, t2, dn2)).2 + j) → (b = 1 ∧ (¬ dc_emp Q2 ∧ dc_next Q2 ≤ t + dc_far un) ∨ b = 0 ∧ ¬ (¬ dc_emp Q2 ∧ dc_next Q2 ≤ t + dc_far un)) → dc_RX t2 Q2 ds2 DV2 WS2 WV2 → ∀ (H : Heap) (locs : List Loc), dc_Wd dg d A s (dc_wX d a V2 E2 (nI n0) K Y P C Wt (nI t2) dn2 ds2 DV2 WS2 WV2) H locs → ∀ ls : Array Slot, lv_has ls 8 [(7, .int (nI b)), (6, .int (nI j)), (5, .int (nI (t + dc_far un))), (4, .int (nI (dc_far un))), (3, .int mo), (2, .int cn), (1, .int un), (0, .ref (a 0))] → W p l e ({ frames := 4, cells := 0, slots := 0, locals := 93 } : Room) s m ([.ref (a 0), .int un, .int cn] : List Value).toArray below meth c H locs 0 0 Qz (F0 m 59 ls []) := by
      intro n
      induction n with
      | zero =>
        intro j b Q2 V2 E2 t2 dn2 ds2 DV2 WS2 WV2 hj hn ht2 hrun hb2 hR2 H locs hw ls hl
        exact absurd hn (by omega)
      | succ n ih =>
        intro j b Q2 V2 E2 t2 dn2 ds2 DV2 WS2 WV2 hj hn ht2 hrun hb2 hR2 H locs hw ls hl
        refine lv_iload hx hb dX0_run_59 (lv_at hl 1 rfl) ?_
        refine lv_iload_n hx hb dX0_run_61 rfl (lv_at hl 4 rfl) ?_
        refine lv_icmp_ge (tgt := 89) hx hb dX0_run_62 (by decide) (fun c_62 => ?_) (fun c_62 => ?_)
        · have hfin := dc_run_stop (S := (Q2, V2, E2, t2, dn2)) (te := t + dc_far un) (Or.inl ((hmo j (by omega)).mp c_62)) hrun
          refine lv_iload hx hb dX0_run_89 (lv_at hl 1 rfl) ?_
          exact ret 91 _ _ _ _ ((Q2, V2, E2, t2, dn2), ds2, DV2, WS2, WV2) dX0_run_91 rfl ⟨by rw [hfin], by rw [hfin], hR2⟩ hw
        · have hjm : j < dc_most cn := Nat.not_le.mp fun q => c_62 ((hmo j (by omega)).mpr q)
          refine lv_iload hx hb dX0_run_65 (lv_at hl 0 rfl) ?_
          refine dc_if0 (tgt := 89) hx hb (by omega) dX0_run_67 (by decide) (fun c_67 => ?_) (fun c_67 => ?_)
          · have hfin := dc_run_stop (S := (Q2, V2, E2, t2, dn2)) (te := t + dc_far un) (Or.inr (hb2.elim (fun q => absurd q.1 (by omega)) (fun q => q.2))) hrun
            refine lv_iload hx hb dX0_run_89 (lv_at hl 1 rfl) ?_
            exact ret 91 _ _ _ _ ((Q2, V2, E2, t2, dn2), ds2, DV2, WS2, WV2) dX0_run_91 rfl ⟨by rw [hfin], by rw [hfin], hR2⟩ hw
          · have hgo : dc_go (t + dc_far un) (Q2, V2, E2, t2, dn2) := hb2.elim (fun q => q.2) (fun q => absurd q.1 c_67)
            refine lv_aload_n hx hb dX0_run_70 rfl (lv_at hl 7 rfl) ?_
            refine dc_callI (As := []) (rest := []) S hw (mX0_step l dg d a _ V2 E2 n0 K Y P C Wt t2 dn2 ds2 DV2 WS2 WV2 Q2 hG (by omega) hR2) (cwV 0 S.2.2.2.2 (lw_V q141 q114 q115 q17 q116) rfl rfl rfl (by decide +kernel) ⟨Nat.le_of_ble_eq_true rfl, Nat.le_of_ble_eq_true rfl⟩) (ci := 0) rfl rfl rfl rfl hl.1 rfl (Nat.le_of_ble_eq_true rfl) dX0_run_71 ⟨Nat.zero_le _, Nat.zero_le _⟩ (fun r z H locs hz hw => ?_)
            obtain ⟨S3, ds3, DV3, WS3, WV3⟩ := z
            obtain ⟨-, hS3, hR3⟩ := hz
            have hS3 : S3 = dc_st (n0, K, Y, P, C, Wt) (Q2, V2, E2, t2, dn2) := hS3
            have hrun3 := dc_run_mid hjm hgo hrun
            have hok3 := (dc_ok_st (G := (n0, K, Y, P, C, Wt)) (S := (Q2, V2, E2, t2, dn2)) hG hR2.1).2
            rw [← hS3] at hrun3 hok3
            obtain ⟨Q3, V3, E3, t3, dn3⟩ := S3
            have hok3 : t3 ≤ t2 + 9 := hok3
            have hR3 : dc_RX t3 Q3 ds3 DV3 WS3 WV3 := hR3
            have hw : dc_Wd dg d A s (dc_wX d a V3 E3 (nI n0) K Y P C Wt (nI t3) dn3 ds3 DV3 WS3 WV3) H locs := hw
            refine lv_pop hx hb dX0_run_74 rfl ?_
            refine lv_iinc (v := nI (j + 1)) (lv' := [(6, .int (nI (j + 1))), (7, .int (nI b)), (5, .int (nI (t + dc_far un))), (4, .int (nI (dc_far un))), (3, .int mo), (2, .int cn), (1, .int un), (0, .ref (a 0))]) hx hb dX0_run_75 hl (k := 1) rfl (dc_inc _) (by decide) rfl (fun ls hl => ?_)
            refine lv_aload_n hx hb dX0_run_78 rfl (lv_at hl 7 rfl) ?_
            refine lv_iload hx hb dX0_run_79 (lv_at hl 2 rfl) ?_
            refine dc_callR (As := [.int (nI (t + dc_far un))]) (rest := []) S hw (mX0_due l dg d a _ V3 E3 (nI n0) K Y P C Wt t3 dn3 ds3 DV3 WS3 WV3 Q3 (t + dc_far un) (by omega) (by omega) hR3) (cwV 1 S.2.2.2.2 (lw_V q137 q139 qs9 q17 q140) rfl rfl rfl (by decide +kernel) ⟨Nat.le_of_ble_eq_true rfl, Nat.le_of_ble_eq_true rfl⟩) (ci := 0) rfl rfl rfl rfl hl.1 rfl (Nat.le_of_ble_eq_true rfl) dX0_run_81 ⟨Nat.zero_le _, Nat.zero_le _⟩ (fun r3 hr3 => ?_)
            obtain ⟨b3, hr3, hb3⟩ := hr3
            subst hr3
            refine lv_istore (lv' := [(7, .int (nI b3)), (6, .int (nI (j + 1))), (5, .int (nI (t + dc_far un))), (4, .int (nI (dc_far un))), (3, .int mo), (2, .int cn), (1, .int un), (0, .ref (a 0))]) hx hb dX0_run_84 hl (by decide) rfl (fun ls hl => ?_)
            refine lv_goto (tgt := 59) hx hb dX0_run_86 (by decide) ?_
            exact ih (j + 1) b3 Q3 V3 E3 t3 dn3 ds3 DV3 WS3 WV3 (by omega) (by omega) (by omega) hrun3 hb3 hR3 H locs hw ls (lv_sub hl [0, 1, 2, 3, 4, 5, 6, 7] rfl)
    refine lv_aload_n hx hb dX0_run_39 rfl (lv_at hl 4 rfl) ?_
    refine x0_get (v := .int (nI t)) S hw rfl 8 (by decide) q35 rfl dX0_run_40 ?_
    refine lv_iload hx hb dX0_run_43 (lv_at hl 0 rfl) ?_
    refine dc_addN hx hb dX0_run_45 ?_
    refine lv_istore (lv' := [(5, .int (nI (t + (dc_far un)))), (4, .int (nI (dc_far un))), (3, .int mo), (2, .int cn), (1, .int un), (0, .ref (a 0))]) hx hb dX0_run_46 hl (by decide) rfl (fun ls hl => ?_)
    refine lv_iconst (v := nI 0) hx hb dX0_run_48 (by decide) ?_
    refine lv_istore (lv' := [(6, .int (nI 0)), (5, .int (nI (t + (dc_far un)))), (4, .int (nI (dc_far un))), (3, .int mo), (2, .int cn), (1, .int un), (0, .ref (a 0))]) hx hb dX0_run_49 hl (by decide) rfl (fun ls hl => ?_)
    refine lv_aload_n hx hb dX0_run_51 rfl (lv_at hl 6 rfl) ?_
    refine lv_iload hx hb dX0_run_52 (lv_at hl 1 rfl) ?_
    refine dc_callR (As := [.int (nI (t + (dc_far un)))]) (rest := []) S hw (mX0_due l dg d a _ V E (nI n0) K Y P C Wt t dn ds DV WS WV Q (t + dc_far un) (by omega) (by omega) hR) (cwV 1 S.2.2.2.2 (lw_V q137 q139 qs9 q17 q140) rfl rfl rfl (by decide +kernel) ⟨Nat.le_of_ble_eq_true rfl, Nat.le_of_ble_eq_true rfl⟩) (ci := 0) rfl rfl rfl rfl hl.1 rfl (Nat.le_of_ble_eq_true rfl) dX0_run_54 ⟨Nat.zero_le _, Nat.zero_le _⟩ (fun r3 hr3 => ?_)
    obtain ⟨b3, hr3, hb3⟩ := hr3
    subst hr3
    refine lv_istore (lv' := [(7, .int (nI b3)), (6, .int (nI 0)), (5, .int (nI (t + (dc_far un)))), (4, .int (nI (dc_far un))), (3, .int mo), (2, .int cn), (1, .int un), (0, .ref (a 0))]) hx hb dX0_run_57 hl (by decide) rfl (fun ls hl => ?_)
    exact lp (dc_most cn + 1) 0 b3 Q V E t dn ds DV WS WV (by omega) (by omega) (by omega) rfl hb3 hR _ _ hw ls (lv_sub hl [0, 1, 2, 3, 4, 5, 6, 7] rfl)
  have md : ∀ mo : Int32, (∀ j, j ≤ 200 → (mo ≤ nI j ↔ dc_most cn ≤ j)) → ∀ ls : Array Slot, lv_has ls 8 [(3, .int mo), (2, .int cn), (1, .int un), (0, .ref (a 0))] → W p l e ({ frames := 4, cells := 0, slots := 0, locals := 93 } : Room) s m ([.ref (a 0), .int un, .int cn] : List Value).toArray below meth c s.heap [] 0 0 Qz (F0 m 15 ls []) := by
    intro mo hmo ls hl
    refine lv_iload_n hx hb dX0_run_15 rfl (lv_at hl 2 rfl) ?_
    refine lv_istore (lv' := [(4, .int un), (3, .int mo), (2, .int cn), (1, .int un), (0, .ref (a 0))]) hx hb dX0_run_16 hl (by decide) rfl (fun ls hl => ?_)
    refine lv_iload hx hb dX0_run_18 (lv_at hl 0 rfl) ?_
    refine lv_if_ge (tgt := 26) hx hb dX0_run_20 (by decide) (fun c_20 => ?_) (fun c_20 => ?_)
    · refine lv_iload hx hb dX0_run_26 (lv_at hl 0 rfl) ?_
      refine lv_sipush (v := nI 1000) hx hb dX0_run_28 (by decide) ?_
      refine lv_icmp_le (tgt := 39) hx hb dX0_run_31 (by decide) (fun c_31 => ?_) (fun c_31 => ?_)
      · have hfi := dc_far_i (dc_nlt c_20) c_31
        have hl4 : lv_has ls 8 [(4, .int un)] := lv_sub hl [0] rfl
        have hl4 : lv_has ls 8 [(4, .int (nI (dc_far un)))] := by rw [← hfi]; exact hl4
        exact tl mo hmo ls ⟨hl.1, hl.2.1, fun q hq => by
          rcases List.mem_cons.mp hq with e | e
          · rw [e]; exact hl4.2.2 _ List.mem_cons_self
          · exact (lv_sub hl [1, 2, 3, 4] rfl : lv_has ls 8 [(3, .int mo), (2, .int cn), (1, .int un), (0, .ref (a 0))]).2.2 q e⟩
      · refine lv_sipush (v := nI 1000) hx hb dX0_run_34 (by decide) ?_
        refine lv_istore (lv' := [(4, .int (nI 1000)), (3, .int mo), (2, .int cn), (1, .int un), (0, .ref (a 0))]) hx hb dX0_run_37 hl (by decide) rfl (fun ls hl => ?_)
        have hfb := dc_far_b (dc_nlt c_20) c_31
        exact tl mo hmo ls (by rw [hfb]; exact (lv_sub hl [0, 1, 2, 3, 4] rfl))
    · refine lv_iconst (v := nI 0) hx hb dX0_run_23 (by decide) ?_
      refine lv_istore (lv' := [(4, .int (nI 0)), (3, .int mo), (2, .int cn), (1, .int un), (0, .ref (a 0))]) hx hb dX0_run_24 hl (by decide) rfl (fun ls hl => ?_)
      refine lv_iload hx hb dX0_run_26 (lv_at hl 0 rfl) ?_
      refine lv_sipush (v := nI 1000) hx hb dX0_run_28 (by decide) ?_
      refine lv_icmp_le (tgt := 39) hx hb dX0_run_31 (by decide) (fun c_31 => ?_) (fun c_31 => ?_)
      · have hfb := dc_far_n (dc_ge0 c_20)
        exact tl mo hmo ls (by rw [hfb]; exact (lv_sub hl [0, 1, 2, 3, 4] rfl))
      · exact absurd (by decide) c_31
  refine lv_iload_n hx hb dX0_run_0 rfl (lv_at hl 2 rfl) ?_
  refine lv_sipush (v := nI 200) hx hb dX0_run_1 (by decide) ?_
  refine lv_icmp_le (tgt := 13) hx hb dX0_run_4 (by decide) (fun c_4 => ?_) (fun c_4 => ?_)
  · refine lv_iload_n hx hb dX0_run_13 rfl (lv_at hl 2 rfl) ?_
    refine lv_istore_n (lv' := [(3, .int cn), (0, .ref (a 0)), (1, .int un), (2, .int cn)]) hx hb dX0_run_14 rfl hl (by decide) rfl (fun ls hl => ?_)
    exact md cn (dc_most_1 c_4) ls (lv_sub hl [0, 3, 2, 1] rfl)
  · refine lv_sipush (v := nI 200) hx hb dX0_run_7 (by decide) ?_
    refine lv_goto (tgt := 14) hx hb dX0_run_10 (by decide) ?_
    refine lv_istore_n (lv' := [(3, .int (nI 200)), (0, .ref (a 0)), (1, .int un), (2, .int cn)]) hx hb dX0_run_14 rfl hl (by decide) rfl (fun ls hl => ?_)
    exact md (nI 200) (dc_most_2 c_4) ls (lv_sub hl [0, 3, 2, 1] rfl)
end
section
set_option maxRecDepth 100000
set_option maxHeartbeats 4000000 in
set_option maxRecDepth 100000 in
theorem mX0_reset (l : Launch) (dg : va_G) (d : ClassId × ClassId) (a : Nat → Nat) (sz : Nat) (V : Nat → Int32) (E : Nat → Int32) (np : Int32) (K : Nat → Int32) (Y : Nat → Int32) (P : Nat → Int32) (C : Nat → Int32) (Wt : Nat → Int32) (tm : Int32) (dn : Int32) (ds : Int32) (DV : Nat → Int32) (WS : Nat → Int32) (WV : Nat → Int32)  : Met l yX0_reset (ws_ yX0_reset cX0_reset 2 none) ({ frames := 0, cells := 0, slots := 0, locals := 0 } : Room) (dc_Pre dg d [.ref (a 0)] (dc_wX d a V E np K Y P C Wt tm dn ds DV WS WV) sz) (va_Qv (fun (z : Unit) => True) (dc_B dg d (va_A (dc_wX d a V E np K Y P C Wt tm dn ds DV WS WV) sz) (fun z : Unit => dc_wX d a (fa_fill (fun _ => nI 0) V 12) (fa_fill (fun _ => nI 0) E 12) np K Y P C Wt (nI 0) (nI 0) (nI 0) DV (fa_fill (fun _ => nI 0) WS 10) WV)) (va_A (dc_wX d a V E np K Y P C Wt tm dn ds DV WS WV) sz)) 0 0 (va_A (dc_wX d a V E np K Y P C Wt tm dn ds DV WS WV) sz) := by
  refine dc_metV (by decide) (Nat.le_of_ble_eq_true rfl) (fun p e s m below meth c A Qz ls S hw hl ret => ?_)
  have hx := S.1
  have hb := S.2.1
  have hl : lv_has ls 2 [(0, .ref (a 0))] := hl
  refine lv_aload_n hx hb dX0_reset_0 rfl (lv_at hl 0 rfl) ?_
  refine lv_iconst (v := nI 0) hx hb dX0_reset_1 (by decide) ?_
  refine x0_put (ws' := dc_wX d a V E np K Y P C Wt (nI 0) dn ds DV WS WV) S hw rfl 8 (by decide) q35 rfl (by decide +kernel) (Nat.le_of_ble_eq_true rfl) rfl dX0_reset_2 (fun H locs hw => ?_)
  refine lv_aload_n hx hb dX0_reset_5 rfl (lv_at hl 0 rfl) ?_
  refine lv_iconst (v := nI 0) hx hb dX0_reset_6 (by decide) ?_
  refine x0_put (ws' := dc_wX d a V E np K Y P C Wt (nI 0) (nI 0) ds DV WS WV) S hw rfl 9 (by decide) q36 rfl (by decide +kernel) (Nat.le_of_ble_eq_true rfl) rfl dX0_reset_7 (fun H locs hw => ?_)
  refine lv_aload_n hx hb dX0_reset_10 rfl (lv_at hl 0 rfl) ?_
  refine lv_iconst (v := nI 0) hx hb dX0_reset_11 (by decide) ?_
  refine x0_put (ws' := dc_wX d a V E np K Y P C Wt (nI 0) (nI 0) (nI 0) DV WS WV) S hw rfl 10 (by decide) q37 rfl (by decide +kernel) (Nat.le_of_ble_eq_true rfl) rfl dX0_reset_12 (fun H locs hw => ?_)
  refine lv_iconst (v := nI 0) hx hb dX0_reset_15 (by decide) ?_
  refine lv_istore_n (lv' := [(1, .int (nI 0)), (0, .ref (a 0))]) hx hb dX0_reset_16 rfl hl (by decide) rfl (fun ls hl => ?_)
  have lp2 : ∀ (n : Nat) (k : Nat), k ≤ 12 → 13 ≤ k + n → ∀ (H : Heap) (locs : List Loc), dc_Wd dg d A s (dc_wX d a (fa_fill (fun _ => nI 0) V k) (fa_fill (fun _ => nI 0) E k) np K Y P C Wt (nI 0) (nI 0) (nI 0) DV (fa_fill (fun _ => nI 0) WS 10) WV) H locs → ∀ ls : Array Slot, lv_has ls 2 [(1, .int (nI k)), (0, .ref (a 0))] → W p l e ({ frames := 0, cells := 0, slots := 0, locals := 0 } : Room) s m ([.ref (a 0)] : List Value).toArray below meth c H locs 0 0 Qz (F0 m 38 ls []) := by
    intro n
    induction n with
    | zero =>
      intro k hk hn H locs hw ls hl
      exact absurd hn (by omega)
    | succ n ih =>
      intro k hk hn H locs hw ls hl
      refine lv_iload_n hx hb dX0_reset_38 rfl (lv_at hl 0 rfl) ?_
      refine lv_bipush (v := nI 12) hx hb dX0_reset_39 (by decide) ?_
      refine dc_ge (tgt := 64) hx hb (by omega) (by omega) dX0_reset_41 (by decide) (fun c_41 => ?_) (fun c_41 => ?_)
      · have ek : k = 12 := by omega
        subst ek
        exact ret 64 _ _ _ () dX0_reset_64 trivial hw
      · refine lv_aload_n hx hb dX0_reset_44 rfl (lv_at hl 1 rfl) ?_
        refine x0_get (v := .ref (a 1)) S hw rfl 0 (by decide) q27 rfl dX0_reset_45 ?_
        refine lv_iload_n hx hb dX0_reset_48 rfl (lv_at hl 0 rfl) ?_
        refine lv_iconst (v := nI 0) hx hb dX0_reset_49 (by decide) ?_
        refine dc_ist (ws' := dc_wX d a (upd (fa_fill (fun _ => nI 0) V k) k (nI 0)) (fa_fill (fun _ => nI 0) E k) np K Y P C Wt (nI 0) (nI 0) (nI 0) DV (fa_fill (fun _ => nI 0) WS 10) WV) S hw 1 rfl (i := k) (by omega) (by decide) rfl dX0_reset_50 (fun H locs hw => ?_)
        refine lv_aload_n hx hb dX0_reset_51 rfl (lv_at hl 1 rfl) ?_
        refine x0_get (v := .ref (a 2)) S hw rfl 1 (by decide) q28 rfl dX0_reset_52 ?_
        refine lv_iload_n hx hb dX0_reset_55 rfl (lv_at hl 0 rfl) ?_
        refine lv_iconst (v := nI 0) hx hb dX0_reset_56 (by decide) ?_
        refine dc_ist (ws' := dc_wX d a (upd (fa_fill (fun _ => nI 0) V k) k (nI 0)) (upd (fa_fill (fun _ => nI 0) E k) k (nI 0)) np K Y P C Wt (nI 0) (nI 0) (nI 0) DV (fa_fill (fun _ => nI 0) WS 10) WV) S hw 2 rfl (i := k) (by omega) (by decide) rfl dX0_reset_57 (fun H locs hw => ?_)
        refine lv_iinc (v := nI (k + 1)) (lv' := [(1, .int (nI (k + 1))), (0, .ref (a 0))]) hx hb dX0_reset_58 hl (k := 0) rfl (dc_inc _) (by decide) rfl (fun ls hl => ?_)
        refine lv_goto (tgt := 38) hx hb dX0_reset_61 (by decide) ?_
        rw [dc_fill0, dc_fill0] at hw
        exact ih (k + 1) (by omega) (by omega) H locs hw ls (lv_sub hl [0, 1] rfl)
  have lp1 : ∀ (n : Nat) (k : Nat), k ≤ 10 → 11 ≤ k + n → ∀ (H : Heap) (locs : List Loc), dc_Wd dg d A s (dc_wX d a V E np K Y P C Wt (nI 0) (nI 0) (nI 0) DV (fa_fill (fun _ => nI 0) WS k) WV) H locs → ∀ ls : Array Slot, lv_has ls 2 [(1, .int (nI k)), (0, .ref (a 0))] → W p l e ({ frames := 0, cells := 0, slots := 0, locals := 0 } : Room) s m ([.ref (a 0)] : List Value).toArray below meth c H locs 0 0 Qz (F0 m 17 ls []) := by
    intro n
    induction n with
    | zero =>
      intro k hk hn H locs hw ls hl
      exact absurd hn (by omega)
    | succ n ih =>
      intro k hk hn H locs hw ls hl
      refine lv_iload_n hx hb dX0_reset_17 rfl (lv_at hl 0 rfl) ?_
      refine lv_bipush (v := nI 10) hx hb dX0_reset_18 (by decide) ?_
      refine dc_ge (tgt := 36) hx hb (by omega) (by omega) dX0_reset_20 (by decide) (fun c_20 => ?_) (fun c_20 => ?_)
      · have ek : k = 10 := by omega
        subst ek
        refine lv_iconst (v := nI 0) hx hb dX0_reset_36 (by decide) ?_
        refine lv_istore_n (lv' := [(1, .int (nI 0)), (0, .ref (a 0))]) hx hb dX0_reset_37 rfl hl (by decide) rfl (fun ls hl => ?_)
        exact lp2 13 0 (by omega) (by omega) H locs (by rw [fa_fill_0, fa_fill_0]; exact hw) ls (lv_sub hl [0, 1] rfl)
      · refine lv_aload_n hx hb dX0_reset_23 rfl (lv_at hl 1 rfl) ?_
        refine x0_get (v := .ref (a 9)) S hw rfl 12 (by decide) q39 rfl dX0_reset_24 ?_
        refine lv_iload_n hx hb dX0_reset_27 rfl (lv_at hl 0 rfl) ?_
        refine lv_iconst (v := nI 0) hx hb dX0_reset_28 (by decide) ?_
        refine dc_ist (ws' := dc_wX d a V E np K Y P C Wt (nI 0) (nI 0) (nI 0) DV (upd (fa_fill (fun _ => nI 0) WS k) k (nI 0)) WV) S hw 9 rfl (i := k) (by omega) (by decide) rfl dX0_reset_29 (fun H locs hw => ?_)
        refine lv_iinc (v := nI (k + 1)) (lv' := [(1, .int (nI (k + 1))), (0, .ref (a 0))]) hx hb dX0_reset_30 hl (k := 0) rfl (dc_inc _) (by decide) rfl (fun ls hl => ?_)
        refine lv_goto (tgt := 17) hx hb dX0_reset_33 (by decide) ?_
        rw [dc_fill0] at hw
        exact ih (k + 1) (by omega) (by omega) H locs hw ls (lv_sub hl [0, 1] rfl)
  exact lp1 11 0 (by omega) (by omega) H locs (by rw [fa_fill_0]; exact hw) ls (lv_sub hl [0, 1] rfl)
set_option maxHeartbeats 4000000 in
set_option maxRecDepth 100000 in
theorem mX0_value (l : Launch) (dg : va_G) (d : ClassId × ClassId) (a : Nat → Nat) (sz : Nat) (V : Nat → Int32) (E : Nat → Int32) (np : Int32) (K : Nat → Int32) (Y : Nat → Int32) (P : Nat → Int32) (C : Nat → Int32) (Wt : Nat → Int32) (tm : Int32) (dn : Int32) (ds : Int32) (DV : Nat → Int32) (WS : Nat → Int32) (WV : Nat → Int32) (sg : Int32) : Met l yX0_value (ws_ yX0_value cX0_value 2 (some .int)) ({ frames := 1, cells := 0, slots := 0, locals := 20 } : Room) (dc_Pre dg d [.ref (a 0), .int sg] (dc_wX d a V E np K Y P C Wt tm dn ds DV WS WV) sz) (vp_Si (fun r : Int32 => r = dc_vaR V sg)) 0 0 (fun _ => False) := by
  refine dc_metR (by decide) (Nat.le_of_ble_eq_true rfl) (fun p e s m below meth c A Qz ls S hw hl ret => ?_)
  have hx := S.1
  have hb := S.2.1
  have hl : lv_has ls 2 [(0, .ref (a 0)), (1, .int sg)] := hl
  refine lv_iload_n hx hb dX0_value_0 rfl (lv_at hl 1 rfl) ?_
  refine dc_callS (As := [.int sg]) (rest := []) S (mX0_bad l sg) (va_cwS 1 S.2.2.2.2 (lw_S q75 q76 q17 q77) rfl rfl rfl (by decide +kernel) ⟨Nat.le_of_ble_eq_true rfl, Nat.le_of_ble_eq_true rfl⟩) rfl hl.1 rfl (Nat.le_of_ble_eq_true rfl) dX0_value_1 ⟨Nat.zero_le _, Nat.zero_le _⟩ (fun r hr => ?_)
  refine lv_if_eq (tgt := 11) hx hb dX0_value_4 (by decide) (fun c_4 => ?_) (fun c_4 => ?_)
  · obtain ⟨si, hs, e1⟩ := dc_bad_no (hr ▸ c_4)
    subst e1
    refine lv_aload_n hx hb dX0_value_11 rfl (lv_at hl 0 rfl) ?_
    refine x0_get (v := .ref (a 1)) S hw rfl 0 (by decide) q27 rfl dX0_value_12 ?_
    refine lv_iload_n hx hb dX0_value_15 rfl (lv_at hl 1 rfl) ?_
    refine dc_ild S hw 1 rfl (i := si) (by omega) (by decide) dX0_value_16 ?_
    exact ret 17 _ _ dX0_value_17 rfl (by unfold dc_vaR; rw [if_pos (hr ▸ c_4), nI_clamp (by omega)])
  · refine lv_iconst (v := nI 0) hx hb dX0_value_7 (by decide) ?_
    refine lv_goto (tgt := 17) hx hb dX0_value_8 (by decide) ?_
    exact ret 17 _ _ dX0_value_17 rfl (by unfold dc_vaR; rw [if_neg (fun q => c_4 (hr ▸ q))]; rfl)
set_option maxHeartbeats 4000000 in
set_option maxRecDepth 100000 in
theorem mX0_events (l : Launch) (dg : va_G) (d : ClassId × ClassId) (a : Nat → Nat) (sz : Nat) (V : Nat → Int32) (E : Nat → Int32) (np : Int32) (K : Nat → Int32) (Y : Nat → Int32) (P : Nat → Int32) (C : Nat → Int32) (Wt : Nat → Int32) (tm : Int32) (dn : Int32) (ds : Int32) (DV : Nat → Int32) (WS : Nat → Int32) (WV : Nat → Int32) (sg : Int32) : Met l yX0_events (ws_ yX0_events cX0_events 2 (some .int)) ({ frames := 1, cells := 0, slots := 0, locals := 20 } : Room) (dc_Pre dg d [.ref (a 0), .int sg] (dc_wX d a V E np K Y P C Wt tm dn ds DV WS WV) sz) (vp_Si (fun r : Int32 => r = dc_vaR E sg)) 0 0 (fun _ => False) := by
  refine dc_metR (by decide) (Nat.le_of_ble_eq_true rfl) (fun p e s m below meth c A Qz ls S hw hl ret => ?_)
  have hx := S.1
  have hb := S.2.1
  have hl : lv_has ls 2 [(0, .ref (a 0)), (1, .int sg)] := hl
  refine lv_iload_n hx hb dX0_events_0 rfl (lv_at hl 1 rfl) ?_
  refine dc_callS (As := [.int sg]) (rest := []) S (mX0_bad l sg) (va_cwS 1 S.2.2.2.2 (lw_S q75 q76 q17 q77) rfl rfl rfl (by decide +kernel) ⟨Nat.le_of_ble_eq_true rfl, Nat.le_of_ble_eq_true rfl⟩) rfl hl.1 rfl (Nat.le_of_ble_eq_true rfl) dX0_events_1 ⟨Nat.zero_le _, Nat.zero_le _⟩ (fun r hr => ?_)
  refine lv_if_eq (tgt := 11) hx hb dX0_events_4 (by decide) (fun c_4 => ?_) (fun c_4 => ?_)
  · obtain ⟨si, hs, e1⟩ := dc_bad_no (hr ▸ c_4)
    subst e1
    refine lv_aload_n hx hb dX0_events_11 rfl (lv_at hl 0 rfl) ?_
    refine x0_get (v := .ref (a 2)) S hw rfl 1 (by decide) q28 rfl dX0_events_12 ?_
    refine lv_iload_n hx hb dX0_events_15 rfl (lv_at hl 1 rfl) ?_
    refine dc_ild S hw 2 rfl (i := si) (by omega) (by decide) dX0_events_16 ?_
    exact ret 17 _ _ dX0_events_17 rfl (by unfold dc_vaR; rw [if_pos (hr ▸ c_4), nI_clamp (by omega)])
  · refine lv_iconst (v := nI 0) hx hb dX0_events_7 (by decide) ?_
    refine lv_goto (tgt := 17) hx hb dX0_events_8 (by decide) ?_
    exact ret 17 _ _ dX0_events_17 rfl (by unfold dc_vaR; rw [if_neg (fun q => c_4 (hr ▸ q))]; rfl)
set_option maxHeartbeats 4000000 in
set_option maxRecDepth 100000 in
theorem mX0_time (l : Launch) (dg : va_G) (d : ClassId × ClassId) (a : Nat → Nat) (sz : Nat) (V : Nat → Int32) (E : Nat → Int32) (np : Int32) (K : Nat → Int32) (Y : Nat → Int32) (P : Nat → Int32) (C : Nat → Int32) (Wt : Nat → Int32) (tm : Int32) (dn : Int32) (ds : Int32) (DV : Nat → Int32) (WS : Nat → Int32) (WV : Nat → Int32)  : Met l yX0_time (ws_ yX0_time cX0_time 1 (some .int)) ({ frames := 0, cells := 0, slots := 0, locals := 0 } : Room) (dc_Pre dg d [.ref (a 0)] (dc_wX d a V E np K Y P C Wt tm dn ds DV WS WV) sz) (vp_Si (fun r : Int32 => r = tm)) 0 0 (fun _ => False) := by
  refine dc_metR (by decide) (Nat.le_of_ble_eq_true rfl) (fun p e s m below meth c A Qz ls S hw hl ret => ?_)
  have hx := S.1
  have hb := S.2.1
  have hl : lv_has ls 1 [(0, .ref (a 0))] := hl
  refine lv_aload_n hx hb dX0_time_0 rfl (lv_at hl 0 rfl) ?_
  refine x0_get (v := .int tm) S hw rfl 8 (by decide) q35 rfl dX0_time_1 ?_
  exact ret 4 _ _ dX0_time_4 rfl rfl
set_option maxHeartbeats 4000000 in
set_option maxRecDepth 100000 in
theorem mX0_cycles (l : Launch) (dg : va_G) (d : ClassId × ClassId) (a : Nat → Nat) (sz : Nat) (V : Nat → Int32) (E : Nat → Int32) (np : Int32) (K : Nat → Int32) (Y : Nat → Int32) (P : Nat → Int32) (C : Nat → Int32) (Wt : Nat → Int32) (tm : Int32) (dn : Int32) (ds : Int32) (DV : Nat → Int32) (WS : Nat → Int32) (WV : Nat → Int32)  : Met l yX0_cycles (ws_ yX0_cycles cX0_cycles 1 (some .int)) ({ frames := 0, cells := 0, slots := 0, locals := 0 } : Room) (dc_Pre dg d [.ref (a 0)] (dc_wX d a V E np K Y P C Wt tm dn ds DV WS WV) sz) (vp_Si (fun r : Int32 => r = dn)) 0 0 (fun _ => False) := by
  refine dc_metR (by decide) (Nat.le_of_ble_eq_true rfl) (fun p e s m below meth c A Qz ls S hw hl ret => ?_)
  have hx := S.1
  have hb := S.2.1
  have hl : lv_has ls 1 [(0, .ref (a 0))] := hl
  refine lv_aload_n hx hb dX0_cycles_0 rfl (lv_at hl 0 rfl) ?_
  refine x0_get (v := .int dn) S hw rfl 9 (by decide) q36 rfl dX0_cycles_1 ?_
  exact ret 4 _ _ dX0_cycles_4 rfl rfl
set_option maxHeartbeats 4000000 in
set_option maxRecDepth 100000 in
theorem mX0_nextTime (l : Launch) (dg : va_G) (d : ClassId × ClassId) (a : Nat → Nat) (sz : Nat) (V : Nat → Int32) (E : Nat → Int32) (np : Int32) (K : Nat → Int32) (Y : Nat → Int32) (P : Nat → Int32) (C : Nat → Int32) (Wt : Nat → Int32) (t : Nat) (dn : Int32) (ds : Int32) (DV : Nat → Int32) (WS : Nat → Int32) (WV : Nat → Int32) (Q : dc_Q) (ht : t < 2 ^ 30) (hR : dc_RX t Q ds DV WS WV) : Met l yX0_nextTime (ws_ yX0_nextTime cX0_nextTime 2 (some .int)) ({ frames := 2, cells := 0, slots := 0, locals := 42 } : Room) (dc_Pre dg d [.ref (a 0)] (dc_wX d a V E np K Y P C Wt (nI t) dn ds DV WS WV) sz) (vp_Si (fun r : Int32 => dc_ntR Q r)) 0 0 (fun _ => False) := by
  refine dc_metR (by decide) (Nat.le_of_ble_eq_true rfl) (fun p e s m below meth c A Qz ls S hw hl ret => ?_)
  have hx := S.1
  have hb := S.2.1
  have hl : lv_has ls 2 [(0, .ref (a 0))] := hl
  refine lv_aload_n hx hb dX0_nextTime_0 rfl (lv_at hl 0 rfl) ?_
  refine dc_callR (As := []) (rest := []) S hw (mX0_nextUnits l dg d a _ V E np K Y P C Wt t dn ds DV WS WV Q ht hR) (cwV 0 S.2.2.2.2 (lw_V q117 q119 qs5 q17 q120) rfl rfl rfl (by decide +kernel) ⟨Nat.le_of_ble_eq_true rfl, Nat.le_of_ble_eq_true rfl⟩) (ci := 0) rfl rfl rfl rfl hl.1 rfl (Nat.le_of_ble_eq_true rfl) dX0_nextTime_1 ⟨Nat.zero_le _, Nat.zero_le _⟩ (fun r hr => ?_)
  rcases hr with ⟨hem, hr⟩ | ⟨u, hu, hnx, hr⟩ <;> subst hr
  · refine lv_istore_n (lv' := [(1, .int (-1)), (0, .ref (a 0))]) hx hb dX0_nextTime_4 rfl hl (by decide) rfl (fun ls hl => ?_)
    refine lv_iload_n hx hb dX0_nextTime_5 rfl (lv_at hl 0 rfl) ?_
    refine lv_if_ge (tgt := 14) hx hb dX0_nextTime_6 (by decide) (fun c_6 => ?_) (fun c_6 => ?_)
    · exact absurd c_6 (by decide)
    · refine lv_bipush (v := (-5)) hx hb dX0_nextTime_9 (by decide) ?_
      refine lv_goto (tgt := 20) hx hb dX0_nextTime_11 (by decide) ?_
      exact ret 20 _ _ dX0_nextTime_20 rfl (Or.inl ⟨hem, rfl⟩)
  · refine lv_istore_n (lv' := [(1, .int (nI u)), (0, .ref (a 0))]) hx hb dX0_nextTime_4 rfl hl (by decide) rfl (fun ls hl => ?_)
    refine lv_iload_n hx hb dX0_nextTime_5 rfl (lv_at hl 0 rfl) ?_
    refine lv_if_ge (tgt := 14) hx hb dX0_nextTime_6 (by decide) (fun c_6 => ?_) (fun c_6 => ?_)
    · refine lv_aload_n hx hb dX0_nextTime_14 rfl (lv_at hl 1 rfl) ?_
      refine x0_get (v := .int (nI t)) S hw rfl 8 (by decide) q35 rfl dX0_nextTime_15 ?_
      refine lv_iload_n hx hb dX0_nextTime_18 rfl (lv_at hl 0 rfl) ?_
      refine dc_addN hx hb dX0_nextTime_19 ?_
      exact ret 20 _ _ dX0_nextTime_20 rfl (Or.inr ⟨t + u, hnx, rfl⟩)
    · exact absurd (nI_pos' (by omega)) c_6
set_option maxHeartbeats 4000000 in
set_option maxRecDepth 100000 in
theorem mX0_coming (l : Launch) (dg : va_G) (d : ClassId × ClassId) (a : Nat → Nat) (sz : Nat) (V : Nat → Int32) (E : Nat → Int32) (np : Int32) (K : Nat → Int32) (Y : Nat → Int32) (P : Nat → Int32) (C : Nat → Int32) (Wt : Nat → Int32) (t : Nat) (dn : Int32) (ds : Int32) (DV : Nat → Int32) (WS : Nat → Int32) (WV : Nat → Int32) (Q : dc_Q) (sg : Int32) (ht : t < 2 ^ 30) (hR : dc_RX t Q ds DV WS WV) : Met l yX0_coming (ws_ yX0_coming cX0_coming 4 (some .int)) ({ frames := 1, cells := 0, slots := 0, locals := 21 } : Room) (dc_Pre dg d [.ref (a 0), .int sg] (dc_wX d a V E np K Y P C Wt (nI t) dn ds DV WS WV) sz) (vp_Si (fun r : Int32 => dc_comR Q sg r)) 0 0 (fun _ => False) := by
  refine dc_metR (by decide) (Nat.le_of_ble_eq_true rfl) (fun p e s m below meth c A Qz ls S hw hl ret => ?_)
  have hx := S.1
  have hb := S.2.1
  have hl : lv_has ls 4 [(0, .ref (a 0)), (1, .int sg)] := hl
  refine lv_iload_n hx hb dX0_coming_0 rfl (lv_at hl 1 rfl) ?_
  refine dc_callS (As := [.int sg]) (rest := []) S (mX0_bad l sg) (va_cwS 1 S.2.2.2.2 (lw_S q75 q76 q17 q77) rfl rfl rfl (by decide +kernel) ⟨Nat.le_of_ble_eq_true rfl, Nat.le_of_ble_eq_true rfl⟩) rfl hl.1 rfl (Nat.le_of_ble_eq_true rfl) dX0_coming_1 ⟨Nat.zero_le _, Nat.zero_le _⟩ (fun r hr => ?_)
  refine lv_if_eq (tgt := 9) hx hb dX0_coming_4 (by decide) (fun c_4 => ?_) (fun c_4 => ?_)
  · obtain ⟨si, hs, e1⟩ := dc_bad_no (hr ▸ c_4)
    subst e1
    have lp : ∀ (n : Nat) (k : Nat), 1 ≤ k → k ≤ 10 → 11 ≤ k + n → (∀ T, T < t + k → Q T si = none) → ∀ ls : Array Slot, lv_has ls 4 [(2, .int (nI k)), (1, .int (nI si)), (0, .ref (a 0))] → W p l e ({ frames := 1, cells := 0, slots := 0, locals := 21 } : Room) s m ([.ref (a 0), .int (nI si)] : List Value).toArray below meth c s.heap [] 0 0 Qz (F0 m 30 ls []) := by
      intro n
      induction n with
      | zero =>
        intro k hk1 hk hn hno ls hl
        exact absurd hn (by omega)
      | succ n ih =>
        intro k hk1 hk hn hno ls hl
        refine lv_iload_n hx hb dX0_coming_30 rfl (lv_at hl 0 rfl) ?_
        refine lv_bipush (v := nI 10) hx hb dX0_coming_31 (by decide) ?_
        refine dc_ge (tgt := 74) hx hb (by omega) (by omega) dX0_coming_33 (by decide) (fun c_33 => ?_) (fun c_33 => ?_)
        · refine lv_iconst (v := nI 0) hx hb dX0_coming_74 (by decide) ?_
          exact ret 75 _ _ dX0_coming_75 rfl (Or.inr ⟨fun s9 hs9 e9 T => by rw [show s9 = si from ((nI_eq (by omega) (by omega)).mp e9).symm]; exact (Nat.lt_or_ge T (t + 10)).elim (fun q => hno T (by omega)) (fun q => dc_ok_far hR.1 (by omega)), rfl⟩)
        · refine lv_aload_n hx hb dX0_coming_36 rfl (lv_at hl 2 rfl) ?_
          refine lv_iload_n hx hb dX0_coming_37 rfl (lv_at hl 0 rfl) ?_
          refine dc_callR (As := [.int (nI k)]) (rest := []) S hw (mX0_slotAfter l dg d a _ V E np K Y P C Wt t dn ds DV WS WV k (by omega)) (cwV 1 S.2.2.2.2 (lw_V q86 q88 qs1 q17 q89) rfl rfl rfl (by decide +kernel) ⟨Nat.le_of_ble_eq_true rfl, Nat.le_of_ble_eq_true rfl⟩) (ci := 0) rfl rfl rfl rfl hl.1 rfl (Nat.le_of_ble_eq_true rfl) dX0_coming_38 ⟨Nat.zero_le _, Nat.zero_le _⟩ (fun r2 hr2 => ?_)
          subst hr2
          refine lv_istore_n (lv' := [(3, .int (nI ((t + k) % 10))), (2, .int (nI k)), (1, .int (nI si)), (0, .ref (a 0))]) hx hb dX0_coming_41 rfl hl (by decide) rfl (fun ls hl => ?_)
          refine lv_aload_n hx hb dX0_coming_42 rfl (lv_at hl 3 rfl) ?_
          refine x0_get (v := .ref (a 9)) S hw rfl 12 (by decide) q39 rfl dX0_coming_43 ?_
          refine lv_iload_n hx hb dX0_coming_46 rfl (lv_at hl 0 rfl) ?_
          refine dc_ild S hw 9 rfl (i := (t + k) % 10) (by omega) (by decide) dX0_coming_47 ?_
          refine lv_iload_n hx hb dX0_coming_48 rfl (lv_at hl 2 rfl) ?_
          refine lv_ishr hx hb dX0_coming_49 ?_
          refine lv_iconst (v := nI 1) hx hb dX0_coming_50 (by decide) ?_
          refine lv_iand hx hb dX0_coming_51 ?_
          refine lv_iconst (v := nI 1) hx hb dX0_coming_52 (by decide) ?_
          refine lv_icmp_ne (tgt := 68) hx hb dX0_coming_53 (by decide) (fun c_53 => ?_) (fun c_53 => ?_)
          · have hq : Q (t + k) si = none := dc_fs_f (Bool.eq_false_iff.mpr fun hf => c_53 ((dc_ask (hR.2.2.2.2 k (by omega) (by omega)).1 (show si < 32 by omega)).mpr hf))
            refine lv_iinc (v := nI (k + 1)) (lv' := [(2, .int (nI (k + 1))), (3, .int (nI ((t + k) % 10))), (1, .int (nI si)), (0, .ref (a 0))]) hx hb dX0_coming_68 hl (k := 1) rfl (dc_inc _) (by decide) rfl (fun ls hl => ?_)
            refine lv_goto (tgt := 30) hx hb dX0_coming_71 (by decide) ?_
            exact ih (k + 1) (by omega) (by omega) (by omega) (fun T hT => (Nat.lt_or_ge T (t + k)).elim (fun q => hno T q) (fun q => by rw [show T = t + k by omega]; exact hq)) ls (lv_sub hl [0, 2, 3] rfl)
          · obtain ⟨v, hv⟩ := dc_fs_t ((dc_ask (hR.2.2.2.2 k (by omega) (by omega)).1 (show si < 32 by omega)).mp c_53)
            refine lv_aload_n hx hb dX0_coming_56 rfl (lv_at hl 3 rfl) ?_
            refine x0_get (v := .ref (a 10)) S hw rfl 13 (by decide) q40 rfl dX0_coming_57 ?_
            refine lv_iload_n hx hb dX0_coming_60 rfl (lv_at hl 0 rfl) ?_
            refine lv_bipush (v := nI 12) hx hb dX0_coming_61 (by decide) ?_
            refine dc_mulN hx hb dX0_coming_63 ?_
            refine lv_iload_n hx hb dX0_coming_64 rfl (lv_at hl 2 rfl) ?_
            refine dc_addN hx hb dX0_coming_65 ?_
            refine dc_ild S hw 10 rfl (i := (((t + k) % 10) * 12) + si) (by omega) (by decide) dX0_coming_66 ?_
            exact ret 67 _ _ dX0_coming_67 rfl (Or.inl ⟨si, t + k, v, hs, rfl, hv, fun T' q => Nat.not_lt.mp fun q2 => q (hno T' q2), (hR.2.2.2.2 k (by omega) (by omega)).2 si v hv⟩)
    refine lv_aload_n hx hb dX0_coming_9 rfl (lv_at hl 0 rfl) ?_
    refine x0_get (v := .int ds) S hw rfl 10 (by decide) q37 rfl dX0_coming_10 ?_
    refine lv_iload_n hx hb dX0_coming_13 rfl (lv_at hl 1 rfl) ?_
    refine lv_ishr hx hb dX0_coming_14 ?_
    refine lv_iconst (v := nI 1) hx hb dX0_coming_15 (by decide) ?_
    refine lv_iand hx hb dX0_coming_16 ?_
    refine lv_iconst (v := nI 1) hx hb dX0_coming_17 (by decide) ?_
    refine lv_icmp_ne (tgt := 28) hx hb dX0_coming_18 (by decide) (fun c_18 => ?_) (fun c_18 => ?_)
    · have hq : Q t si = none := dc_fs_f (Bool.eq_false_iff.mpr fun hf => c_18 ((dc_ask hR.2.1 (show si < 32 by omega)).mpr hf))
      refine lv_iconst (v := nI 1) hx hb dX0_coming_28 (by decide) ?_
      refine lv_istore_n (lv' := [(2, .int (nI 1)), (0, .ref (a 0)), (1, .int (nI si))]) hx hb dX0_coming_29 rfl hl (by decide) rfl (fun ls hl => ?_)
      exact lp 10 1 (by omega) (by omega) (by omega) (fun T hT => (Nat.lt_or_ge T t).elim (fun q => dc_ok_far hR.1 (by omega)) (fun q => by rw [show T = t by omega]; exact hq)) ls (lv_sub hl [0, 2, 1] rfl)
    · obtain ⟨v, hv⟩ := dc_fs_t ((dc_ask hR.2.1 (show si < 32 by omega)).mp c_18)
      refine lv_aload_n hx hb dX0_coming_21 rfl (lv_at hl 0 rfl) ?_
      refine x0_get (v := .ref (a 8)) S hw rfl 11 (by decide) q38 rfl dX0_coming_22 ?_
      refine lv_iload_n hx hb dX0_coming_25 rfl (lv_at hl 1 rfl) ?_
      refine dc_ild S hw 8 rfl (i := si) (by omega) (by decide) dX0_coming_26 ?_
      exact ret 27 _ _ dX0_coming_27 rfl (Or.inl ⟨si, t, v, hs, rfl, hv, fun T' q => (hR.1 T' si q).1, hR.2.2.1 si v hv⟩)
  · refine lv_iconst (v := nI 0) hx hb dX0_coming_7 (by decide) ?_
    exact ret 8 _ _ dX0_coming_8 rfl (Or.inr ⟨fun si hs e9 => absurd e9 (dc_bad_yes (fun q => c_4 (hr ▸ q)) si hs), rfl⟩)
end
section
set_option maxRecDepth 100000
/-! ===== the model's picture ===== -/
def dc_RM (t : Nat) (Q : dc_Q) (c0 : Nat) (SG VL TM NX : Nat → Int32) : Prop := ∃ L : dc_L, L.length = c0 ∧ dc_hold t SG VL TM NX L ∧ dc_LQ L Q ∧ dc_ok t Q
theorem rm_count {t : Nat} {Q : dc_Q} {c0 : Nat} {SG VL TM NX : Nat → Int32} (h : dc_RM t Q c0 SG VL TM NX) : c0 = dc_count t Q := by
  obtain ⟨L, h1, -, h3, h4⟩ := h
  rw [← h1]
  exact lq_count L Q t h3 h4
theorem rm_le {t : Nat} {Q : dc_Q} {c0 : Nat} {SG VL TM NX : Nat → Int32} (h : dc_RM t Q c0 SG VL TM NX) : c0 ≤ 120 := by
  rw [rm_count h]
  exact dc_count_le t Q
theorem lq_le {t : Nat} {Q : dc_Q} {L : dc_L} (h3 : dc_LQ L Q) (h4 : dc_ok t Q) : L.length ≤ 120 := by
  rw [lq_count L Q t h3 h4]
  exact dc_count_le t Q
theorem lq_emp {Q : dc_Q} {L : dc_L} (h3 : dc_LQ L Q) : dc_emp Q ↔ L.length = 0 := by
  constructor
  · intro h
    cases L with
    | nil => rfl
    | cons e L =>
      obtain ⟨T, s, v⟩ := e
      have := (h3.1 T s v).mp List.mem_cons_self
      rw [h T s] at this
      cases this
  · intro h T s
    cases e : Q T s with
    | none => rfl
    | some v =>
      have := (h3.1 T s v).mpr e
      rw [List.eq_nil_of_length_eq_zero h] at this
      exact absurd this List.not_mem_nil
theorem rm_emp {t : Nat} {Q : dc_Q} {c0 : Nat} {SG VL TM NX : Nat → Int32} (h : dc_RM t Q c0 SG VL TM NX) : dc_emp Q ↔ c0 = 0 := by
  obtain ⟨L, h1, -, h3, -⟩ := h
  rw [← h1]
  exact lq_emp h3
theorem lq_at {L : dc_L} {Q : dc_Q} {t i : Nat} {e : dc_E} (h3 : dc_LQ L Q) (h4 : dc_ok t Q) (hi : L[i]? = some e) : Q e.1 e.2.1 = some e.2.2 ∧ t ≤ e.1 ∧ e.1 < t + 10 ∧ e.2.1 < 12 := by
  have a := (h3.1 e.1 e.2.1 e.2.2).mp (List.mem_of_getElem? hi)
  exact ⟨a, h4 _ _ (by rw [a]; exact Option.some_ne_none _)⟩
theorem lq_get {L : dc_L} {i : Nat} (h : i < L.length) : ∃ T s v, L[i]? = some (T, s, v) := ⟨L[i].1, L[i].2.1, L[i].2.2, List.getElem?_eq_getElem h⟩
theorem lq_find {L : dc_L} {Q : dc_Q} {T s : Nat} {v : Int32} (h3 : dc_LQ L Q) (hq : Q T s = some v) : ∃ i, i < L.length ∧ L[i]? = some (T, s, v) := by
  obtain ⟨i, hi⟩ := List.getElem?_of_mem ((h3.1 T s v).mpr hq)
  exact ⟨i, (List.getElem?_eq_some_iff.mp hi).1, hi⟩
/-- one more behind those that are held -/
theorem hold_add {t : Nat} {SG VL TM NX : Nat → Int32} {F : dc_L} {e : dc_E} {kl : Nat} {b : Int32} (h : dc_hold t SG VL TM NX F) (hk : kl = F.length) (hb : b = nI (if e.1 = t then 1 else 0)) :
    dc_hold t (upd SG kl (nI e.2.1)) (upd VL kl e.2.2) (upd TM kl (nI e.1)) (upd NX kl b) (F ++ [e]) := by
  subst hk
  intro k f hf
  rcases Nat.lt_or_ge k F.length with q | q
  · rw [List.getElem?_append_left q] at hf
    have a := h k f hf
    unfold dc_at at a ⊢
    rw [pk_un (by omega), pk_un (by omega), pk_un (by omega), pk_un (by omega)]
    exact a
  · rw [List.getElem?_append_right q] at hf
    have hz : k - F.length < 1 := (List.getElem?_eq_some_iff.mp hf).1
    have ek : k = F.length := by omega
    subst ek
    rw [Nat.sub_self] at hf
    cases hf
    unfold dc_at
    rw [pk_us, pk_us, pk_us, pk_us]
    exact ⟨rfl, rfl, rfl, hb⟩
theorem dc_nar01 {x : Int32} {b : Nat} (h : x = nI b) (hb : b = 0 ∨ b = 1) : vp_nar .boolean x = x := by
  subst h
  rcases hb with q | q <;> subst q <;> decide +kernel
theorem dc_if01 (c : Prop) [Decidable c] : (if c then 1 else 0 : Nat) = 0 ∨ (if c then 1 else 0 : Nat) = 1 := by
  by_cases h : c
  · rw [if_pos h]; exact Or.inr rfl
  · rw [if_neg h]; exact Or.inl rfl
theorem dc_atnar {t : Nat} {SG VL TM NX : Nat → Int32} {i : Nat} {e : dc_E} (h : dc_at t SG VL TM NX i e) : vp_nar .boolean (NX i) = NX i := dc_nar01 h.2.2.2 (dc_if01 _)
theorem dc_takeall {L F : dc_L} {i : Nat} {p : dc_E → Bool} (hi : i = L.length) (hF : F = (L.take i).filter p) : F = L.filter p := by
  rw [hF, hi, List.take_length]
theorem dc_take_y {L F : dc_L} {p : dc_E → Bool} {i : Nat} {e : dc_E} (hi : L[i]? = some e) (hF : F = (L.take i).filter p) (hp : p e = true) : F ++ [e] = (L.take (i + 1)).filter p := by
  rw [dc_take_f p hi, ← hF, if_pos hp]
theorem dc_take_n {L F : dc_L} {p : dc_E → Bool} {i : Nat} {e : dc_E} (hi : L[i]? = some e) (hF : F = (L.take i).filter p) (hp : p e = false) : F = (L.take (i + 1)).filter p := by
  rw [dc_take_f p hi, ← hF, if_neg (by rw [hp]; decide), List.append_nil]
/-! ===== operands ===== -/
theorem dc_b15 : ∀ j, j < 32 → bt (nI 15) j = decide (j < 4) := by decide +kernel
theorem dc_b64 (j : Nat) : bt 65535 j = decide (j < 16) := b_65535 j
theorem dc_op_b (x : Int32) (w : Nat) (hw : w < 4) {i : Nat} (hi : i < 32) : bt (dc_op x (nI w)) i = (decide (i < 4) && bt x (4 * w + i)) := by
  unfold dc_op
  rw [b_and, dc_b15 i hi, pk_mul, b_sshr (4 * w) (by omega) x hi]
  rcases Nat.lt_or_ge i 4 with q | q
  · rw [decide_eq_true q, if_pos (by omega), Bool.and_true, Bool.true_and]
  · rw [decide_eq_false (Nat.not_lt.mpr q), Bool.and_false, Bool.false_and]
theorem dc_o0 (x : Int32) : (x &&& 65535) &&& nI 15 = dc_op x (nI 0) := b_ext fun i hi => by
  rw [dc_op_b x 0 (by omega) hi, b_and, b_and, dc_b15 i hi, dc_b64]
  rcases Nat.lt_or_ge i 4 with q | q
  · rw [decide_eq_true q, decide_eq_true (show i < 16 by omega)]; simp
  · rw [decide_eq_false (Nat.not_lt.mpr q)]; simp
theorem dc_on (x : Int32) (w : Nat) (hw : w < 4) : ((x &&& 65535) >>> (nI (4 * w) &&& 31)) &&& nI 15 = dc_op x (nI w) := b_ext fun i hi => by
  rw [dc_op_b x w hw hi, b_and, dc_b15 i hi, b_sshr (4 * w) (by omega) _ hi]
  rcases Nat.lt_or_ge i 4 with q | q
  · rw [decide_eq_true q, if_pos (by omega), b_and, dc_b64, decide_eq_true (show 4 * w + i < 16 by omega)]; simp
  · rw [decide_eq_false (Nat.not_lt.mpr q)]; simp
theorem dc_o1 (x : Int32) : ((x &&& 65535) >>> (nI 4 &&& 31)) &&& nI 15 = dc_op x (nI 1) := dc_on x 1 (by omega)
theorem dc_o2 (x : Int32) : ((x &&& 65535) >>> (nI 8 &&& 31)) &&& nI 15 = dc_op x (nI 2) := dc_on x 2 (by omega)
theorem dc_o3 (x : Int32) : (x &&& 65535) >>> (nI 12 &&& 31) = dc_op x (nI 3) := b_ext fun i hi => by
  rw [dc_op_b x 3 (by omega) hi, b_sshr 12 (by omega) _ hi]
  rcases Nat.lt_or_ge i 4 with q | q
  · rw [decide_eq_true q, if_pos (by omega), b_and, dc_b64, decide_eq_true (show 12 + i < 16 by omega)]; simp
  · rw [decide_eq_false (Nat.not_lt.mpr q), Bool.false_and]
    by_cases h : 12 + i < 32
    · rw [if_pos h, b_and, dc_b64, decide_eq_false (show ¬ 12 + i < 16 by omega), Bool.and_false]
    · rw [if_neg h, b_and, dc_b64, decide_eq_false (show ¬ 31 < 16 by omega), Bool.and_false]
theorem dc_op_upd (P : Nat → Int32) (n : Nat) (x : Int32) : upd (fun p => P p &&& 65535) n (x &&& 65535) = fun p => upd P n x p &&& 65535 := by
  funext k
  by_cases e : k = n
  · subst e; rw [pk_us, pk_us]
  · rw [pk_un e, pk_un e]
theorem dc_op_le (x w : Int32) : dc_op x w ≤ nI 11 ↔ dc_bad (dc_op x w) = 0 := by
  obtain ⟨j, hj, e⟩ := pk_andE (x >>> ((nI 4 * w) &&& 31)) (m := nI 15) 4 (by decide)
  have e : dc_op x w = nI j := e
  rw [e]
  constructor
  · intro h
    have := (nI_leI (by omega) (by omega)).mp h
    exact dc_bad_ok (by omega)
  · intro h
    obtain ⟨s, hs, e2⟩ := dc_bad_no h
    rw [e2]
    exact (nI_leI (by omega) (by omega)).mpr (by omega)
theorem dc_bad_1 {x : Int32} (h : x < 0) : ¬ dc_bad x = 0 := by unfold dc_bad; rw [if_pos h]; decide
theorem dc_bad_2 {x : Int32} (h : nI 12 ≤ x) : ¬ dc_bad x = 0 := by
  intro q
  obtain ⟨s, hs, e⟩ := dc_bad_no q
  rw [e] at h
  have := (nI_leI (by omega) (by omega)).mp h
  omega
theorem dc_bad_3 {x : Int32} (h : ¬ x < 0) (h2 : ¬ nI 12 ≤ x) : dc_bad x = 0 := by unfold dc_bad; rw [if_neg h, if_pos (dc_nle h2)]; rfl
theorem dc_most_n {x : Int32} (h : x < 0) : dc_most x = 0 := by
  unfold dc_most
  rw [if_neg, dc_cl_neg h]
  intro q
  rw [Int32.lt_iff_toInt_lt, Int32.toInt_zero] at h
  rw [Int32.lt_iff_toInt_lt, nI_toInt (by omega)] at q
  omega
theorem dc_most_b {x : Int32} (h : ¬ x ≤ nI 200) : dc_most x = 200 := by unfold dc_most; rw [if_pos (dc_nle h)]
theorem dc_most_i {x : Int32} (h0 : ¬ x < 0) (h : x ≤ nI 200) : x = nI (dc_most x) := by
  unfold dc_most
  rw [if_neg (dc_nlt h)]
  obtain ⟨j, hj, e⟩ := nI_of h0
  subst e
  rw [nI_clamp hj]
/-! ===== the model's sweep over what is due ===== -/
def dc_up (Q : dc_Q) (T : Nat) (V E : Nat → Int32) (L : dc_L) (i : Nat) (V1 E1 : Nat → Int32) (mk : Int32) : Prop :=
  (∀ s, ((∃ v, (T, s, v) ∈ L.take i) → V1 s = dc_tV Q T V s ∧ E1 s = dc_tE Q T V E s) ∧ ((∀ v, (T, s, v) ∉ L.take i) → V1 s = V s ∧ E1 s = E s)) ∧
  ∀ b, b < 32 → (bt mk b = true ↔ (dc_ch Q T V b = true ∧ ∃ v, (T, b, v) ∈ L.take i))
theorem up_0 (Q : dc_Q) (T : Nat) (V E : Nat → Int32) (L : dc_L) : dc_up Q T V E L 0 V E (nI 0) := by
  refine ⟨fun s => ⟨fun h => ?_, fun _ => ⟨rfl, rfl⟩⟩, fun b _ => ?_⟩
  · obtain ⟨v, h⟩ := h
    rw [List.take_zero] at h
    exact absurd h List.not_mem_nil
  · rw [List.take_zero]
    constructor
    · intro h
      rw [show nI 0 = (0 : Int32) from rfl, b_0] at h
      cases h
    · rintro ⟨-, v, h⟩
      exact absurd h List.not_mem_nil
theorem dc_take_m {L : dc_L} {i : Nat} {e : dc_E} (hi : L[i]? = some e) (x : dc_E) : x ∈ L.take (i + 1) ↔ (x ∈ L.take i ∨ x = e) := by
  obtain ⟨li, gi⟩ := List.getElem?_eq_some_iff.mp hi
  rw [List.take_succ_eq_append_getElem li, List.mem_append, List.mem_singleton, gi]
theorem up_no {Q : dc_Q} {T : Nat} {V E : Nat → Int32} {L : dc_L} {i : Nat} {V1 E1 : Nat → Int32} {mk : Int32} {e : dc_E} (h : dc_up Q T V E L i V1 E1 mk) (hi : L[i]? = some e) (he : e.1 ≠ T) : dc_up Q T V E L (i + 1) V1 E1 mk := by
  have key : ∀ s v, (T, s, v) ∈ L.take (i + 1) ↔ (T, s, v) ∈ L.take i := by
    intro s v
    rw [dc_take_m hi]
    constructor
    · rintro (q | q)
      · exact q
      · exact absurd (by rw [← q]) he
    · exact Or.inl
  refine ⟨fun s => ⟨fun q => (h.1 s).1 (q.imp fun v => (key s v).mp), fun q => (h.1 s).2 (fun v z => q v ((key s v).mpr z))⟩, fun b hb => ?_⟩
  rw [h.2 b hb]
  constructor
  · rintro ⟨a, v, q⟩; exact ⟨a, v, (key b v).mpr q⟩
  · rintro ⟨a, v, q⟩; exact ⟨a, v, (key b v).mp q⟩
theorem up_new {Q : dc_Q} {T : Nat} {L : dc_L} {i s : Nat} {v : Int32} (hL : dc_LQ L Q) (hi : L[i]? = some (T, s, v)) : ∀ v', (T, s, v') ∉ L.take i := by
  intro v' hm
  obtain ⟨j, hj⟩ := List.getElem?_of_mem hm
  have hlt : j < (L.take i).length := (List.getElem?_eq_some_iff.mp hj).1
  rw [List.length_take] at hlt
  rw [List.getElem?_take_of_lt (by omega)] at hj
  have := lq_key hL hj hi rfl rfl
  omega
theorem up_same {Q : dc_Q} {T : Nat} {V E : Nat → Int32} {L : dc_L} {i : Nat} {V1 E1 : Nat → Int32} {mk : Int32} {s : Nat} {v : Int32} (h : dc_up Q T V E L i V1 E1 mk) (hL : dc_LQ L Q) (hi : L[i]? = some (T, s, v)) (hv : V1 s = v) : dc_up Q T V E L (i + 1) V1 E1 mk := by
  have hq : Q T s = some v := (hL.1 T s v).mp (List.mem_of_getElem? hi)
  have hn := up_new hL hi
  have ho := (h.1 s).2 hn
  have hvs : V s = v := by rw [← ho.1]; exact hv
  obtain ⟨a, b, c⟩ := dc_tk_same (E := E) hq hvs
  refine ⟨fun s' => ?_, fun b' hb' => ?_⟩
  · by_cases e : s' = s
    · subst e
      exact ⟨fun _ => ⟨by rw [a]; exact hv, by rw [b]; exact ho.2⟩, fun q => ho⟩
    · refine ⟨fun q => (h.1 s').1 ?_, fun q => (h.1 s').2 (fun v z => q v ((dc_take_m hi _).mpr (Or.inl z)))⟩
      obtain ⟨v', q⟩ := q
      rcases (dc_take_m hi _).mp q with q | q
      · exact ⟨v', q⟩
      · exact absurd (by rw [show s' = (T, s', v').2.1 from rfl, q]) e
  · rw [h.2 b' hb']
    constructor
    · rintro ⟨x, v', q⟩; exact ⟨x, v', (dc_take_m hi _).mpr (Or.inl q)⟩
    · rintro ⟨x, v', q⟩
      refine ⟨x, ?_⟩
      rcases (dc_take_m hi _).mp q with q | q
      · exact ⟨v', q⟩
      · have eb : b' = s := by rw [show b' = (T, b', v').2.1 from rfl, q]
        rw [eb, c] at x
        cases x
theorem up_diff {Q : dc_Q} {T : Nat} {V E : Nat → Int32} {L : dc_L} {i : Nat} {V1 E1 : Nat → Int32} {mk : Int32} {s : Nat} {v : Int32} (h : dc_up Q T V E L i V1 E1 mk) (hL : dc_LQ L Q) (hs : s < 12) (hi : L[i]? = some (T, s, v)) (hv : ¬ V1 s = v) :
    dc_up Q T V E L (i + 1) (upd V1 s v) (upd E1 s (E1 s + nI 1)) (mk ||| (nI 1 <<< (nI s &&& 31))) := by
  have hq : Q T s = some v := (hL.1 T s v).mp (List.mem_of_getElem? hi)
  have hn := up_new hL hi
  have ho := (h.1 s).2 hn
  have hvs : ¬ V s = v := by rw [← ho.1]; exact hv
  obtain ⟨a, b, c⟩ := dc_tk_diff (E := E) hq hvs
  have hin : (T, s, v) ∈ L.take (i + 1) := (dc_take_m hi _).mpr (Or.inr rfl)
  refine ⟨fun s' => ?_, fun b' hb' => ?_⟩
  · by_cases e : s' = s
    · subst e
      refine ⟨fun _ => ⟨by rw [pk_us, a], by rw [pk_us, b, ho.2]⟩, fun q => absurd hin (q v)⟩
    · rw [pk_un e, pk_un e]
      refine ⟨fun q => (h.1 s').1 ?_, fun q => (h.1 s').2 (fun v z => q v ((dc_take_m hi _).mpr (Or.inl z)))⟩
      obtain ⟨v', q⟩ := q
      rcases (dc_take_m hi _).mp q with q | q
      · exact ⟨v', q⟩
      · exact absurd (by rw [show s' = (T, s', v').2.1 from rfl, q]) e
  · rw [b_or, dc_one (by omega) hb', Bool.or_eq_true, h.2 b' hb', decide_eq_true_eq]
    constructor
    · rintro (⟨x, v', q⟩ | q)
      · exact ⟨x, v', (dc_take_m hi _).mpr (Or.inl q)⟩
      · subst q; exact ⟨c, v, hin⟩
    · rintro ⟨x, v', q⟩
      rcases (dc_take_m hi _).mp q with q | q
      · exact Or.inl ⟨x, v', q⟩
      · exact Or.inr (by rw [show b' = (T, b', v').2.1 from rfl, q])
theorem up_end {Q : dc_Q} {t T : Nat} {V E : Nat → Int32} {L : dc_L} {i : Nat} {V1 E1 : Nat → Int32} {mk : Int32} (h : dc_up Q T V E L i V1 E1 mk) (hL : dc_LQ L Q) (hok : dc_ok t Q) (hi : i = L.length) :
    V1 = dc_tV Q T V ∧ E1 = dc_tE Q T V E ∧ mk = dc_mk (dc_ch Q T V) 12 := by
  subst hi
  unfold dc_up at h
  rw [List.take_length] at h
  have key : ∀ s, V1 s = dc_tV Q T V s ∧ E1 s = dc_tE Q T V E s := by
    intro s
    cases e : Q T s with
    | none =>
      have a := (h.1 s).2 (fun v z => by rw [(hL.1 T s v).mp z] at e; cases e)
      obtain ⟨x, y, -⟩ := dc_tk_none (V := V) (E := E) e
      rw [x, y]
      exact a
    | some v => exact (h.1 s).1 ⟨v, (hL.1 T s v).mpr e⟩
  refine ⟨funext fun s => (key s).1, funext fun s => (key s).2, ?_⟩
  refine b_ext fun b hb => ?_
  rw [dc_ch_bits hok V b hb]
  have := h.2 b hb
  cases hc : dc_ch Q T V b with
  | false =>
    cases hm : bt mk b with
    | false => rfl
    | true => rw [hc] at this; exact absurd (this.mp hm).1 (by decide)
  | true =>
    rw [this, hc]
    refine ⟨rfl, ?_⟩
    cases e : Q T b with
    | none => rw [(dc_tk_none (V := V) (E := E) e).2.2] at hc; cases hc
    | some v => exact ⟨v, (hL.1 T b v).mpr e⟩
end
section
set_option maxRecDepth 100000
set_option maxHeartbeats 4000000 in
set_option maxRecDepth 100000 in
theorem mX1_isSignal (l : Launch) (dg : va_G) (d : ClassId × ClassId) (a : Nat → Nat) (sz : Nat) (V : Nat → Int32) (E : Nat → Int32) (K : Nat → Int32) (Y : Nat → Int32) (P : Nat → Int32) (C : Nat → Int32) (Wt : Nat → Int32) (np : Int32) (SG : Nat → Int32) (VL : Nat → Int32) (TM : Nat → Int32) (NX : Nat → Int32) (ch : Int32) (tm : Int32) (dn : Int32) (x : Int32) : Met l yX1_isSignal (ws_ yX1_isSignal cX1_isSignal 2 (some .boolean)) ({ frames := 0, cells := 0, slots := 0, locals := 0 } : Room) (dc_Pre dg d [.ref (a 0), .int x] (dc_wM d a V E K Y P C Wt np SG VL TM NX ch tm dn) sz) (vp_Si (fun r : Int32 => (r = nI 1 ∧ dc_bad x = 0) ∨ (r = nI 0 ∧ ¬ dc_bad x = 0))) 0 0 (fun _ => False) := by
  refine dc_metR (by decide) (Nat.le_of_ble_eq_true rfl) (fun p e s m below meth c A Qz ls S hw hl ret => ?_)
  have hx := S.1
  have hb := S.2.1
  have hl : lv_has ls 2 [(0, .ref (a 0)), (1, .int x)] := hl
  refine lv_iload_n hx hb dX1_isSignal_0 rfl (lv_at hl 1 rfl) ?_
  refine lv_if_lt (tgt := 14) hx hb dX1_isSignal_1 (by decide) (fun c_1 => ?_) (fun c_1 => ?_)
  · refine lv_iconst (v := nI 0) hx hb dX1_isSignal_14 (by decide) ?_
    exact ret 15 _ _ dX1_isSignal_15 rfl (Or.inr ⟨rfl, dc_bad_1 c_1⟩)
  · refine lv_iload_n hx hb dX1_isSignal_4 rfl (lv_at hl 1 rfl) ?_
    refine lv_bipush (v := nI 12) hx hb dX1_isSignal_5 (by decide) ?_
    refine lv_icmp_ge (tgt := 14) hx hb dX1_isSignal_7 (by decide) (fun c_7 => ?_) (fun c_7 => ?_)
    · refine lv_iconst (v := nI 0) hx hb dX1_isSignal_14 (by decide) ?_
      exact ret 15 _ _ dX1_isSignal_15 rfl (Or.inr ⟨rfl, dc_bad_2 c_7⟩)
    · refine lv_iconst (v := nI 1) hx hb dX1_isSignal_10 (by decide) ?_
      refine lv_goto (tgt := 15) hx hb dX1_isSignal_11 (by decide) ?_
      exact ret 15 _ _ dX1_isSignal_15 rfl (Or.inl ⟨rfl, dc_bad_3 c_1 c_7⟩)
set_option maxHeartbeats 4000000 in
set_option maxRecDepth 100000 in
theorem mX1_move (l : Launch) (dg : va_G) (d : ClassId × ClassId) (a : Nat → Nat) (sz : Nat) (V : Nat → Int32) (E : Nat → Int32) (K : Nat → Int32) (Y : Nat → Int32) (P : Nat → Int32) (C : Nat → Int32) (Wt : Nat → Int32) (np : Int32) (SG : Nat → Int32) (VL : Nat → Int32) (TM : Nat → Int32) (NX : Nat → Int32) (ch : Int32) (tm : Int32) (dn : Int32) (i k : Nat) (hi : i < 128) (hk : k < 128) (hnr : vp_nar .boolean (NX i) = NX i) : Met l yX1_move (ws_ yX1_move cX1_move 3 none) ({ frames := 0, cells := 0, slots := 0, locals := 0 } : Room) (dc_Pre dg d [.ref (a 0), .int (nI i), .int (nI k)] (dc_wM d a V E K Y P C Wt np SG VL TM NX ch tm dn) sz) (va_Qv (fun (z : Unit) => True) (dc_B dg d (va_A (dc_wM d a V E K Y P C Wt np SG VL TM NX ch tm dn) sz) (fun z : Unit => dc_wM d a V E K Y P C Wt np (upd SG k (SG i)) (upd VL k (VL i)) (upd TM k (TM i)) (upd NX k (NX i)) ch tm dn)) (va_A (dc_wM d a V E K Y P C Wt np SG VL TM NX ch tm dn) sz)) 0 0 (va_A (dc_wM d a V E K Y P C Wt np SG VL TM NX ch tm dn) sz) := by
  refine dc_metV (by decide) (Nat.le_of_ble_eq_true rfl) (fun p e s m below meth c A Qz ls S hw hl ret => ?_)
  have hx := S.1
  have hb := S.2.1
  have hl : lv_has ls 3 [(0, .ref (a 0)), (1, .int (nI i)), (2, .int (nI k))] := hl
  refine lv_aload_n hx hb dX1_move_0 rfl (lv_at hl 0 rfl) ?_
  refine x1_get (v := .ref (a 8)) S hw rfl 8 (by decide) q185 rfl dX1_move_1 ?_
  refine lv_iload_n hx hb dX1_move_4 rfl (lv_at hl 2 rfl) ?_
  refine lv_aload_n hx hb dX1_move_5 rfl (lv_at hl 0 rfl) ?_
  refine x1_get (v := .ref (a 8)) S hw rfl 8 (by decide) q185 rfl dX1_move_6 ?_
  refine lv_iload_n hx hb dX1_move_9 rfl (lv_at hl 1 rfl) ?_
  refine dc_ild S hw 8 rfl (i := i) (by omega) (by decide) dX1_move_10 ?_
  refine dc_ist (ws' := dc_wM d a V E K Y P C Wt np (upd SG k (SG i)) VL TM NX ch tm dn) S hw 8 rfl (i := k) (by omega) (by decide) rfl dX1_move_11 (fun H locs hw => ?_)
  refine lv_aload_n hx hb dX1_move_12 rfl (lv_at hl 0 rfl) ?_
  refine x1_get (v := .ref (a 9)) S hw rfl 9 (by decide) q186 rfl dX1_move_13 ?_
  refine lv_iload_n hx hb dX1_move_16 rfl (lv_at hl 2 rfl) ?_
  refine lv_aload_n hx hb dX1_move_17 rfl (lv_at hl 0 rfl) ?_
  refine x1_get (v := .ref (a 9)) S hw rfl 9 (by decide) q186 rfl dX1_move_18 ?_
  refine lv_iload_n hx hb dX1_move_21 rfl (lv_at hl 1 rfl) ?_
  refine dc_ild S hw 9 rfl (i := i) (by omega) (by decide) dX1_move_22 ?_
  refine dc_ist (ws' := dc_wM d a V E K Y P C Wt np (upd SG k (SG i)) (upd VL k (VL i)) TM NX ch tm dn) S hw 9 rfl (i := k) (by omega) (by decide) rfl dX1_move_23 (fun H locs hw => ?_)
  refine lv_aload_n hx hb dX1_move_24 rfl (lv_at hl 0 rfl) ?_
  refine x1_get (v := .ref (a 10)) S hw rfl 10 (by decide) q187 rfl dX1_move_25 ?_
  refine lv_iload_n hx hb dX1_move_28 rfl (lv_at hl 2 rfl) ?_
  refine lv_aload_n hx hb dX1_move_29 rfl (lv_at hl 0 rfl) ?_
  refine x1_get (v := .ref (a 10)) S hw rfl 10 (by decide) q187 rfl dX1_move_30 ?_
  refine lv_iload_n hx hb dX1_move_33 rfl (lv_at hl 1 rfl) ?_
  refine dc_ild S hw 10 rfl (i := i) (by omega) (by decide) dX1_move_34 ?_
  refine dc_ist (ws' := dc_wM d a V E K Y P C Wt np (upd SG k (SG i)) (upd VL k (VL i)) (upd TM k (TM i)) NX ch tm dn) S hw 10 rfl (i := k) (by omega) (by decide) rfl dX1_move_35 (fun H locs hw => ?_)
  refine lv_aload_n hx hb dX1_move_36 rfl (lv_at hl 0 rfl) ?_
  refine x1_get (v := .ref (a 11)) S hw rfl 11 (by decide) q188 rfl dX1_move_37 ?_
  refine lv_iload_n hx hb dX1_move_40 rfl (lv_at hl 2 rfl) ?_
  refine lv_aload_n hx hb dX1_move_41 rfl (lv_at hl 0 rfl) ?_
  refine x1_get (v := .ref (a 11)) S hw rfl 11 (by decide) q188 rfl dX1_move_42 ?_
  refine lv_iload_n hx hb dX1_move_45 rfl (lv_at hl 1 rfl) ?_
  refine dc_zld S hw 11 rfl (i := i) (by omega) (by decide) dX1_move_46 ?_
  refine dc_zst (ws' := dc_wM d a V E K Y P C Wt np (upd SG k (SG i)) (upd VL k (VL i)) (upd TM k (TM i)) (upd NX k (NX i)) ch tm dn) S hw 11 rfl (i := k) (by omega) (by decide) hnr rfl dX1_move_47 (fun H locs hw => ?_)
  exact ret 48 _ _ _ () dX1_move_48 trivial hw
set_option maxHeartbeats 4000000 in
set_option maxRecDepth 100000 in
theorem mX1_put (l : Launch) (dg : va_G) (d : ClassId × ClassId) (a : Nat → Nat) (sz : Nat) (V : Nat → Int32) (E : Nat → Int32) (K : Nat → Int32) (Y : Nat → Int32) (P : Nat → Int32) (C : Nat → Int32) (Wt : Nat → Int32) (np : Int32) (SG : Nat → Int32) (VL : Nat → Int32) (TM : Nat → Int32) (NX : Nat → Int32) (c0 : Nat) (t : Nat) (dn : Int32) (Q : dc_Q) (si u : Nat) (v : Int32) (hs : si < 12) (hu : u < 10) (ht : t < 2 ^ 30) (hR : dc_RM t Q c0 SG VL TM NX) : Met l yX1_put (ws_ yX1_put cX1_put 6 none) ({ frames := 1, cells := 0, slots := 0, locals := 22 } : Room) (dc_Pre dg d [.ref (a 0), .int (nI si), .int v, .int (nI u)] (dc_wM d a V E K Y P C Wt np SG VL TM NX (nI c0) (nI t) dn) sz) (va_Qv (fun (z : Nat × (Nat → Int32) × (Nat → Int32) × (Nat → Int32) × (Nat → Int32)) => dc_RM t (dc_put Q si (t + u) v) z.1 z.2.1 z.2.2.1 z.2.2.2.1 z.2.2.2.2) (dc_B dg d (va_A (dc_wM d a V E K Y P C Wt np SG VL TM NX (nI c0) (nI t) dn) sz) (fun z : Nat × (Nat → Int32) × (Nat → Int32) × (Nat → Int32) × (Nat → Int32) => dc_wM d a V E K Y P C Wt np z.2.1 z.2.2.1 z.2.2.2.1 z.2.2.2.2 (nI z.1) (nI t) dn)) (va_A (dc_wM d a V E K Y P C Wt np SG VL TM NX (nI c0) (nI t) dn) sz)) 0 0 (va_A (dc_wM d a V E K Y P C Wt np SG VL TM NX (nI c0) (nI t) dn) sz) := by
  refine dc_metV (by decide) (Nat.le_of_ble_eq_true rfl) (fun p e s m below meth c A Qz ls S hw hl ret => ?_)
  have hx := S.1
  have hb := S.2.1
  have hl : lv_has ls 6 [(0, .ref (a 0)), (1, .int (nI si)), (2, .int v), (3, .int (nI u))] := hl
  obtain ⟨L, hlen, hH, hL, hok⟩ := hR
  have hle := lq_le hL hok
  rw [hlen] at hle
  have lp : ∀ (n : Nat) (i : Nat) (F : dc_L) (kl : Nat) (SG1 VL1 TM1 NX1 : Nat → Int32), i ≤ c0 → c0 + 1 ≤ i + n → F = (L.take i).filter (dc_kp si (t + u)) → kl = F.length → dc_mid t SG1 VL1 TM1 NX1 L F i → ∀ (H : Heap) (locs : List Loc), dc_Wd dg d A s (dc_wM d a V E K Y P C Wt np SG1 VL1 TM1 NX1 (nI c0) (nI t) dn) H locs → ∀ ls : Array Slot, lv_has ls 6 [(5, .int (nI i)), (4, .int (nI kl)), (3, .int (nI u)), (2, .int v), (1, .int (nI si)), (0, .ref (a 0))] → W p l e ({ frames := 1, cells := 0, slots := 0, locals := 22 } : Room) s m ([.ref (a 0), .int (nI si), .int v, .int (nI u)] : List Value).toArray below meth c H locs 0 0 Qz (F0 m 6 ls []) := by
    intro n
    induction n with
    | zero =>
      intro i F kl SG1 VL1 TM1 NX1 hi hn hF hkl hmid H locs hw ls hl
      exact absurd hn (by omega)
    | succ n ih =>
      intro i F kl SG1 VL1 TM1 NX1 hi hn hF hkl hmid H locs hw ls hl
      have hkl2 : kl ≤ i := by rw [hkl]; exact hmid.2.2
      refine lv_iload hx hb dX1_put_6 (lv_at hl 0 rfl) ?_
      refine lv_aload_n hx hb dX1_put_8 rfl (lv_at hl 5 rfl) ?_
      refine x1_get (v := .int (nI c0)) S hw rfl 12 (by decide) q189 rfl dX1_put_9 ?_
      refine dc_ge (tgt := 59) hx hb (by omega) (by omega) dX1_put_12 (by decide) (fun c_12 => ?_) (fun c_12 => ?_)
      · have ei : i = c0 := by omega
        have eF : F = L.filter (dc_kp si (t + u)) := dc_takeall (by omega) hF
        refine lv_aload_n hx hb dX1_put_59 rfl (lv_at hl 5 rfl) ?_
        refine x1_get (v := .ref (a 8)) S hw rfl 8 (by decide) q185 rfl dX1_put_60 ?_
        refine lv_iload hx hb dX1_put_63 (lv_at hl 1 rfl) ?_
        refine lv_iload_n hx hb dX1_put_65 rfl (lv_at hl 4 rfl) ?_
        refine dc_ist (ws' := dc_wM d a V E K Y P C Wt np (upd SG1 kl (nI si)) VL1 TM1 NX1 (nI c0) (nI t) dn) S hw 8 rfl (i := kl) (by omega) (by decide) rfl dX1_put_66 (fun H locs hw => ?_)
        refine lv_aload_n hx hb dX1_put_67 rfl (lv_at hl 5 rfl) ?_
        refine x1_get (v := .ref (a 9)) S hw rfl 9 (by decide) q186 rfl dX1_put_68 ?_
        refine lv_iload hx hb dX1_put_71 (lv_at hl 1 rfl) ?_
        refine lv_iload_n hx hb dX1_put_73 rfl (lv_at hl 3 rfl) ?_
        refine dc_ist (ws' := dc_wM d a V E K Y P C Wt np (upd SG1 kl (nI si)) (upd VL1 kl v) TM1 NX1 (nI c0) (nI t) dn) S hw 9 rfl (i := kl) (by omega) (by decide) rfl dX1_put_74 (fun H locs hw => ?_)
        refine lv_aload_n hx hb dX1_put_75 rfl (lv_at hl 5 rfl) ?_
        refine x1_get (v := .ref (a 10)) S hw rfl 10 (by decide) q187 rfl dX1_put_76 ?_
        refine lv_iload hx hb dX1_put_79 (lv_at hl 1 rfl) ?_
        refine lv_aload_n hx hb dX1_put_81 rfl (lv_at hl 5 rfl) ?_
        refine x1_get (v := .int (nI t)) S hw rfl 13 (by decide) q190 rfl dX1_put_82 ?_
        refine lv_iload_n hx hb dX1_put_85 rfl (lv_at hl 2 rfl) ?_
        refine dc_addN hx hb dX1_put_86 ?_
        refine dc_ist (ws' := dc_wM d a V E K Y P C Wt np (upd SG1 kl (nI si)) (upd VL1 kl v) (upd TM1 kl (nI (t + u))) NX1 (nI c0) (nI t) dn) S hw 10 rfl (i := kl) (by omega) (by decide) rfl dX1_put_87 (fun H locs hw => ?_)
        refine lv_aload_n hx hb dX1_put_88 rfl (lv_at hl 5 rfl) ?_
        refine x1_get (v := .ref (a 11)) S hw rfl 11 (by decide) q188 rfl dX1_put_89 ?_
        refine lv_iload hx hb dX1_put_92 (lv_at hl 1 rfl) ?_
        refine lv_iload_n hx hb dX1_put_94 rfl (lv_at hl 2 rfl) ?_
        refine dc_ifn (tgt := 102) hx hb (by omega) dX1_put_95 (by decide) (fun c_95 => ?_) (fun c_95 => ?_)
        · refine lv_iconst (v := nI 0) hx hb dX1_put_102 (by decide) ?_
          refine dc_zst (ws' := dc_wM d a V E K Y P C Wt np (upd SG1 kl (nI si)) (upd VL1 kl v) (upd TM1 kl (nI (t + u))) (upd NX1 kl (nI 0)) (nI c0) (nI t) dn) S hw 11 rfl (i := kl) (by omega) (by decide) (by decide +kernel) rfl dX1_put_103 (fun H locs hw => ?_)
          refine lv_aload_n hx hb dX1_put_104 rfl (lv_at hl 5 rfl) ?_
          refine lv_iload hx hb dX1_put_105 (lv_at hl 1 rfl) ?_
          refine lv_iconst (v := nI 1) hx hb dX1_put_107 (by decide) ?_
          refine dc_addN hx hb dX1_put_108 ?_
          refine x1_put (ws' := dc_wM d a V E K Y P C Wt np (upd SG1 kl (nI si)) (upd VL1 kl v) (upd TM1 kl (nI (t + u))) (upd NX1 kl (nI 0)) (nI (kl + 1)) (nI t) dn) S hw rfl 12 (by decide) q189 rfl (by decide +kernel) (Nat.le_of_ble_eq_true rfl) rfl dX1_put_109 (fun H locs hw => ?_)
          exact ret 112 _ _ _ (kl + 1, upd SG1 kl (nI si), upd VL1 kl v, upd TM1 kl (nI (t + u)), upd NX1 kl (nI 0)) dX1_put_112 ⟨F ++ [(t + u, si, v)], by rw [List.length_append, hkl]; rfl, hold_add (e := (t + u, si, v)) hmid.1 hkl (by rw [if_neg (show ¬ t + u = t by omega)]), by rw [eF]; exact lq_put si (t + u) v hL, dc_ok_put hok hs hu⟩ hw
        · refine lv_iconst (v := nI 1) hx hb dX1_put_98 (by decide) ?_
          refine lv_goto (tgt := 103) hx hb dX1_put_99 (by decide) ?_
          refine dc_zst (ws' := dc_wM d a V E K Y P C Wt np (upd SG1 kl (nI si)) (upd VL1 kl v) (upd TM1 kl (nI (t + u))) (upd NX1 kl (nI 1)) (nI c0) (nI t) dn) S hw 11 rfl (i := kl) (by omega) (by decide) (by decide +kernel) rfl dX1_put_103 (fun H locs hw => ?_)
          refine lv_aload_n hx hb dX1_put_104 rfl (lv_at hl 5 rfl) ?_
          refine lv_iload hx hb dX1_put_105 (lv_at hl 1 rfl) ?_
          refine lv_iconst (v := nI 1) hx hb dX1_put_107 (by decide) ?_
          refine dc_addN hx hb dX1_put_108 ?_
          refine x1_put (ws' := dc_wM d a V E K Y P C Wt np (upd SG1 kl (nI si)) (upd VL1 kl v) (upd TM1 kl (nI (t + u))) (upd NX1 kl (nI 1)) (nI (kl + 1)) (nI t) dn) S hw rfl 12 (by decide) q189 rfl (by decide +kernel) (Nat.le_of_ble_eq_true rfl) rfl dX1_put_109 (fun H locs hw => ?_)
          exact ret 112 _ _ _ (kl + 1, upd SG1 kl (nI si), upd VL1 kl v, upd TM1 kl (nI (t + u)), upd NX1 kl (nI 1)) dX1_put_112 ⟨F ++ [(t + u, si, v)], by rw [List.length_append, hkl]; rfl, hold_add (e := (t + u, si, v)) hmid.1 hkl (by rw [if_pos (show t + u = t by omega)]), by rw [eF]; exact lq_put si (t + u) v hL, dc_ok_put hok hs hu⟩ hw
      · obtain ⟨T1, s1, v1, hget⟩ := lq_get (L := L) (i := i) (by omega)
        obtain ⟨hq1, hT1, hT2, hs1⟩ := lq_at hL hok hget
        have hat := hmid.2.1 i _ (Nat.le_refl _) hget
        have hT1 : t ≤ T1 := hT1
        have hT2 : T1 < t + 10 := hT2
        have hs1 : s1 < 12 := hs1
        have hnr := dc_atnar hat
        obtain ⟨aS, aV, aT, aN⟩ := hat
        have aS : SG1 i = nI s1 := aS
        have aT : TM1 i = nI T1 := aT
        refine lv_aload_n hx hb dX1_put_15 rfl (lv_at hl 5 rfl) ?_
        refine x1_get (v := .ref (a 8)) S hw rfl 8 (by decide) q185 rfl dX1_put_16 ?_
        refine lv_iload hx hb dX1_put_19 (lv_at hl 0 rfl) ?_
        refine dc_ild S hw 8 rfl (i := i) (by omega) (by decide) dX1_put_21 ?_
        refine dc_top (y := nI s1) aS ?_
        refine lv_iload_n hx hb dX1_put_22 rfl (lv_at hl 4 rfl) ?_
        refine dc_ne (tgt := 42) hx hb (by omega) (by omega) dX1_put_23 (by decide) (fun c_23 => ?_) (fun c_23 => ?_)
        · have hkp : dc_kp si (t + u) (T1, s1, v1) = true := dc_kp_t.mpr (fun q => c_23 q.1)
          refine lv_aload_n hx hb dX1_put_42 rfl (lv_at hl 5 rfl) ?_
          refine lv_iload hx hb dX1_put_43 (lv_at hl 0 rfl) ?_
          refine lv_iload hx hb dX1_put_45 (lv_at hl 1 rfl) ?_
          refine dc_callV (As := [.int (nI i), .int (nI kl)]) (rest := []) S hw (mX1_move l dg d a _ V E K Y P C Wt np SG1 VL1 TM1 NX1 (nI c0) (nI t) dn i kl (by omega) (by omega) hnr) (cwV 2 S.2.2.2.2 (lw_V q241 q243 qs12 q18 q244) rfl rfl rfl (by decide +kernel) ⟨Nat.le_of_ble_eq_true rfl, Nat.le_of_ble_eq_true rfl⟩) (ci := 1) rfl rfl rfl rfl hl.1 rfl (Nat.le_of_ble_eq_true rfl) dX1_put_47 ⟨Nat.zero_le _, Nat.zero_le _⟩ (fun z9 H locs hz9 hw => ?_)
          have hw : dc_Wd dg d A s (dc_wM d a V E K Y P C Wt np (upd SG1 kl (SG1 i)) (upd VL1 kl (VL1 i)) (upd TM1 kl (TM1 i)) (upd NX1 kl (NX1 i)) (nI c0) (nI t) dn) H locs := hw
          refine lv_iinc (v := nI (kl + 1)) (lv' := [(4, .int (nI (kl + 1))), (5, .int (nI i)), (3, .int (nI u)), (2, .int v), (1, .int (nI si)), (0, .ref (a 0))]) hx hb dX1_put_50 hl (k := 1) rfl (dc_inc _) (by decide) rfl (fun ls hl => ?_)
          refine lv_iinc (v := nI (i + 1)) (lv' := [(5, .int (nI (i + 1))), (4, .int (nI (kl + 1))), (3, .int (nI u)), (2, .int v), (1, .int (nI si)), (0, .ref (a 0))]) hx hb dX1_put_53 hl (k := 1) rfl (dc_inc _) (by decide) rfl (fun ls hl => ?_)
          refine lv_goto (tgt := 6) hx hb dX1_put_56 (by decide) ?_
          have hmid2 := mid_move hmid hget
          rw [← hkl] at hmid2
          exact ih (i + 1) (F ++ [(T1, s1, v1)]) (kl + 1) _ _ _ _ (by omega) (by omega) (dc_take_y hget hF hkp) (by rw [List.length_append, hkl]; rfl) hmid2 H locs hw ls (lv_sub hl [0, 1, 2, 3, 4, 5] rfl)
        · refine lv_aload_n hx hb dX1_put_26 rfl (lv_at hl 5 rfl) ?_
          refine x1_get (v := .ref (a 10)) S hw rfl 10 (by decide) q187 rfl dX1_put_27 ?_
          refine lv_iload hx hb dX1_put_30 (lv_at hl 0 rfl) ?_
          refine dc_ild S hw 10 rfl (i := i) (by omega) (by decide) dX1_put_32 ?_
          refine dc_top (y := nI T1) aT ?_
          refine lv_aload_n hx hb dX1_put_33 rfl (lv_at hl 5 rfl) ?_
          refine x1_get (v := .int (nI t)) S hw rfl 13 (by decide) q190 rfl dX1_put_34 ?_
          refine lv_iload_n hx hb dX1_put_37 rfl (lv_at hl 2 rfl) ?_
          refine dc_addN hx hb dX1_put_38 ?_
          refine dc_ge (tgt := 53) hx hb (by omega) (by omega) dX1_put_39 (by decide) (fun c_39 => ?_) (fun c_39 => ?_)
          · have hkp : dc_kp si (t + u) (T1, s1, v1) = false := Bool.eq_false_iff.mpr (fun q => dc_kp_t.mp q ⟨c_23, c_39⟩)
            refine lv_iinc (v := nI (i + 1)) (lv' := [(5, .int (nI (i + 1))), (4, .int (nI kl)), (3, .int (nI u)), (2, .int v), (1, .int (nI si)), (0, .ref (a 0))]) hx hb dX1_put_53 hl (k := 0) rfl (dc_inc _) (by decide) rfl (fun ls hl => ?_)
            refine lv_goto (tgt := 6) hx hb dX1_put_56 (by decide) ?_
            exact ih (i + 1) F kl _ _ _ _ (by omega) (by omega) (dc_take_n hget hF hkp) hkl (mid_skip hmid) H locs hw ls (lv_sub hl [0, 1, 2, 3, 4, 5] rfl)
          · have hkp : dc_kp si (t + u) (T1, s1, v1) = true := dc_kp_t.mpr (fun q => absurd q.2 (Nat.not_le.mpr c_39))
            refine lv_aload_n hx hb dX1_put_42 rfl (lv_at hl 5 rfl) ?_
            refine lv_iload hx hb dX1_put_43 (lv_at hl 0 rfl) ?_
            refine lv_iload hx hb dX1_put_45 (lv_at hl 1 rfl) ?_
            refine dc_callV (As := [.int (nI i), .int (nI kl)]) (rest := []) S hw (mX1_move l dg d a _ V E K Y P C Wt np SG1 VL1 TM1 NX1 (nI c0) (nI t) dn i kl (by omega) (by omega) hnr) (cwV 2 S.2.2.2.2 (lw_V q241 q243 qs12 q18 q244) rfl rfl rfl (by decide +kernel) ⟨Nat.le_of_ble_eq_true rfl, Nat.le_of_ble_eq_true rfl⟩) (ci := 1) rfl rfl rfl rfl hl.1 rfl (Nat.le_of_ble_eq_true rfl) dX1_put_47 ⟨Nat.zero_le _, Nat.zero_le _⟩ (fun z9 H locs hz9 hw => ?_)
            have hw : dc_Wd dg d A s (dc_wM d a V E K Y P C Wt np (upd SG1 kl (SG1 i)) (upd VL1 kl (VL1 i)) (upd TM1 kl (TM1 i)) (upd NX1 kl (NX1 i)) (nI c0) (nI t) dn) H locs := hw
            refine lv_iinc (v := nI (kl + 1)) (lv' := [(4, .int (nI (kl + 1))), (5, .int (nI i)), (3, .int (nI u)), (2, .int v), (1, .int (nI si)), (0, .ref (a 0))]) hx hb dX1_put_50 hl (k := 1) rfl (dc_inc _) (by decide) rfl (fun ls hl => ?_)
            refine lv_iinc (v := nI (i + 1)) (lv' := [(5, .int (nI (i + 1))), (4, .int (nI (kl + 1))), (3, .int (nI u)), (2, .int v), (1, .int (nI si)), (0, .ref (a 0))]) hx hb dX1_put_53 hl (k := 1) rfl (dc_inc _) (by decide) rfl (fun ls hl => ?_)
            refine lv_goto (tgt := 6) hx hb dX1_put_56 (by decide) ?_
            have hmid2 := mid_move hmid hget
            rw [← hkl] at hmid2
            exact ih (i + 1) (F ++ [(T1, s1, v1)]) (kl + 1) _ _ _ _ (by omega) (by omega) (dc_take_y hget hF hkp) (by rw [List.length_append, hkl]; rfl) hmid2 H locs hw ls (lv_sub hl [0, 1, 2, 3, 4, 5] rfl)
  refine lv_iconst (v := nI 0) hx hb dX1_put_0 (by decide) ?_
  refine lv_istore (lv' := [(4, .int (nI 0)), (0, .ref (a 0)), (1, .int (nI si)), (2, .int v), (3, .int (nI u))]) hx hb dX1_put_1 hl (by decide) rfl (fun ls hl => ?_)
  refine lv_iconst (v := nI 0) hx hb dX1_put_3 (by decide) ?_
  refine lv_istore (lv' := [(5, .int (nI 0)), (4, .int (nI 0)), (0, .ref (a 0)), (1, .int (nI si)), (2, .int v), (3, .int (nI u))]) hx hb dX1_put_4 hl (by decide) rfl (fun ls hl => ?_)
  exact lp (c0 + 1) 0 [] 0 SG VL TM NX (by omega) (by omega) (by rw [List.take_zero]; rfl) rfl (mid_0 hH) _ _ hw ls (lv_sub hl [0, 1, 5, 4, 3, 2] rfl)
end
section
set_option maxRecDepth 100000
set_option maxHeartbeats 4000000 in
set_option maxRecDepth 100000 in
theorem mX1_drive (l : Launch) (dg : va_G) (d : ClassId × ClassId) (a : Nat → Nat) (sz : Nat) (V : Nat → Int32) (E : Nat → Int32) (K : Nat → Int32) (Y : Nat → Int32) (P : Nat → Int32) (C : Nat → Int32) (Wt : Nat → Int32) (np : Int32) (SG : Nat → Int32) (VL : Nat → Int32) (TM : Nat → Int32) (NX : Nat → Int32) (c0 : Nat) (t : Nat) (dn : Int32) (Q : dc_Q) (sg v dl : Int32) (ht : t < 2 ^ 30) (hR : dc_RM t Q c0 SG VL TM NX) : Met l yX1_drive (ws_ yX1_drive cX1_drive 4 (some .int)) ({ frames := 2, cells := 0, slots := 0, locals := 47 } : Room) (dc_Pre dg d [.ref (a 0), .int sg, .int v, .int dl] (dc_wM d a V E K Y P C Wt np SG VL TM NX (nI c0) (nI t) dn) sz) (va_Qi (fun (r : Int32) (z : Nat × (Nat → Int32) × (Nat → Int32) × (Nat → Int32) × (Nat → Int32)) => r = dc_drR t Q sg v dl ∧ dc_RM t (dc_drQ t Q sg v dl) z.1 z.2.1 z.2.2.1 z.2.2.2.1 z.2.2.2.2) (dc_B dg d (va_A (dc_wM d a V E K Y P C Wt np SG VL TM NX (nI c0) (nI t) dn) sz) (fun z : Nat × (Nat → Int32) × (Nat → Int32) × (Nat → Int32) × (Nat → Int32) => dc_wM d a V E K Y P C Wt np z.2.1 z.2.2.1 z.2.2.2.1 z.2.2.2.2 (nI z.1) (nI t) dn)) (va_A (dc_wM d a V E K Y P C Wt np SG VL TM NX (nI c0) (nI t) dn) sz)) 0 0 (va_A (dc_wM d a V E K Y P C Wt np SG VL TM NX (nI c0) (nI t) dn) sz) := by
  refine dc_metI (by decide) (Nat.le_of_ble_eq_true rfl) (fun p e s m below meth c A Qz ls S hw hl ret => ?_)
  have hx := S.1
  have hb := S.2.1
  have hl : lv_has ls 4 [(0, .ref (a 0)), (1, .int sg), (2, .int v), (3, .int dl)] := hl
  refine lv_aload_n hx hb dX1_drive_0 rfl (lv_at hl 0 rfl) ?_
  refine lv_iload_n hx hb dX1_drive_1 rfl (lv_at hl 1 rfl) ?_
  refine dc_callR (As := [.int sg]) (rest := []) S hw (mX1_isSignal l dg d a _ V E K Y P C Wt np SG VL TM NX (nI c0) (nI t) dn sg) (cwV 1 S.2.2.2.2 (lw_V q233 q235 qs10 q18 q236) rfl rfl rfl (by decide +kernel) ⟨Nat.le_of_ble_eq_true rfl, Nat.le_of_ble_eq_true rfl⟩) (ci := 1) rfl rfl rfl rfl hl.1 rfl (Nat.le_of_ble_eq_true rfl) dX1_drive_2 ⟨Nat.zero_le _, Nat.zero_le _⟩ (fun r hr => ?_)
  rcases hr with ⟨hr, hbd⟩ | ⟨hr, hbd⟩ <;> subst hr
  · refine dc_ifn (tgt := 10) hx hb (by omega) dX1_drive_5 (by decide) (fun c_5 => ?_) (fun c_5 => ?_)
    · refine lv_iload_n hx hb dX1_drive_10 rfl (lv_at hl 3 rfl) ?_
      refine lv_if_lt (tgt := 20) hx hb dX1_drive_11 (by decide) (fun c_11 => ?_) (fun c_11 => ?_)
      · refine lv_bipush (v := (-3)) hx hb dX1_drive_20 (by decide) ?_
        exact ret 22 _ _ _ _ (c0, SG, VL, TM, NX) dX1_drive_22 rfl ⟨by unfold dc_drR; rw [if_pos hbd, if_neg (fun q => q.1 c_11)], by unfold dc_drQ; rw [if_neg (fun q => q.2.1 c_11)]; exact hR⟩ hw
      · refine lv_iload_n hx hb dX1_drive_14 rfl (lv_at hl 3 rfl) ?_
        refine lv_bipush (v := nI 9) hx hb dX1_drive_15 (by decide) ?_
        refine lv_icmp_le (tgt := 23) hx hb dX1_drive_17 (by decide) (fun c_17 => ?_) (fun c_17 => ?_)
        · obtain ⟨si, hs, e1⟩ := dc_bad_no hbd
          obtain ⟨u, hu0, e2⟩ := nI_of c_11
          subst e1
          subst e2
          have hu : u < 10 := by have := (nI_leI hu0 (by omega)).mp c_17; omega
          refine lv_aload_n hx hb dX1_drive_23 rfl (lv_at hl 0 rfl) ?_
          refine lv_iload_n hx hb dX1_drive_24 rfl (lv_at hl 1 rfl) ?_
          refine lv_iload_n hx hb dX1_drive_25 rfl (lv_at hl 2 rfl) ?_
          refine lv_iload_n hx hb dX1_drive_26 rfl (lv_at hl 3 rfl) ?_
          refine dc_callV (As := [.int (nI si), .int v, .int (nI u)]) (rest := []) S hw (mX1_put l dg d a _ V E K Y P C Wt np SG VL TM NX c0 t dn Q si u v hs hu ht hR) (cwV 3 S.2.2.2.2 (lw_V q237 q239 qs11 q18 q240) rfl rfl rfl (by decide +kernel) ⟨Nat.le_of_ble_eq_true rfl, Nat.le_of_ble_eq_true rfl⟩) (ci := 1) rfl rfl rfl rfl hl.1 rfl (Nat.le_of_ble_eq_true rfl) dX1_drive_27 ⟨Nat.zero_le _, Nat.zero_le _⟩ (fun z H locs hz hw => ?_)
          obtain ⟨c1, SG1, VL1, TM1, NX1⟩ := z
          have hw : dc_Wd dg d A s (dc_wM d a V E K Y P C Wt np SG1 VL1 TM1 NX1 (nI c1) (nI t) dn) H locs := hw
          have hR1 : dc_RM t (dc_put Q si (t + u) v) c1 SG1 VL1 TM1 NX1 := hz
          refine lv_aload_n hx hb dX1_drive_30 rfl (lv_at hl 0 rfl) ?_
          refine x1_get (v := .int (nI c1)) S hw rfl 12 (by decide) q189 rfl dX1_drive_31 ?_
          exact ret 34 _ _ _ _ (c1, SG1, VL1, TM1, NX1) dX1_drive_34 rfl ⟨by rw [(dc_dr_in hs hu).2, ← rm_count hR1], by rw [(dc_dr_in hs hu).1]; exact hR1⟩ hw
        · refine lv_bipush (v := (-3)) hx hb dX1_drive_20 (by decide) ?_
          exact ret 22 _ _ _ _ (c0, SG, VL, TM, NX) dX1_drive_22 rfl ⟨by unfold dc_drR; rw [if_pos hbd, if_neg (fun q => c_17 q.2)], by unfold dc_drQ; rw [if_neg (fun q => c_17 q.2.2)]; exact hR⟩ hw
    · exact absurd c_5 (by decide)
  · refine dc_ifn (tgt := 10) hx hb (by omega) dX1_drive_5 (by decide) (fun c_5 => ?_) (fun c_5 => ?_)
    · exact absurd rfl c_5
    · refine lv_iconst (v := (-1)) hx hb dX1_drive_8 (by decide) ?_
      exact ret 9 _ _ _ _ (c0, SG, VL, TM, NX) dX1_drive_9 rfl ⟨by unfold dc_drR; rw [if_neg hbd], by unfold dc_drQ; rw [if_neg (fun q => hbd q.1)]; exact hR⟩ hw
set_option maxHeartbeats 4000000 in
set_option maxRecDepth 100000 in
theorem mX1_carryOut (l : Launch) (dg : va_G) (d : ClassId × ClassId) (a : Nat → Nat) (sz : Nat) (V : Nat → Int32) (E : Nat → Int32) (K : Nat → Int32) (Y : Nat → Int32) (P : Nat → Int32) (C : Nat → Int32) (Wt : Nat → Int32) (np : Int32) (SG : Nat → Int32) (VL : Nat → Int32) (TM : Nat → Int32) (NX : Nat → Int32) (c0 : Nat) (t : Nat) (dn : Int32) (Q : dc_Q) (n0 pp : Nat) (hG : dc_okT (n0, K, Y, P, C, Wt)) (hp : pp < n0) (ht : t < 2 ^ 30) (hR : dc_RM t Q c0 SG VL TM NX) : Met l yX1_carryOut (ws_ yX1_carryOut cX1_carryOut 6 none) ({ frames := 2, cells := 0, slots := 0, locals := 47 } : Room) (dc_Pre dg d [.ref (a 0), .int (nI pp)] (dc_wM d a V E K Y (fun p => P p &&& 65535) C Wt np SG VL TM NX (nI c0) (nI t) dn) sz) (va_Qv (fun (z : Nat × (Nat → Int32) × (Nat → Int32) × (Nat → Int32) × (Nat → Int32)) => dc_RM t (dc_cry (n0, K, Y, P, C, Wt) V t Q pp) z.1 z.2.1 z.2.2.1 z.2.2.2.1 z.2.2.2.2) (dc_B dg d (va_A (dc_wM d a V E K Y (fun p => P p &&& 65535) C Wt np SG VL TM NX (nI c0) (nI t) dn) sz) (fun z : Nat × (Nat → Int32) × (Nat → Int32) × (Nat → Int32) × (Nat → Int32) => dc_wM d a V E K Y (fun p => P p &&& 65535) C Wt np z.2.1 z.2.2.1 z.2.2.2.1 z.2.2.2.2 (nI z.1) (nI t) dn)) (va_A (dc_wM d a V E K Y (fun p => P p &&& 65535) C Wt np SG VL TM NX (nI c0) (nI t) dn) sz)) 0 0 (va_A (dc_wM d a V E K Y (fun p => P p &&& 65535) C Wt np SG VL TM NX (nI c0) (nI t) dn) sz) := by
  refine dc_metV (by decide) (Nat.le_of_ble_eq_true rfl) (fun p e s m below meth c A Qz ls S hw hl ret => ?_)
  have hx := S.1
  have hb := S.2.1
  have hl : lv_has ls 6 [(0, .ref (a 0)), (1, .int (nI pp))] := hl
  have h8 : n0 ≤ 8 := hG.1
  obtain ⟨⟨kk, hkk, ek⟩, ⟨uu, huu, eu⟩, hop⟩ := hG.2 pp hp
  have ek : K pp = nI kk := ek
  have eu : Y pp = nI uu := eu
  obtain ⟨s0, hs0, e0⟩ := hop 0 (by omega)
  have e0 : dc_op (P pp) (nI 0) = nI s0 := e0
  obtain ⟨s1, hs1, e1⟩ := hop 1 (by omega)
  have e1 : dc_op (P pp) (nI 1) = nI s1 := e1
  obtain ⟨s2, hs2, e2⟩ := hop 2 (by omega)
  have e2 : dc_op (P pp) (nI 2) = nI s2 := e2
  obtain ⟨s3, hs3, e3⟩ := hop 3 (by omega)
  have e3 : dc_op (P pp) (nI 3) = nI s3 := e3
  refine lv_aload_n hx hb dX1_carryOut_0 rfl (lv_at hl 0 rfl) ?_
  refine x1_get (v := .ref (a 1)) S hw rfl 0 (by decide) q177 rfl dX1_carryOut_1 ?_
  refine lv_aload_n hx hb dX1_carryOut_4 rfl (lv_at hl 0 rfl) ?_
  refine x1_get (v := .ref (a 5)) S hw rfl 4 (by decide) q181 rfl dX1_carryOut_5 ?_
  refine lv_iload_n hx hb dX1_carryOut_8 rfl (lv_at hl 1 rfl) ?_
  refine dc_ild S hw 5 rfl (i := pp) (by omega) (by decide) dX1_carryOut_9 ?_
  refine lv_bipush (v := nI 15) hx hb dX1_carryOut_10 (by decide) ?_
  refine lv_iand hx hb dX1_carryOut_12 ?_
  refine dc_top (y := nI s0) ((dc_o0 (P pp)).trans e0) ?_
  refine dc_ild S hw 1 rfl (i := s0) (by omega) (by decide) dX1_carryOut_13 ?_
  refine lv_istore_n (lv' := [(2, .int (V s0)), (0, .ref (a 0)), (1, .int (nI pp))]) hx hb dX1_carryOut_14 rfl hl (by decide) rfl (fun ls hl => ?_)
  refine lv_aload_n hx hb dX1_carryOut_15 rfl (lv_at hl 1 rfl) ?_
  refine x1_get (v := .ref (a 1)) S hw rfl 0 (by decide) q177 rfl dX1_carryOut_16 ?_
  refine lv_aload_n hx hb dX1_carryOut_19 rfl (lv_at hl 1 rfl) ?_
  refine x1_get (v := .ref (a 5)) S hw rfl 4 (by decide) q181 rfl dX1_carryOut_20 ?_
  refine lv_iload_n hx hb dX1_carryOut_23 rfl (lv_at hl 2 rfl) ?_
  refine dc_ild S hw 5 rfl (i := pp) (by omega) (by decide) dX1_carryOut_24 ?_
  refine lv_iconst (v := nI 4) hx hb dX1_carryOut_25 (by decide) ?_
  refine lv_ishr hx hb dX1_carryOut_26 ?_
  refine lv_bipush (v := nI 15) hx hb dX1_carryOut_27 (by decide) ?_
  refine lv_iand hx hb dX1_carryOut_29 ?_
  refine dc_top (y := nI s1) ((dc_o1 (P pp)).trans e1) ?_
  refine dc_ild S hw 1 rfl (i := s1) (by omega) (by decide) dX1_carryOut_30 ?_
  refine lv_istore_n (lv' := [(3, .int (V s1)), (2, .int (V s0)), (0, .ref (a 0)), (1, .int (nI pp))]) hx hb dX1_carryOut_31 rfl hl (by decide) rfl (fun ls hl => ?_)
  refine lv_aload_n hx hb dX1_carryOut_32 rfl (lv_at hl 2 rfl) ?_
  refine x1_get (v := .ref (a 1)) S hw rfl 0 (by decide) q177 rfl dX1_carryOut_33 ?_
  refine lv_aload_n hx hb dX1_carryOut_36 rfl (lv_at hl 2 rfl) ?_
  refine x1_get (v := .ref (a 5)) S hw rfl 4 (by decide) q181 rfl dX1_carryOut_37 ?_
  refine lv_iload_n hx hb dX1_carryOut_40 rfl (lv_at hl 3 rfl) ?_
  refine dc_ild S hw 5 rfl (i := pp) (by omega) (by decide) dX1_carryOut_41 ?_
  refine lv_bipush (v := nI 8) hx hb dX1_carryOut_42 (by decide) ?_
  refine lv_ishr hx hb dX1_carryOut_44 ?_
  refine lv_bipush (v := nI 15) hx hb dX1_carryOut_45 (by decide) ?_
  refine lv_iand hx hb dX1_carryOut_47 ?_
  refine dc_top (y := nI s2) ((dc_o2 (P pp)).trans e2) ?_
  refine dc_ild S hw 1 rfl (i := s2) (by omega) (by decide) dX1_carryOut_48 ?_
  refine lv_istore (lv' := [(4, .int (V s2)), (3, .int (V s1)), (2, .int (V s0)), (0, .ref (a 0)), (1, .int (nI pp))]) hx hb dX1_carryOut_49 hl (by decide) rfl (fun ls hl => ?_)
  refine lv_iload_n hx hb dX1_carryOut_51 rfl (lv_at hl 2 rfl) ?_
  refine lv_iload_n hx hb dX1_carryOut_52 rfl (lv_at hl 1 rfl) ?_
  refine lv_iadd hx hb dX1_carryOut_53 ?_
  refine lv_istore (lv' := [(5, .int ((V s0) + (V s1))), (4, .int (V s2)), (3, .int (V s1)), (2, .int (V s0)), (0, .ref (a 0)), (1, .int (nI pp))]) hx hb dX1_carryOut_54 hl (by decide) rfl (fun ls hl => ?_)
  refine lv_aload_n hx hb dX1_carryOut_56 rfl (lv_at hl 4 rfl) ?_
  refine x1_get (v := .ref (a 3)) S hw rfl 2 (by decide) q179 rfl dX1_carryOut_57 ?_
  refine lv_iload_n hx hb dX1_carryOut_60 rfl (lv_at hl 5 rfl) ?_
  refine dc_ild S hw 3 rfl (i := pp) (by omega) (by decide) dX1_carryOut_61 ?_
  rcases (show kk = 0 ∨ kk = 1 ∨ kk = 2 ∨ kk = 3 ∨ kk = 4 ∨ kk = 5 by omega) with h | h | h | h | h | h <;> subst h
  · refine dc_top (y := nI 0) ek ?_
    refine lv_iconst (v := nI 1) hx hb dX1_carryOut_62 (by decide) ?_
    refine dc_ne (tgt := 71) hx hb (by decide) (by decide) dX1_carryOut_63 (by decide) (fun c_63 => ?_) (fun c_63 => ?_)
    · refine lv_aload_n hx hb dX1_carryOut_71 rfl (lv_at hl 4 rfl) ?_
      refine x1_get (v := .ref (a 3)) S hw rfl 2 (by decide) q179 rfl dX1_carryOut_72 ?_
      refine lv_iload_n hx hb dX1_carryOut_75 rfl (lv_at hl 5 rfl) ?_
      refine dc_ild S hw 3 rfl (i := pp) (by omega) (by decide) dX1_carryOut_76 ?_
      refine dc_top (y := nI 0) ek ?_
      refine lv_iconst (v := nI 2) hx hb dX1_carryOut_77 (by decide) ?_
      refine dc_ne (tgt := 86) hx hb (by decide) (by decide) dX1_carryOut_78 (by decide) (fun c_78 => ?_) (fun c_78 => ?_)
      · refine lv_aload_n hx hb dX1_carryOut_86 rfl (lv_at hl 4 rfl) ?_
        refine x1_get (v := .ref (a 3)) S hw rfl 2 (by decide) q179 rfl dX1_carryOut_87 ?_
        refine lv_iload_n hx hb dX1_carryOut_90 rfl (lv_at hl 5 rfl) ?_
        refine dc_ild S hw 3 rfl (i := pp) (by omega) (by decide) dX1_carryOut_91 ?_
        refine dc_top (y := nI 0) ek ?_
        refine lv_iconst (v := nI 3) hx hb dX1_carryOut_92 (by decide) ?_
        refine dc_ne (tgt := 106) hx hb (by decide) (by decide) dX1_carryOut_93 (by decide) (fun c_93 => ?_) (fun c_93 => ?_)
        · refine lv_aload_n hx hb dX1_carryOut_106 rfl (lv_at hl 4 rfl) ?_
          refine x1_get (v := .ref (a 3)) S hw rfl 2 (by decide) q179 rfl dX1_carryOut_107 ?_
          refine lv_iload_n hx hb dX1_carryOut_110 rfl (lv_at hl 5 rfl) ?_
          refine dc_ild S hw 3 rfl (i := pp) (by omega) (by decide) dX1_carryOut_111 ?_
          refine dc_top (y := nI 0) ek ?_
          refine lv_iconst (v := nI 4) hx hb dX1_carryOut_112 (by decide) ?_
          refine dc_ne (tgt := 128) hx hb (by decide) (by decide) dX1_carryOut_113 (by decide) (fun c_113 => ?_) (fun c_113 => ?_)
          · refine lv_aload_n hx hb dX1_carryOut_128 rfl (lv_at hl 4 rfl) ?_
            refine x1_get (v := .ref (a 3)) S hw rfl 2 (by decide) q179 rfl dX1_carryOut_129 ?_
            refine lv_iload_n hx hb dX1_carryOut_132 rfl (lv_at hl 5 rfl) ?_
            refine dc_ild S hw 3 rfl (i := pp) (by omega) (by decide) dX1_carryOut_133 ?_
            refine dc_top (y := nI 0) ek ?_
            refine lv_iconst (v := nI 5) hx hb dX1_carryOut_134 (by decide) ?_
            refine dc_ne (tgt := 143) hx hb (by decide) (by decide) dX1_carryOut_135 (by decide) (fun c_135 => ?_) (fun c_135 => ?_)
            · refine lv_aload_n hx hb dX1_carryOut_143 rfl (lv_at hl 4 rfl) ?_
              refine lv_aload_n hx hb dX1_carryOut_144 rfl (lv_at hl 4 rfl) ?_
              refine x1_get (v := .ref (a 5)) S hw rfl 4 (by decide) q181 rfl dX1_carryOut_145 ?_
              refine lv_iload_n hx hb dX1_carryOut_148 rfl (lv_at hl 5 rfl) ?_
              refine dc_ild S hw 5 rfl (i := pp) (by omega) (by decide) dX1_carryOut_149 ?_
              refine lv_bipush (v := nI 12) hx hb dX1_carryOut_150 (by decide) ?_
              refine lv_ishr hx hb dX1_carryOut_152 ?_
              refine dc_top (y := nI s3) ((dc_o3 (P pp)).trans e3) ?_
              refine lv_iload hx hb dX1_carryOut_153 (lv_at hl 0 rfl) ?_
              refine lv_aload_n hx hb dX1_carryOut_155 rfl (lv_at hl 4 rfl) ?_
              refine x1_get (v := .ref (a 4)) S hw rfl 3 (by decide) q180 rfl dX1_carryOut_156 ?_
              refine lv_iload_n hx hb dX1_carryOut_159 rfl (lv_at hl 5 rfl) ?_
              refine dc_ild S hw 4 rfl (i := pp) (by omega) (by decide) dX1_carryOut_160 ?_
              refine dc_top (y := nI uu) eu ?_
              refine dc_callV (As := [.int (nI s3), .int ((V s0) + (V s1)), .int (nI uu)]) (rest := []) S hw (mX1_put l dg d a _ V E K Y (fun p => P p &&& 65535) C Wt np SG VL TM NX c0 t dn Q s3 uu ((V s0) + (V s1)) hs3 (by omega) ht hR) (cwV 3 S.2.2.2.2 (lw_V q237 q239 qs11 q18 q240) rfl rfl rfl (by decide +kernel) ⟨Nat.le_of_ble_eq_true rfl, Nat.le_of_ble_eq_true rfl⟩) (ci := 1) rfl rfl rfl rfl hl.1 rfl (Nat.le_of_ble_eq_true rfl) dX1_carryOut_161 ⟨Nat.zero_le _, Nat.zero_le _⟩ (fun z H locs hz hw => ?_)
              obtain ⟨c1, SG1, VL1, TM1, NX1⟩ := z
              have hw : dc_Wd dg d A s (dc_wM d a V E K Y (fun p => P p &&& 65535) C Wt np SG1 VL1 TM1 NX1 (nI c1) (nI t) dn) H locs := hw
              have hR1 : dc_RM t (dc_put Q s3 (t + uu) ((V s0) + (V s1))) c1 SG1 VL1 TM1 NX1 := hz
              exact ret 164 _ _ _ (c1, SG1, VL1, TM1, NX1) dX1_carryOut_164 (by rw [dc_cry_of (G := (n0, K, Y, P, C, Wt)) e3 eu hs3 huu, dc_res_k0 (G := (n0, K, Y, P, C, Wt)) e0 e1 e2 hs0 hs1 hs2 ek]; exact hR1) hw
            · exact absurd c_135 (by decide)
          · exact absurd c_113 (by decide)
        · exact absurd c_93 (by decide)
      · exact absurd c_78 (by decide)
    · exact absurd c_63 (by decide)
  · refine dc_top (y := nI 1) ek ?_
    refine lv_iconst (v := nI 1) hx hb dX1_carryOut_62 (by decide) ?_
    refine dc_ne (tgt := 71) hx hb (by decide) (by decide) dX1_carryOut_63 (by decide) (fun c_63 => ?_) (fun c_63 => ?_)
    · exact absurd rfl c_63
    · refine lv_iload_n hx hb dX1_carryOut_66 rfl (lv_at hl 3 rfl) ?_
      refine lv_iload_n hx hb dX1_carryOut_67 rfl (lv_at hl 2 rfl) ?_
      refine lv_iand hx hb dX1_carryOut_68 ?_
      refine lv_istore (lv' := [(5, .int ((V s0) &&& (V s1))), (4, .int (V s2)), (3, .int (V s1)), (2, .int (V s0)), (0, .ref (a 0)), (1, .int (nI pp))]) hx hb dX1_carryOut_69 hl (by decide) rfl (fun ls hl => ?_)
      refine lv_aload_n hx hb dX1_carryOut_71 rfl (lv_at hl 4 rfl) ?_
      refine x1_get (v := .ref (a 3)) S hw rfl 2 (by decide) q179 rfl dX1_carryOut_72 ?_
      refine lv_iload_n hx hb dX1_carryOut_75 rfl (lv_at hl 5 rfl) ?_
      refine dc_ild S hw 3 rfl (i := pp) (by omega) (by decide) dX1_carryOut_76 ?_
      refine dc_top (y := nI 1) ek ?_
      refine lv_iconst (v := nI 2) hx hb dX1_carryOut_77 (by decide) ?_
      refine dc_ne (tgt := 86) hx hb (by decide) (by decide) dX1_carryOut_78 (by decide) (fun c_78 => ?_) (fun c_78 => ?_)
      · refine lv_aload_n hx hb dX1_carryOut_86 rfl (lv_at hl 4 rfl) ?_
        refine x1_get (v := .ref (a 3)) S hw rfl 2 (by decide) q179 rfl dX1_carryOut_87 ?_
        refine lv_iload_n hx hb dX1_carryOut_90 rfl (lv_at hl 5 rfl) ?_
        refine dc_ild S hw 3 rfl (i := pp) (by omega) (by decide) dX1_carryOut_91 ?_
        refine dc_top (y := nI 1) ek ?_
        refine lv_iconst (v := nI 3) hx hb dX1_carryOut_92 (by decide) ?_
        refine dc_ne (tgt := 106) hx hb (by decide) (by decide) dX1_carryOut_93 (by decide) (fun c_93 => ?_) (fun c_93 => ?_)
        · refine lv_aload_n hx hb dX1_carryOut_106 rfl (lv_at hl 4 rfl) ?_
          refine x1_get (v := .ref (a 3)) S hw rfl 2 (by decide) q179 rfl dX1_carryOut_107 ?_
          refine lv_iload_n hx hb dX1_carryOut_110 rfl (lv_at hl 5 rfl) ?_
          refine dc_ild S hw 3 rfl (i := pp) (by omega) (by decide) dX1_carryOut_111 ?_
          refine dc_top (y := nI 1) ek ?_
          refine lv_iconst (v := nI 4) hx hb dX1_carryOut_112 (by decide) ?_
          refine dc_ne (tgt := 128) hx hb (by decide) (by decide) dX1_carryOut_113 (by decide) (fun c_113 => ?_) (fun c_113 => ?_)
          · refine lv_aload_n hx hb dX1_carryOut_128 rfl (lv_at hl 4 rfl) ?_
            refine x1_get (v := .ref (a 3)) S hw rfl 2 (by decide) q179 rfl dX1_carryOut_129 ?_
            refine lv_iload_n hx hb dX1_carryOut_132 rfl (lv_at hl 5 rfl) ?_
            refine dc_ild S hw 3 rfl (i := pp) (by omega) (by decide) dX1_carryOut_133 ?_
            refine dc_top (y := nI 1) ek ?_
            refine lv_iconst (v := nI 5) hx hb dX1_carryOut_134 (by decide) ?_
            refine dc_ne (tgt := 143) hx hb (by decide) (by decide) dX1_carryOut_135 (by decide) (fun c_135 => ?_) (fun c_135 => ?_)
            · refine lv_aload_n hx hb dX1_carryOut_143 rfl (lv_at hl 4 rfl) ?_
              refine lv_aload_n hx hb dX1_carryOut_144 rfl (lv_at hl 4 rfl) ?_
              refine x1_get (v := .ref (a 5)) S hw rfl 4 (by decide) q181 rfl dX1_carryOut_145 ?_
              refine lv_iload_n hx hb dX1_carryOut_148 rfl (lv_at hl 5 rfl) ?_
              refine dc_ild S hw 5 rfl (i := pp) (by omega) (by decide) dX1_carryOut_149 ?_
              refine lv_bipush (v := nI 12) hx hb dX1_carryOut_150 (by decide) ?_
              refine lv_ishr hx hb dX1_carryOut_152 ?_
              refine dc_top (y := nI s3) ((dc_o3 (P pp)).trans e3) ?_
              refine lv_iload hx hb dX1_carryOut_153 (lv_at hl 0 rfl) ?_
              refine lv_aload_n hx hb dX1_carryOut_155 rfl (lv_at hl 4 rfl) ?_
              refine x1_get (v := .ref (a 4)) S hw rfl 3 (by decide) q180 rfl dX1_carryOut_156 ?_
              refine lv_iload_n hx hb dX1_carryOut_159 rfl (lv_at hl 5 rfl) ?_
              refine dc_ild S hw 4 rfl (i := pp) (by omega) (by decide) dX1_carryOut_160 ?_
              refine dc_top (y := nI uu) eu ?_
              refine dc_callV (As := [.int (nI s3), .int ((V s0) &&& (V s1)), .int (nI uu)]) (rest := []) S hw (mX1_put l dg d a _ V E K Y (fun p => P p &&& 65535) C Wt np SG VL TM NX c0 t dn Q s3 uu ((V s0) &&& (V s1)) hs3 (by omega) ht hR) (cwV 3 S.2.2.2.2 (lw_V q237 q239 qs11 q18 q240) rfl rfl rfl (by decide +kernel) ⟨Nat.le_of_ble_eq_true rfl, Nat.le_of_ble_eq_true rfl⟩) (ci := 1) rfl rfl rfl rfl hl.1 rfl (Nat.le_of_ble_eq_true rfl) dX1_carryOut_161 ⟨Nat.zero_le _, Nat.zero_le _⟩ (fun z H locs hz hw => ?_)
              obtain ⟨c1, SG1, VL1, TM1, NX1⟩ := z
              have hw : dc_Wd dg d A s (dc_wM d a V E K Y (fun p => P p &&& 65535) C Wt np SG1 VL1 TM1 NX1 (nI c1) (nI t) dn) H locs := hw
              have hR1 : dc_RM t (dc_put Q s3 (t + uu) ((V s0) &&& (V s1))) c1 SG1 VL1 TM1 NX1 := hz
              exact ret 164 _ _ _ (c1, SG1, VL1, TM1, NX1) dX1_carryOut_164 (by rw [dc_cry_of (G := (n0, K, Y, P, C, Wt)) e3 eu hs3 huu, dc_res_k1 (G := (n0, K, Y, P, C, Wt)) e0 e1 e2 hs0 hs1 hs2 ek]; exact hR1) hw
            · exact absurd c_135 (by decide)
          · exact absurd c_113 (by decide)
        · exact absurd c_93 (by decide)
      · exact absurd c_78 (by decide)
  · refine dc_top (y := nI 2) ek ?_
    refine lv_iconst (v := nI 1) hx hb dX1_carryOut_62 (by decide) ?_
    refine dc_ne (tgt := 71) hx hb (by decide) (by decide) dX1_carryOut_63 (by decide) (fun c_63 => ?_) (fun c_63 => ?_)
    · refine lv_aload_n hx hb dX1_carryOut_71 rfl (lv_at hl 4 rfl) ?_
      refine x1_get (v := .ref (a 3)) S hw rfl 2 (by decide) q179 rfl dX1_carryOut_72 ?_
      refine lv_iload_n hx hb dX1_carryOut_75 rfl (lv_at hl 5 rfl) ?_
      refine dc_ild S hw 3 rfl (i := pp) (by omega) (by decide) dX1_carryOut_76 ?_
      refine dc_top (y := nI 2) ek ?_
      refine lv_iconst (v := nI 2) hx hb dX1_carryOut_77 (by decide) ?_
      refine dc_ne (tgt := 86) hx hb (by decide) (by decide) dX1_carryOut_78 (by decide) (fun c_78 => ?_) (fun c_78 => ?_)
      · exact absurd rfl c_78
      · refine lv_iload_n hx hb dX1_carryOut_81 rfl (lv_at hl 3 rfl) ?_
        refine lv_iload_n hx hb dX1_carryOut_82 rfl (lv_at hl 2 rfl) ?_
        refine lv_ixor hx hb dX1_carryOut_83 ?_
        refine lv_istore (lv' := [(5, .int ((V s0) ^^^ (V s1))), (4, .int (V s2)), (3, .int (V s1)), (2, .int (V s0)), (0, .ref (a 0)), (1, .int (nI pp))]) hx hb dX1_carryOut_84 hl (by decide) rfl (fun ls hl => ?_)
        refine lv_aload_n hx hb dX1_carryOut_86 rfl (lv_at hl 4 rfl) ?_
        refine x1_get (v := .ref (a 3)) S hw rfl 2 (by decide) q179 rfl dX1_carryOut_87 ?_
        refine lv_iload_n hx hb dX1_carryOut_90 rfl (lv_at hl 5 rfl) ?_
        refine dc_ild S hw 3 rfl (i := pp) (by omega) (by decide) dX1_carryOut_91 ?_
        refine dc_top (y := nI 2) ek ?_
        refine lv_iconst (v := nI 3) hx hb dX1_carryOut_92 (by decide) ?_
        refine dc_ne (tgt := 106) hx hb (by decide) (by decide) dX1_carryOut_93 (by decide) (fun c_93 => ?_) (fun c_93 => ?_)
        · refine lv_aload_n hx hb dX1_carryOut_106 rfl (lv_at hl 4 rfl) ?_
          refine x1_get (v := .ref (a 3)) S hw rfl 2 (by decide) q179 rfl dX1_carryOut_107 ?_
          refine lv_iload_n hx hb dX1_carryOut_110 rfl (lv_at hl 5 rfl) ?_
          refine dc_ild S hw 3 rfl (i := pp) (by omega) (by decide) dX1_carryOut_111 ?_
          refine dc_top (y := nI 2) ek ?_
          refine lv_iconst (v := nI 4) hx hb dX1_carryOut_112 (by decide) ?_
          refine dc_ne (tgt := 128) hx hb (by decide) (by decide) dX1_carryOut_113 (by decide) (fun c_113 => ?_) (fun c_113 => ?_)
          · refine lv_aload_n hx hb dX1_carryOut_128 rfl (lv_at hl 4 rfl) ?_
            refine x1_get (v := .ref (a 3)) S hw rfl 2 (by decide) q179 rfl dX1_carryOut_129 ?_
            refine lv_iload_n hx hb dX1_carryOut_132 rfl (lv_at hl 5 rfl) ?_
            refine dc_ild S hw 3 rfl (i := pp) (by omega) (by decide) dX1_carryOut_133 ?_
            refine dc_top (y := nI 2) ek ?_
            refine lv_iconst (v := nI 5) hx hb dX1_carryOut_134 (by decide) ?_
            refine dc_ne (tgt := 143) hx hb (by decide) (by decide) dX1_carryOut_135 (by decide) (fun c_135 => ?_) (fun c_135 => ?_)
            · refine lv_aload_n hx hb dX1_carryOut_143 rfl (lv_at hl 4 rfl) ?_
              refine lv_aload_n hx hb dX1_carryOut_144 rfl (lv_at hl 4 rfl) ?_
              refine x1_get (v := .ref (a 5)) S hw rfl 4 (by decide) q181 rfl dX1_carryOut_145 ?_
              refine lv_iload_n hx hb dX1_carryOut_148 rfl (lv_at hl 5 rfl) ?_
              refine dc_ild S hw 5 rfl (i := pp) (by omega) (by decide) dX1_carryOut_149 ?_
              refine lv_bipush (v := nI 12) hx hb dX1_carryOut_150 (by decide) ?_
              refine lv_ishr hx hb dX1_carryOut_152 ?_
              refine dc_top (y := nI s3) ((dc_o3 (P pp)).trans e3) ?_
              refine lv_iload hx hb dX1_carryOut_153 (lv_at hl 0 rfl) ?_
              refine lv_aload_n hx hb dX1_carryOut_155 rfl (lv_at hl 4 rfl) ?_
              refine x1_get (v := .ref (a 4)) S hw rfl 3 (by decide) q180 rfl dX1_carryOut_156 ?_
              refine lv_iload_n hx hb dX1_carryOut_159 rfl (lv_at hl 5 rfl) ?_
              refine dc_ild S hw 4 rfl (i := pp) (by omega) (by decide) dX1_carryOut_160 ?_
              refine dc_top (y := nI uu) eu ?_
              refine dc_callV (As := [.int (nI s3), .int ((V s0) ^^^ (V s1)), .int (nI uu)]) (rest := []) S hw (mX1_put l dg d a _ V E K Y (fun p => P p &&& 65535) C Wt np SG VL TM NX c0 t dn Q s3 uu ((V s0) ^^^ (V s1)) hs3 (by omega) ht hR) (cwV 3 S.2.2.2.2 (lw_V q237 q239 qs11 q18 q240) rfl rfl rfl (by decide +kernel) ⟨Nat.le_of_ble_eq_true rfl, Nat.le_of_ble_eq_true rfl⟩) (ci := 1) rfl rfl rfl rfl hl.1 rfl (Nat.le_of_ble_eq_true rfl) dX1_carryOut_161 ⟨Nat.zero_le _, Nat.zero_le _⟩ (fun z H locs hz hw => ?_)
              obtain ⟨c1, SG1, VL1, TM1, NX1⟩ := z
              have hw : dc_Wd dg d A s (dc_wM d a V E K Y (fun p => P p &&& 65535) C Wt np SG1 VL1 TM1 NX1 (nI c1) (nI t) dn) H locs := hw
              have hR1 : dc_RM t (dc_put Q s3 (t + uu) ((V s0) ^^^ (V s1))) c1 SG1 VL1 TM1 NX1 := hz
              exact ret 164 _ _ _ (c1, SG1, VL1, TM1, NX1) dX1_carryOut_164 (by rw [dc_cry_of (G := (n0, K, Y, P, C, Wt)) e3 eu hs3 huu, dc_res_k2 (G := (n0, K, Y, P, C, Wt)) e0 e1 e2 hs0 hs1 hs2 ek]; exact hR1) hw
            · exact absurd c_135 (by decide)
          · exact absurd c_113 (by decide)
        · exact absurd c_93 (by decide)
    · exact absurd c_63 (by decide)
  · refine dc_top (y := nI 3) ek ?_
    refine lv_iconst (v := nI 1) hx hb dX1_carryOut_62 (by decide) ?_
    refine dc_ne (tgt := 71) hx hb (by decide) (by decide) dX1_carryOut_63 (by decide) (fun c_63 => ?_) (fun c_63 => ?_)
    · refine lv_aload_n hx hb dX1_carryOut_71 rfl (lv_at hl 4 rfl) ?_
      refine x1_get (v := .ref (a 3)) S hw rfl 2 (by decide) q179 rfl dX1_carryOut_72 ?_
      refine lv_iload_n hx hb dX1_carryOut_75 rfl (lv_at hl 5 rfl) ?_
      refine dc_ild S hw 3 rfl (i := pp) (by omega) (by decide) dX1_carryOut_76 ?_
      refine dc_top (y := nI 3) ek ?_
      refine lv_iconst (v := nI 2) hx hb dX1_carryOut_77 (by decide) ?_
      refine dc_ne (tgt := 86) hx hb (by decide) (by decide) dX1_carryOut_78 (by decide) (fun c_78 => ?_) (fun c_78 => ?_)
      · refine lv_aload_n hx hb dX1_carryOut_86 rfl (lv_at hl 4 rfl) ?_
        refine x1_get (v := .ref (a 3)) S hw rfl 2 (by decide) q179 rfl dX1_carryOut_87 ?_
        refine lv_iload_n hx hb dX1_carryOut_90 rfl (lv_at hl 5 rfl) ?_
        refine dc_ild S hw 3 rfl (i := pp) (by omega) (by decide) dX1_carryOut_91 ?_
        refine dc_top (y := nI 3) ek ?_
        refine lv_iconst (v := nI 3) hx hb dX1_carryOut_92 (by decide) ?_
        refine dc_ne (tgt := 106) hx hb (by decide) (by decide) dX1_carryOut_93 (by decide) (fun c_93 => ?_) (fun c_93 => ?_)
        · exact absurd rfl c_93
        · refine lv_iload_n hx hb dX1_carryOut_96 rfl (lv_at hl 3 rfl) ?_
          refine lv_aload_n hx hb dX1_carryOut_97 rfl (lv_at hl 4 rfl) ?_
          refine x1_get (v := .ref (a 6)) S hw rfl 5 (by decide) q182 rfl dX1_carryOut_98 ?_
          refine lv_iload_n hx hb dX1_carryOut_101 rfl (lv_at hl 5 rfl) ?_
          refine dc_ild S hw 6 rfl (i := pp) (by omega) (by decide) dX1_carryOut_102 ?_
          refine lv_iadd hx hb dX1_carryOut_103 ?_
          refine lv_istore (lv' := [(5, .int ((V s0) + (C pp))), (4, .int (V s2)), (3, .int (V s1)), (2, .int (V s0)), (0, .ref (a 0)), (1, .int (nI pp))]) hx hb dX1_carryOut_104 hl (by decide) rfl (fun ls hl => ?_)
          refine lv_aload_n hx hb dX1_carryOut_106 rfl (lv_at hl 4 rfl) ?_
          refine x1_get (v := .ref (a 3)) S hw rfl 2 (by decide) q179 rfl dX1_carryOut_107 ?_
          refine lv_iload_n hx hb dX1_carryOut_110 rfl (lv_at hl 5 rfl) ?_
          refine dc_ild S hw 3 rfl (i := pp) (by omega) (by decide) dX1_carryOut_111 ?_
          refine dc_top (y := nI 3) ek ?_
          refine lv_iconst (v := nI 4) hx hb dX1_carryOut_112 (by decide) ?_
          refine dc_ne (tgt := 128) hx hb (by decide) (by decide) dX1_carryOut_113 (by decide) (fun c_113 => ?_) (fun c_113 => ?_)
          · refine lv_aload_n hx hb dX1_carryOut_128 rfl (lv_at hl 4 rfl) ?_
            refine x1_get (v := .ref (a 3)) S hw rfl 2 (by decide) q179 rfl dX1_carryOut_129 ?_
            refine lv_iload_n hx hb dX1_carryOut_132 rfl (lv_at hl 5 rfl) ?_
            refine dc_ild S hw 3 rfl (i := pp) (by omega) (by decide) dX1_carryOut_133 ?_
            refine dc_top (y := nI 3) ek ?_
            refine lv_iconst (v := nI 5) hx hb dX1_carryOut_134 (by decide) ?_
            refine dc_ne (tgt := 143) hx hb (by decide) (by decide) dX1_carryOut_135 (by decide) (fun c_135 => ?_) (fun c_135 => ?_)
            · refine lv_aload_n hx hb dX1_carryOut_143 rfl (lv_at hl 4 rfl) ?_
              refine lv_aload_n hx hb dX1_carryOut_144 rfl (lv_at hl 4 rfl) ?_
              refine x1_get (v := .ref (a 5)) S hw rfl 4 (by decide) q181 rfl dX1_carryOut_145 ?_
              refine lv_iload_n hx hb dX1_carryOut_148 rfl (lv_at hl 5 rfl) ?_
              refine dc_ild S hw 5 rfl (i := pp) (by omega) (by decide) dX1_carryOut_149 ?_
              refine lv_bipush (v := nI 12) hx hb dX1_carryOut_150 (by decide) ?_
              refine lv_ishr hx hb dX1_carryOut_152 ?_
              refine dc_top (y := nI s3) ((dc_o3 (P pp)).trans e3) ?_
              refine lv_iload hx hb dX1_carryOut_153 (lv_at hl 0 rfl) ?_
              refine lv_aload_n hx hb dX1_carryOut_155 rfl (lv_at hl 4 rfl) ?_
              refine x1_get (v := .ref (a 4)) S hw rfl 3 (by decide) q180 rfl dX1_carryOut_156 ?_
              refine lv_iload_n hx hb dX1_carryOut_159 rfl (lv_at hl 5 rfl) ?_
              refine dc_ild S hw 4 rfl (i := pp) (by omega) (by decide) dX1_carryOut_160 ?_
              refine dc_top (y := nI uu) eu ?_
              refine dc_callV (As := [.int (nI s3), .int ((V s0) + (C pp)), .int (nI uu)]) (rest := []) S hw (mX1_put l dg d a _ V E K Y (fun p => P p &&& 65535) C Wt np SG VL TM NX c0 t dn Q s3 uu ((V s0) + (C pp)) hs3 (by omega) ht hR) (cwV 3 S.2.2.2.2 (lw_V q237 q239 qs11 q18 q240) rfl rfl rfl (by decide +kernel) ⟨Nat.le_of_ble_eq_true rfl, Nat.le_of_ble_eq_true rfl⟩) (ci := 1) rfl rfl rfl rfl hl.1 rfl (Nat.le_of_ble_eq_true rfl) dX1_carryOut_161 ⟨Nat.zero_le _, Nat.zero_le _⟩ (fun z H locs hz hw => ?_)
              obtain ⟨c1, SG1, VL1, TM1, NX1⟩ := z
              have hw : dc_Wd dg d A s (dc_wM d a V E K Y (fun p => P p &&& 65535) C Wt np SG1 VL1 TM1 NX1 (nI c1) (nI t) dn) H locs := hw
              have hR1 : dc_RM t (dc_put Q s3 (t + uu) ((V s0) + (C pp))) c1 SG1 VL1 TM1 NX1 := hz
              exact ret 164 _ _ _ (c1, SG1, VL1, TM1, NX1) dX1_carryOut_164 (by rw [dc_cry_of (G := (n0, K, Y, P, C, Wt)) e3 eu hs3 huu, dc_res_k3 (G := (n0, K, Y, P, C, Wt)) e0 e1 e2 hs0 hs1 hs2 ek]; exact hR1) hw
            · exact absurd c_135 (by decide)
          · exact absurd c_113 (by decide)
      · exact absurd c_78 (by decide)
    · exact absurd c_63 (by decide)
  · refine dc_top (y := nI 4) ek ?_
    refine lv_iconst (v := nI 1) hx hb dX1_carryOut_62 (by decide) ?_
    refine dc_ne (tgt := 71) hx hb (by decide) (by decide) dX1_carryOut_63 (by decide) (fun c_63 => ?_) (fun c_63 => ?_)
    · refine lv_aload_n hx hb dX1_carryOut_71 rfl (lv_at hl 4 rfl) ?_
      refine x1_get (v := .ref (a 3)) S hw rfl 2 (by decide) q179 rfl dX1_carryOut_72 ?_
      refine lv_iload_n hx hb dX1_carryOut_75 rfl (lv_at hl 5 rfl) ?_
      refine dc_ild S hw 3 rfl (i := pp) (by omega) (by decide) dX1_carryOut_76 ?_
      refine dc_top (y := nI 4) ek ?_
      refine lv_iconst (v := nI 2) hx hb dX1_carryOut_77 (by decide) ?_
      refine dc_ne (tgt := 86) hx hb (by decide) (by decide) dX1_carryOut_78 (by decide) (fun c_78 => ?_) (fun c_78 => ?_)
      · refine lv_aload_n hx hb dX1_carryOut_86 rfl (lv_at hl 4 rfl) ?_
        refine x1_get (v := .ref (a 3)) S hw rfl 2 (by decide) q179 rfl dX1_carryOut_87 ?_
        refine lv_iload_n hx hb dX1_carryOut_90 rfl (lv_at hl 5 rfl) ?_
        refine dc_ild S hw 3 rfl (i := pp) (by omega) (by decide) dX1_carryOut_91 ?_
        refine dc_top (y := nI 4) ek ?_
        refine lv_iconst (v := nI 3) hx hb dX1_carryOut_92 (by decide) ?_
        refine dc_ne (tgt := 106) hx hb (by decide) (by decide) dX1_carryOut_93 (by decide) (fun c_93 => ?_) (fun c_93 => ?_)
        · refine lv_aload_n hx hb dX1_carryOut_106 rfl (lv_at hl 4 rfl) ?_
          refine x1_get (v := .ref (a 3)) S hw rfl 2 (by decide) q179 rfl dX1_carryOut_107 ?_
          refine lv_iload_n hx hb dX1_carryOut_110 rfl (lv_at hl 5 rfl) ?_
          refine dc_ild S hw 3 rfl (i := pp) (by omega) (by decide) dX1_carryOut_111 ?_
          refine dc_top (y := nI 4) ek ?_
          refine lv_iconst (v := nI 4) hx hb dX1_carryOut_112 (by decide) ?_
          refine dc_ne (tgt := 128) hx hb (by decide) (by decide) dX1_carryOut_113 (by decide) (fun c_113 => ?_) (fun c_113 => ?_)
          · exact absurd rfl c_113
          · refine lv_iload hx hb dX1_carryOut_116 (lv_at hl 1 rfl) ?_
            refine lv_if_eq (tgt := 125) hx hb dX1_carryOut_118 (by decide) (fun c_118 => ?_) (fun c_118 => ?_)
            · refine lv_iload_n hx hb dX1_carryOut_125 rfl (lv_at hl 2 rfl) ?_
              refine lv_istore (lv' := [(5, .int (V s1)), (4, .int (V s2)), (3, .int (V s1)), (2, .int (V s0)), (0, .ref (a 0)), (1, .int (nI pp))]) hx hb dX1_carryOut_126 hl (by decide) rfl (fun ls hl => ?_)
              refine lv_aload_n hx hb dX1_carryOut_128 rfl (lv_at hl 4 rfl) ?_
              refine x1_get (v := .ref (a 3)) S hw rfl 2 (by decide) q179 rfl dX1_carryOut_129 ?_
              refine lv_iload_n hx hb dX1_carryOut_132 rfl (lv_at hl 5 rfl) ?_
              refine dc_ild S hw 3 rfl (i := pp) (by omega) (by decide) dX1_carryOut_133 ?_
              refine dc_top (y := nI 4) ek ?_
              refine lv_iconst (v := nI 5) hx hb dX1_carryOut_134 (by decide) ?_
              refine dc_ne (tgt := 143) hx hb (by decide) (by decide) dX1_carryOut_135 (by decide) (fun c_135 => ?_) (fun c_135 => ?_)
              · refine lv_aload_n hx hb dX1_carryOut_143 rfl (lv_at hl 4 rfl) ?_
                refine lv_aload_n hx hb dX1_carryOut_144 rfl (lv_at hl 4 rfl) ?_
                refine x1_get (v := .ref (a 5)) S hw rfl 4 (by decide) q181 rfl dX1_carryOut_145 ?_
                refine lv_iload_n hx hb dX1_carryOut_148 rfl (lv_at hl 5 rfl) ?_
                refine dc_ild S hw 5 rfl (i := pp) (by omega) (by decide) dX1_carryOut_149 ?_
                refine lv_bipush (v := nI 12) hx hb dX1_carryOut_150 (by decide) ?_
                refine lv_ishr hx hb dX1_carryOut_152 ?_
                refine dc_top (y := nI s3) ((dc_o3 (P pp)).trans e3) ?_
                refine lv_iload hx hb dX1_carryOut_153 (lv_at hl 0 rfl) ?_
                refine lv_aload_n hx hb dX1_carryOut_155 rfl (lv_at hl 4 rfl) ?_
                refine x1_get (v := .ref (a 4)) S hw rfl 3 (by decide) q180 rfl dX1_carryOut_156 ?_
                refine lv_iload_n hx hb dX1_carryOut_159 rfl (lv_at hl 5 rfl) ?_
                refine dc_ild S hw 4 rfl (i := pp) (by omega) (by decide) dX1_carryOut_160 ?_
                refine dc_top (y := nI uu) eu ?_
                refine dc_callV (As := [.int (nI s3), .int (V s1), .int (nI uu)]) (rest := []) S hw (mX1_put l dg d a _ V E K Y (fun p => P p &&& 65535) C Wt np SG VL TM NX c0 t dn Q s3 uu (V s1) hs3 (by omega) ht hR) (cwV 3 S.2.2.2.2 (lw_V q237 q239 qs11 q18 q240) rfl rfl rfl (by decide +kernel) ⟨Nat.le_of_ble_eq_true rfl, Nat.le_of_ble_eq_true rfl⟩) (ci := 1) rfl rfl rfl rfl hl.1 rfl (Nat.le_of_ble_eq_true rfl) dX1_carryOut_161 ⟨Nat.zero_le _, Nat.zero_le _⟩ (fun z H locs hz hw => ?_)
                obtain ⟨c1, SG1, VL1, TM1, NX1⟩ := z
                have hw : dc_Wd dg d A s (dc_wM d a V E K Y (fun p => P p &&& 65535) C Wt np SG1 VL1 TM1 NX1 (nI c1) (nI t) dn) H locs := hw
                have hR1 : dc_RM t (dc_put Q s3 (t + uu) (V s1)) c1 SG1 VL1 TM1 NX1 := hz
                exact ret 164 _ _ _ (c1, SG1, VL1, TM1, NX1) dX1_carryOut_164 (by rw [dc_cry_of (G := (n0, K, Y, P, C, Wt)) e3 eu hs3 huu, dc_res_k4 (G := (n0, K, Y, P, C, Wt)) e0 e1 e2 hs0 hs1 hs2 ek, if_pos c_118]; exact hR1) hw
              · exact absurd c_135 (by decide)
            · refine lv_iload_n hx hb dX1_carryOut_121 rfl (lv_at hl 3 rfl) ?_
              refine lv_goto (tgt := 126) hx hb dX1_carryOut_122 (by decide) ?_
              refine lv_istore (lv' := [(5, .int (V s0)), (4, .int (V s2)), (3, .int (V s1)), (2, .int (V s0)), (0, .ref (a 0)), (1, .int (nI pp))]) hx hb dX1_carryOut_126 hl (by decide) rfl (fun ls hl => ?_)
              refine lv_aload_n hx hb dX1_carryOut_128 rfl (lv_at hl 4 rfl) ?_
              refine x1_get (v := .ref (a 3)) S hw rfl 2 (by decide) q179 rfl dX1_carryOut_129 ?_
              refine lv_iload_n hx hb dX1_carryOut_132 rfl (lv_at hl 5 rfl) ?_
              refine dc_ild S hw 3 rfl (i := pp) (by omega) (by decide) dX1_carryOut_133 ?_
              refine dc_top (y := nI 4) ek ?_
              refine lv_iconst (v := nI 5) hx hb dX1_carryOut_134 (by decide) ?_
              refine dc_ne (tgt := 143) hx hb (by decide) (by decide) dX1_carryOut_135 (by decide) (fun c_135 => ?_) (fun c_135 => ?_)
              · refine lv_aload_n hx hb dX1_carryOut_143 rfl (lv_at hl 4 rfl) ?_
                refine lv_aload_n hx hb dX1_carryOut_144 rfl (lv_at hl 4 rfl) ?_
                refine x1_get (v := .ref (a 5)) S hw rfl 4 (by decide) q181 rfl dX1_carryOut_145 ?_
                refine lv_iload_n hx hb dX1_carryOut_148 rfl (lv_at hl 5 rfl) ?_
                refine dc_ild S hw 5 rfl (i := pp) (by omega) (by decide) dX1_carryOut_149 ?_
                refine lv_bipush (v := nI 12) hx hb dX1_carryOut_150 (by decide) ?_
                refine lv_ishr hx hb dX1_carryOut_152 ?_
                refine dc_top (y := nI s3) ((dc_o3 (P pp)).trans e3) ?_
                refine lv_iload hx hb dX1_carryOut_153 (lv_at hl 0 rfl) ?_
                refine lv_aload_n hx hb dX1_carryOut_155 rfl (lv_at hl 4 rfl) ?_
                refine x1_get (v := .ref (a 4)) S hw rfl 3 (by decide) q180 rfl dX1_carryOut_156 ?_
                refine lv_iload_n hx hb dX1_carryOut_159 rfl (lv_at hl 5 rfl) ?_
                refine dc_ild S hw 4 rfl (i := pp) (by omega) (by decide) dX1_carryOut_160 ?_
                refine dc_top (y := nI uu) eu ?_
                refine dc_callV (As := [.int (nI s3), .int (V s0), .int (nI uu)]) (rest := []) S hw (mX1_put l dg d a _ V E K Y (fun p => P p &&& 65535) C Wt np SG VL TM NX c0 t dn Q s3 uu (V s0) hs3 (by omega) ht hR) (cwV 3 S.2.2.2.2 (lw_V q237 q239 qs11 q18 q240) rfl rfl rfl (by decide +kernel) ⟨Nat.le_of_ble_eq_true rfl, Nat.le_of_ble_eq_true rfl⟩) (ci := 1) rfl rfl rfl rfl hl.1 rfl (Nat.le_of_ble_eq_true rfl) dX1_carryOut_161 ⟨Nat.zero_le _, Nat.zero_le _⟩ (fun z H locs hz hw => ?_)
                obtain ⟨c1, SG1, VL1, TM1, NX1⟩ := z
                have hw : dc_Wd dg d A s (dc_wM d a V E K Y (fun p => P p &&& 65535) C Wt np SG1 VL1 TM1 NX1 (nI c1) (nI t) dn) H locs := hw
                have hR1 : dc_RM t (dc_put Q s3 (t + uu) (V s0)) c1 SG1 VL1 TM1 NX1 := hz
                exact ret 164 _ _ _ (c1, SG1, VL1, TM1, NX1) dX1_carryOut_164 (by rw [dc_cry_of (G := (n0, K, Y, P, C, Wt)) e3 eu hs3 huu, dc_res_k4 (G := (n0, K, Y, P, C, Wt)) e0 e1 e2 hs0 hs1 hs2 ek, if_neg c_118]; exact hR1) hw
              · exact absurd c_135 (by decide)
        · exact absurd c_93 (by decide)
      · exact absurd c_78 (by decide)
    · exact absurd c_63 (by decide)
  · refine dc_top (y := nI 5) ek ?_
    refine lv_iconst (v := nI 1) hx hb dX1_carryOut_62 (by decide) ?_
    refine dc_ne (tgt := 71) hx hb (by decide) (by decide) dX1_carryOut_63 (by decide) (fun c_63 => ?_) (fun c_63 => ?_)
    · refine lv_aload_n hx hb dX1_carryOut_71 rfl (lv_at hl 4 rfl) ?_
      refine x1_get (v := .ref (a 3)) S hw rfl 2 (by decide) q179 rfl dX1_carryOut_72 ?_
      refine lv_iload_n hx hb dX1_carryOut_75 rfl (lv_at hl 5 rfl) ?_
      refine dc_ild S hw 3 rfl (i := pp) (by omega) (by decide) dX1_carryOut_76 ?_
      refine dc_top (y := nI 5) ek ?_
      refine lv_iconst (v := nI 2) hx hb dX1_carryOut_77 (by decide) ?_
      refine dc_ne (tgt := 86) hx hb (by decide) (by decide) dX1_carryOut_78 (by decide) (fun c_78 => ?_) (fun c_78 => ?_)
      · refine lv_aload_n hx hb dX1_carryOut_86 rfl (lv_at hl 4 rfl) ?_
        refine x1_get (v := .ref (a 3)) S hw rfl 2 (by decide) q179 rfl dX1_carryOut_87 ?_
        refine lv_iload_n hx hb dX1_carryOut_90 rfl (lv_at hl 5 rfl) ?_
        refine dc_ild S hw 3 rfl (i := pp) (by omega) (by decide) dX1_carryOut_91 ?_
        refine dc_top (y := nI 5) ek ?_
        refine lv_iconst (v := nI 3) hx hb dX1_carryOut_92 (by decide) ?_
        refine dc_ne (tgt := 106) hx hb (by decide) (by decide) dX1_carryOut_93 (by decide) (fun c_93 => ?_) (fun c_93 => ?_)
        · refine lv_aload_n hx hb dX1_carryOut_106 rfl (lv_at hl 4 rfl) ?_
          refine x1_get (v := .ref (a 3)) S hw rfl 2 (by decide) q179 rfl dX1_carryOut_107 ?_
          refine lv_iload_n hx hb dX1_carryOut_110 rfl (lv_at hl 5 rfl) ?_
          refine dc_ild S hw 3 rfl (i := pp) (by omega) (by decide) dX1_carryOut_111 ?_
          refine dc_top (y := nI 5) ek ?_
          refine lv_iconst (v := nI 4) hx hb dX1_carryOut_112 (by decide) ?_
          refine dc_ne (tgt := 128) hx hb (by decide) (by decide) dX1_carryOut_113 (by decide) (fun c_113 => ?_) (fun c_113 => ?_)
          · refine lv_aload_n hx hb dX1_carryOut_128 rfl (lv_at hl 4 rfl) ?_
            refine x1_get (v := .ref (a 3)) S hw rfl 2 (by decide) q179 rfl dX1_carryOut_129 ?_
            refine lv_iload_n hx hb dX1_carryOut_132 rfl (lv_at hl 5 rfl) ?_
            refine dc_ild S hw 3 rfl (i := pp) (by omega) (by decide) dX1_carryOut_133 ?_
            refine dc_top (y := nI 5) ek ?_
            refine lv_iconst (v := nI 5) hx hb dX1_carryOut_134 (by decide) ?_
            refine dc_ne (tgt := 143) hx hb (by decide) (by decide) dX1_carryOut_135 (by decide) (fun c_135 => ?_) (fun c_135 => ?_)
            · exact absurd rfl c_135
            · refine lv_iload_n hx hb dX1_carryOut_138 rfl (lv_at hl 3 rfl) ?_
              refine lv_iconst (v := (-1)) hx hb dX1_carryOut_139 (by decide) ?_
              refine lv_ixor hx hb dX1_carryOut_140 ?_
              refine lv_istore (lv' := [(5, .int ((V s0) ^^^ (-1))), (4, .int (V s2)), (3, .int (V s1)), (2, .int (V s0)), (0, .ref (a 0)), (1, .int (nI pp))]) hx hb dX1_carryOut_141 hl (by decide) rfl (fun ls hl => ?_)
              refine lv_aload_n hx hb dX1_carryOut_143 rfl (lv_at hl 4 rfl) ?_
              refine lv_aload_n hx hb dX1_carryOut_144 rfl (lv_at hl 4 rfl) ?_
              refine x1_get (v := .ref (a 5)) S hw rfl 4 (by decide) q181 rfl dX1_carryOut_145 ?_
              refine lv_iload_n hx hb dX1_carryOut_148 rfl (lv_at hl 5 rfl) ?_
              refine dc_ild S hw 5 rfl (i := pp) (by omega) (by decide) dX1_carryOut_149 ?_
              refine lv_bipush (v := nI 12) hx hb dX1_carryOut_150 (by decide) ?_
              refine lv_ishr hx hb dX1_carryOut_152 ?_
              refine dc_top (y := nI s3) ((dc_o3 (P pp)).trans e3) ?_
              refine lv_iload hx hb dX1_carryOut_153 (lv_at hl 0 rfl) ?_
              refine lv_aload_n hx hb dX1_carryOut_155 rfl (lv_at hl 4 rfl) ?_
              refine x1_get (v := .ref (a 4)) S hw rfl 3 (by decide) q180 rfl dX1_carryOut_156 ?_
              refine lv_iload_n hx hb dX1_carryOut_159 rfl (lv_at hl 5 rfl) ?_
              refine dc_ild S hw 4 rfl (i := pp) (by omega) (by decide) dX1_carryOut_160 ?_
              refine dc_top (y := nI uu) eu ?_
              refine dc_callV (As := [.int (nI s3), .int ((V s0) ^^^ (-1)), .int (nI uu)]) (rest := []) S hw (mX1_put l dg d a _ V E K Y (fun p => P p &&& 65535) C Wt np SG VL TM NX c0 t dn Q s3 uu ((V s0) ^^^ (-1)) hs3 (by omega) ht hR) (cwV 3 S.2.2.2.2 (lw_V q237 q239 qs11 q18 q240) rfl rfl rfl (by decide +kernel) ⟨Nat.le_of_ble_eq_true rfl, Nat.le_of_ble_eq_true rfl⟩) (ci := 1) rfl rfl rfl rfl hl.1 rfl (Nat.le_of_ble_eq_true rfl) dX1_carryOut_161 ⟨Nat.zero_le _, Nat.zero_le _⟩ (fun z H locs hz hw => ?_)
              obtain ⟨c1, SG1, VL1, TM1, NX1⟩ := z
              have hw : dc_Wd dg d A s (dc_wM d a V E K Y (fun p => P p &&& 65535) C Wt np SG1 VL1 TM1 NX1 (nI c1) (nI t) dn) H locs := hw
              have hR1 : dc_RM t (dc_put Q s3 (t + uu) ((V s0) ^^^ (-1))) c1 SG1 VL1 TM1 NX1 := hz
              exact ret 164 _ _ _ (c1, SG1, VL1, TM1, NX1) dX1_carryOut_164 (by rw [dc_cry_of (G := (n0, K, Y, P, C, Wt)) e3 eu hs3 huu, dc_res_k5 (G := (n0, K, Y, P, C, Wt)) e0 e1 e2 hs0 hs1 hs2 ek]; exact hR1) hw
          · exact absurd c_113 (by decide)
        · exact absurd c_93 (by decide)
      · exact absurd c_78 (by decide)
    · exact absurd c_63 (by decide)
set_option maxHeartbeats 4000000 in
set_option maxRecDepth 100000 in
theorem mX1_poke (l : Launch) (dg : va_G) (d : ClassId × ClassId) (a : Nat → Nat) (sz : Nat) (V : Nat → Int32) (E : Nat → Int32) (K : Nat → Int32) (Y : Nat → Int32) (P : Nat → Int32) (C : Nat → Int32) (Wt : Nat → Int32) (n0 : Nat) (SG : Nat → Int32) (VL : Nat → Int32) (TM : Nat → Int32) (NX : Nat → Int32) (c0 : Nat) (t : Nat) (dn : Int32) (Q : dc_Q) (x : Int32) (hG : dc_okT (n0, K, Y, P, C, Wt)) (ht : t < 2 ^ 30) (hR : dc_RM t Q c0 SG VL TM NX) : Met l yX1_poke (ws_ yX1_poke cX1_poke 2 (some .int)) ({ frames := 3, cells := 0, slots := 0, locals := 72 } : Room) (dc_Pre dg d [.ref (a 0), .int x] (dc_wM d a V E K Y (fun p => P p &&& 65535) C Wt (nI n0) SG VL TM NX (nI c0) (nI t) dn) sz) (va_Qi (fun (r : Int32) (z : Nat × (Nat → Int32) × (Nat → Int32) × (Nat → Int32) × (Nat → Int32)) => r = dc_pkR (n0, K, Y, P, C, Wt) V t Q x ∧ dc_RM t (dc_pkQ (n0, K, Y, P, C, Wt) V t Q x) z.1 z.2.1 z.2.2.1 z.2.2.2.1 z.2.2.2.2) (dc_B dg d (va_A (dc_wM d a V E K Y (fun p => P p &&& 65535) C Wt (nI n0) SG VL TM NX (nI c0) (nI t) dn) sz) (fun z : Nat × (Nat → Int32) × (Nat → Int32) × (Nat → Int32) × (Nat → Int32) => dc_wM d a V E K Y (fun p => P p &&& 65535) C Wt (nI n0) z.2.1 z.2.2.1 z.2.2.2.1 z.2.2.2.2 (nI z.1) (nI t) dn)) (va_A (dc_wM d a V E K Y (fun p => P p &&& 65535) C Wt (nI n0) SG VL TM NX (nI c0) (nI t) dn) sz)) 0 0 (va_A (dc_wM d a V E K Y (fun p => P p &&& 65535) C Wt (nI n0) SG VL TM NX (nI c0) (nI t) dn) sz) := by
  refine dc_metI (by decide) (Nat.le_of_ble_eq_true rfl) (fun p e s m below meth c A Qz ls S hw hl ret => ?_)
  have hx := S.1
  have hb := S.2.1
  have hl : lv_has ls 2 [(0, .ref (a 0)), (1, .int x)] := hl
  have h8 : n0 ≤ 8 := hG.1
  refine lv_iload_n hx hb dX1_poke_0 rfl (lv_at hl 1 rfl) ?_
  refine lv_if_lt (tgt := 12) hx hb dX1_poke_1 (by decide) (fun c_1 => ?_) (fun c_1 => ?_)
  · refine lv_bipush (v := (-2)) hx hb dX1_poke_12 (by decide) ?_
    exact ret 14 _ _ _ _ (c0, SG, VL, TM, NX) dX1_poke_14 rfl ⟨by unfold dc_pkR; rw [if_neg (fun q => q.1 c_1)], by unfold dc_pkQ; rw [if_neg (fun q => q.1 c_1)]; exact hR⟩ hw
  · refine lv_iload_n hx hb dX1_poke_4 rfl (lv_at hl 1 rfl) ?_
    refine lv_aload_n hx hb dX1_poke_5 rfl (lv_at hl 0 rfl) ?_
    refine x1_get (v := .int (nI n0)) S hw rfl 7 (by decide) q184 rfl dX1_poke_6 ?_
    refine lv_icmp_lt (tgt := 15) hx hb dX1_poke_9 (by decide) (fun c_9 => ?_) (fun c_9 => ?_)
    · obtain ⟨pp, hpp, e1⟩ := nI_of c_1
      subst e1
      have hp : pp < n0 := (nI_ltI hpp (by omega)).mp c_9
      refine lv_aload_n hx hb dX1_poke_15 rfl (lv_at hl 0 rfl) ?_
      refine lv_iload_n hx hb dX1_poke_16 rfl (lv_at hl 1 rfl) ?_
      refine dc_callV (As := [.int (nI pp)]) (rest := []) S hw (mX1_carryOut l dg d a _ V E K Y P C Wt (nI n0) SG VL TM NX c0 t dn Q n0 pp hG hp ht hR) (cwV 1 S.2.2.2.2 (lw_V q249 q251 qs13 q18 q252) rfl rfl rfl (by decide +kernel) ⟨Nat.le_of_ble_eq_true rfl, Nat.le_of_ble_eq_true rfl⟩) (ci := 1) rfl rfl rfl rfl hl.1 rfl (Nat.le_of_ble_eq_true rfl) dX1_poke_17 ⟨Nat.zero_le _, Nat.zero_le _⟩ (fun z H locs hz hw => ?_)
      obtain ⟨c1, SG1, VL1, TM1, NX1⟩ := z
      have hw : dc_Wd dg d A s (dc_wM d a V E K Y (fun p => P p &&& 65535) C Wt (nI n0) SG1 VL1 TM1 NX1 (nI c1) (nI t) dn) H locs := hw
      have hR1 : dc_RM t (dc_cry (n0, K, Y, P, C, Wt) V t Q pp) c1 SG1 VL1 TM1 NX1 := hz
      refine lv_aload_n hx hb dX1_poke_20 rfl (lv_at hl 0 rfl) ?_
      refine x1_get (v := .int (nI c1)) S hw rfl 12 (by decide) q189 rfl dX1_poke_21 ?_
      exact ret 24 _ _ _ _ (c1, SG1, VL1, TM1, NX1) dX1_poke_24 rfl ⟨by rw [(dc_pk_in hG hp).2, ← rm_count hR1], by rw [(dc_pk_in hG hp).1]; exact hR1⟩ hw
    · refine lv_bipush (v := (-2)) hx hb dX1_poke_12 (by decide) ?_
      exact ret 14 _ _ _ _ (c0, SG, VL, TM, NX) dX1_poke_14 rfl ⟨by unfold dc_pkR; rw [if_neg (fun q => c_9 q.2)], by unfold dc_pkQ; rw [if_neg (fun q => c_9 q.2)]; exact hR⟩ hw
end
section
set_option maxRecDepth 100000
set_option maxHeartbeats 4000000 in
set_option maxRecDepth 100000 in
theorem mX1_process (l : Launch) (dg : va_G) (d : ClassId × ClassId) (a : Nat → Nat) (sz : Nat) (V : Nat → Int32) (E : Nat → Int32) (K : Nat → Int32) (Y : Nat → Int32) (P : Nat → Int32) (C : Nat → Int32) (Wt : Nat → Int32) (n0 : Nat) (SG : Nat → Int32) (VL : Nat → Int32) (TM : Nat → Int32) (NX : Nat → Int32) (ch : Int32) (tm : Int32) (dn : Int32) (how sig cv wv : Int32) (hn0 : n0 ≤ 8) : Met l yX1_process (ws_ yX1_process cX1_process 6 (some .int)) ({ frames := 0, cells := 0, slots := 0, locals := 0 } : Room) (dc_Pre dg d [.ref (a 0), .int how, .int sig, .int cv, .int wv] (dc_wM d a V E K Y (fun p => P p &&& 65535) C Wt (nI n0) SG VL TM NX ch tm dn) sz) (va_Qi (fun (r : Int32) (z : dc_T) => r = dc_prR n0 how sig ∧ z = dc_prG (n0, K, Y, P, C, Wt) how sig cv wv) (dc_B dg d (va_A (dc_wM d a V E K Y (fun p => P p &&& 65535) C Wt (nI n0) SG VL TM NX ch tm dn) sz) (fun z : dc_T => dc_wM d a V E z.2.1 z.2.2.1 (fun p => z.2.2.2.1 p &&& 65535) z.2.2.2.2.1 z.2.2.2.2.2 (nI z.1) SG VL TM NX ch tm dn)) (va_A (dc_wM d a V E K Y (fun p => P p &&& 65535) C Wt (nI n0) SG VL TM NX ch tm dn) sz)) 0 0 (va_A (dc_wM d a V E K Y (fun p => P p &&& 65535) C Wt (nI n0) SG VL TM NX ch tm dn) sz) := by
  refine dc_metI (by decide) (Nat.le_of_ble_eq_true rfl) (fun p e s m below meth c A Qz ls S hw hl ret => ?_)
  have hx := S.1
  have hb := S.2.1
  have hl : lv_has ls 6 [(0, .ref (a 0)), (1, .int how), (2, .int sig), (3, .int cv), (4, .int wv)] := hl
  have lp : ∀ (n : Nat) (k : Nat), k ≤ 4 → 5 ≤ k + n → (∀ w, w < k → dc_bad (dc_op sig (nI w)) = 0) → ∀ ls : Array Slot, lv_has ls 6 [(5, .int (nI k)), (4, .int wv), (3, .int cv), (2, .int sig), (1, .int how), (0, .ref (a 0))] → W p l e ({ frames := 0, cells := 0, slots := 0, locals := 0 } : Room) s m ([.ref (a 0), .int how, .int sig, .int cv, .int wv] : List Value).toArray below meth c s.heap [] 0 0 Qz (F0 m 3 ls []) := by
    intro n
    induction n with
    | zero =>
      intro k hk hn hbd ls hl
      exact absurd hn (by omega)
    | succ n ih =>
      intro k hk hn hbd ls hl
      refine lv_iload hx hb dX1_process_3 (lv_at hl 0 rfl) ?_
      refine lv_iconst (v := nI 4) hx hb dX1_process_5 (by decide) ?_
      refine dc_ge (tgt := 31) hx hb (by omega) (by omega) dX1_process_6 (by decide) (fun c_6 => ?_) (fun c_6 => ?_)
      · have hsg : dc_sig sig := fun w hw9 => hbd w (by omega)
        refine lv_iload_n hx hb dX1_process_31 rfl (lv_at hl 4 rfl) ?_
        refine lv_bipush (v := nI 7) hx hb dX1_process_32 (by decide) ?_
        refine lv_iand hx hb dX1_process_34 ?_
        refine lv_iconst (v := nI 5) hx hb dX1_process_35 (by decide) ?_
        refine lv_icmp_le (tgt := 42) hx hb dX1_process_36 (by decide) (fun c_36 => ?_) (fun c_36 => ?_)
        · refine lv_iload_n hx hb dX1_process_42 rfl (lv_at hl 4 rfl) ?_
          refine lv_iconst (v := nI 4) hx hb dX1_process_43 (by decide) ?_
          refine lv_ishr hx hb dX1_process_44 ?_
          refine lv_bipush (v := nI 15) hx hb dX1_process_45 (by decide) ?_
          refine lv_iand hx hb dX1_process_47 ?_
          refine lv_bipush (v := nI 9) hx hb dX1_process_48 (by decide) ?_
          refine lv_icmp_le (tgt := 56) hx hb dX1_process_50 (by decide) (fun c_50 => ?_) (fun c_50 => ?_)
          · refine lv_aload_n hx hb dX1_process_56 rfl (lv_at hl 5 rfl) ?_
            refine x1_get (v := .int (nI n0)) S hw rfl 7 (by decide) q184 rfl dX1_process_57 ?_
            refine lv_bipush (v := nI 8) hx hb dX1_process_60 (by decide) ?_
            refine dc_ne (tgt := 68) hx hb (by omega) (by omega) dX1_process_62 (by decide) (fun c_62 => ?_) (fun c_62 => ?_)
            · have h8 : n0 < 8 := by omega
              refine lv_aload_n hx hb dX1_process_68 rfl (lv_at hl 5 rfl) ?_
              refine x1_get (v := .ref (a 3)) S hw rfl 2 (by decide) q179 rfl dX1_process_69 ?_
              refine lv_aload_n hx hb dX1_process_72 rfl (lv_at hl 5 rfl) ?_
              refine x1_get (v := .int (nI n0)) S hw rfl 7 (by decide) q184 rfl dX1_process_73 ?_
              refine lv_iload_n hx hb dX1_process_76 rfl (lv_at hl 4 rfl) ?_
              refine lv_bipush (v := nI 7) hx hb dX1_process_77 (by decide) ?_
              refine lv_iand hx hb dX1_process_79 ?_
              refine dc_ist (ws' := dc_wM d a V E (upd K n0 (how &&& (nI 7))) Y (fun p => P p &&& 65535) C Wt (nI n0) SG VL TM NX ch tm dn) S hw 3 rfl (i := n0) (by omega) (by decide) rfl dX1_process_80 (fun H locs hw => ?_)
              refine lv_aload_n hx hb dX1_process_81 rfl (lv_at hl 5 rfl) ?_
              refine x1_get (v := .ref (a 4)) S hw rfl 3 (by decide) q180 rfl dX1_process_82 ?_
              refine lv_aload_n hx hb dX1_process_85 rfl (lv_at hl 5 rfl) ?_
              refine x1_get (v := .int (nI n0)) S hw rfl 7 (by decide) q184 rfl dX1_process_86 ?_
              refine lv_iload_n hx hb dX1_process_89 rfl (lv_at hl 4 rfl) ?_
              refine lv_iconst (v := nI 4) hx hb dX1_process_90 (by decide) ?_
              refine lv_ishr hx hb dX1_process_91 ?_
              refine lv_bipush (v := nI 15) hx hb dX1_process_92 (by decide) ?_
              refine lv_iand hx hb dX1_process_94 ?_
              refine dc_ist (ws' := dc_wM d a V E (upd K n0 (how &&& (nI 7))) (upd Y n0 ((how >>> ((nI 4) &&& 31)) &&& (nI 15))) (fun p => P p &&& 65535) C Wt (nI n0) SG VL TM NX ch tm dn) S hw 4 rfl (i := n0) (by omega) (by decide) rfl dX1_process_95 (fun H locs hw => ?_)
              refine lv_aload_n hx hb dX1_process_96 rfl (lv_at hl 5 rfl) ?_
              refine x1_get (v := .ref (a 5)) S hw rfl 4 (by decide) q181 rfl dX1_process_97 ?_
              refine lv_aload_n hx hb dX1_process_100 rfl (lv_at hl 5 rfl) ?_
              refine x1_get (v := .int (nI n0)) S hw rfl 7 (by decide) q184 rfl dX1_process_101 ?_
              refine lv_iload_n hx hb dX1_process_104 rfl (lv_at hl 3 rfl) ?_
              refine lv_ldc hx hb S.2.2.2.1 (S.2.2.2.2 _ q228) dX1_process_105 ?_
              refine lv_iand hx hb dX1_process_107 ?_
              refine dc_ist (ws' := dc_wM d a V E (upd K n0 (how &&& (nI 7))) (upd Y n0 ((how >>> ((nI 4) &&& 31)) &&& (nI 15))) (upd (fun p => P p &&& 65535) n0 (sig &&& 65535)) C Wt (nI n0) SG VL TM NX ch tm dn) S hw 5 rfl (i := n0) (by omega) (by decide) rfl dX1_process_108 (fun H locs hw => ?_)
              refine lv_aload_n hx hb dX1_process_109 rfl (lv_at hl 5 rfl) ?_
              refine x1_get (v := .ref (a 6)) S hw rfl 5 (by decide) q182 rfl dX1_process_110 ?_
              refine lv_aload_n hx hb dX1_process_113 rfl (lv_at hl 5 rfl) ?_
              refine x1_get (v := .int (nI n0)) S hw rfl 7 (by decide) q184 rfl dX1_process_114 ?_
              refine lv_iload_n hx hb dX1_process_117 rfl (lv_at hl 2 rfl) ?_
              refine dc_ist (ws' := dc_wM d a V E (upd K n0 (how &&& (nI 7))) (upd Y n0 ((how >>> ((nI 4) &&& 31)) &&& (nI 15))) (upd (fun p => P p &&& 65535) n0 (sig &&& 65535)) (upd C n0 cv) Wt (nI n0) SG VL TM NX ch tm dn) S hw 6 rfl (i := n0) (by omega) (by decide) rfl dX1_process_118 (fun H locs hw => ?_)
              refine lv_aload_n hx hb dX1_process_119 rfl (lv_at hl 5 rfl) ?_
              refine x1_get (v := .ref (a 7)) S hw rfl 6 (by decide) q183 rfl dX1_process_120 ?_
              refine lv_aload_n hx hb dX1_process_123 rfl (lv_at hl 5 rfl) ?_
              refine x1_get (v := .int (nI n0)) S hw rfl 7 (by decide) q184 rfl dX1_process_124 ?_
              refine lv_iload hx hb dX1_process_127 (lv_at hl 1 rfl) ?_
              refine lv_sipush (v := nI 4095) hx hb dX1_process_129 (by decide) ?_
              refine lv_iand hx hb dX1_process_132 ?_
              refine dc_ist (ws' := dc_wM d a V E (upd K n0 (how &&& (nI 7))) (upd Y n0 ((how >>> ((nI 4) &&& 31)) &&& (nI 15))) (upd (fun p => P p &&& 65535) n0 (sig &&& 65535)) (upd C n0 cv) (upd Wt n0 (wv &&& (nI 4095))) (nI n0) SG VL TM NX ch tm dn) S hw 7 rfl (i := n0) (by omega) (by decide) rfl dX1_process_133 (fun H locs hw => ?_)
              refine lv_aload_n hx hb dX1_process_134 rfl (lv_at hl 5 rfl) ?_
              refine lv_dup hx hb dX1_process_135 rfl ?_
              refine x1_get (v := .int (nI n0)) S hw rfl 7 (by decide) q184 rfl dX1_process_136 ?_
              refine lv_iconst (v := nI 1) hx hb dX1_process_139 (by decide) ?_
              refine dc_addN hx hb dX1_process_140 ?_
              refine x1_put (ws' := dc_wM d a V E (upd K n0 (how &&& (nI 7))) (upd Y n0 ((how >>> ((nI 4) &&& 31)) &&& (nI 15))) (upd (fun p => P p &&& 65535) n0 (sig &&& 65535)) (upd C n0 cv) (upd Wt n0 (wv &&& (nI 4095))) (nI (n0 + 1)) SG VL TM NX ch tm dn) S hw rfl 7 (by decide) q184 rfl (by decide +kernel) (Nat.le_of_ble_eq_true rfl) rfl dX1_process_141 (fun H locs hw => ?_)
              refine lv_aload_n hx hb dX1_process_144 rfl (lv_at hl 5 rfl) ?_
              refine x1_get (v := .int (nI (n0 + 1))) S hw rfl 7 (by decide) q184 rfl dX1_process_145 ?_
              refine lv_iconst (v := nI 1) hx hb dX1_process_148 (by decide) ?_
              refine lv_isub hx hb dX1_process_149 ?_
              refine dc_top (y := nI n0) (nI_pred n0) ?_
              rw [dc_op_upd] at hw
              exact ret 150 _ _ _ _ (n0 + 1, upd K n0 (how &&& (nI 7)), upd Y n0 ((how >>> ((nI 4) &&& 31)) &&& (nI 15)), upd P n0 sig, upd C n0 cv, upd Wt n0 (wv &&& (nI 4095))) dX1_process_150 rfl ⟨by unfold dc_prR; rw [if_pos hsg, if_pos c_36, if_pos c_50, if_pos h8], by unfold dc_prG; exact (if_pos ⟨hsg, c_36, c_50, h8⟩).symm⟩ hw
            · refine lv_bipush (v := (-4)) hx hb dX1_process_65 (by decide) ?_
              exact ret 67 _ _ _ _ (n0, K, Y, P, C, Wt) dX1_process_67 rfl ⟨by unfold dc_prR; rw [if_pos hsg, if_pos c_36, if_pos c_50, if_neg (show ¬ n0 < 8 by omega)], by unfold dc_prG; rw [if_neg (fun q => absurd q.2.2.2 (by omega))]⟩ hw
          · refine lv_bipush (v := (-3)) hx hb dX1_process_53 (by decide) ?_
            exact ret 55 _ _ _ _ (n0, K, Y, P, C, Wt) dX1_process_55 rfl ⟨by unfold dc_prR; rw [if_pos hsg, if_pos c_36, if_neg c_50], by unfold dc_prG; rw [if_neg (fun q => c_50 q.2.2.1)]⟩ hw
        · refine lv_bipush (v := (-2)) hx hb dX1_process_39 (by decide) ?_
          exact ret 41 _ _ _ _ (n0, K, Y, P, C, Wt) dX1_process_41 rfl ⟨by unfold dc_prR; rw [if_pos hsg, if_neg c_36], by unfold dc_prG; rw [if_neg (fun q => c_36 q.2.1)]⟩ hw
      · refine lv_iload_n hx hb dX1_process_9 rfl (lv_at hl 3 rfl) ?_
        refine lv_iconst (v := nI 4) hx hb dX1_process_10 (by decide) ?_
        refine lv_iload hx hb dX1_process_11 (lv_at hl 0 rfl) ?_
        refine lv_imul hx hb dX1_process_13 ?_
        refine lv_ishr hx hb dX1_process_14 ?_
        refine lv_bipush (v := nI 15) hx hb dX1_process_15 (by decide) ?_
        refine lv_iand hx hb dX1_process_17 ?_
        refine dc_top (y := dc_op sig (nI k)) rfl ?_
        refine lv_bipush (v := nI 11) hx hb dX1_process_18 (by decide) ?_
        refine lv_icmp_le (tgt := 25) hx hb dX1_process_20 (by decide) (fun c_20 => ?_) (fun c_20 => ?_)
        · refine lv_iinc (v := nI (k + 1)) (lv' := [(5, .int (nI (k + 1))), (4, .int wv), (3, .int cv), (2, .int sig), (1, .int how), (0, .ref (a 0))]) hx hb dX1_process_25 hl (k := 0) rfl (dc_inc _) (by decide) rfl (fun ls hl => ?_)
          refine lv_goto (tgt := 3) hx hb dX1_process_28 (by decide) ?_
          exact ih (k + 1) (by omega) (by omega) (fun w hw9 => (Nat.lt_or_ge w k).elim (fun q => hbd w q) (fun q => by rw [show w = k by omega]; exact (dc_op_le _ _).mp c_20)) ls (lv_sub hl [0, 1, 2, 3, 4, 5] rfl)
        · refine lv_iconst (v := (-1)) hx hb dX1_process_23 (by decide) ?_
          exact ret 24 _ _ _ _ (n0, K, Y, P, C, Wt) dX1_process_24 rfl ⟨by unfold dc_prR; rw [if_neg (fun q => c_20 ((dc_op_le _ _).mpr (q k (by omega))))], by unfold dc_prG; rw [if_neg (fun q => c_20 ((dc_op_le _ _).mpr (q.1 k (by omega))))]⟩ hw
  refine lv_iconst (v := nI 0) hx hb dX1_process_0 (by decide) ?_
  refine lv_istore (lv' := [(5, .int (nI 0)), (0, .ref (a 0)), (1, .int how), (2, .int sig), (3, .int cv), (4, .int wv)]) hx hb dX1_process_1 hl (by decide) rfl (fun ls hl => ?_)
  exact lp 5 0 (by omega) (by omega) (fun w hw9 => absurd hw9 (by omega)) ls (lv_sub hl [0, 5, 4, 3, 2, 1] rfl)
end
section
set_option maxRecDepth 100000
set_option maxHeartbeats 4000000 in
set_option maxRecDepth 100000 in
theorem mX1_anyNext (l : Launch) (dg : va_G) (d : ClassId × ClassId) (a : Nat → Nat) (sz : Nat) (V : Nat → Int32) (E : Nat → Int32) (K : Nat → Int32) (Y : Nat → Int32) (P : Nat → Int32) (C : Nat → Int32) (Wt : Nat → Int32) (np : Int32) (SG : Nat → Int32) (VL : Nat → Int32) (TM : Nat → Int32) (NX : Nat → Int32) (c0 : Nat) (t : Nat) (dn : Int32) (Q : dc_Q) (ht : t < 2 ^ 30) (hR : dc_RM t Q c0 SG VL TM NX) : Met l yX1_anyNext (ws_ yX1_anyNext cX1_anyNext 2 (some .boolean)) ({ frames := 0, cells := 0, slots := 0, locals := 0 } : Room) (dc_Pre dg d [.ref (a 0)] (dc_wM d a V E K Y P C Wt np SG VL TM NX (nI c0) (nI t) dn) sz) (vp_Si (fun r : Int32 => (r = nI 1 ∧ ∃ si, Q t si ≠ none) ∨ (r = nI 0 ∧ ∀ si, Q t si = none))) 0 0 (fun _ => False) := by
  refine dc_metR (by decide) (Nat.le_of_ble_eq_true rfl) (fun p e s m below meth c A Qz ls S hw hl ret => ?_)
  have hx := S.1
  have hb := S.2.1
  have hl : lv_has ls 2 [(0, .ref (a 0))] := hl
  obtain ⟨L, hlen, hH, hL, hok⟩ := hR
  have hle := lq_le hL hok
  rw [hlen] at hle
  have lp : ∀ (n : Nat) (i : Nat), i ≤ c0 → c0 + 1 ≤ i + n → (∀ (j : Nat) (e9 : dc_E), j < i → L[j]? = some e9 → e9.1 ≠ t) → ∀ ls : Array Slot, lv_has ls 2 [(1, .int (nI i)), (0, .ref (a 0))] → W p l e ({ frames := 0, cells := 0, slots := 0, locals := 0 } : Room) s m ([.ref (a 0)] : List Value).toArray below meth c s.heap [] 0 0 Qz (F0 m 2 ls []) := by
    intro n
    induction n with
    | zero =>
      intro i hi hn hno ls hl
      exact absurd hn (by omega)
    | succ n ih =>
      intro i hi hn hno ls hl
      refine lv_iload_n hx hb dX1_anyNext_2 rfl (lv_at hl 0 rfl) ?_
      refine lv_aload_n hx hb dX1_anyNext_3 rfl (lv_at hl 1 rfl) ?_
      refine x1_get (v := .int (nI c0)) S hw rfl 12 (by decide) q189 rfl dX1_anyNext_4 ?_
      refine dc_ge (tgt := 27) hx hb (by omega) (by omega) dX1_anyNext_7 (by decide) (fun c_7 => ?_) (fun c_7 => ?_)
      · refine lv_iconst (v := nI 0) hx hb dX1_anyNext_27 (by decide) ?_
        exact ret 28 _ _ dX1_anyNext_28 rfl (Or.inr ⟨rfl, fun si => Classical.byContradiction fun hq => by
          obtain ⟨v9, hv9⟩ := Option.ne_none_iff_exists'.mp hq
          obtain ⟨j, hj, hj2⟩ := lq_find hL hv9
          exact hno j _ (by omega) hj2 rfl⟩)
      · obtain ⟨T1, s1, v1, hget⟩ := lq_get (L := L) (i := i) (by omega)
        obtain ⟨hq1, hT1, hT2, hs1⟩ := lq_at hL hok hget
        have hat := hH i _ hget
        have hq1 : Q T1 s1 = some v1 := hq1
        have hT1 : t ≤ T1 := hT1
        have hT2 : T1 < t + 10 := hT2
        have hs1 : s1 < 12 := hs1
        have aN : NX i = nI (if T1 = t then 1 else 0) := hat.2.2.2
        refine lv_aload_n hx hb dX1_anyNext_10 rfl (lv_at hl 1 rfl) ?_
        refine x1_get (v := .ref (a 11)) S hw rfl 11 (by decide) q188 rfl dX1_anyNext_11 ?_
        refine lv_iload_n hx hb dX1_anyNext_14 rfl (lv_at hl 0 rfl) ?_
        refine dc_zld S hw 11 rfl (i := i) (by omega) (by decide) dX1_anyNext_15 ?_
        refine dc_top (y := nI (if T1 = t then 1 else 0)) aN ?_
        refine dc_if0 (tgt := 21) hx hb (by split <;> omega) dX1_anyNext_16 (by decide) (fun c_16 => ?_) (fun c_16 => ?_)
        · have hne : T1 ≠ t := fun q => by rw [if_pos q] at c_16; omega
          refine lv_iinc (v := nI (i + 1)) (lv' := [(1, .int (nI (i + 1))), (0, .ref (a 0))]) hx hb dX1_anyNext_21 hl (k := 0) rfl (dc_inc _) (by decide) rfl (fun ls hl => ?_)
          refine lv_goto (tgt := 2) hx hb dX1_anyNext_24 (by decide) ?_
          exact ih (i + 1) (by omega) (by omega) (fun j e9 hj he9 => (Nat.lt_or_ge j i).elim (fun q => hno j e9 q he9) (fun q => by rw [show j = i by omega, hget] at he9; cases he9; exact hne)) ls (lv_sub hl [0, 1] rfl)
        · have heq : T1 = t := Classical.byContradiction fun q => by rw [if_neg q] at c_16; exact c_16 rfl
          refine lv_iconst (v := nI 1) hx hb dX1_anyNext_19 (by decide) ?_
          exact ret 20 _ _ dX1_anyNext_20 rfl (Or.inl ⟨rfl, s1, by rw [← heq, hq1]; exact Option.some_ne_none _⟩)
  refine lv_iconst (v := nI 0) hx hb dX1_anyNext_0 (by decide) ?_
  refine lv_istore_n (lv' := [(1, .int (nI 0)), (0, .ref (a 0))]) hx hb dX1_anyNext_1 rfl hl (by decide) rfl (fun ls hl => ?_)
  exact lp (c0 + 1) 0 (by omega) (by omega) (fun j e9 hj => absurd hj (by omega)) ls (lv_sub hl [0, 1] rfl)
set_option maxHeartbeats 4000000 in
set_option maxRecDepth 100000 in
theorem mX1_nextTime (l : Launch) (dg : va_G) (d : ClassId × ClassId) (a : Nat → Nat) (sz : Nat) (V : Nat → Int32) (E : Nat → Int32) (K : Nat → Int32) (Y : Nat → Int32) (P : Nat → Int32) (C : Nat → Int32) (Wt : Nat → Int32) (np : Int32) (SG : Nat → Int32) (VL : Nat → Int32) (TM : Nat → Int32) (NX : Nat → Int32) (c0 : Nat) (tm : Int32) (dn : Int32) (t : Nat) (Q : dc_Q) (ht : t < 2 ^ 30) (hR : dc_RM t Q c0 SG VL TM NX) : Met l yX1_nextTime (ws_ yX1_nextTime cX1_nextTime 3 (some .int)) ({ frames := 0, cells := 0, slots := 0, locals := 0 } : Room) (dc_Pre dg d [.ref (a 0)] (dc_wM d a V E K Y P C Wt np SG VL TM NX (nI c0) tm dn) sz) (vp_Si (fun r : Int32 => dc_ntR Q r)) 0 0 (fun _ => False) := by
  refine dc_metR (by decide) (Nat.le_of_ble_eq_true rfl) (fun p e s m below meth c A Qz ls S hw hl ret => ?_)
  have hx := S.1
  have hb := S.2.1
  have hl : lv_has ls 3 [(0, .ref (a 0))] := hl
  obtain ⟨L, hlen, hH, hL, hok⟩ := hR
  have hle := lq_le hL hok
  rw [hlen] at hle
  have lp : ∀ (n : Nat) (i : Nat) (le : Int32), i ≤ c0 → c0 + 1 ≤ i + n → ((i = 0 ∧ le = -5) ∨ ∃ T, T < 2 ^ 31 ∧ le = nI T ∧ (∃ si v, Q T si = some v) ∧ ∀ (j : Nat) (e9 : dc_E), j < i → L[j]? = some e9 → T ≤ e9.1) → ∀ ls : Array Slot, lv_has ls 3 [(2, .int (nI i)), (1, .int le), (0, .ref (a 0))] → W p l e ({ frames := 0, cells := 0, slots := 0, locals := 0 } : Room) s m ([.ref (a 0)] : List Value).toArray below meth c s.heap [] 0 0 Qz (F0 m 5 ls []) := by
    intro n
    induction n with
    | zero =>
      intro i le hi hn hle2 ls hl
      exact absurd hn (by omega)
    | succ n ih =>
      intro i le hi hn hle2 ls hl
      refine lv_iload_n hx hb dX1_nextTime_5 rfl (lv_at hl 0 rfl) ?_
      refine lv_aload_n hx hb dX1_nextTime_6 rfl (lv_at hl 2 rfl) ?_
      refine x1_get (v := .int (nI c0)) S hw rfl 12 (by decide) q189 rfl dX1_nextTime_7 ?_
      refine dc_ge (tgt := 42) hx hb (by omega) (by omega) dX1_nextTime_10 (by decide) (fun c_10 => ?_) (fun c_10 => ?_)
      · have ei : i = c0 := by omega
        refine lv_iload_n hx hb dX1_nextTime_42 rfl (lv_at hl 1 rfl) ?_
        exact ret 43 _ _ dX1_nextTime_43 rfl (hle2.elim (fun q => Or.inl ⟨(lq_emp hL).mpr (by omega), q.2⟩) (fun q => by
          obtain ⟨T, -, e1, ⟨si, v, hv⟩, hmin⟩ := q
          refine Or.inr ⟨T, ⟨⟨si, by rw [hv]; exact Option.some_ne_none _⟩, fun T' s' hq => ?_⟩, e1⟩
          obtain ⟨v9, hv9⟩ := Option.ne_none_iff_exists'.mp hq
          obtain ⟨j, hj, hj2⟩ := lq_find hL hv9
          exact hmin j _ (by omega) hj2))
      · obtain ⟨T1, s1, v1, hget⟩ := lq_get (L := L) (i := i) (by omega)
        obtain ⟨hq1, hT1, hT2, hs1⟩ := lq_at hL hok hget
        have hat := hH i _ hget
        have hq1 : Q T1 s1 = some v1 := hq1
        have hT1 : t ≤ T1 := hT1
        have hT2 : T1 < t + 10 := hT2
        have hs1 : s1 < 12 := hs1
        have aT : TM i = nI T1 := hat.2.2.1
        rcases hle2 with ⟨ei, ele⟩ | ⟨T, hT31, ele, hex, hmin⟩
        · subst ele
          refine lv_iload_n hx hb dX1_nextTime_13 rfl (lv_at hl 1 rfl) ?_
          refine lv_bipush (v := (-5)) hx hb dX1_nextTime_14 (by decide) ?_
          refine lv_icmp_eq (tgt := 29) hx hb dX1_nextTime_16 (by decide) (fun c_16 => ?_) (fun c_16 => ?_)
          · refine lv_aload_n hx hb dX1_nextTime_29 rfl (lv_at hl 2 rfl) ?_
            refine x1_get (v := .ref (a 10)) S hw rfl 10 (by decide) q187 rfl dX1_nextTime_30 ?_
            refine lv_iload_n hx hb dX1_nextTime_33 rfl (lv_at hl 0 rfl) ?_
            refine dc_ild S hw 10 rfl (i := i) (by omega) (by decide) dX1_nextTime_34 ?_
            refine dc_top (y := nI T1) aT ?_
            refine lv_istore_n (lv' := [(1, .int (nI T1)), (2, .int (nI i)), (0, .ref (a 0))]) hx hb dX1_nextTime_35 rfl hl (by decide) rfl (fun ls hl => ?_)
            refine lv_iinc (v := nI (i + 1)) (lv' := [(2, .int (nI (i + 1))), (1, .int (nI T1)), (0, .ref (a 0))]) hx hb dX1_nextTime_36 hl (k := 1) rfl (dc_inc _) (by decide) rfl (fun ls hl => ?_)
            refine lv_goto (tgt := 5) hx hb dX1_nextTime_39 (by decide) ?_
            exact ih (i + 1) (nI T1) (by omega) (by omega) (Or.inr ⟨T1, by omega, rfl, ⟨s1, v1, hq1⟩, fun j e9 hj he9 => (Nat.lt_or_ge j i).elim (fun q => absurd q (by omega)) (fun q => by rw [show j = i by omega, hget] at he9; cases he9; exact Nat.le_refl _)⟩) ls (lv_sub hl [0, 1, 2] rfl)
          · exact absurd rfl c_16
        · subst ele
          refine lv_iload_n hx hb dX1_nextTime_13 rfl (lv_at hl 1 rfl) ?_
          refine lv_bipush (v := (-5)) hx hb dX1_nextTime_14 (by decide) ?_
          refine lv_icmp_eq (tgt := 29) hx hb dX1_nextTime_16 (by decide) (fun c_16 => ?_) (fun c_16 => ?_)
          · exact absurd (by rw [c_16]; decide) (nI_pos hT31)
          · refine lv_aload_n hx hb dX1_nextTime_19 rfl (lv_at hl 2 rfl) ?_
            refine x1_get (v := .ref (a 10)) S hw rfl 10 (by decide) q187 rfl dX1_nextTime_20 ?_
            refine lv_iload_n hx hb dX1_nextTime_23 rfl (lv_at hl 0 rfl) ?_
            refine dc_ild S hw 10 rfl (i := i) (by omega) (by decide) dX1_nextTime_24 ?_
            refine dc_top (y := nI T1) aT ?_
            refine lv_iload_n hx hb dX1_nextTime_25 rfl (lv_at hl 1 rfl) ?_
            refine dc_ge (tgt := 36) hx hb (by omega) (by omega) dX1_nextTime_26 (by decide) (fun c_26 => ?_) (fun c_26 => ?_)
            · refine lv_iinc (v := nI (i + 1)) (lv' := [(2, .int (nI (i + 1))), (1, .int (nI T)), (0, .ref (a 0))]) hx hb dX1_nextTime_36 hl (k := 0) rfl (dc_inc _) (by decide) rfl (fun ls hl => ?_)
              refine lv_goto (tgt := 5) hx hb dX1_nextTime_39 (by decide) ?_
              exact ih (i + 1) (nI T) (by omega) (by omega) (Or.inr ⟨T, hT31, rfl, hex, fun j e9 hj he9 => (Nat.lt_or_ge j i).elim (fun q => hmin j e9 q he9) (fun q => by rw [show j = i by omega, hget] at he9; cases he9; exact c_26)⟩) ls (lv_sub hl [0, 1, 2] rfl)
            · refine lv_aload_n hx hb dX1_nextTime_29 rfl (lv_at hl 2 rfl) ?_
              refine x1_get (v := .ref (a 10)) S hw rfl 10 (by decide) q187 rfl dX1_nextTime_30 ?_
              refine lv_iload_n hx hb dX1_nextTime_33 rfl (lv_at hl 0 rfl) ?_
              refine dc_ild S hw 10 rfl (i := i) (by omega) (by decide) dX1_nextTime_34 ?_
              refine dc_top (y := nI T1) aT ?_
              refine lv_istore_n (lv' := [(1, .int (nI T1)), (2, .int (nI i)), (0, .ref (a 0))]) hx hb dX1_nextTime_35 rfl hl (by decide) rfl (fun ls hl => ?_)
              refine lv_iinc (v := nI (i + 1)) (lv' := [(2, .int (nI (i + 1))), (1, .int (nI T1)), (0, .ref (a 0))]) hx hb dX1_nextTime_36 hl (k := 1) rfl (dc_inc _) (by decide) rfl (fun ls hl => ?_)
              refine lv_goto (tgt := 5) hx hb dX1_nextTime_39 (by decide) ?_
              exact ih (i + 1) (nI T1) (by omega) (by omega) (Or.inr ⟨T1, by omega, rfl, ⟨s1, v1, hq1⟩, fun j e9 hj he9 => (Nat.lt_or_ge j i).elim (fun q => Nat.le_trans (Nat.le_of_lt c_26) (hmin j e9 q he9)) (fun q => by rw [show j = i by omega, hget] at he9; cases he9; exact Nat.le_refl _)⟩) ls (lv_sub hl [0, 1, 2] rfl)
  refine lv_bipush (v := (-5)) hx hb dX1_nextTime_0 (by decide) ?_
  refine lv_istore_n (lv' := [(1, .int (-5)), (0, .ref (a 0))]) hx hb dX1_nextTime_2 rfl hl (by decide) rfl (fun ls hl => ?_)
  refine lv_iconst (v := nI 0) hx hb dX1_nextTime_3 (by decide) ?_
  refine lv_istore_n (lv' := [(2, .int (nI 0)), (1, .int (-5)), (0, .ref (a 0))]) hx hb dX1_nextTime_4 rfl hl (by decide) rfl (fun ls hl => ?_)
  exact lp (c0 + 1) 0 (-5) (by omega) (by omega) (Or.inl ⟨rfl, rfl⟩) ls (lv_sub hl [0, 1, 2] rfl)
end
section
set_option maxRecDepth 100000
set_option maxHeartbeats 4000000 in
set_option maxRecDepth 100000 in
theorem mX1_update (l : Launch) (dg : va_G) (d : ClassId × ClassId) (a : Nat → Nat) (sz : Nat) (V : Nat → Int32) (E : Nat → Int32) (K : Nat → Int32) (Y : Nat → Int32) (P : Nat → Int32) (C : Nat → Int32) (Wt : Nat → Int32) (np : Int32) (SG : Nat → Int32) (VL : Nat → Int32) (TM : Nat → Int32) (NX : Nat → Int32) (c0 : Nat) (T : Nat) (dn : Int32) (t : Nat) (Q : dc_Q) (nb : Nat) (hnb : nb = 1 ∧ T = t ∨ nb = 0) (hnx : dc_nx Q T) (ht : t < 2 ^ 30) (hR : dc_RM t Q c0 SG VL TM NX) : Met l yX1_update (ws_ yX1_update cX1_update 6 (some .int)) ({ frames := 1, cells := 0, slots := 0, locals := 22 } : Room) (dc_Pre dg d [.ref (a 0), .int (nI nb)] (dc_wM d a V E K Y P C Wt np SG VL TM NX (nI c0) (nI T) dn) sz) (va_Qi (fun (r : Int32) (z : (Nat → Int32) × (Nat → Int32) × Nat × (Nat → Int32) × (Nat → Int32) × (Nat → Int32) × (Nat → Int32)) => r = dc_mk (dc_ch Q T V) 12 ∧ z.1 = dc_tV Q T V ∧ z.2.1 = dc_tE Q T V E ∧ dc_RM T (dc_tak Q T) z.2.2.1 z.2.2.2.1 z.2.2.2.2.1 z.2.2.2.2.2.1 z.2.2.2.2.2.2) (dc_B dg d (va_A (dc_wM d a V E K Y P C Wt np SG VL TM NX (nI c0) (nI T) dn) sz) (fun z : (Nat → Int32) × (Nat → Int32) × Nat × (Nat → Int32) × (Nat → Int32) × (Nat → Int32) × (Nat → Int32) => dc_wM d a z.1 z.2.1 K Y P C Wt np z.2.2.2.1 z.2.2.2.2.1 z.2.2.2.2.2.1 z.2.2.2.2.2.2 (nI z.2.2.1) (nI T) dn)) (va_A (dc_wM d a V E K Y P C Wt np SG VL TM NX (nI c0) (nI T) dn) sz)) 0 0 (va_A (dc_wM d a V E K Y P C Wt np SG VL TM NX (nI c0) (nI T) dn) sz) := by
  refine dc_metI (by decide) (Nat.le_of_ble_eq_true rfl) (fun p e s m below meth c A Qz ls S hw hl ret => ?_)
  have hx := S.1
  have hb := S.2.1
  have hl : lv_has ls 6 [(0, .ref (a 0)), (1, .int (nI nb))] := hl
  obtain ⟨L, hlen, hH, hL, hok⟩ := hR
  have hle := lq_le hL hok
  rw [hlen] at hle
  have hTb := dc_nx_ok hok hnx
  have lp : ∀ (n : Nat) (i : Nat) (F : dc_L) (kl : Nat) (mk : Int32) (V1 E1 SG1 VL1 TM1 NX1 : Nat → Int32), i ≤ c0 → c0 + 1 ≤ i + n → F = (L.take i).filter (dc_nd T) → kl = F.length → dc_mid t SG1 VL1 TM1 NX1 L F i → dc_up Q T V E L i V1 E1 mk → ∀ (H : Heap) (locs : List Loc), dc_Wd dg d A s (dc_wM d a V1 E1 K Y P C Wt np SG1 VL1 TM1 NX1 (nI c0) (nI T) dn) H locs → ∀ ls : Array Slot, lv_has ls 6 [(4, .int (nI i)), (3, .int (nI kl)), (2, .int mk), (1, .int (nI nb)), (0, .ref (a 0))] → W p l e ({ frames := 1, cells := 0, slots := 0, locals := 22 } : Room) s m ([.ref (a 0), .int (nI nb)] : List Value).toArray below meth c H locs 0 0 Qz (F0 m 7 ls []) := by
    intro n
    induction n with
    | zero =>
      intro i F kl mk V1 E1 SG1 VL1 TM1 NX1 hi hn hF hkl hmid hup H locs hw ls hl
      exact absurd hn (by omega)
    | succ n ih =>
      intro i F kl mk V1 E1 SG1 VL1 TM1 NX1 hi hn hF hkl hmid hup H locs hw ls hl
      have hkl2 : kl ≤ i := by rw [hkl]; exact hmid.2.2
      refine lv_iload hx hb dX1_update_7 (lv_at hl 0 rfl) ?_
      refine lv_aload_n hx hb dX1_update_9 rfl (lv_at hl 4 rfl) ?_
      refine x1_get (v := .int (nI c0)) S hw rfl 12 (by decide) q189 rfl dX1_update_10 ?_
      refine dc_ge (tgt := 146) hx hb (by omega) (by omega) dX1_update_13 (by decide) (fun c_13 => ?_) (fun c_13 => ?_)
      · have eF : F = L.filter (dc_nd T) := dc_takeall (by omega) hF
        obtain ⟨eV, eE, eM⟩ := up_end hup hL hok (by omega)
        have hLQ := lq_tak T hL
        rw [← eF] at hLQ
        have hokT := dc_ok_tak hok hnx
        refine lv_aload_n hx hb dX1_update_146 rfl (lv_at hl 4 rfl) ?_
        refine lv_iload_n hx hb dX1_update_147 rfl (lv_at hl 1 rfl) ?_
        refine x1_put (ws' := dc_wM d a V1 E1 K Y P C Wt np SG1 VL1 TM1 NX1 (nI kl) (nI T) dn) S hw rfl 12 (by decide) q189 rfl (by decide +kernel) (Nat.le_of_ble_eq_true rfl) rfl dX1_update_148 (fun H locs hw => ?_)
        refine lv_iload_n hx hb dX1_update_151 rfl (lv_at hl 2 rfl) ?_
        exact ret 152 _ _ _ _ (V1, E1, kl, SG1, VL1, TM1, NX1) dX1_update_152 rfl ⟨eM, eV, eE, F, hkl.symm, fun j e9 he9 => by
          have a9 := hmid.1 j e9 he9
          have b9 := lq_at hLQ hokT he9
          have c9 : e9.1 ≠ T := fun q => by have d9 := b9.1; unfold dc_tak at d9; rw [if_pos q] at d9; cases d9
          refine ⟨a9.1, a9.2.1, a9.2.2.1, ?_⟩
          show NX1 j = _
          rw [a9.2.2.2, if_neg (show ¬ e9.1 = t by omega), if_neg c9], hLQ, hokT⟩ hw
      · obtain ⟨T1, s1, v1, hget⟩ := lq_get (L := L) (i := i) (by omega)
        obtain ⟨hq1, hT1, hT2, hs1⟩ := lq_at hL hok hget
        have hat := hmid.2.1 i _ (Nat.le_refl _) hget
        have hq1 : Q T1 s1 = some v1 := hq1
        have hT1 : t ≤ T1 := hT1
        have hT2 : T1 < t + 10 := hT2
        have hs1 : s1 < 12 := hs1
        have hnr := dc_atnar hat
        obtain ⟨aS, aV, aT, aN⟩ := hat
        have aS : SG1 i = nI s1 := aS
        have aV : VL1 i = v1 := aV
        have aT : TM1 i = nI T1 := aT
        have aN : NX1 i = nI (if T1 = t then 1 else 0) := aN
        have jn : ∀ db : Nat, (db = 1 ∧ T1 = T ∨ db = 0 ∧ T1 ≠ T) → ∀ ls : Array Slot, lv_has ls 6 [(4, .int (nI i)), (3, .int (nI kl)), (2, .int mk), (1, .int (nI nb)), (0, .ref (a 0))] → W p l e ({ frames := 1, cells := 0, slots := 0, locals := 22 } : Room) s m ([.ref (a 0), .int (nI nb)] : List Value).toArray below meth c H locs 0 0 Qz (F0 m 49 ls [.int (nI db)]) := by
          intro db hdb ls hl
          refine lv_istore (lv' := [(5, .int (nI db)), (4, .int (nI i)), (3, .int (nI kl)), (2, .int mk), (1, .int (nI nb)), (0, .ref (a 0))]) hx hb dX1_update_49 hl (by decide) rfl (fun ls hl => ?_)
          refine lv_iload hx hb dX1_update_51 (lv_at hl 0 rfl) ?_
          refine dc_if0 (tgt := 125) hx hb (by omega) dX1_update_53 (by decide) (fun c_53 => ?_) (fun c_53 => ?_)
          · have hneT : T1 ≠ T := hdb.elim (fun q => absurd q.1 (by omega)) (fun q => q.2)
            have hnd : dc_nd T (T1, s1, v1) = true := by unfold dc_nd; rw [decide_eq_false hneT]; rfl
            refine lv_iload hx hb dX1_update_125 (lv_at hl 0 rfl) ?_
            refine dc_ifn (tgt := 140) hx hb (by omega) dX1_update_127 (by decide) (fun c_127 => ?_) (fun c_127 => ?_)
            · exact absurd c_53 c_127
            · refine lv_aload_n hx hb dX1_update_130 rfl (lv_at hl 5 rfl) ?_
              refine lv_iload hx hb dX1_update_131 (lv_at hl 1 rfl) ?_
              refine lv_iload_n hx hb dX1_update_133 rfl (lv_at hl 2 rfl) ?_
              refine dc_callV (As := [.int (nI i), .int (nI kl)]) (rest := []) S hw (mX1_move l dg d a _ V1 E1 K Y P C Wt np SG1 VL1 TM1 NX1 (nI c0) (nI T) dn i kl (by omega) (by omega) hnr) (cwV 2 S.2.2.2.2 (lw_V q241 q243 qs12 q18 q244) rfl rfl rfl (by decide +kernel) ⟨Nat.le_of_ble_eq_true rfl, Nat.le_of_ble_eq_true rfl⟩) (ci := 1) rfl rfl rfl rfl hl.1 rfl (Nat.le_of_ble_eq_true rfl) dX1_update_134 ⟨Nat.zero_le _, Nat.zero_le _⟩ (fun z9 H locs hz9 hw => ?_)
              have hw : dc_Wd dg d A s (dc_wM d a V1 E1 K Y P C Wt np (upd SG1 kl (SG1 i)) (upd VL1 kl (VL1 i)) (upd TM1 kl (TM1 i)) (upd NX1 kl (NX1 i)) (nI c0) (nI T) dn) H locs := hw
              refine lv_iinc (v := nI (kl + 1)) (lv' := [(3, .int (nI (kl + 1))), (5, .int (nI db)), (4, .int (nI i)), (2, .int mk), (1, .int (nI nb)), (0, .ref (a 0))]) hx hb dX1_update_137 hl (k := 2) rfl (dc_inc _) (by decide) rfl (fun ls hl => ?_)
              refine lv_iinc (v := nI (i + 1)) (lv' := [(4, .int (nI (i + 1))), (3, .int (nI (kl + 1))), (5, .int (nI db)), (2, .int mk), (1, .int (nI nb)), (0, .ref (a 0))]) hx hb dX1_update_140 hl (k := 2) rfl (dc_inc _) (by decide) rfl (fun ls hl => ?_)
              refine lv_goto (tgt := 7) hx hb dX1_update_143 (by decide) ?_
              have hmid2 := mid_move hmid hget
              rw [← hkl] at hmid2
              exact ih (i + 1) (F ++ [(T1, s1, v1)]) (kl + 1) _ _ _ _ _ _ _ (by omega) (by omega) (dc_take_y hget hF hnd) (by rw [List.length_append, hkl]; rfl) hmid2 (up_no hup hget hneT) H locs hw ls (lv_sub hl [0, 1, 3, 4, 5] rfl)
          · have heT : T1 = T := hdb.elim (fun q => q.2) (fun q => absurd q.1 c_53)
            subst heT
            have hnd : dc_nd T1 (T1, s1, v1) = false := by unfold dc_nd; rw [decide_eq_true rfl]; rfl
            refine lv_aload_n hx hb dX1_update_56 rfl (lv_at hl 5 rfl) ?_
            refine x1_get (v := .ref (a 1)) S hw rfl 0 (by decide) q177 rfl dX1_update_57 ?_
            refine lv_aload_n hx hb dX1_update_60 rfl (lv_at hl 5 rfl) ?_
            refine x1_get (v := .ref (a 8)) S hw rfl 8 (by decide) q185 rfl dX1_update_61 ?_
            refine lv_iload hx hb dX1_update_64 (lv_at hl 1 rfl) ?_
            refine dc_ild S hw 8 rfl (i := i) (by omega) (by decide) dX1_update_66 ?_
            refine dc_top (y := nI s1) aS ?_
            refine dc_ild S hw 1 rfl (i := s1) (by omega) (by decide) dX1_update_67 ?_
            refine lv_aload_n hx hb dX1_update_68 rfl (lv_at hl 5 rfl) ?_
            refine x1_get (v := .ref (a 9)) S hw rfl 9 (by decide) q186 rfl dX1_update_69 ?_
            refine lv_iload hx hb dX1_update_72 (lv_at hl 1 rfl) ?_
            refine dc_ild S hw 9 rfl (i := i) (by omega) (by decide) dX1_update_74 ?_
            refine lv_icmp_eq (tgt := 125) hx hb dX1_update_75 (by decide) (fun c_75 => ?_) (fun c_75 => ?_)
            · refine lv_iload hx hb dX1_update_125 (lv_at hl 0 rfl) ?_
              refine dc_ifn (tgt := 140) hx hb (by omega) dX1_update_127 (by decide) (fun c_127 => ?_) (fun c_127 => ?_)
              · refine lv_iinc (v := nI (i + 1)) (lv' := [(4, .int (nI (i + 1))), (5, .int (nI db)), (3, .int (nI kl)), (2, .int mk), (1, .int (nI nb)), (0, .ref (a 0))]) hx hb dX1_update_140 hl (k := 1) rfl (dc_inc _) (by decide) rfl (fun ls hl => ?_)
                refine lv_goto (tgt := 7) hx hb dX1_update_143 (by decide) ?_
                exact ih (i + 1) F kl _ _ _ _ _ _ _ (by omega) (by omega) (dc_take_n hget hF hnd) hkl (mid_skip hmid) (up_same hup hL hget (by rw [← aV]; exact c_75)) H locs hw ls (lv_sub hl [0, 2, 3, 4, 5] rfl)
              · exact absurd c_127 c_53
            · refine lv_aload_n hx hb dX1_update_78 rfl (lv_at hl 5 rfl) ?_
              refine x1_get (v := .ref (a 1)) S hw rfl 0 (by decide) q177 rfl dX1_update_79 ?_
              refine lv_aload_n hx hb dX1_update_82 rfl (lv_at hl 5 rfl) ?_
              refine x1_get (v := .ref (a 8)) S hw rfl 8 (by decide) q185 rfl dX1_update_83 ?_
              refine lv_iload hx hb dX1_update_86 (lv_at hl 1 rfl) ?_
              refine dc_ild S hw 8 rfl (i := i) (by omega) (by decide) dX1_update_88 ?_
              refine dc_top (y := nI s1) aS ?_
              refine lv_aload_n hx hb dX1_update_89 rfl (lv_at hl 5 rfl) ?_
              refine x1_get (v := .ref (a 9)) S hw rfl 9 (by decide) q186 rfl dX1_update_90 ?_
              refine lv_iload hx hb dX1_update_93 (lv_at hl 1 rfl) ?_
              refine dc_ild S hw 9 rfl (i := i) (by omega) (by decide) dX1_update_95 ?_
              refine dc_ist (ws' := dc_wM d a (upd V1 s1 (VL1 i)) E1 K Y P C Wt np SG1 VL1 TM1 NX1 (nI c0) (nI T1) dn) S hw 1 rfl (i := s1) (by omega) (by decide) rfl dX1_update_96 (fun H locs hw => ?_)
              refine lv_aload_n hx hb dX1_update_97 rfl (lv_at hl 5 rfl) ?_
              refine x1_get (v := .ref (a 2)) S hw rfl 1 (by decide) q178 rfl dX1_update_98 ?_
              refine lv_aload_n hx hb dX1_update_101 rfl (lv_at hl 5 rfl) ?_
              refine x1_get (v := .ref (a 8)) S hw rfl 8 (by decide) q185 rfl dX1_update_102 ?_
              refine lv_iload hx hb dX1_update_105 (lv_at hl 1 rfl) ?_
              refine dc_ild S hw 8 rfl (i := i) (by omega) (by decide) dX1_update_107 ?_
              refine dc_top (y := nI s1) aS ?_
              refine lv_dup2_11 hx hb dX1_update_108 rfl rfl ?_
              refine dc_ild S hw 2 rfl (i := s1) (by omega) (by decide) dX1_update_109 ?_
              refine lv_iconst (v := nI 1) hx hb dX1_update_110 (by decide) ?_
              refine lv_iadd hx hb dX1_update_111 ?_
              refine dc_ist (ws' := dc_wM d a (upd V1 s1 (VL1 i)) (upd E1 s1 ((E1 s1) + (nI 1))) K Y P C Wt np SG1 VL1 TM1 NX1 (nI c0) (nI T1) dn) S hw 2 rfl (i := s1) (by omega) (by decide) rfl dX1_update_112 (fun H locs hw => ?_)
              refine lv_iload_n hx hb dX1_update_113 rfl (lv_at hl 3 rfl) ?_
              refine lv_iconst (v := nI 1) hx hb dX1_update_114 (by decide) ?_
              refine lv_aload_n hx hb dX1_update_115 rfl (lv_at hl 5 rfl) ?_
              refine x1_get (v := .ref (a 8)) S hw rfl 8 (by decide) q185 rfl dX1_update_116 ?_
              refine lv_iload hx hb dX1_update_119 (lv_at hl 1 rfl) ?_
              refine dc_ild S hw 8 rfl (i := i) (by omega) (by decide) dX1_update_121 ?_
              refine dc_top (y := nI s1) aS ?_
              refine lv_ishl hx hb dX1_update_122 ?_
              refine lv_ior hx hb dX1_update_123 ?_
              refine lv_istore_n (lv' := [(2, .int (mk ||| ((nI 1) <<< ((nI s1) &&& 31)))), (5, .int (nI db)), (4, .int (nI i)), (3, .int (nI kl)), (1, .int (nI nb)), (0, .ref (a 0))]) hx hb dX1_update_124 rfl hl (by decide) rfl (fun ls hl => ?_)
              refine lv_iload hx hb dX1_update_125 (lv_at hl 1 rfl) ?_
              refine dc_ifn (tgt := 140) hx hb (by omega) dX1_update_127 (by decide) (fun c_127 => ?_) (fun c_127 => ?_)
              · refine lv_iinc (v := nI (i + 1)) (lv' := [(4, .int (nI (i + 1))), (2, .int (mk ||| ((nI 1) <<< ((nI s1) &&& 31)))), (5, .int (nI db)), (3, .int (nI kl)), (1, .int (nI nb)), (0, .ref (a 0))]) hx hb dX1_update_140 hl (k := 2) rfl (dc_inc _) (by decide) rfl (fun ls hl => ?_)
                refine lv_goto (tgt := 7) hx hb dX1_update_143 (by decide) ?_
                exact ih (i + 1) F kl _ _ _ _ _ _ _ (by omega) (by omega) (dc_take_n hget hF hnd) hkl (mid_skip hmid) (by have q9 := up_diff hup hL hs1 hget (by rw [← aV]; exact c_75); rw [← aV] at q9; exact q9) H locs hw ls (lv_sub hl [0, 3, 1, 4, 5] rfl)
              · exact absurd c_127 c_53
        refine lv_iload_n hx hb dX1_update_16 rfl (lv_at hl 3 rfl) ?_
        refine dc_if0 (tgt := 30) hx hb (by omega) dX1_update_17 (by decide) (fun c_17 => ?_) (fun c_17 => ?_)
        · refine lv_aload_n hx hb dX1_update_30 rfl (lv_at hl 4 rfl) ?_
          refine x1_get (v := .ref (a 10)) S hw rfl 10 (by decide) q187 rfl dX1_update_31 ?_
          refine lv_iload hx hb dX1_update_34 (lv_at hl 0 rfl) ?_
          refine dc_ild S hw 10 rfl (i := i) (by omega) (by decide) dX1_update_36 ?_
          refine dc_top (y := nI T1) aT ?_
          refine lv_aload_n hx hb dX1_update_37 rfl (lv_at hl 4 rfl) ?_
          refine x1_get (v := .int (nI T)) S hw rfl 13 (by decide) q190 rfl dX1_update_38 ?_
          refine dc_ne (tgt := 48) hx hb (by omega) (by omega) dX1_update_41 (by decide) (fun c_41 => ?_) (fun c_41 => ?_)
          · refine lv_iconst (v := nI 0) hx hb dX1_update_48 (by decide) ?_
            exact jn 0 (Or.inr ⟨rfl, c_41⟩) ls (lv_sub hl [0, 1, 2, 3, 4] rfl)
          · refine lv_iconst (v := nI 1) hx hb dX1_update_44 (by decide) ?_
            refine lv_goto (tgt := 49) hx hb dX1_update_45 (by decide) ?_
            exact jn 1 (Or.inl ⟨rfl, c_41⟩) ls (lv_sub hl [0, 1, 2, 3, 4] rfl)
        · refine lv_aload_n hx hb dX1_update_20 rfl (lv_at hl 4 rfl) ?_
          refine x1_get (v := .ref (a 11)) S hw rfl 11 (by decide) q188 rfl dX1_update_21 ?_
          refine lv_iload hx hb dX1_update_24 (lv_at hl 0 rfl) ?_
          refine dc_zld S hw 11 rfl (i := i) (by omega) (by decide) dX1_update_26 ?_
          refine dc_top (y := nI (if T1 = t then 1 else 0)) aN ?_
          refine lv_goto (tgt := 49) hx hb dX1_update_27 (by decide) ?_
          have eTt : T = t := hnb.elim (fun q => q.2) (fun q => absurd q c_17)
          have h7 : (if T1 = t then 1 else 0 : Nat) = 1 ∧ T1 = T ∨ (if T1 = t then 1 else 0 : Nat) = 0 ∧ T1 ≠ T := (Classical.em (T1 = t)).elim (fun q => Or.inl ⟨if_pos q, by rw [eTt]; exact q⟩) (fun q => Or.inr ⟨if_neg q, by rw [eTt]; exact q⟩)
          exact jn _ h7 ls (lv_sub hl [0, 1, 2, 3, 4] rfl)
  refine lv_iconst (v := nI 0) hx hb dX1_update_0 (by decide) ?_
  refine lv_istore_n (lv' := [(2, .int (nI 0)), (0, .ref (a 0)), (1, .int (nI nb))]) hx hb dX1_update_1 rfl hl (by decide) rfl (fun ls hl => ?_)
  refine lv_iconst (v := nI 0) hx hb dX1_update_2 (by decide) ?_
  refine lv_istore_n (lv' := [(3, .int (nI 0)), (2, .int (nI 0)), (0, .ref (a 0)), (1, .int (nI nb))]) hx hb dX1_update_3 rfl hl (by decide) rfl (fun ls hl => ?_)
  refine lv_iconst (v := nI 0) hx hb dX1_update_4 (by decide) ?_
  refine lv_istore (lv' := [(4, .int (nI 0)), (3, .int (nI 0)), (2, .int (nI 0)), (0, .ref (a 0)), (1, .int (nI nb))]) hx hb dX1_update_5 hl (by decide) rfl (fun ls hl => ?_)
  exact lp (c0 + 1) 0 [] 0 (nI 0) V E SG VL TM NX (by omega) (by omega) (by rw [List.take_zero]; rfl) rfl (mid_0 hH) (up_0 Q T V E L) _ _ hw ls (lv_sub hl [0, 1, 2, 4, 3] rfl)
end
section
set_option maxRecDepth 100000
set_option maxHeartbeats 4000000 in
set_option maxRecDepth 100000 in
theorem mX1_step (l : Launch) (dg : va_G) (d : ClassId × ClassId) (a : Nat → Nat) (sz : Nat) (V : Nat → Int32) (E : Nat → Int32) (K : Nat → Int32) (Y : Nat → Int32) (P : Nat → Int32) (C : Nat → Int32) (Wt : Nat → Int32) (n0 : Nat) (SG : Nat → Int32) (VL : Nat → Int32) (TM : Nat → Int32) (NX : Nat → Int32) (c0 : Nat) (t : Nat) (dn : Int32) (Q : dc_Q) (hG : dc_okT (n0, K, Y, P, C, Wt)) (ht : t < 2 ^ 29) (hR : dc_RM t Q c0 SG VL TM NX) : Met l yX1_step (ws_ yX1_step cX1_step 5 (some .int)) ({ frames := 3, cells := 0, slots := 0, locals := 72 } : Room) (dc_Pre dg d [.ref (a 0)] (dc_wM d a V E K Y (fun p => P p &&& 65535) C Wt (nI n0) SG VL TM NX (nI c0) (nI t) dn) sz) (va_Qi (fun (r : Int32) (z : dc_S × Nat × (Nat → Int32) × (Nat → Int32) × (Nat → Int32) × (Nat → Int32)) => r = dc_stR (Q, V, E, t, dn) ∧ z.1 = dc_st (n0, K, Y, P, C, Wt) (Q, V, E, t, dn) ∧ dc_RM z.1.2.2.2.1 z.1.1 z.2.1 z.2.2.1 z.2.2.2.1 z.2.2.2.2.1 z.2.2.2.2.2) (dc_B dg d (va_A (dc_wM d a V E K Y (fun p => P p &&& 65535) C Wt (nI n0) SG VL TM NX (nI c0) (nI t) dn) sz) (fun z : dc_S × Nat × (Nat → Int32) × (Nat → Int32) × (Nat → Int32) × (Nat → Int32) => dc_wM d a z.1.2.1 z.1.2.2.1 K Y (fun p => P p &&& 65535) C Wt (nI n0) z.2.2.1 z.2.2.2.1 z.2.2.2.2.1 z.2.2.2.2.2 (nI z.2.1) (nI z.1.2.2.2.1) z.1.2.2.2.2)) (va_A (dc_wM d a V E K Y (fun p => P p &&& 65535) C Wt (nI n0) SG VL TM NX (nI c0) (nI t) dn) sz)) 0 0 (va_A (dc_wM d a V E K Y (fun p => P p &&& 65535) C Wt (nI n0) SG VL TM NX (nI c0) (nI t) dn) sz) := by
  refine dc_metI (by decide) (Nat.le_of_ble_eq_true rfl) (fun p e s m below meth c A Qz ls S hw hl ret => ?_)
  have hx := S.1
  have hb := S.2.1
  have hl : lv_has ls 5 [(0, .ref (a 0))] := hl
  have h8 : n0 ≤ 8 := hG.1
  have hc0 := rm_le hR
  refine lv_aload_n hx hb dX1_step_0 rfl (lv_at hl 0 rfl) ?_
  refine x1_get (v := .int (nI c0)) S hw rfl 12 (by decide) q189 rfl dX1_step_1 ?_
  refine dc_ifn (tgt := 10) hx hb (by omega) dX1_step_4 (by decide) (fun c_4 => ?_) (fun c_4 => ?_)
  · have hnem : ¬ dc_emp Q := fun q => c_4 ((rm_emp hR).mp q)
    have hok : dc_ok t Q := hR.elim fun _ q => q.2.2.2
    refine lv_aload_n hx hb dX1_step_10 rfl (lv_at hl 0 rfl) ?_
    refine dc_callR (As := []) (rest := []) S hw (mX1_anyNext l dg d a _ V E K Y (fun p => P p &&& 65535) C Wt (nI n0) SG VL TM NX c0 t dn Q (by omega) hR) (cwV 0 S.2.2.2.2 (lw_V q257 q259 qs14 q18 q260) rfl rfl rfl (by decide +kernel) ⟨Nat.le_of_ble_eq_true rfl, Nat.le_of_ble_eq_true rfl⟩) (ci := 1) rfl rfl rfl rfl hl.1 rfl (Nat.le_of_ble_eq_true rfl) dX1_step_11 ⟨Nat.zero_le _, Nat.zero_le _⟩ (fun rb hrb => ?_)
    obtain ⟨nb, hrb, hnb0⟩ : ∃ nb : Nat, rb = nI nb ∧ ((nb = 1 ∧ ∃ si, Q t si ≠ none) ∨ nb = 0) := hrb.elim (fun q => ⟨1, q.1, Or.inl ⟨rfl, q.2⟩⟩) (fun q => ⟨0, q.1, Or.inr rfl⟩)
    subst hrb
    refine lv_istore_n (lv' := [(1, .int (nI nb)), (0, .ref (a 0))]) hx hb dX1_step_14 rfl hl (by decide) rfl (fun ls hl => ?_)
    refine lv_aload_n hx hb dX1_step_15 rfl (lv_at hl 1 rfl) ?_
    refine lv_aload_n hx hb dX1_step_16 rfl (lv_at hl 1 rfl) ?_
    refine dc_callR (As := []) (rest := [.ref (a 0)]) S hw (mX1_nextTime l dg d a _ V E K Y (fun p => P p &&& 65535) C Wt (nI n0) SG VL TM NX c0 (nI t) dn t Q (by omega) hR) (cwV 0 S.2.2.2.2 (lw_V q261 q262 q263 q18 q264) rfl rfl rfl (by decide +kernel) ⟨Nat.le_of_ble_eq_true rfl, Nat.le_of_ble_eq_true rfl⟩) (ci := 1) rfl rfl rfl rfl hl.1 rfl (Nat.le_of_ble_eq_true rfl) dX1_step_17 ⟨Nat.zero_le _, Nat.zero_le _⟩ (fun rt hrt => ?_)
    obtain ⟨T, hnx, hrt⟩ : ∃ T, dc_nx Q T ∧ rt = nI T := hrt.elim (fun q => absurd q.1 hnem) (fun q => q)
    subst hrt
    have hTb := dc_nx_ok hok hnx
    have hnb : nb = 1 ∧ T = t ∨ nb = 0 := hnb0.elim (fun q => Or.inl ⟨q.1, dc_nx_one hnx ⟨q.2, fun T' s' hq => (hok T' s' hq).1⟩⟩) Or.inr
    refine x1_put (ws' := dc_wM d a V E K Y (fun p => P p &&& 65535) C Wt (nI n0) SG VL TM NX (nI c0) (nI T) dn) S hw rfl 13 (by decide) q190 rfl (by decide +kernel) (Nat.le_of_ble_eq_true rfl) rfl dX1_step_20 (fun H locs hw => ?_)
    refine lv_aload_n hx hb dX1_step_23 rfl (lv_at hl 1 rfl) ?_
    refine lv_iload_n hx hb dX1_step_24 rfl (lv_at hl 0 rfl) ?_
    refine dc_callI (As := [.int (nI nb)]) (rest := []) S hw (mX1_update l dg d a _ V E K Y (fun p => P p &&& 65535) C Wt (nI n0) SG VL TM NX c0 T dn t Q nb hnb hnx (by omega) hR) (cwV 1 S.2.2.2.2 (lw_V q265 q267 qs15 q18 q268) rfl rfl rfl (by decide +kernel) ⟨Nat.le_of_ble_eq_true rfl, Nat.le_of_ble_eq_true rfl⟩) (ci := 1) rfl rfl rfl rfl hl.1 rfl (Nat.le_of_ble_eq_true rfl) dX1_step_25 ⟨Nat.zero_le _, Nat.zero_le _⟩ (fun chg z H locs hz hw => ?_)
    obtain ⟨V1, E1, c1, SG1, VL1, TM1, NX1⟩ := z
    obtain ⟨hch, hV1, hE1, hR1⟩ := hz
    have hV1 : V1 = dc_tV Q T V := hV1
    have hE1 : E1 = dc_tE Q T V E := hE1
    have hR1 : dc_RM T (dc_tak Q T) c1 SG1 VL1 TM1 NX1 := hR1
    have hw : dc_Wd dg d A s (dc_wM d a V1 E1 K Y (fun p => P p &&& 65535) C Wt (nI n0) SG1 VL1 TM1 NX1 (nI c1) (nI T) dn) H locs := hw
    refine lv_istore_n (lv' := [(2, .int chg), (1, .int (nI nb)), (0, .ref (a 0))]) hx hb dX1_step_28 rfl hl (by decide) rfl (fun ls hl => ?_)
    refine lv_iconst (v := nI 0) hx hb dX1_step_29 (by decide) ?_
    refine lv_istore_n (lv' := [(3, .int (nI 0)), (2, .int chg), (1, .int (nI nb)), (0, .ref (a 0))]) hx hb dX1_step_30 rfl hl (by decide) rfl (fun ls hl => ?_)
    have lp : ∀ (n : Nat) (k c2 : Nat) (SG2 VL2 TM2 NX2 : Nat → Int32), k ≤ n0 → n0 + 1 ≤ k + n → dc_RM T (dc_lp (n0, K, Y, P, C, Wt) V1 T chg (dc_tak Q T) k) c2 SG2 VL2 TM2 NX2 → ∀ (H : Heap) (locs : List Loc), dc_Wd dg d A s (dc_wM d a V1 E1 K Y (fun p => P p &&& 65535) C Wt (nI n0) SG2 VL2 TM2 NX2 (nI c2) (nI T) dn) H locs → ∀ ls : Array Slot, lv_has ls 5 [(3, .int (nI k)), (2, .int chg), (1, .int (nI nb)), (0, .ref (a 0))] → W p l e ({ frames := 3, cells := 0, slots := 0, locals := 72 } : Room) s m ([.ref (a 0)] : List Value).toArray below meth c H locs 0 0 Qz (F0 m 31 ls []) := by
      intro n
      induction n with
      | zero =>
        intro k c2 SG2 VL2 TM2 NX2 hk hn hR2 H locs hw ls hl
        exact absurd hn (by omega)
      | succ n ih =>
        intro k c2 SG2 VL2 TM2 NX2 hk hn hR2 H locs hw ls hl
        refine lv_iload_n hx hb dX1_step_31 rfl (lv_at hl 0 rfl) ?_
        refine lv_aload_n hx hb dX1_step_32 rfl (lv_at hl 3 rfl) ?_
        refine x1_get (v := .int (nI n0)) S hw rfl 7 (by decide) q184 rfl dX1_step_33 ?_
        refine dc_ge (tgt := 61) hx hb (by omega) (by omega) dX1_step_36 (by decide) (fun c_36 => ?_) (fun c_36 => ?_)
        · have ek : k = n0 := by omega
          subst ek
          have hne := dc_next_eq hnx
          have est : dc_st (k, K, Y, P, C, Wt) (Q, V, E, t, dn) = (dc_lp (k, K, Y, P, C, Wt) V1 T chg (dc_tak Q T) k, V1, E1, T, dn + nI 1) := by
            rw [(dc_st_n (S := (Q, V, E, t, dn)) hnem).1, hV1, hE1, hch]
            unfold dc_stp
            dsimp only
            rw [hne]
          refine lv_aload_n hx hb dX1_step_61 rfl (lv_at hl 3 rfl) ?_
          refine lv_dup hx hb dX1_step_62 rfl ?_
          refine x1_get (v := .int dn) S hw rfl 14 (by decide) q191 rfl dX1_step_63 ?_
          refine lv_iconst (v := nI 1) hx hb dX1_step_66 (by decide) ?_
          refine lv_iadd hx hb dX1_step_67 ?_
          refine x1_put (ws' := dc_wM d a V1 E1 K Y (fun p => P p &&& 65535) C Wt (nI k) SG2 VL2 TM2 NX2 (nI c2) (nI T) (dn + (nI 1))) S hw rfl 14 (by decide) q191 rfl (by decide +kernel) (Nat.le_of_ble_eq_true rfl) rfl dX1_step_68 (fun H locs hw => ?_)
          refine lv_iconst (v := nI 0) hx hb dX1_step_71 (by decide) ?_
          refine lv_istore_n (lv' := [(3, .int (nI 0)), (2, .int chg), (1, .int (nI nb)), (0, .ref (a 0))]) hx hb dX1_step_72 rfl hl (by decide) rfl (fun ls hl => ?_)
          refine lv_iconst (v := nI 0) hx hb dX1_step_73 (by decide) ?_
          refine lv_istore (lv' := [(4, .int (nI 0)), (3, .int (nI 0)), (2, .int chg), (1, .int (nI nb)), (0, .ref (a 0))]) hx hb dX1_step_74 hl (by decide) rfl (fun ls hl => ?_)
          have lp2 : ∀ (n : Nat) (j : Nat), j ≤ 12 → 13 ≤ j + n → ∀ (H : Heap) (locs : List Loc), dc_Wd dg d A s (dc_wM d a V1 E1 K Y (fun p => P p &&& 65535) C Wt (nI k) SG2 VL2 TM2 NX2 (nI c2) (nI T) (dn + (nI 1))) H locs → ∀ ls : Array Slot, lv_has ls 5 [(4, .int (nI j)), (3, .int (nI (fb_ct (bt chg) j))), (2, .int chg), (1, .int (nI nb)), (0, .ref (a 0))] → W p l e ({ frames := 3, cells := 0, slots := 0, locals := 72 } : Room) s m ([.ref (a 0)] : List Value).toArray below meth c H locs 0 0 Qz (F0 m 76 ls []) := by
            intro n
            induction n with
            | zero =>
              intro j hj hn H locs hw ls hl
              exact absurd hn (by omega)
            | succ n ih2 =>
              intro j hj hn H locs hw ls hl
              refine lv_iload hx hb dX1_step_76 (lv_at hl 0 rfl) ?_
              refine lv_bipush (v := nI 12) hx hb dX1_step_78 (by decide) ?_
              refine dc_ge (tgt := 98) hx hb (by omega) (by omega) dX1_step_80 (by decide) (fun c_80 => ?_) (fun c_80 => ?_)
              · have ej : j = 12 := by omega
                subst ej
                refine lv_iload_n hx hb dX1_step_98 rfl (lv_at hl 1 rfl) ?_
                exact ret 99 _ _ _ _ ((dc_lp (k, K, Y, P, C, Wt) V1 T chg (dc_tak Q T) k, V1, E1, T, dn + nI 1), c2, SG2, VL2, TM2, NX2) dX1_step_99 rfl ⟨by rw [(dc_st_n (G := (k, K, Y, P, C, Wt)) (S := (Q, V, E, t, dn)) hnem).2]; dsimp only; rw [hne, hch, dc_ch_ct hok], est.symm, hR2⟩ hw
              · refine lv_iload_n hx hb dX1_step_83 rfl (lv_at hl 1 rfl) ?_
                refine lv_iload_n hx hb dX1_step_84 rfl (lv_at hl 2 rfl) ?_
                refine lv_iload hx hb dX1_step_85 (lv_at hl 0 rfl) ?_
                refine lv_ishr hx hb dX1_step_87 ?_
                refine lv_iconst (v := nI 1) hx hb dX1_step_88 (by decide) ?_
                refine lv_iand hx hb dX1_step_89 ?_
                refine lv_iadd hx hb dX1_step_90 ?_
                refine dc_top (y := nI (fb_ct (bt chg) (j + 1))) (dc_ct_step chg (by omega)) ?_
                refine lv_istore_n (lv' := [(3, .int (nI (fb_ct (bt chg) (j + 1)))), (4, .int (nI j)), (2, .int chg), (1, .int (nI nb)), (0, .ref (a 0))]) hx hb dX1_step_91 rfl hl (by decide) rfl (fun ls hl => ?_)
                refine lv_iinc (v := nI (j + 1)) (lv' := [(4, .int (nI (j + 1))), (3, .int (nI (fb_ct (bt chg) (j + 1)))), (2, .int chg), (1, .int (nI nb)), (0, .ref (a 0))]) hx hb dX1_step_92 hl (k := 1) rfl (dc_inc _) (by decide) rfl (fun ls hl => ?_)
                refine lv_goto (tgt := 76) hx hb dX1_step_95 (by decide) ?_
                exact ih2 (j + 1) (by omega) (by omega) H locs hw ls (lv_sub hl [0, 1, 2, 3, 4] rfl)
          exact lp2 13 0 (by omega) (by omega) H locs hw ls (lv_sub hl [0, 1, 2, 3, 4] rfl)
        · refine lv_aload_n hx hb dX1_step_39 rfl (lv_at hl 3 rfl) ?_
          refine x1_get (v := .ref (a 7)) S hw rfl 6 (by decide) q183 rfl dX1_step_40 ?_
          refine lv_iload_n hx hb dX1_step_43 rfl (lv_at hl 0 rfl) ?_
          refine dc_ild S hw 7 rfl (i := k) (by omega) (by decide) dX1_step_44 ?_
          refine lv_iload_n hx hb dX1_step_45 rfl (lv_at hl 1 rfl) ?_
          refine lv_iand hx hb dX1_step_46 ?_
          refine lv_if_eq (tgt := 55) hx hb dX1_step_47 (by decide) (fun c_47 => ?_) (fun c_47 => ?_)
          · refine lv_iinc (v := nI (k + 1)) (lv' := [(3, .int (nI (k + 1))), (2, .int chg), (1, .int (nI nb)), (0, .ref (a 0))]) hx hb dX1_step_55 hl (k := 0) rfl (dc_inc _) (by decide) rfl (fun ls hl => ?_)
            refine lv_goto (tgt := 31) hx hb dX1_step_58 (by decide) ?_
            exact ih (k + 1) _ _ _ _ _ (by omega) (by omega) (by unfold dc_lp; rw [if_pos c_47]; exact hR2) H locs hw ls (lv_sub hl [0, 1, 2, 3] rfl)
          · refine lv_aload_n hx hb dX1_step_50 rfl (lv_at hl 3 rfl) ?_
            refine lv_iload_n hx hb dX1_step_51 rfl (lv_at hl 0 rfl) ?_
            refine dc_callV (As := [.int (nI k)]) (rest := []) S hw (mX1_carryOut l dg d a _ V1 E1 K Y P C Wt (nI n0) SG2 VL2 TM2 NX2 c2 T dn (dc_lp (n0, K, Y, P, C, Wt) V1 T chg (dc_tak Q T) k) n0 k hG (by omega) (by omega) hR2) (cwV 1 S.2.2.2.2 (lw_V q249 q251 qs13 q18 q252) rfl rfl rfl (by decide +kernel) ⟨Nat.le_of_ble_eq_true rfl, Nat.le_of_ble_eq_true rfl⟩) (ci := 1) rfl rfl rfl rfl hl.1 rfl (Nat.le_of_ble_eq_true rfl) dX1_step_52 ⟨Nat.zero_le _, Nat.zero_le _⟩ (fun z H locs hz hw => ?_)
            obtain ⟨c3, SG3, VL3, TM3, NX3⟩ := z
            have hw : dc_Wd dg d A s (dc_wM d a V1 E1 K Y (fun p => P p &&& 65535) C Wt (nI n0) SG3 VL3 TM3 NX3 (nI c3) (nI T) dn) H locs := hw
            have hR3 : dc_RM T (dc_cry (n0, K, Y, P, C, Wt) V1 T (dc_lp (n0, K, Y, P, C, Wt) V1 T chg (dc_tak Q T) k) k) c3 SG3 VL3 TM3 NX3 := hz
            refine lv_iinc (v := nI (k + 1)) (lv' := [(3, .int (nI (k + 1))), (2, .int chg), (1, .int (nI nb)), (0, .ref (a 0))]) hx hb dX1_step_55 hl (k := 0) rfl (dc_inc _) (by decide) rfl (fun ls hl => ?_)
            refine lv_goto (tgt := 31) hx hb dX1_step_58 (by decide) ?_
            exact ih (k + 1) _ _ _ _ _ (by omega) (by omega) (by unfold dc_lp; rw [if_neg c_47]; exact hR3) H locs hw ls (lv_sub hl [0, 1, 2, 3] rfl)
    exact lp (n0 + 1) 0 _ _ _ _ _ (by omega) (by omega) hR1 H locs hw ls (lv_sub hl [0, 1, 2, 3] rfl)
  · have hem := (rm_emp hR).mpr c_4
    refine lv_bipush (v := (-5)) hx hb dX1_step_7 (by decide) ?_
    exact ret 9 _ _ _ _ ((Q, V, E, t, dn), c0, SG, VL, TM, NX) dX1_step_9 rfl ⟨(dc_st_e (G := (n0, K, Y, P, C, Wt)) (S := (Q, V, E, t, dn)) hem).2.symm, (dc_st_e (S := (Q, V, E, t, dn)) hem).1.symm, hR⟩ hw
end
section
set_option maxRecDepth 100000
set_option maxHeartbeats 4000000 in
set_option maxRecDepth 100000 in
theorem mX1_run (l : Launch) (dg : va_G) (d : ClassId × ClassId) (a : Nat → Nat) (sz : Nat) (V : Nat → Int32) (E : Nat → Int32) (K : Nat → Int32) (Y : Nat → Int32) (P : Nat → Int32) (C : Nat → Int32) (Wt : Nat → Int32) (n0 : Nat) (SG : Nat → Int32) (VL : Nat → Int32) (TM : Nat → Int32) (NX : Nat → Int32) (c0 : Nat) (t : Nat) (dn : Int32) (Q : dc_Q) (un cn : Int32) (hG : dc_okT (n0, K, Y, P, C, Wt)) (ht : t < 2 ^ 28) (hR : dc_RM t Q c0 SG VL TM NX) : Met l yX1_run (ws_ yX1_run cX1_run 6 (some .int)) ({ frames := 4, cells := 0, slots := 0, locals := 96 } : Room) (dc_Pre dg d [.ref (a 0), .int un, .int cn] (dc_wM d a V E K Y (fun p => P p &&& 65535) C Wt (nI n0) SG VL TM NX (nI c0) (nI t) dn) sz) (va_Qi (fun (r : Int32) (z : dc_S × Nat × (Nat → Int32) × (Nat → Int32) × (Nat → Int32) × (Nat → Int32)) => r = nI (dc_run (n0, K, Y, P, C, Wt) (t + dc_far un) (dc_most cn) (Q, V, E, t, dn)).2 ∧ z.1 = (dc_run (n0, K, Y, P, C, Wt) (t + dc_far un) (dc_most cn) (Q, V, E, t, dn)).1 ∧ dc_RM z.1.2.2.2.1 z.1.1 z.2.1 z.2.2.1 z.2.2.2.1 z.2.2.2.2.1 z.2.2.2.2.2) (dc_B dg d (va_A (dc_wM d a V E K Y (fun p => P p &&& 65535) C Wt (nI n0) SG VL TM NX (nI c0) (nI t) dn) sz) (fun z : dc_S × Nat × (Nat → Int32) × (Nat → Int32) × (Nat → Int32) × (Nat → Int32) => dc_wM d a z.1.2.1 z.1.2.2.1 K Y (fun p => P p &&& 65535) C Wt (nI n0) z.2.2.1 z.2.2.2.1 z.2.2.2.2.1 z.2.2.2.2.2 (nI z.2.1) (nI z.1.2.2.2.1) z.1.2.2.2.2)) (va_A (dc_wM d a V E K Y (fun p => P p &&& 65535) C Wt (nI n0) SG VL TM NX (nI c0) (nI t) dn) sz)) 0 0 (va_A (dc_wM d a V E K Y (fun p => P p &&& 65535) C Wt (nI n0) SG VL TM NX (nI c0) (nI t) dn) sz) := by
  refine dc_metI (by decide) (Nat.le_of_ble_eq_true rfl) (fun p e s m below meth c A Qz ls S hw hl ret => ?_)
  have hx := S.1
  have hb := S.2.1
  have hl : lv_has ls 6 [(0, .ref (a 0)), (1, .int un), (2, .int cn)] := hl
  have hml := dc_most_le cn
  have hfl := dc_far_le un
  have lp : ∀ (n : Nat) (j : Nat) (Q2 : dc_Q) (V2 E2 : Nat → Int32) (t2 : Nat) (dn2 : Int32) (c2 : Nat) (SG2 VL2 TM2 NX2 : Nat → Int32), j ≤ dc_most cn → dc_most cn + 1 ≤ j + n → t2 ≤ t + 9 * j → dc_run (n0, K, Y, P, C, Wt) (t + dc_far un) (dc_most cn) (Q, V, E, t, dn) = ((dc_run (n0, K, Y, P, C, Wt) (t + dc_far un) (dc_most cn - j) (Q2, V2, E2, t2, dn2)).1, (dc_run (n0, K, Y, P, C, Wt) (t + dc_far un) (dc_most cn - j) (Q2, V2, E2, t2, dn2)).2 + j) → dc_RM t2 Q2 c2 SG2 VL2 TM2 NX2 → ∀ (H : Heap) (locs : List Loc), dc_Wd dg d A s (dc_wM d a V2 E2 K Y (fun p => P p &&& 65535) C Wt (nI n0) SG2 VL2 TM2 NX2 (nI c2) (nI t2) dn2) H locs → ∀ ls : Array Slot, lv_has ls 6 [(5, .int (nI j)), (4, .int (nI (dc_most cn))), (3, .int (nI (t + dc_far un))), (2, .int cn), (1, .int un), (0, .ref (a 0))] → W p l e ({ frames := 4, cells := 0, slots := 0, locals := 96 } : Room) s m ([.ref (a 0), .int un, .int cn] : List Value).toArray below meth c H locs 0 0 Qz (F0 m 55 ls []) := by
    intro n
    induction n with
    | zero =>
      intro j Q2 V2 E2 t2 dn2 c2 SG2 VL2 TM2 NX2 hj hn ht2 hrun hR2 H locs hw ls hl
      exact absurd hn (by omega)
    | succ n ih =>
      intro j Q2 V2 E2 t2 dn2 c2 SG2 VL2 TM2 NX2 hj hn ht2 hrun hR2 H locs hw ls hl
      have hc2 := rm_le hR2
      refine lv_iload hx hb dX1_run_55 (lv_at hl 0 rfl) ?_
      refine lv_iload hx hb dX1_run_57 (lv_at hl 1 rfl) ?_
      refine dc_ge (tgt := 88) hx hb (by omega) (by omega) dX1_run_59 (by decide) (fun c_59 => ?_) (fun c_59 => ?_)
      · have hfin := dc_run_stop (S := (Q2, V2, E2, t2, dn2)) (te := t + dc_far un) (Or.inl c_59) hrun
        refine lv_iload hx hb dX1_run_88 (lv_at hl 0 rfl) ?_
        exact ret 90 _ _ _ _ ((Q2, V2, E2, t2, dn2), c2, SG2, VL2, TM2, NX2) dX1_run_90 rfl ⟨by rw [hfin], by rw [hfin], hR2⟩ hw
      · refine lv_aload_n hx hb dX1_run_62 rfl (lv_at hl 5 rfl) ?_
        refine x1_get (v := .int (nI c2)) S hw rfl 12 (by decide) q189 rfl dX1_run_63 ?_
        refine dc_ifle (tgt := 88) hx hb (by omega) dX1_run_66 (by decide) (fun c_66 => ?_) (fun c_66 => ?_)
        · have hfin := dc_run_stop (S := (Q2, V2, E2, t2, dn2)) (te := t + dc_far un) (Or.inr (fun q => q.1 ((rm_emp hR2).mpr c_66))) hrun
          refine lv_iload hx hb dX1_run_88 (lv_at hl 0 rfl) ?_
          exact ret 90 _ _ _ _ ((Q2, V2, E2, t2, dn2), c2, SG2, VL2, TM2, NX2) dX1_run_90 rfl ⟨by rw [hfin], by rw [hfin], hR2⟩ hw
        · have hnem : ¬ dc_emp Q2 := fun q => absurd ((rm_emp hR2).mp q) (by omega)
          have hok2 : dc_ok t2 Q2 := hR2.elim fun _ q => q.2.2.2
          refine lv_aload_n hx hb dX1_run_69 rfl (lv_at hl 5 rfl) ?_
          refine dc_callR (As := []) (rest := []) S hw (mX1_nextTime l dg d a _ V2 E2 K Y (fun p => P p &&& 65535) C Wt (nI n0) SG2 VL2 TM2 NX2 c2 (nI t2) dn2 t2 Q2 (by omega) hR2) (cwV 0 S.2.2.2.2 (lw_V q261 q262 q263 q18 q264) rfl rfl rfl (by decide +kernel) ⟨Nat.le_of_ble_eq_true rfl, Nat.le_of_ble_eq_true rfl⟩) (ci := 1) rfl rfl rfl rfl hl.1 rfl (Nat.le_of_ble_eq_true rfl) dX1_run_70 ⟨Nat.zero_le _, Nat.zero_le _⟩ (fun rt hrt => ?_)
          obtain ⟨T, hnx, hrt⟩ : ∃ T, dc_nx Q2 T ∧ rt = nI T := hrt.elim (fun q => absurd q.1 hnem) (fun q => q)
          subst hrt
          have hTb := dc_nx_ok hok2 hnx
          have hne := dc_next_eq hnx
          refine lv_iload_n hx hb dX1_run_73 rfl (lv_at hl 2 rfl) ?_
          refine dc_gt (tgt := 88) hx hb (by omega) (by omega) dX1_run_74 (by decide) (fun c_74 => ?_) (fun c_74 => ?_)
          · have hfin := dc_run_stop (S := (Q2, V2, E2, t2, dn2)) (te := t + dc_far un) (Or.inr (fun q => by have q2 : dc_next Q2 ≤ _ := q.2; rw [hne] at q2; omega)) hrun
            refine lv_iload hx hb dX1_run_88 (lv_at hl 0 rfl) ?_
            exact ret 90 _ _ _ _ ((Q2, V2, E2, t2, dn2), c2, SG2, VL2, TM2, NX2) dX1_run_90 rfl ⟨by rw [hfin], by rw [hfin], hR2⟩ hw
          · have hgo : dc_go (t + dc_far un) (Q2, V2, E2, t2, dn2) := ⟨hnem, by show dc_next Q2 ≤ _; rw [hne]; exact c_74⟩
            refine lv_aload_n hx hb dX1_run_77 rfl (lv_at hl 5 rfl) ?_
            refine dc_callI (As := []) (rest := []) S hw (mX1_step l dg d a _ V2 E2 K Y P C Wt n0 SG2 VL2 TM2 NX2 c2 t2 dn2 Q2 hG (by omega) hR2) (cwV 0 S.2.2.2.2 (lw_V q273 q254 q255 q18 q256) rfl rfl rfl (by decide +kernel) ⟨Nat.le_of_ble_eq_true rfl, Nat.le_of_ble_eq_true rfl⟩) (ci := 1) rfl rfl rfl rfl hl.1 rfl (Nat.le_of_ble_eq_true rfl) dX1_run_78 ⟨Nat.zero_le _, Nat.zero_le _⟩ (fun r z H locs hz hw => ?_)
            obtain ⟨S3, c3, SG3, VL3, TM3, NX3⟩ := z
            obtain ⟨-, hS3, hR3⟩ := hz
            have hS3 : S3 = dc_st (n0, K, Y, P, C, Wt) (Q2, V2, E2, t2, dn2) := hS3
            have hrun3 := dc_run_mid c_59 hgo hrun
            have hok3 := (dc_ok_st (G := (n0, K, Y, P, C, Wt)) (S := (Q2, V2, E2, t2, dn2)) hG hok2).2
            rw [← hS3] at hrun3 hok3
            obtain ⟨Q3, V3, E3, t3, dn3⟩ := S3
            have hok3 : t3 ≤ t2 + 9 := hok3
            have hR3 : dc_RM t3 Q3 c3 SG3 VL3 TM3 NX3 := hR3
            have hw : dc_Wd dg d A s (dc_wM d a V3 E3 K Y (fun p => P p &&& 65535) C Wt (nI n0) SG3 VL3 TM3 NX3 (nI c3) (nI t3) dn3) H locs := hw
            refine lv_pop hx hb dX1_run_81 rfl ?_
            refine lv_iinc (v := nI (j + 1)) (lv' := [(5, .int (nI (j + 1))), (4, .int (nI (dc_most cn))), (3, .int (nI (t + dc_far un))), (2, .int cn), (1, .int un), (0, .ref (a 0))]) hx hb dX1_run_82 hl (k := 0) rfl (dc_inc _) (by decide) rfl (fun ls hl => ?_)
            refine lv_goto (tgt := 55) hx hb dX1_run_85 (by decide) ?_
            exact ih (j + 1) Q3 V3 E3 t3 dn3 c3 SG3 VL3 TM3 NX3 (by omega) (by omega) (by omega) hrun3 hR3 H locs hw ls (lv_sub hl [0, 1, 2, 3, 4, 5] rfl)
  have t5 : ∀ ls : Array Slot, lv_has ls 6 [(3, .int (nI (t + dc_far un))), (2, .int cn), (1, .int un), (0, .ref (a 0))] → W p l e ({ frames := 4, cells := 0, slots := 0, locals := 96 } : Room) s m ([.ref (a 0), .int un, .int cn] : List Value).toArray below meth c s.heap [] 0 0 Qz (F0 m 50 ls [.int (nI (dc_most cn))]) := by
    intro ls hl
    refine lv_istore (lv' := [(4, .int (nI (dc_most cn))), (3, .int (nI (t + dc_far un))), (2, .int cn), (1, .int un), (0, .ref (a 0))]) hx hb dX1_run_50 hl (by decide) rfl (fun ls hl => ?_)
    refine lv_iconst (v := nI 0) hx hb dX1_run_52 (by decide) ?_
    refine lv_istore (lv' := [(5, .int (nI 0)), (4, .int (nI (dc_most cn))), (3, .int (nI (t + dc_far un))), (2, .int cn), (1, .int un), (0, .ref (a 0))]) hx hb dX1_run_53 hl (by decide) rfl (fun ls hl => ?_)
    exact lp (dc_most cn + 1) 0 Q V E t dn c0 SG VL TM NX (by omega) (by omega) (by omega) rfl hR _ _ hw ls (lv_sub hl [0, 1, 2, 3, 4, 5] rfl)
  have t2 : ∀ ls : Array Slot, lv_has ls 6 [(2, .int cn), (1, .int un), (0, .ref (a 0))] → W p l e ({ frames := 4, cells := 0, slots := 0, locals := 96 } : Room) s m ([.ref (a 0), .int un, .int cn] : List Value).toArray below meth c s.heap [] 0 0 Qz (F0 m 26 ls [.int (nI (dc_far un)), .int (nI t)]) := by
    intro ls hl
    refine dc_addN hx hb dX1_run_26 ?_
    refine lv_istore_n (lv' := [(3, .int (nI (t + (dc_far un)))), (2, .int cn), (1, .int un), (0, .ref (a 0))]) hx hb dX1_run_27 rfl hl (by decide) rfl (fun ls hl => ?_)
    refine lv_iload_n hx hb dX1_run_28 rfl (lv_at hl 1 rfl) ?_
    refine lv_if_ge (tgt := 36) hx hb dX1_run_29 (by decide) (fun c_29 => ?_) (fun c_29 => ?_)
    · refine lv_iload_n hx hb dX1_run_36 rfl (lv_at hl 1 rfl) ?_
      refine lv_sipush (v := nI 200) hx hb dX1_run_37 (by decide) ?_
      refine lv_icmp_le (tgt := 49) hx hb dX1_run_40 (by decide) (fun c_40 => ?_) (fun c_40 => ?_)
      · refine lv_iload_n hx hb dX1_run_49 rfl (lv_at hl 1 rfl) ?_
        refine dc_top (y := nI (dc_most cn)) (dc_most_i (dc_nlt c_29) c_40) ?_
        exact t5 ls (lv_sub hl [0, 1, 2, 3] rfl)
      · refine lv_sipush (v := nI 200) hx hb dX1_run_43 (by decide) ?_
        refine lv_goto (tgt := 50) hx hb dX1_run_46 (by decide) ?_
        refine dc_top (y := nI (dc_most cn)) (congrArg nI (dc_most_b c_40).symm) ?_
        exact t5 ls (lv_sub hl [0, 1, 2, 3] rfl)
    · refine lv_iconst (v := nI 0) hx hb dX1_run_32 (by decide) ?_
      refine lv_goto (tgt := 50) hx hb dX1_run_33 (by decide) ?_
      refine dc_top (y := nI (dc_most cn)) (congrArg nI (dc_most_n (dc_ge0 c_29)).symm) ?_
      exact t5 ls (lv_sub hl [0, 1, 2, 3] rfl)
  refine lv_aload_n hx hb dX1_run_0 rfl (lv_at hl 0 rfl) ?_
  refine x1_get (v := .int (nI t)) S hw rfl 13 (by decide) q190 rfl dX1_run_1 ?_
  refine lv_iload_n hx hb dX1_run_4 rfl (lv_at hl 1 rfl) ?_
  refine lv_if_ge (tgt := 12) hx hb dX1_run_5 (by decide) (fun c_5 => ?_) (fun c_5 => ?_)
  · refine lv_iload_n hx hb dX1_run_12 rfl (lv_at hl 1 rfl) ?_
    refine lv_sipush (v := nI 1000) hx hb dX1_run_13 (by decide) ?_
    refine lv_icmp_le (tgt := 25) hx hb dX1_run_16 (by decide) (fun c_16 => ?_) (fun c_16 => ?_)
    · refine lv_iload_n hx hb dX1_run_25 rfl (lv_at hl 1 rfl) ?_
      refine dc_top (y := nI (dc_far un)) (dc_far_i (dc_nlt c_5) c_16) ?_
      exact t2 ls (lv_sub hl [2, 1, 0] rfl)
    · refine lv_sipush (v := nI 1000) hx hb dX1_run_19 (by decide) ?_
      refine lv_goto (tgt := 26) hx hb dX1_run_22 (by decide) ?_
      refine dc_top (y := nI (dc_far un)) (congrArg nI (dc_far_b (dc_nlt c_5) c_16).symm) ?_
      exact t2 ls (lv_sub hl [2, 1, 0] rfl)
  · refine lv_iconst (v := nI 0) hx hb dX1_run_8 (by decide) ?_
    refine lv_goto (tgt := 26) hx hb dX1_run_9 (by decide) ?_
    refine dc_top (y := nI (dc_far un)) (congrArg nI (dc_far_n (dc_ge0 c_5)).symm) ?_
    exact t2 ls (lv_sub hl [2, 1, 0] rfl)
end
section
set_option maxRecDepth 100000
set_option maxHeartbeats 4000000 in
set_option maxRecDepth 100000 in
theorem mX1_reset (l : Launch) (dg : va_G) (d : ClassId × ClassId) (a : Nat → Nat) (sz : Nat) (V : Nat → Int32) (E : Nat → Int32) (K : Nat → Int32) (Y : Nat → Int32) (P : Nat → Int32) (C : Nat → Int32) (Wt : Nat → Int32) (np : Int32) (SG : Nat → Int32) (VL : Nat → Int32) (TM : Nat → Int32) (NX : Nat → Int32) (ch : Int32) (tm : Int32) (dn : Int32)  : Met l yX1_reset (ws_ yX1_reset cX1_reset 2 none) ({ frames := 0, cells := 0, slots := 0, locals := 0 } : Room) (dc_Pre dg d [.ref (a 0)] (dc_wM d a V E K Y P C Wt np SG VL TM NX ch tm dn) sz) (va_Qv (fun (z : Unit) => True) (dc_B dg d (va_A (dc_wM d a V E K Y P C Wt np SG VL TM NX ch tm dn) sz) (fun z : Unit => dc_wM d a (fa_fill (fun _ => nI 0) V 12) (fa_fill (fun _ => nI 0) E 12) K Y P C Wt np SG VL TM NX (nI 0) (nI 0) (nI 0))) (va_A (dc_wM d a V E K Y P C Wt np SG VL TM NX ch tm dn) sz)) 0 0 (va_A (dc_wM d a V E K Y P C Wt np SG VL TM NX ch tm dn) sz) := by
  refine dc_metV (by decide) (Nat.le_of_ble_eq_true rfl) (fun p e s m below meth c A Qz ls S hw hl ret => ?_)
  have hx := S.1
  have hb := S.2.1
  have hl : lv_has ls 2 [(0, .ref (a 0))] := hl
  have lp : ∀ (n : Nat) (k : Nat), k ≤ 12 → 13 ≤ k + n → ∀ (H : Heap) (locs : List Loc), dc_Wd dg d A s (dc_wM d a (fa_fill (fun _ => nI 0) V k) (fa_fill (fun _ => nI 0) E k) K Y P C Wt np SG VL TM NX ch tm dn) H locs → ∀ ls : Array Slot, lv_has ls 2 [(1, .int (nI k)), (0, .ref (a 0))] → W p l e ({ frames := 0, cells := 0, slots := 0, locals := 0 } : Room) s m ([.ref (a 0)] : List Value).toArray below meth c H locs 0 0 Qz (F0 m 2 ls []) := by
    intro n
    induction n with
    | zero =>
      intro k hk hn H locs hw ls hl
      exact absurd hn (by omega)
    | succ n ih =>
      intro k hk hn H locs hw ls hl
      refine lv_iload_n hx hb dX1_reset_2 rfl (lv_at hl 0 rfl) ?_
      refine lv_bipush (v := nI 12) hx hb dX1_reset_3 (by decide) ?_
      refine dc_ge (tgt := 28) hx hb (by omega) (by omega) dX1_reset_5 (by decide) (fun c_5 => ?_) (fun c_5 => ?_)
      · have ek : k = 12 := by omega
        subst ek
        refine lv_aload_n hx hb dX1_reset_28 rfl (lv_at hl 1 rfl) ?_
        refine lv_iconst (v := nI 0) hx hb dX1_reset_29 (by decide) ?_
        refine x1_put (ws' := dc_wM d a (fa_fill (fun _ => nI 0) V 12) (fa_fill (fun _ => nI 0) E 12) K Y P C Wt np SG VL TM NX (nI 0) tm dn) S hw rfl 12 (by decide) q189 rfl (by decide +kernel) (Nat.le_of_ble_eq_true rfl) rfl dX1_reset_30 (fun H locs hw => ?_)
        refine lv_aload_n hx hb dX1_reset_33 rfl (lv_at hl 1 rfl) ?_
        refine lv_iconst (v := nI 0) hx hb dX1_reset_34 (by decide) ?_
        refine x1_put (ws' := dc_wM d a (fa_fill (fun _ => nI 0) V 12) (fa_fill (fun _ => nI 0) E 12) K Y P C Wt np SG VL TM NX (nI 0) (nI 0) dn) S hw rfl 13 (by decide) q190 rfl (by decide +kernel) (Nat.le_of_ble_eq_true rfl) rfl dX1_reset_35 (fun H locs hw => ?_)
        refine lv_aload_n hx hb dX1_reset_38 rfl (lv_at hl 1 rfl) ?_
        refine lv_iconst (v := nI 0) hx hb dX1_reset_39 (by decide) ?_
        refine x1_put (ws' := dc_wM d a (fa_fill (fun _ => nI 0) V 12) (fa_fill (fun _ => nI 0) E 12) K Y P C Wt np SG VL TM NX (nI 0) (nI 0) (nI 0)) S hw rfl 14 (by decide) q191 rfl (by decide +kernel) (Nat.le_of_ble_eq_true rfl) rfl dX1_reset_40 (fun H locs hw => ?_)
        exact ret 43 _ _ _ () dX1_reset_43 trivial hw
      · refine lv_aload_n hx hb dX1_reset_8 rfl (lv_at hl 1 rfl) ?_
        refine x1_get (v := .ref (a 1)) S hw rfl 0 (by decide) q177 rfl dX1_reset_9 ?_
        refine lv_iload_n hx hb dX1_reset_12 rfl (lv_at hl 0 rfl) ?_
        refine lv_iconst (v := nI 0) hx hb dX1_reset_13 (by decide) ?_
        refine dc_ist (ws' := dc_wM d a (upd (fa_fill (fun _ => nI 0) V k) k (nI 0)) (fa_fill (fun _ => nI 0) E k) K Y P C Wt np SG VL TM NX ch tm dn) S hw 1 rfl (i := k) (by omega) (by decide) rfl dX1_reset_14 (fun H locs hw => ?_)
        refine lv_aload_n hx hb dX1_reset_15 rfl (lv_at hl 1 rfl) ?_
        refine x1_get (v := .ref (a 2)) S hw rfl 1 (by decide) q178 rfl dX1_reset_16 ?_
        refine lv_iload_n hx hb dX1_reset_19 rfl (lv_at hl 0 rfl) ?_
        refine lv_iconst (v := nI 0) hx hb dX1_reset_20 (by decide) ?_
        refine dc_ist (ws' := dc_wM d a (upd (fa_fill (fun _ => nI 0) V k) k (nI 0)) (upd (fa_fill (fun _ => nI 0) E k) k (nI 0)) K Y P C Wt np SG VL TM NX ch tm dn) S hw 2 rfl (i := k) (by omega) (by decide) rfl dX1_reset_21 (fun H locs hw => ?_)
        refine lv_iinc (v := nI (k + 1)) (lv' := [(1, .int (nI (k + 1))), (0, .ref (a 0))]) hx hb dX1_reset_22 hl (k := 0) rfl (dc_inc _) (by decide) rfl (fun ls hl => ?_)
        refine lv_goto (tgt := 2) hx hb dX1_reset_25 (by decide) ?_
        rw [dc_fill0, dc_fill0] at hw
        exact ih (k + 1) (by omega) (by omega) H locs hw ls (lv_sub hl [0, 1] rfl)
  refine lv_iconst (v := nI 0) hx hb dX1_reset_0 (by decide) ?_
  refine lv_istore_n (lv' := [(1, .int (nI 0)), (0, .ref (a 0))]) hx hb dX1_reset_1 rfl hl (by decide) rfl (fun ls hl => ?_)
  exact lp 13 0 (by omega) (by omega) _ _ (by rw [fa_fill_0, fa_fill_0]; exact hw) ls (lv_sub hl [0, 1] rfl)
set_option maxHeartbeats 4000000 in
set_option maxRecDepth 100000 in
theorem mX1_value (l : Launch) (dg : va_G) (d : ClassId × ClassId) (a : Nat → Nat) (sz : Nat) (V : Nat → Int32) (E : Nat → Int32) (K : Nat → Int32) (Y : Nat → Int32) (P : Nat → Int32) (C : Nat → Int32) (Wt : Nat → Int32) (np : Int32) (SG : Nat → Int32) (VL : Nat → Int32) (TM : Nat → Int32) (NX : Nat → Int32) (ch : Int32) (tm : Int32) (dn : Int32) (sg : Int32) : Met l yX1_value (ws_ yX1_value cX1_value 2 (some .int)) ({ frames := 1, cells := 0, slots := 0, locals := 21 } : Room) (dc_Pre dg d [.ref (a 0), .int sg] (dc_wM d a V E K Y P C Wt np SG VL TM NX ch tm dn) sz) (vp_Si (fun r : Int32 => r = dc_vaR V sg)) 0 0 (fun _ => False) := by
  refine dc_metR (by decide) (Nat.le_of_ble_eq_true rfl) (fun p e s m below meth c A Qz ls S hw hl ret => ?_)
  have hx := S.1
  have hb := S.2.1
  have hl : lv_has ls 2 [(0, .ref (a 0)), (1, .int sg)] := hl
  refine lv_aload_n hx hb dX1_value_0 rfl (lv_at hl 0 rfl) ?_
  refine lv_iload_n hx hb dX1_value_1 rfl (lv_at hl 1 rfl) ?_
  refine dc_callR (As := [.int sg]) (rest := []) S hw (mX1_isSignal l dg d a _ V E K Y P C Wt np SG VL TM NX ch tm dn sg) (cwV 1 S.2.2.2.2 (lw_V q233 q235 qs10 q18 q236) rfl rfl rfl (by decide +kernel) ⟨Nat.le_of_ble_eq_true rfl, Nat.le_of_ble_eq_true rfl⟩) (ci := 1) rfl rfl rfl rfl hl.1 rfl (Nat.le_of_ble_eq_true rfl) dX1_value_2 ⟨Nat.zero_le _, Nat.zero_le _⟩ (fun r hr => ?_)
  rcases hr with ⟨hr, hbd⟩ | ⟨hr, hbd⟩ <;> subst hr
  · refine dc_if0 (tgt := 17) hx hb (by omega) dX1_value_5 (by decide) (fun c_5 => ?_) (fun c_5 => ?_)
    · exact absurd c_5 (by decide)
    · obtain ⟨si, hs, e1⟩ := dc_bad_no hbd
      subst e1
      refine lv_aload_n hx hb dX1_value_8 rfl (lv_at hl 0 rfl) ?_
      refine x1_get (v := .ref (a 1)) S hw rfl 0 (by decide) q177 rfl dX1_value_9 ?_
      refine lv_iload_n hx hb dX1_value_12 rfl (lv_at hl 1 rfl) ?_
      refine dc_ild S hw 1 rfl (i := si) (by omega) (by decide) dX1_value_13 ?_
      refine lv_goto (tgt := 18) hx hb dX1_value_14 (by decide) ?_
      exact ret 18 _ _ dX1_value_18 rfl (by unfold dc_vaR; rw [if_pos hbd, nI_clamp (by omega)])
  · refine dc_if0 (tgt := 17) hx hb (by omega) dX1_value_5 (by decide) (fun c_5 => ?_) (fun c_5 => ?_)
    · refine lv_iconst (v := nI 0) hx hb dX1_value_17 (by decide) ?_
      exact ret 18 _ _ dX1_value_18 rfl (by unfold dc_vaR; rw [if_neg hbd]; rfl)
    · exact absurd rfl c_5
set_option maxHeartbeats 4000000 in
set_option maxRecDepth 100000 in
theorem mX1_events (l : Launch) (dg : va_G) (d : ClassId × ClassId) (a : Nat → Nat) (sz : Nat) (V : Nat → Int32) (E : Nat → Int32) (K : Nat → Int32) (Y : Nat → Int32) (P : Nat → Int32) (C : Nat → Int32) (Wt : Nat → Int32) (np : Int32) (SG : Nat → Int32) (VL : Nat → Int32) (TM : Nat → Int32) (NX : Nat → Int32) (ch : Int32) (tm : Int32) (dn : Int32) (sg : Int32) : Met l yX1_events (ws_ yX1_events cX1_events 2 (some .int)) ({ frames := 1, cells := 0, slots := 0, locals := 21 } : Room) (dc_Pre dg d [.ref (a 0), .int sg] (dc_wM d a V E K Y P C Wt np SG VL TM NX ch tm dn) sz) (vp_Si (fun r : Int32 => r = dc_vaR E sg)) 0 0 (fun _ => False) := by
  refine dc_metR (by decide) (Nat.le_of_ble_eq_true rfl) (fun p e s m below meth c A Qz ls S hw hl ret => ?_)
  have hx := S.1
  have hb := S.2.1
  have hl : lv_has ls 2 [(0, .ref (a 0)), (1, .int sg)] := hl
  refine lv_aload_n hx hb dX1_events_0 rfl (lv_at hl 0 rfl) ?_
  refine lv_iload_n hx hb dX1_events_1 rfl (lv_at hl 1 rfl) ?_
  refine dc_callR (As := [.int sg]) (rest := []) S hw (mX1_isSignal l dg d a _ V E K Y P C Wt np SG VL TM NX ch tm dn sg) (cwV 1 S.2.2.2.2 (lw_V q233 q235 qs10 q18 q236) rfl rfl rfl (by decide +kernel) ⟨Nat.le_of_ble_eq_true rfl, Nat.le_of_ble_eq_true rfl⟩) (ci := 1) rfl rfl rfl rfl hl.1 rfl (Nat.le_of_ble_eq_true rfl) dX1_events_2 ⟨Nat.zero_le _, Nat.zero_le _⟩ (fun r hr => ?_)
  rcases hr with ⟨hr, hbd⟩ | ⟨hr, hbd⟩ <;> subst hr
  · refine dc_if0 (tgt := 17) hx hb (by omega) dX1_events_5 (by decide) (fun c_5 => ?_) (fun c_5 => ?_)
    · exact absurd c_5 (by decide)
    · obtain ⟨si, hs, e1⟩ := dc_bad_no hbd
      subst e1
      refine lv_aload_n hx hb dX1_events_8 rfl (lv_at hl 0 rfl) ?_
      refine x1_get (v := .ref (a 2)) S hw rfl 1 (by decide) q178 rfl dX1_events_9 ?_
      refine lv_iload_n hx hb dX1_events_12 rfl (lv_at hl 1 rfl) ?_
      refine dc_ild S hw 2 rfl (i := si) (by omega) (by decide) dX1_events_13 ?_
      refine lv_goto (tgt := 18) hx hb dX1_events_14 (by decide) ?_
      exact ret 18 _ _ dX1_events_18 rfl (by unfold dc_vaR; rw [if_pos hbd, nI_clamp (by omega)])
  · refine dc_if0 (tgt := 17) hx hb (by omega) dX1_events_5 (by decide) (fun c_5 => ?_) (fun c_5 => ?_)
    · refine lv_iconst (v := nI 0) hx hb dX1_events_17 (by decide) ?_
      exact ret 18 _ _ dX1_events_18 rfl (by unfold dc_vaR; rw [if_neg hbd]; rfl)
    · exact absurd rfl c_5
set_option maxHeartbeats 4000000 in
set_option maxRecDepth 100000 in
theorem mX1_time (l : Launch) (dg : va_G) (d : ClassId × ClassId) (a : Nat → Nat) (sz : Nat) (V : Nat → Int32) (E : Nat → Int32) (K : Nat → Int32) (Y : Nat → Int32) (P : Nat → Int32) (C : Nat → Int32) (Wt : Nat → Int32) (np : Int32) (SG : Nat → Int32) (VL : Nat → Int32) (TM : Nat → Int32) (NX : Nat → Int32) (ch : Int32) (tm : Int32) (dn : Int32)  : Met l yX1_time (ws_ yX1_time cX1_time 1 (some .int)) ({ frames := 0, cells := 0, slots := 0, locals := 0 } : Room) (dc_Pre dg d [.ref (a 0)] (dc_wM d a V E K Y P C Wt np SG VL TM NX ch tm dn) sz) (vp_Si (fun r : Int32 => r = tm)) 0 0 (fun _ => False) := by
  refine dc_metR (by decide) (Nat.le_of_ble_eq_true rfl) (fun p e s m below meth c A Qz ls S hw hl ret => ?_)
  have hx := S.1
  have hb := S.2.1
  have hl : lv_has ls 1 [(0, .ref (a 0))] := hl
  refine lv_aload_n hx hb dX1_time_0 rfl (lv_at hl 0 rfl) ?_
  refine x1_get (v := .int tm) S hw rfl 13 (by decide) q190 rfl dX1_time_1 ?_
  exact ret 4 _ _ dX1_time_4 rfl rfl
set_option maxHeartbeats 4000000 in
set_option maxRecDepth 100000 in
theorem mX1_pending (l : Launch) (dg : va_G) (d : ClassId × ClassId) (a : Nat → Nat) (sz : Nat) (V : Nat → Int32) (E : Nat → Int32) (K : Nat → Int32) (Y : Nat → Int32) (P : Nat → Int32) (C : Nat → Int32) (Wt : Nat → Int32) (np : Int32) (SG : Nat → Int32) (VL : Nat → Int32) (TM : Nat → Int32) (NX : Nat → Int32) (ch : Int32) (tm : Int32) (dn : Int32)  : Met l yX1_pending (ws_ yX1_pending cX1_pending 1 (some .int)) ({ frames := 0, cells := 0, slots := 0, locals := 0 } : Room) (dc_Pre dg d [.ref (a 0)] (dc_wM d a V E K Y P C Wt np SG VL TM NX ch tm dn) sz) (vp_Si (fun r : Int32 => r = ch)) 0 0 (fun _ => False) := by
  refine dc_metR (by decide) (Nat.le_of_ble_eq_true rfl) (fun p e s m below meth c A Qz ls S hw hl ret => ?_)
  have hx := S.1
  have hb := S.2.1
  have hl : lv_has ls 1 [(0, .ref (a 0))] := hl
  refine lv_aload_n hx hb dX1_pending_0 rfl (lv_at hl 0 rfl) ?_
  refine x1_get (v := .int ch) S hw rfl 12 (by decide) q189 rfl dX1_pending_1 ?_
  exact ret 4 _ _ dX1_pending_4 rfl rfl
set_option maxHeartbeats 4000000 in
set_option maxRecDepth 100000 in
theorem mX1_cycles (l : Launch) (dg : va_G) (d : ClassId × ClassId) (a : Nat → Nat) (sz : Nat) (V : Nat → Int32) (E : Nat → Int32) (K : Nat → Int32) (Y : Nat → Int32) (P : Nat → Int32) (C : Nat → Int32) (Wt : Nat → Int32) (np : Int32) (SG : Nat → Int32) (VL : Nat → Int32) (TM : Nat → Int32) (NX : Nat → Int32) (ch : Int32) (tm : Int32) (dn : Int32)  : Met l yX1_cycles (ws_ yX1_cycles cX1_cycles 1 (some .int)) ({ frames := 0, cells := 0, slots := 0, locals := 0 } : Room) (dc_Pre dg d [.ref (a 0)] (dc_wM d a V E K Y P C Wt np SG VL TM NX ch tm dn) sz) (vp_Si (fun r : Int32 => r = dn)) 0 0 (fun _ => False) := by
  refine dc_metR (by decide) (Nat.le_of_ble_eq_true rfl) (fun p e s m below meth c A Qz ls S hw hl ret => ?_)
  have hx := S.1
  have hb := S.2.1
  have hl : lv_has ls 1 [(0, .ref (a 0))] := hl
  refine lv_aload_n hx hb dX1_cycles_0 rfl (lv_at hl 0 rfl) ?_
  refine x1_get (v := .int dn) S hw rfl 14 (by decide) q191 rfl dX1_cycles_1 ?_
  exact ret 4 _ _ dX1_cycles_4 rfl rfl
set_option maxHeartbeats 4000000 in
set_option maxRecDepth 100000 in
theorem mX1_coming (l : Launch) (dg : va_G) (d : ClassId × ClassId) (a : Nat → Nat) (sz : Nat) (V : Nat → Int32) (E : Nat → Int32) (K : Nat → Int32) (Y : Nat → Int32) (P : Nat → Int32) (C : Nat → Int32) (Wt : Nat → Int32) (np : Int32) (SG : Nat → Int32) (VL : Nat → Int32) (TM : Nat → Int32) (NX : Nat → Int32) (c0 : Nat) (t : Nat) (dn : Int32) (Q : dc_Q) (sg : Int32) (ht : t < 2 ^ 30) (hR : dc_RM t Q c0 SG VL TM NX) : Met l yX1_coming (ws_ yX1_coming cX1_coming 4 (some .int)) ({ frames := 0, cells := 0, slots := 0, locals := 0 } : Room) (dc_Pre dg d [.ref (a 0), .int sg] (dc_wM d a V E K Y P C Wt np SG VL TM NX (nI c0) (nI t) dn) sz) (vp_Si (fun r : Int32 => dc_comR Q sg r)) 0 0 (fun _ => False) := by
  refine dc_metR (by decide) (Nat.le_of_ble_eq_true rfl) (fun p e s m below meth c A Qz ls S hw hl ret => ?_)
  have hx := S.1
  have hb := S.2.1
  have hl : lv_has ls 4 [(0, .ref (a 0)), (1, .int sg)] := hl
  obtain ⟨L, hlen, hH, hL, hok⟩ := hR
  have hle := lq_le hL hok
  rw [hlen] at hle
  have lp : ∀ (n : Nat) (i : Nat) (fi : Int32), i ≤ c0 → c0 + 1 ≤ i + n → ((fi = -1 ∧ ∀ (j : Nat) (e9 : dc_E), j < i → L[j]? = some e9 → nI e9.2.1 ≠ sg) ∨ ∃ (f T s : Nat) (v : Int32), fi = nI f ∧ f < i ∧ L[f]? = some (T, s, v) ∧ nI s = sg ∧ ∀ (j : Nat) (e9 : dc_E), j < i → L[j]? = some e9 → e9.2.1 = s → T ≤ e9.1) → ∀ ls : Array Slot, lv_has ls 4 [(3, .int (nI i)), (2, .int fi), (1, .int sg), (0, .ref (a 0))] → W p l e ({ frames := 0, cells := 0, slots := 0, locals := 0 } : Room) s m ([.ref (a 0), .int sg] : List Value).toArray below meth c s.heap [] 0 0 Qz (F0 m 4 ls []) := by
    intro n
    induction n with
    | zero =>
      intro i fi hi hn hfi ls hl
      exact absurd hn (by omega)
    | succ n ih =>
      intro i fi hi hn hfi ls hl
      refine lv_iload_n hx hb dX1_coming_4 rfl (lv_at hl 0 rfl) ?_
      refine lv_aload_n hx hb dX1_coming_5 rfl (lv_at hl 3 rfl) ?_
      refine x1_get (v := .int (nI c0)) S hw rfl 12 (by decide) q189 rfl dX1_coming_6 ?_
      refine dc_ge (tgt := 49) hx hb (by omega) (by omega) dX1_coming_9 (by decide) (fun c_9 => ?_) (fun c_9 => ?_)
      · have ei : i = c0 := by omega
        rcases hfi with ⟨efi, hno⟩ | ⟨f, T, s9, v9, efi, hf, hgf, esg, hmin⟩
        · subst efi
          refine lv_iload_n hx hb dX1_coming_49 rfl (lv_at hl 1 rfl) ?_
          refine lv_if_ge (tgt := 57) hx hb dX1_coming_50 (by decide) (fun c_50 => ?_) (fun c_50 => ?_)
          · exact absurd c_50 (by decide)
          · refine lv_iconst (v := nI 0) hx hb dX1_coming_53 (by decide) ?_
            refine lv_goto (tgt := 63) hx hb dX1_coming_54 (by decide) ?_
            exact ret 63 _ _ dX1_coming_63 rfl (Or.inr ⟨fun si hs esi T => Classical.byContradiction fun hq => by
              obtain ⟨v8, hv8⟩ := Option.ne_none_iff_exists'.mp hq
              obtain ⟨j, hj, hj2⟩ := lq_find hL hv8
              exact hno j _ (by omega) hj2 esi.symm, rfl⟩)
        · subst efi
          refine lv_iload_n hx hb dX1_coming_49 rfl (lv_at hl 1 rfl) ?_
          refine lv_if_ge (tgt := 57) hx hb dX1_coming_50 (by decide) (fun c_50 => ?_) (fun c_50 => ?_)
          · obtain ⟨hqf, -, -, hsf⟩ := lq_at hL hok hgf
            have hvf : VL f = v9 := (hH f _ hgf).2.1
            refine lv_aload_n hx hb dX1_coming_57 rfl (lv_at hl 3 rfl) ?_
            refine x1_get (v := .ref (a 9)) S hw rfl 9 (by decide) q186 rfl dX1_coming_58 ?_
            refine lv_iload_n hx hb dX1_coming_61 rfl (lv_at hl 1 rfl) ?_
            refine dc_ild S hw 9 rfl (i := f) (by omega) (by decide) dX1_coming_62 ?_
            exact ret 63 _ _ dX1_coming_63 rfl (Or.inl ⟨s9, T, v9, hsf, esg.symm, hqf, fun T' hq => by
              obtain ⟨v8, hv8⟩ := Option.ne_none_iff_exists'.mp hq
              obtain ⟨j, hj, hj2⟩ := lq_find hL hv8
              exact hmin j _ (by omega) hj2 rfl, hvf⟩)
          · exact absurd (nI_pos' (by omega)) c_50
      · obtain ⟨T1, s1, v1, hget⟩ := lq_get (L := L) (i := i) (by omega)
        obtain ⟨hq1, hT1, hT2, hs1⟩ := lq_at hL hok hget
        have hat := hH i _ hget
        have hq1 : Q T1 s1 = some v1 := hq1
        have hT1 : t ≤ T1 := hT1
        have hT2 : T1 < t + 10 := hT2
        have hs1 : s1 < 12 := hs1
        have aS : SG i = nI s1 := hat.1
        have aT : TM i = nI T1 := hat.2.2.1
        refine lv_aload_n hx hb dX1_coming_12 rfl (lv_at hl 3 rfl) ?_
        refine x1_get (v := .ref (a 8)) S hw rfl 8 (by decide) q185 rfl dX1_coming_13 ?_
        refine lv_iload_n hx hb dX1_coming_16 rfl (lv_at hl 0 rfl) ?_
        refine dc_ild S hw 8 rfl (i := i) (by omega) (by decide) dX1_coming_17 ?_
        refine dc_top (y := nI s1) aS ?_
        refine lv_iload_n hx hb dX1_coming_18 rfl (lv_at hl 2 rfl) ?_
        refine lv_icmp_ne (tgt := 43) hx hb dX1_coming_19 (by decide) (fun c_19 => ?_) (fun c_19 => ?_)
        · refine lv_iinc (v := nI (i + 1)) (lv' := [(3, .int (nI (i + 1))), (2, .int fi), (1, .int sg), (0, .ref (a 0))]) hx hb dX1_coming_43 hl (k := 0) rfl (dc_inc _) (by decide) rfl (fun ls hl => ?_)
          refine lv_goto (tgt := 4) hx hb dX1_coming_46 (by decide) ?_
          exact ih (i + 1) fi (by omega) (by omega) (hfi.imp (fun q => ⟨q.1, fun j e9 hj he9 => (Nat.lt_or_ge j i).elim (fun z => q.2 j e9 z he9) (fun z => by rw [show j = i by omega, hget] at he9; cases he9; exact c_19)⟩) (fun q => by
            obtain ⟨f, T, s9, v9, efi, hf, hgf, esg, hmin⟩ := q
            exact ⟨f, T, s9, v9, efi, by omega, hgf, esg, fun j e9 hj he9 es9 => (Nat.lt_or_ge j i).elim (fun z => hmin j e9 z he9 es9) (fun z => by rw [show j = i by omega, hget] at he9; cases he9; exact absurd (by rw [← esg]; exact congrArg nI es9) c_19)⟩)) ls (lv_sub hl [0, 1, 2, 3] rfl)
        · rcases hfi with ⟨efi, hno⟩ | ⟨f, T, s9, v9, efi, hf, hgf, esg, hmin⟩
          · subst efi
            refine lv_iload_n hx hb dX1_coming_22 rfl (lv_at hl 1 rfl) ?_
            refine lv_if_lt (tgt := 41) hx hb dX1_coming_23 (by decide) (fun c_23 => ?_) (fun c_23 => ?_)
            · refine lv_iload_n hx hb dX1_coming_41 rfl (lv_at hl 0 rfl) ?_
              refine lv_istore_n (lv' := [(2, .int (nI i)), (3, .int (nI i)), (1, .int sg), (0, .ref (a 0))]) hx hb dX1_coming_42 rfl hl (by decide) rfl (fun ls hl => ?_)
              refine lv_iinc (v := nI (i + 1)) (lv' := [(3, .int (nI (i + 1))), (2, .int (nI i)), (1, .int sg), (0, .ref (a 0))]) hx hb dX1_coming_43 hl (k := 1) rfl (dc_inc _) (by decide) rfl (fun ls hl => ?_)
              refine lv_goto (tgt := 4) hx hb dX1_coming_46 (by decide) ?_
              exact ih (i + 1) (nI i) (by omega) (by omega) (Or.inr ⟨i, T1, s1, v1, rfl, by omega, hget, c_19, fun j e9 hj he9 es9 => (Nat.lt_or_ge j i).elim (fun z => absurd (by rw [es9]; exact c_19) (hno j e9 z he9)) (fun z => by rw [show j = i by omega, hget] at he9; cases he9; exact Nat.le_refl _)⟩) ls (lv_sub hl [0, 1, 2, 3] rfl)
            · exact absurd (by decide) c_23
          · subst efi
            refine lv_iload_n hx hb dX1_coming_22 rfl (lv_at hl 1 rfl) ?_
            refine lv_if_lt (tgt := 41) hx hb dX1_coming_23 (by decide) (fun c_23 => ?_) (fun c_23 => ?_)
            · exact absurd c_23 (nI_pos (by omega))
            · obtain ⟨hqf, hTf1, hTf2, hsf⟩ := lq_at hL hok hgf
              have hTf2 : T < t + 10 := hTf2
              have hsf : s9 < 12 := hsf
              have aTf : TM f = nI T := (hH f _ hgf).2.2.1
              have ess : s1 = s9 := (nI_eq (by omega) (by omega)).mp (c_19.trans esg.symm)
              refine lv_aload_n hx hb dX1_coming_26 rfl (lv_at hl 3 rfl) ?_
              refine x1_get (v := .ref (a 10)) S hw rfl 10 (by decide) q187 rfl dX1_coming_27 ?_
              refine lv_iload_n hx hb dX1_coming_30 rfl (lv_at hl 0 rfl) ?_
              refine dc_ild S hw 10 rfl (i := i) (by omega) (by decide) dX1_coming_31 ?_
              refine dc_top (y := nI T1) aT ?_
              refine lv_aload_n hx hb dX1_coming_32 rfl (lv_at hl 3 rfl) ?_
              refine x1_get (v := .ref (a 10)) S hw rfl 10 (by decide) q187 rfl dX1_coming_33 ?_
              refine lv_iload_n hx hb dX1_coming_36 rfl (lv_at hl 1 rfl) ?_
              refine dc_ild S hw 10 rfl (i := f) (by omega) (by decide) dX1_coming_37 ?_
              refine dc_top (y := nI T) aTf ?_
              refine dc_ge (tgt := 43) hx hb (by omega) (by omega) dX1_coming_38 (by decide) (fun c_38 => ?_) (fun c_38 => ?_)
              · refine lv_iinc (v := nI (i + 1)) (lv' := [(3, .int (nI (i + 1))), (2, .int (nI f)), (1, .int sg), (0, .ref (a 0))]) hx hb dX1_coming_43 hl (k := 0) rfl (dc_inc _) (by decide) rfl (fun ls hl => ?_)
                refine lv_goto (tgt := 4) hx hb dX1_coming_46 (by decide) ?_
                exact ih (i + 1) (nI f) (by omega) (by omega) (Or.inr ⟨f, T, s9, v9, rfl, by omega, hgf, esg, fun j e9 hj he9 es9 => (Nat.lt_or_ge j i).elim (fun z => hmin j e9 z he9 es9) (fun z => by rw [show j = i by omega, hget] at he9; cases he9; exact c_38)⟩) ls (lv_sub hl [0, 1, 2, 3] rfl)
              · refine lv_iload_n hx hb dX1_coming_41 rfl (lv_at hl 0 rfl) ?_
                refine lv_istore_n (lv' := [(2, .int (nI i)), (3, .int (nI i)), (1, .int sg), (0, .ref (a 0))]) hx hb dX1_coming_42 rfl hl (by decide) rfl (fun ls hl => ?_)
                refine lv_iinc (v := nI (i + 1)) (lv' := [(3, .int (nI (i + 1))), (2, .int (nI i)), (1, .int sg), (0, .ref (a 0))]) hx hb dX1_coming_43 hl (k := 1) rfl (dc_inc _) (by decide) rfl (fun ls hl => ?_)
                refine lv_goto (tgt := 4) hx hb dX1_coming_46 (by decide) ?_
                exact ih (i + 1) (nI i) (by omega) (by omega) (Or.inr ⟨i, T1, s1, v1, rfl, by omega, hget, c_19, fun j e9 hj he9 es9 => (Nat.lt_or_ge j i).elim (fun z => Nat.le_trans (Nat.le_of_lt c_38) (hmin j e9 z he9 (es9.trans ess))) (fun z => by rw [show j = i by omega, hget] at he9; cases he9; exact Nat.le_refl _)⟩) ls (lv_sub hl [0, 1, 2, 3] rfl)
  refine lv_iconst (v := (-1)) hx hb dX1_coming_0 (by decide) ?_
  refine lv_istore_n (lv' := [(2, .int (-1)), (0, .ref (a 0)), (1, .int sg)]) hx hb dX1_coming_1 rfl hl (by decide) rfl (fun ls hl => ?_)
  refine lv_iconst (v := nI 0) hx hb dX1_coming_2 (by decide) ?_
  refine lv_istore_n (lv' := [(3, .int (nI 0)), (2, .int (-1)), (0, .ref (a 0)), (1, .int sg)]) hx hb dX1_coming_3 rfl hl (by decide) rfl (fun ls hl => ?_)
  exact lp (c0 + 1) 0 (-1) (by omega) (by omega) (Or.inl ⟨rfl, fun j e9 hj => absurd hj (by omega)⟩) ls (lv_sub hl [0, 1, 3, 2] rfl)
end
section
set_option maxRecDepth 100000
section INITROWS
variable {p : Program} {l : Launch} {e : Env} {R : Room} {s : State} {m : MethodId} {args : Array Value} {below : List Frame} {meth : Method} {c : Code} {H : Heap} {locs : List Loc} {cells slots : Nat} {Q : State → Prop}
variable {cc : ByteArray} {pc nL : Nat} {ls : Array Slot} {rest : List Value} {own : String} {D : va_G} {d : ClassId × ClassId} {A : Nat → Prop} {ws : va_W}
theorem dc_newi (S : CallFix p m c cc nL s args lw_all own) (hw : dc_Wd D d A s ws H locs) {n : Int32} {N : Nat} (hn : ¬ n < 0) (hN : n.toNatClampNeg = N) (hb : N * componentBytes .int ≤ 536870912) (hcells : cells + 1 ≤ R.cells) (hslots : slots + N ≤ R.slots) (hdg : decode cc pc = .ok (.newarray .int, 2))
    (kk : ∀ (q : Nat) (H1 : Heap), dc_Wd D d A s (ws ++ [(q, .inl (d.1, N, .inl (fun _ => nI 0)))]) H1 locs → W p l e R s m args below meth c H1 locs (cells + 1) (slots + N) Q (F0 m (pc + 2) ls (.ref q :: rest))) : W p l e R s m args below meth c H locs cells slots Q (F0 m pc ls (.int n :: rest)) := by
  refine va_newa (D := D) (cl := vwCl) (tys := dc_ty d) (atype := .int) (ty := .int) (a0 := (N, .inl (fun _ => nI 0))) S.1 S.2.1 (S.2.2.2.2 _ q70) rfl hw.1 hw.2.1 hw.2.2.1 hw.2.2.2.1 hw.2.2.2.2 (fun _ => rfl) hn hN hb hcells hslots hdg (fun q cA H1 hK hP hD hS => ?_)
  have e1 : s.vm.findClass ("[" ++ FieldType.int.toString) = some cA := (hK.2 2 (cA, .int) rfl).2
  have e2 : s.vm.findClass ("[" ++ FieldType.int.toString) = some d.1 := (hw.1.2 0 (d.1, .int) rfl).2
  have e3 : cA = d.1 := Option.some.inj (e1.symm.trans e2)
  subst e3
  exact kk q H1 ⟨hw.1, hP, hD, hS, hw.2.2.2.2⟩
theorem dc_newz (S : CallFix p m c cc nL s args lw_all own) (hw : dc_Wd D d A s ws H locs) {n : Int32} {N : Nat} (hn : ¬ n < 0) (hN : n.toNatClampNeg = N) (hb : N * componentBytes .boolean ≤ 536870912) (hcells : cells + 1 ≤ R.cells) (hslots : slots + N ≤ R.slots) (hdg : decode cc pc = .ok (.newarray .boolean, 2))
    (kk : ∀ (q : Nat) (H1 : Heap), dc_Wd D d A s (ws ++ [(q, .inl (d.2, N, .inl (fun _ => nI 0)))]) H1 locs → W p l e R s m args below meth c H1 locs (cells + 1) (slots + N) Q (F0 m (pc + 2) ls (.ref q :: rest))) : W p l e R s m args below meth c H locs cells slots Q (F0 m pc ls (.int n :: rest)) := by
  refine va_newa (D := D) (cl := vwCl) (tys := dc_ty d) (atype := .boolean) (ty := .boolean) (a0 := (N, .inl (fun _ => nI 0))) S.1 S.2.1 (S.2.2.2.2 _ q223) rfl hw.1 hw.2.1 hw.2.2.1 hw.2.2.2.1 hw.2.2.2.2 (fun _ => rfl) hn hN hb hcells hslots hdg (fun q cA H1 hK hP hD hS => ?_)
  have e1 : s.vm.findClass ("[" ++ FieldType.boolean.toString) = some cA := (hK.2 2 (cA, .boolean) rfl).2
  have e2 : s.vm.findClass ("[" ++ FieldType.boolean.toString) = some d.2 := (hw.1.2 1 (d.2, .boolean) rfl).2
  have e3 : cA = d.2 := Option.some.inj (e1.symm.trans e2)
  subst e3
  exact kk q H1 ⟨hw.1, hP, hD, hS, hw.2.2.2.2⟩
theorem x0_putF (S : CallFix p m c cc nL s args lw_all RX0) (hw : dc_Wd D d A s ws H locs) (hin : meth.name = "<init>") {a : Nat} {fs : List Value} (he : ws[0]? = some (a, .inr (0, fs))) (k : Nat) (hk : k < 14) {idx : Nat} (hq : Cond.fieldLink RX0 idx (TX0 k).1 (TX0 k).2.1 (TX0 k).2.2.1 ∈ lw_all) (hfin : (TX0 k).2.2.2 = true) (hdc : (TX0 k).1 = RX0) (ty : FieldType) (hd : parseFieldDescriptor (TX0 k).2.2.1 = some ty) {q : Nat} (hna : narrow ty (.ref q) = .ref q) (hfit : fits ty (.ref q) = true) (hl : k < fs.length) {ws' : va_W} (hws : ws.set 0 (a, .inr (0, fs.set k (.ref q))) = ws') (hdg : decode cc pc = .ok (.putfield idx, 3))
    (kk : ∀ (H1 : Heap) (locs1 : List Loc), dc_Wd D d A s ws' H1 locs1 → W p l e R s m args below meth c H1 locs1 cells slots Q (F0 m (pc + 3) ls rest)) : W p l e R s m args below meth c H locs cells slots Q (F0 m pc ls (.ref q :: .ref a :: rest)) := by
  subst hws
  exact va_putF (D := D) (ci := 0) (C := RX0) (T := TX0) (N := 14) S.1 S.2.1 S.2.2.2.2 in_X0 tyX0 tyX0_ok nmX0 S.2.2.2.1 hw.1 hw.2.1 hw.2.2.1 hw.2.2.2.1 0 he rfl k hk (S.2.2.2.2 _ hq) (fun _ h => h) hfin hin hdc hd hna hfit hl hdg (fun H1 locs1 h1 h2 h3 => kk H1 locs1 ⟨hw.1, h1, h2, h3, hw.2.2.2.2⟩)
theorem x1_putF (S : CallFix p m c cc nL s args lw_all RX1) (hw : dc_Wd D d A s ws H locs) (hin : meth.name = "<init>") {a : Nat} {fs : List Value} (he : ws[0]? = some (a, .inr (1, fs))) (k : Nat) (hk : k < 15) {idx : Nat} (hq : Cond.fieldLink RX1 idx (TX1 k).1 (TX1 k).2.1 (TX1 k).2.2.1 ∈ lw_all) (hfin : (TX1 k).2.2.2 = true) (hdc : (TX1 k).1 = RX1) (ty : FieldType) (hd : parseFieldDescriptor (TX1 k).2.2.1 = some ty) {q : Nat} (hna : narrow ty (.ref q) = .ref q) (hfit : fits ty (.ref q) = true) (hl : k < fs.length) {ws' : va_W} (hws : ws.set 0 (a, .inr (1, fs.set k (.ref q))) = ws') (hdg : decode cc pc = .ok (.putfield idx, 3))
    (kk : ∀ (H1 : Heap) (locs1 : List Loc), dc_Wd D d A s ws' H1 locs1 → W p l e R s m args below meth c H1 locs1 cells slots Q (F0 m (pc + 3) ls rest)) : W p l e R s m args below meth c H locs cells slots Q (F0 m pc ls (.ref q :: .ref a :: rest)) := by
  subst hws
  exact va_putF (D := D) (ci := 1) (C := RX1) (T := TX1) (N := 15) S.1 S.2.1 S.2.2.2.2 in_X1 tyX1 tyX1_ok nmX1 S.2.2.2.1 hw.1 hw.2.1 hw.2.2.1 hw.2.2.2.1 0 he rfl k hk (S.2.2.2.2 _ hq) (fun _ h => h) hfin hin hdc hd hna hfit hl hdg (fun H1 locs1 h1 h2 h3 => kk H1 locs1 ⟨hw.1, h1, h2, h3, hw.2.2.2.2⟩)
end INITROWS
section METC
variable {l : Launch} {y : MethodName} {cc : ByteArray} {maxL mc ms : Nat} {rm : Room} {D : va_G} {d : ClassId × ClassId} {av : List Value} {ws : va_W} {sz : Nat}
/-- a constructor: it makes cells -/
theorem dc_metC {S : Type} {post : S → Prop} {wf : S → va_W} (hpl : plainName y.cls = true) (hlen : (lg_sl av).length ≤ maxL) (hnm : y.name = "<init>")
    (body : ∀ (p : Program) (e : Env) (s : State) (m : MethodId) (below : List Frame) (meth : Method) (c : Code) (A : Nat → Prop) (Q : State → Prop) (ls : Array Slot), meth.name = "<init>" → CallFix p m c cc maxL s av.toArray lw_all y.cls → dc_Wd D d A s ws s.heap [] → lv_has ls maxL (lv_args 0 av) →
      (∀ (pc : Nat) (ls : Array Slot) (H : Heap) (locs : List Loc) (u : S), decode cc pc = .ok (.return_, 1) → post u → dc_Wd D d A s (wf u) H locs → W p l e rm s m av.toArray below meth c H locs mc ms Q (F0 m pc ls [])) →
      W p l e rm s m av.toArray below meth c s.heap [] 0 0 Q (F0 m 0 ls [])) :
    Met l y (ws_ y cc maxL none) rm (dc_Pre D d av ws sz) (va_Qv post (dc_B D d (va_A ws sz) wf) (va_A ws sz)) mc ms (va_A ws sz) := by
  refine Met.ofW (cc := cc) (maxL := maxL) (ret := none) hpl rfl ?_
  intro p e s m args below meth c s₁ B hml hv
  obtain ⟨rfl, hsz, hP, hK, hD0⟩ := hv
  subst hsz
  have hts := atoms_spec (ws := ws_ y cc maxL none) B.pre
  have hts : ∀ w ∈ lw_all, w.before av.toArray s = true := fun w h => hts w (List.mem_cons_of_mem _ h)
  have hown : s.vm.findClass y.cls = some m.cls := findClass_of_methodNamed B.named
  have hin : meth.name = "<init>" := ((name_of_methodNamed B.named B.method).1).trans hnm
  have hl := lv_entry av (n := maxL) hlen
  rw [lg_entry_eq]
  exact body p e s m below meth c (va_A ws s.heap.size) _ _ hin ⟨B.exec, B.bytes, hml, hown, hts⟩ ⟨hK, hP, hD0.self, va_S.rf, fun q h => Or.inr h⟩ hl
    (fun pc ls H locs u hd hp hw => W.vret B.exec B.bytes B.returns (fun t ht hW => ⟨⟨u, rfl, hp, by rw [ht]; exact hw.2.1, va_K.moved hW.alike hw.1, hw.2.2.1⟩, hw.2.2.2.1.F ht⟩) hw.2.2.2.1.2.2 hd B.notSynchronized)
end METC
set_option maxHeartbeats 4000000 in
set_option maxRecDepth 100000 in
/-- the constructor: all numbers 0, its arrays new -/
theorem mX0_init (l : Launch) (dg : va_G) (d : ClassId × ClassId) (h0 sz : Nat) : Met l yX0_init (ws_ yX0_init cX0_init 1 none) ({ frames := 1, cells := 10, slots := 206, locals := 12 } : Room) (dc_Pre dg d [.ref h0] [(h0, .inr (0, [.null, .null, .int (nI 0), .null, .null, .null, .null, .null, .int (nI 0), .int (nI 0), .int (nI 0), .null, .null, .null]))] sz) (va_Qv (fun (a : Nat → Nat) => a 0 = h0) (dc_B dg d (va_A [(h0, .inr (0, [.null, .null, .int (nI 0), .null, .null, .null, .null, .null, .int (nI 0), .int (nI 0), .int (nI 0), .null, .null, .null]))] sz) (fun a : Nat → Nat => dc_wX d a (fun _ => nI 0) (fun _ => nI 0) (nI 0) (fun _ => nI 0) (fun _ => nI 0) (fun _ => nI 0) (fun _ => nI 0) (fun _ => nI 0) (nI 0) (nI 0) (nI 0) (fun _ => nI 0) (fun _ => nI 0) (fun _ => nI 0))) (va_A [(h0, .inr (0, [.null, .null, .int (nI 0), .null, .null, .null, .null, .null, .int (nI 0), .int (nI 0), .int (nI 0), .null, .null, .null]))] sz)) 10 206 (va_A [(h0, .inr (0, [.null, .null, .int (nI 0), .null, .null, .null, .null, .null, .int (nI 0), .int (nI 0), .int (nI 0), .null, .null, .null]))] sz) := by
  refine dc_metC (by decide) (Nat.le_of_ble_eq_true rfl) rfl (fun p e s m below meth c A Qz ls hin S hw hl ret => ?_)
  have hx := S.1
  have hb := S.2.1
  have hl : lv_has ls 1 [(0, .ref h0)] := hl
  refine lv_aload_n hx hb dX0_init_0 rfl (lv_at hl 0 rfl) ?_
  refine W.objInit hx hb S.2.2.2.1 (S.2.2.2.2 _ q24) (S.2.2.2.2 _ q25) (S.2.2.2.2 _ q26) rfl (by rw [S.2.2.1]; exact hl.1) rfl dX0_init_1 (Nat.le_of_ble_eq_true rfl) (Nat.le_of_ble_eq_true rfl) ?_
  refine W.eq (g2 := F0 m 4 ls []) rfl ?_
  refine lv_aload_n hx hb dX0_init_4 rfl (lv_at hl 0 rfl) ?_
  refine lv_bipush (v := nI 12) hx hb dX0_init_5 (by decide) ?_
  refine dc_newi S hw (N := 12) (nI_pos (by decide)) (nI_clamp (by decide)) (by decide) (Nat.le_of_ble_eq_true rfl) (Nat.le_of_ble_eq_true rfl) dX0_init_7 (fun q1 H hw => ?_)
  have hw : dc_Wd dg d A s [(h0, .inr (0, [.null, .null, .int (nI 0), .null, .null, .null, .null, .null, .int (nI 0), .int (nI 0), .int (nI 0), .null, .null, .null])), (q1, .inl (d.1, 12, .inl (fun _ => nI 0)))] H _ := hw
  refine W.widen (k := 1) (n := 12) (Nat.le_of_ble_eq_true rfl) (Nat.le_of_ble_eq_true rfl) ?_
  refine x0_putF (ws' := [(h0, .inr (0, [.ref q1, .null, .int (nI 0), .null, .null, .null, .null, .null, .int (nI 0), .int (nI 0), .int (nI 0), .null, .null, .null])), (q1, .inl (d.1, 12, .inl (fun _ => nI 0)))]) S hw hin rfl 0 (by decide) q27 rfl rfl (.array .int) (by decide +kernel) rfl rfl (Nat.le_of_ble_eq_true rfl) rfl dX0_init_9 (fun H locs hw => ?_)
  refine lv_aload_n hx hb dX0_init_12 rfl (lv_at hl 0 rfl) ?_
  refine lv_bipush (v := nI 12) hx hb dX0_init_13 (by decide) ?_
  refine dc_newi S hw (N := 12) (nI_pos (by decide)) (nI_clamp (by decide)) (by decide) (Nat.le_of_ble_eq_true rfl) (Nat.le_of_ble_eq_true rfl) dX0_init_15 (fun q2 H hw => ?_)
  have hw : dc_Wd dg d A s [(h0, .inr (0, [.ref q1, .null, .int (nI 0), .null, .null, .null, .null, .null, .int (nI 0), .int (nI 0), .int (nI 0), .null, .null, .null])), (q1, .inl (d.1, 12, .inl (fun _ => nI 0))), (q2, .inl (d.1, 12, .inl (fun _ => nI 0)))] H _ := hw
  refine W.widen (k := 2) (n := 24) (Nat.le_of_ble_eq_true rfl) (Nat.le_of_ble_eq_true rfl) ?_
  refine x0_putF (ws' := [(h0, .inr (0, [.ref q1, .ref q2, .int (nI 0), .null, .null, .null, .null, .null, .int (nI 0), .int (nI 0), .int (nI 0), .null, .null, .null])), (q1, .inl (d.1, 12, .inl (fun _ => nI 0))), (q2, .inl (d.1, 12, .inl (fun _ => nI 0)))]) S hw hin rfl 1 (by decide) q28 rfl rfl (.array .int) (by decide +kernel) rfl rfl (Nat.le_of_ble_eq_true rfl) rfl dX0_init_17 (fun H locs hw => ?_)
  refine lv_aload_n hx hb dX0_init_20 rfl (lv_at hl 0 rfl) ?_
  refine lv_bipush (v := nI 8) hx hb dX0_init_21 (by decide) ?_
  refine dc_newi S hw (N := 8) (nI_pos (by decide)) (nI_clamp (by decide)) (by decide) (Nat.le_of_ble_eq_true rfl) (Nat.le_of_ble_eq_true rfl) dX0_init_23 (fun q3 H hw => ?_)
  have hw : dc_Wd dg d A s [(h0, .inr (0, [.ref q1, .ref q2, .int (nI 0), .null, .null, .null, .null, .null, .int (nI 0), .int (nI 0), .int (nI 0), .null, .null, .null])), (q1, .inl (d.1, 12, .inl (fun _ => nI 0))), (q2, .inl (d.1, 12, .inl (fun _ => nI 0))), (q3, .inl (d.1, 8, .inl (fun _ => nI 0)))] H _ := hw
  refine W.widen (k := 3) (n := 32) (Nat.le_of_ble_eq_true rfl) (Nat.le_of_ble_eq_true rfl) ?_
  refine x0_putF (ws' := [(h0, .inr (0, [.ref q1, .ref q2, .int (nI 0), .ref q3, .null, .null, .null, .null, .int (nI 0), .int (nI 0), .int (nI 0), .null, .null, .null])), (q1, .inl (d.1, 12, .inl (fun _ => nI 0))), (q2, .inl (d.1, 12, .inl (fun _ => nI 0))), (q3, .inl (d.1, 8, .inl (fun _ => nI 0)))]) S hw hin rfl 3 (by decide) q30 rfl rfl (.array .int) (by decide +kernel) rfl rfl (Nat.le_of_ble_eq_true rfl) rfl dX0_init_25 (fun H locs hw => ?_)
  refine lv_aload_n hx hb dX0_init_28 rfl (lv_at hl 0 rfl) ?_
  refine lv_bipush (v := nI 8) hx hb dX0_init_29 (by decide) ?_
  refine dc_newi S hw (N := 8) (nI_pos (by decide)) (nI_clamp (by decide)) (by decide) (Nat.le_of_ble_eq_true rfl) (Nat.le_of_ble_eq_true rfl) dX0_init_31 (fun q4 H hw => ?_)
  have hw : dc_Wd dg d A s [(h0, .inr (0, [.ref q1, .ref q2, .int (nI 0), .ref q3, .null, .null, .null, .null, .int (nI 0), .int (nI 0), .int (nI 0), .null, .null, .null])), (q1, .inl (d.1, 12, .inl (fun _ => nI 0))), (q2, .inl (d.1, 12, .inl (fun _ => nI 0))), (q3, .inl (d.1, 8, .inl (fun _ => nI 0))), (q4, .inl (d.1, 8, .inl (fun _ => nI 0)))] H _ := hw
  refine W.widen (k := 4) (n := 40) (Nat.le_of_ble_eq_true rfl) (Nat.le_of_ble_eq_true rfl) ?_
  refine x0_putF (ws' := [(h0, .inr (0, [.ref q1, .ref q2, .int (nI 0), .ref q3, .ref q4, .null, .null, .null, .int (nI 0), .int (nI 0), .int (nI 0), .null, .null, .null])), (q1, .inl (d.1, 12, .inl (fun _ => nI 0))), (q2, .inl (d.1, 12, .inl (fun _ => nI 0))), (q3, .inl (d.1, 8, .inl (fun _ => nI 0))), (q4, .inl (d.1, 8, .inl (fun _ => nI 0)))]) S hw hin rfl 4 (by decide) q31 rfl rfl (.array .int) (by decide +kernel) rfl rfl (Nat.le_of_ble_eq_true rfl) rfl dX0_init_33 (fun H locs hw => ?_)
  refine lv_aload_n hx hb dX0_init_36 rfl (lv_at hl 0 rfl) ?_
  refine lv_bipush (v := nI 8) hx hb dX0_init_37 (by decide) ?_
  refine dc_newi S hw (N := 8) (nI_pos (by decide)) (nI_clamp (by decide)) (by decide) (Nat.le_of_ble_eq_true rfl) (Nat.le_of_ble_eq_true rfl) dX0_init_39 (fun q5 H hw => ?_)
  have hw : dc_Wd dg d A s [(h0, .inr (0, [.ref q1, .ref q2, .int (nI 0), .ref q3, .ref q4, .null, .null, .null, .int (nI 0), .int (nI 0), .int (nI 0), .null, .null, .null])), (q1, .inl (d.1, 12, .inl (fun _ => nI 0))), (q2, .inl (d.1, 12, .inl (fun _ => nI 0))), (q3, .inl (d.1, 8, .inl (fun _ => nI 0))), (q4, .inl (d.1, 8, .inl (fun _ => nI 0))), (q5, .inl (d.1, 8, .inl (fun _ => nI 0)))] H _ := hw
  refine W.widen (k := 5) (n := 48) (Nat.le_of_ble_eq_true rfl) (Nat.le_of_ble_eq_true rfl) ?_
  refine x0_putF (ws' := [(h0, .inr (0, [.ref q1, .ref q2, .int (nI 0), .ref q3, .ref q4, .ref q5, .null, .null, .int (nI 0), .int (nI 0), .int (nI 0), .null, .null, .null])), (q1, .inl (d.1, 12, .inl (fun _ => nI 0))), (q2, .inl (d.1, 12, .inl (fun _ => nI 0))), (q3, .inl (d.1, 8, .inl (fun _ => nI 0))), (q4, .inl (d.1, 8, .inl (fun _ => nI 0))), (q5, .inl (d.1, 8, .inl (fun _ => nI 0)))]) S hw hin rfl 5 (by decide) q32 rfl rfl (.array .int) (by decide +kernel) rfl rfl (Nat.le_of_ble_eq_true rfl) rfl dX0_init_41 (fun H locs hw => ?_)
  refine lv_aload_n hx hb dX0_init_44 rfl (lv_at hl 0 rfl) ?_
  refine lv_bipush (v := nI 8) hx hb dX0_init_45 (by decide) ?_
  refine dc_newi S hw (N := 8) (nI_pos (by decide)) (nI_clamp (by decide)) (by decide) (Nat.le_of_ble_eq_true rfl) (Nat.le_of_ble_eq_true rfl) dX0_init_47 (fun q6 H hw => ?_)
  have hw : dc_Wd dg d A s [(h0, .inr (0, [.ref q1, .ref q2, .int (nI 0), .ref q3, .ref q4, .ref q5, .null, .null, .int (nI 0), .int (nI 0), .int (nI 0), .null, .null, .null])), (q1, .inl (d.1, 12, .inl (fun _ => nI 0))), (q2, .inl (d.1, 12, .inl (fun _ => nI 0))), (q3, .inl (d.1, 8, .inl (fun _ => nI 0))), (q4, .inl (d.1, 8, .inl (fun _ => nI 0))), (q5, .inl (d.1, 8, .inl (fun _ => nI 0))), (q6, .inl (d.1, 8, .inl (fun _ => nI 0)))] H _ := hw
  refine W.widen (k := 6) (n := 56) (Nat.le_of_ble_eq_true rfl) (Nat.le_of_ble_eq_true rfl) ?_
  refine x0_putF (ws' := [(h0, .inr (0, [.ref q1, .ref q2, .int (nI 0), .ref q3, .ref q4, .ref q5, .ref q6, .null, .int (nI 0), .int (nI 0), .int (nI 0), .null, .null, .null])), (q1, .inl (d.1, 12, .inl (fun _ => nI 0))), (q2, .inl (d.1, 12, .inl (fun _ => nI 0))), (q3, .inl (d.1, 8, .inl (fun _ => nI 0))), (q4, .inl (d.1, 8, .inl (fun _ => nI 0))), (q5, .inl (d.1, 8, .inl (fun _ => nI 0))), (q6, .inl (d.1, 8, .inl (fun _ => nI 0)))]) S hw hin rfl 6 (by decide) q33 rfl rfl (.array .int) (by decide +kernel) rfl rfl (Nat.le_of_ble_eq_true rfl) rfl dX0_init_49 (fun H locs hw => ?_)
  refine lv_aload_n hx hb dX0_init_52 rfl (lv_at hl 0 rfl) ?_
  refine lv_bipush (v := nI 8) hx hb dX0_init_53 (by decide) ?_
  refine dc_newi S hw (N := 8) (nI_pos (by decide)) (nI_clamp (by decide)) (by decide) (Nat.le_of_ble_eq_true rfl) (Nat.le_of_ble_eq_true rfl) dX0_init_55 (fun q7 H hw => ?_)
  have hw : dc_Wd dg d A s [(h0, .inr (0, [.ref q1, .ref q2, .int (nI 0), .ref q3, .ref q4, .ref q5, .ref q6, .null, .int (nI 0), .int (nI 0), .int (nI 0), .null, .null, .null])), (q1, .inl (d.1, 12, .inl (fun _ => nI 0))), (q2, .inl (d.1, 12, .inl (fun _ => nI 0))), (q3, .inl (d.1, 8, .inl (fun _ => nI 0))), (q4, .inl (d.1, 8, .inl (fun _ => nI 0))), (q5, .inl (d.1, 8, .inl (fun _ => nI 0))), (q6, .inl (d.1, 8, .inl (fun _ => nI 0))), (q7, .inl (d.1, 8, .inl (fun _ => nI 0)))] H _ := hw
  refine W.widen (k := 7) (n := 64) (Nat.le_of_ble_eq_true rfl) (Nat.le_of_ble_eq_true rfl) ?_
  refine x0_putF (ws' := [(h0, .inr (0, [.ref q1, .ref q2, .int (nI 0), .ref q3, .ref q4, .ref q5, .ref q6, .ref q7, .int (nI 0), .int (nI 0), .int (nI 0), .null, .null, .null])), (q1, .inl (d.1, 12, .inl (fun _ => nI 0))), (q2, .inl (d.1, 12, .inl (fun _ => nI 0))), (q3, .inl (d.1, 8, .inl (fun _ => nI 0))), (q4, .inl (d.1, 8, .inl (fun _ => nI 0))), (q5, .inl (d.1, 8, .inl (fun _ => nI 0))), (q6, .inl (d.1, 8, .inl (fun _ => nI 0))), (q7, .inl (d.1, 8, .inl (fun _ => nI 0)))]) S hw hin rfl 7 (by decide) q34 rfl rfl (.array .int) (by decide +kernel) rfl rfl (Nat.le_of_ble_eq_true rfl) rfl dX0_init_57 (fun H locs hw => ?_)
  refine lv_aload_n hx hb dX0_init_60 rfl (lv_at hl 0 rfl) ?_
  refine lv_bipush (v := nI 12) hx hb dX0_init_61 (by decide) ?_
  refine dc_newi S hw (N := 12) (nI_pos (by decide)) (nI_clamp (by decide)) (by decide) (Nat.le_of_ble_eq_true rfl) (Nat.le_of_ble_eq_true rfl) dX0_init_63 (fun q8 H hw => ?_)
  have hw : dc_Wd dg d A s [(h0, .inr (0, [.ref q1, .ref q2, .int (nI 0), .ref q3, .ref q4, .ref q5, .ref q6, .ref q7, .int (nI 0), .int (nI 0), .int (nI 0), .null, .null, .null])), (q1, .inl (d.1, 12, .inl (fun _ => nI 0))), (q2, .inl (d.1, 12, .inl (fun _ => nI 0))), (q3, .inl (d.1, 8, .inl (fun _ => nI 0))), (q4, .inl (d.1, 8, .inl (fun _ => nI 0))), (q5, .inl (d.1, 8, .inl (fun _ => nI 0))), (q6, .inl (d.1, 8, .inl (fun _ => nI 0))), (q7, .inl (d.1, 8, .inl (fun _ => nI 0))), (q8, .inl (d.1, 12, .inl (fun _ => nI 0)))] H _ := hw
  refine W.widen (k := 8) (n := 76) (Nat.le_of_ble_eq_true rfl) (Nat.le_of_ble_eq_true rfl) ?_
  refine x0_putF (ws' := [(h0, .inr (0, [.ref q1, .ref q2, .int (nI 0), .ref q3, .ref q4, .ref q5, .ref q6, .ref q7, .int (nI 0), .int (nI 0), .int (nI 0), .ref q8, .null, .null])), (q1, .inl (d.1, 12, .inl (fun _ => nI 0))), (q2, .inl (d.1, 12, .inl (fun _ => nI 0))), (q3, .inl (d.1, 8, .inl (fun _ => nI 0))), (q4, .inl (d.1, 8, .inl (fun _ => nI 0))), (q5, .inl (d.1, 8, .inl (fun _ => nI 0))), (q6, .inl (d.1, 8, .inl (fun _ => nI 0))), (q7, .inl (d.1, 8, .inl (fun _ => nI 0))), (q8, .inl (d.1, 12, .inl (fun _ => nI 0)))]) S hw hin rfl 11 (by decide) q38 rfl rfl (.array .int) (by decide +kernel) rfl rfl (Nat.le_of_ble_eq_true rfl) rfl dX0_init_65 (fun H locs hw => ?_)
  refine lv_aload_n hx hb dX0_init_68 rfl (lv_at hl 0 rfl) ?_
  refine lv_bipush (v := nI 10) hx hb dX0_init_69 (by decide) ?_
  refine dc_newi S hw (N := 10) (nI_pos (by decide)) (nI_clamp (by decide)) (by decide) (Nat.le_of_ble_eq_true rfl) (Nat.le_of_ble_eq_true rfl) dX0_init_71 (fun q9 H hw => ?_)
  have hw : dc_Wd dg d A s [(h0, .inr (0, [.ref q1, .ref q2, .int (nI 0), .ref q3, .ref q4, .ref q5, .ref q6, .ref q7, .int (nI 0), .int (nI 0), .int (nI 0), .ref q8, .null, .null])), (q1, .inl (d.1, 12, .inl (fun _ => nI 0))), (q2, .inl (d.1, 12, .inl (fun _ => nI 0))), (q3, .inl (d.1, 8, .inl (fun _ => nI 0))), (q4, .inl (d.1, 8, .inl (fun _ => nI 0))), (q5, .inl (d.1, 8, .inl (fun _ => nI 0))), (q6, .inl (d.1, 8, .inl (fun _ => nI 0))), (q7, .inl (d.1, 8, .inl (fun _ => nI 0))), (q8, .inl (d.1, 12, .inl (fun _ => nI 0))), (q9, .inl (d.1, 10, .inl (fun _ => nI 0)))] H _ := hw
  refine W.widen (k := 9) (n := 86) (Nat.le_of_ble_eq_true rfl) (Nat.le_of_ble_eq_true rfl) ?_
  refine x0_putF (ws' := [(h0, .inr (0, [.ref q1, .ref q2, .int (nI 0), .ref q3, .ref q4, .ref q5, .ref q6, .ref q7, .int (nI 0), .int (nI 0), .int (nI 0), .ref q8, .ref q9, .null])), (q1, .inl (d.1, 12, .inl (fun _ => nI 0))), (q2, .inl (d.1, 12, .inl (fun _ => nI 0))), (q3, .inl (d.1, 8, .inl (fun _ => nI 0))), (q4, .inl (d.1, 8, .inl (fun _ => nI 0))), (q5, .inl (d.1, 8, .inl (fun _ => nI 0))), (q6, .inl (d.1, 8, .inl (fun _ => nI 0))), (q7, .inl (d.1, 8, .inl (fun _ => nI 0))), (q8, .inl (d.1, 12, .inl (fun _ => nI 0))), (q9, .inl (d.1, 10, .inl (fun _ => nI 0)))]) S hw hin rfl 12 (by decide) q39 rfl rfl (.array .int) (by decide +kernel) rfl rfl (Nat.le_of_ble_eq_true rfl) rfl dX0_init_73 (fun H locs hw => ?_)
  refine lv_aload_n hx hb dX0_init_76 rfl (lv_at hl 0 rfl) ?_
  refine lv_bipush (v := nI 120) hx hb dX0_init_77 (by decide) ?_
  refine dc_newi S hw (N := 120) (nI_pos (by decide)) (nI_clamp (by decide)) (by decide) (Nat.le_of_ble_eq_true rfl) (Nat.le_of_ble_eq_true rfl) dX0_init_79 (fun q10 H hw => ?_)
  have hw : dc_Wd dg d A s [(h0, .inr (0, [.ref q1, .ref q2, .int (nI 0), .ref q3, .ref q4, .ref q5, .ref q6, .ref q7, .int (nI 0), .int (nI 0), .int (nI 0), .ref q8, .ref q9, .null])), (q1, .inl (d.1, 12, .inl (fun _ => nI 0))), (q2, .inl (d.1, 12, .inl (fun _ => nI 0))), (q3, .inl (d.1, 8, .inl (fun _ => nI 0))), (q4, .inl (d.1, 8, .inl (fun _ => nI 0))), (q5, .inl (d.1, 8, .inl (fun _ => nI 0))), (q6, .inl (d.1, 8, .inl (fun _ => nI 0))), (q7, .inl (d.1, 8, .inl (fun _ => nI 0))), (q8, .inl (d.1, 12, .inl (fun _ => nI 0))), (q9, .inl (d.1, 10, .inl (fun _ => nI 0))), (q10, .inl (d.1, 120, .inl (fun _ => nI 0)))] H _ := hw
  refine W.widen (k := 10) (n := 206) (Nat.le_of_ble_eq_true rfl) (Nat.le_of_ble_eq_true rfl) ?_
  refine x0_putF (ws' := [(h0, .inr (0, [.ref q1, .ref q2, .int (nI 0), .ref q3, .ref q4, .ref q5, .ref q6, .ref q7, .int (nI 0), .int (nI 0), .int (nI 0), .ref q8, .ref q9, .ref q10])), (q1, .inl (d.1, 12, .inl (fun _ => nI 0))), (q2, .inl (d.1, 12, .inl (fun _ => nI 0))), (q3, .inl (d.1, 8, .inl (fun _ => nI 0))), (q4, .inl (d.1, 8, .inl (fun _ => nI 0))), (q5, .inl (d.1, 8, .inl (fun _ => nI 0))), (q6, .inl (d.1, 8, .inl (fun _ => nI 0))), (q7, .inl (d.1, 8, .inl (fun _ => nI 0))), (q8, .inl (d.1, 12, .inl (fun _ => nI 0))), (q9, .inl (d.1, 10, .inl (fun _ => nI 0))), (q10, .inl (d.1, 120, .inl (fun _ => nI 0)))]) S hw hin rfl 13 (by decide) q40 rfl rfl (.array .int) (by decide +kernel) rfl rfl (Nat.le_of_ble_eq_true rfl) rfl dX0_init_81 (fun H locs hw => ?_)
  refine lv_aload_n hx hb dX0_init_84 rfl (lv_at hl 0 rfl) ?_
  refine lv_iconst (v := nI 0) hx hb dX0_init_85 (by decide) ?_
  refine x0_put (ws' := [(h0, .inr (0, [.ref q1, .ref q2, .int (nI 0), .ref q3, .ref q4, .ref q5, .ref q6, .ref q7, .int (nI 0), .int (nI 0), .int (nI 0), .ref q8, .ref q9, .ref q10])), (q1, .inl (d.1, 12, .inl (fun _ => nI 0))), (q2, .inl (d.1, 12, .inl (fun _ => nI 0))), (q3, .inl (d.1, 8, .inl (fun _ => nI 0))), (q4, .inl (d.1, 8, .inl (fun _ => nI 0))), (q5, .inl (d.1, 8, .inl (fun _ => nI 0))), (q6, .inl (d.1, 8, .inl (fun _ => nI 0))), (q7, .inl (d.1, 8, .inl (fun _ => nI 0))), (q8, .inl (d.1, 12, .inl (fun _ => nI 0))), (q9, .inl (d.1, 10, .inl (fun _ => nI 0))), (q10, .inl (d.1, 120, .inl (fun _ => nI 0)))]) S hw rfl 8 (by decide) q35 rfl (by decide +kernel) (Nat.le_of_ble_eq_true rfl) rfl dX0_init_86 (fun H locs hw => ?_)
  exact ret 89 _ _ _ (fun k => ([h0, q1, q2, q3, q4, q5, q6, q7, q8, q9, q10] : List Nat).getD k 0) dX0_init_89 rfl hw
set_option maxHeartbeats 4000000 in
set_option maxRecDepth 100000 in
/-- the constructor: all numbers 0, its arrays new -/
theorem mX1_init (l : Launch) (dg : va_G) (d : ClassId × ClassId) (h0 sz : Nat) : Met l yX1_init (ws_ yX1_init cX1_init 1 none) ({ frames := 1, cells := 11, slots := 576, locals := 12 } : Room) (dc_Pre dg d [.ref h0] [(h0, .inr (1, [.null, .null, .null, .null, .null, .null, .null, .int (nI 0), .null, .null, .null, .null, .int (nI 0), .int (nI 0), .int (nI 0)]))] sz) (va_Qv (fun (a : Nat → Nat) => a 0 = h0) (dc_B dg d (va_A [(h0, .inr (1, [.null, .null, .null, .null, .null, .null, .null, .int (nI 0), .null, .null, .null, .null, .int (nI 0), .int (nI 0), .int (nI 0)]))] sz) (fun a : Nat → Nat => dc_wM d a (fun _ => nI 0) (fun _ => nI 0) (fun _ => nI 0) (fun _ => nI 0) (fun _ => nI 0) (fun _ => nI 0) (fun _ => nI 0) (nI 0) (fun _ => nI 0) (fun _ => nI 0) (fun _ => nI 0) (fun _ => nI 0) (nI 0) (nI 0) (nI 0))) (va_A [(h0, .inr (1, [.null, .null, .null, .null, .null, .null, .null, .int (nI 0), .null, .null, .null, .null, .int (nI 0), .int (nI 0), .int (nI 0)]))] sz)) 11 576 (va_A [(h0, .inr (1, [.null, .null, .null, .null, .null, .null, .null, .int (nI 0), .null, .null, .null, .null, .int (nI 0), .int (nI 0), .int (nI 0)]))] sz) := by
  refine dc_metC (by decide) (Nat.le_of_ble_eq_true rfl) rfl (fun p e s m below meth c A Qz ls hin S hw hl ret => ?_)
  have hx := S.1
  have hb := S.2.1
  have hl : lv_has ls 1 [(0, .ref h0)] := hl
  refine lv_aload_n hx hb dX1_init_0 rfl (lv_at hl 0 rfl) ?_
  refine W.objInit hx hb S.2.2.2.1 (S.2.2.2.2 _ q176) (S.2.2.2.2 _ q25) (S.2.2.2.2 _ q26) rfl (by rw [S.2.2.1]; exact hl.1) rfl dX1_init_1 (Nat.le_of_ble_eq_true rfl) (Nat.le_of_ble_eq_true rfl) ?_
  refine W.eq (g2 := F0 m 4 ls []) rfl ?_
  refine lv_aload_n hx hb dX1_init_4 rfl (lv_at hl 0 rfl) ?_
  refine lv_bipush (v := nI 12) hx hb dX1_init_5 (by decide) ?_
  refine dc_newi S hw (N := 12) (nI_pos (by decide)) (nI_clamp (by decide)) (by decide) (Nat.le_of_ble_eq_true rfl) (Nat.le_of_ble_eq_true rfl) dX1_init_7 (fun q1 H hw => ?_)
  have hw : dc_Wd dg d A s [(h0, .inr (1, [.null, .null, .null, .null, .null, .null, .null, .int (nI 0), .null, .null, .null, .null, .int (nI 0), .int (nI 0), .int (nI 0)])), (q1, .inl (d.1, 12, .inl (fun _ => nI 0)))] H _ := hw
  refine W.widen (k := 1) (n := 12) (Nat.le_of_ble_eq_true rfl) (Nat.le_of_ble_eq_true rfl) ?_
  refine x1_putF (ws' := [(h0, .inr (1, [.ref q1, .null, .null, .null, .null, .null, .null, .int (nI 0), .null, .null, .null, .null, .int (nI 0), .int (nI 0), .int (nI 0)])), (q1, .inl (d.1, 12, .inl (fun _ => nI 0)))]) S hw hin rfl 0 (by decide) q177 rfl rfl (.array .int) (by decide +kernel) rfl rfl (Nat.le_of_ble_eq_true rfl) rfl dX1_init_9 (fun H locs hw => ?_)
  refine lv_aload_n hx hb dX1_init_12 rfl (lv_at hl 0 rfl) ?_
  refine lv_bipush (v := nI 12) hx hb dX1_init_13 (by decide) ?_
  refine dc_newi S hw (N := 12) (nI_pos (by decide)) (nI_clamp (by decide)) (by decide) (Nat.le_of_ble_eq_true rfl) (Nat.le_of_ble_eq_true rfl) dX1_init_15 (fun q2 H hw => ?_)
  have hw : dc_Wd dg d A s [(h0, .inr (1, [.ref q1, .null, .null, .null, .null, .null, .null, .int (nI 0), .null, .null, .null, .null, .int (nI 0), .int (nI 0), .int (nI 0)])), (q1, .inl (d.1, 12, .inl (fun _ => nI 0))), (q2, .inl (d.1, 12, .inl (fun _ => nI 0)))] H _ := hw
  refine W.widen (k := 2) (n := 24) (Nat.le_of_ble_eq_true rfl) (Nat.le_of_ble_eq_true rfl) ?_
  refine x1_putF (ws' := [(h0, .inr (1, [.ref q1, .ref q2, .null, .null, .null, .null, .null, .int (nI 0), .null, .null, .null, .null, .int (nI 0), .int (nI 0), .int (nI 0)])), (q1, .inl (d.1, 12, .inl (fun _ => nI 0))), (q2, .inl (d.1, 12, .inl (fun _ => nI 0)))]) S hw hin rfl 1 (by decide) q178 rfl rfl (.array .int) (by decide +kernel) rfl rfl (Nat.le_of_ble_eq_true rfl) rfl dX1_init_17 (fun H locs hw => ?_)
  refine lv_aload_n hx hb dX1_init_20 rfl (lv_at hl 0 rfl) ?_
  refine lv_bipush (v := nI 8) hx hb dX1_init_21 (by decide) ?_
  refine dc_newi S hw (N := 8) (nI_pos (by decide)) (nI_clamp (by decide)) (by decide) (Nat.le_of_ble_eq_true rfl) (Nat.le_of_ble_eq_true rfl) dX1_init_23 (fun q3 H hw => ?_)
  have hw : dc_Wd dg d A s [(h0, .inr (1, [.ref q1, .ref q2, .null, .null, .null, .null, .null, .int (nI 0), .null, .null, .null, .null, .int (nI 0), .int (nI 0), .int (nI 0)])), (q1, .inl (d.1, 12, .inl (fun _ => nI 0))), (q2, .inl (d.1, 12, .inl (fun _ => nI 0))), (q3, .inl (d.1, 8, .inl (fun _ => nI 0)))] H _ := hw
  refine W.widen (k := 3) (n := 32) (Nat.le_of_ble_eq_true rfl) (Nat.le_of_ble_eq_true rfl) ?_
  refine x1_putF (ws' := [(h0, .inr (1, [.ref q1, .ref q2, .ref q3, .null, .null, .null, .null, .int (nI 0), .null, .null, .null, .null, .int (nI 0), .int (nI 0), .int (nI 0)])), (q1, .inl (d.1, 12, .inl (fun _ => nI 0))), (q2, .inl (d.1, 12, .inl (fun _ => nI 0))), (q3, .inl (d.1, 8, .inl (fun _ => nI 0)))]) S hw hin rfl 2 (by decide) q179 rfl rfl (.array .int) (by decide +kernel) rfl rfl (Nat.le_of_ble_eq_true rfl) rfl dX1_init_25 (fun H locs hw => ?_)
  refine lv_aload_n hx hb dX1_init_28 rfl (lv_at hl 0 rfl) ?_
  refine lv_bipush (v := nI 8) hx hb dX1_init_29 (by decide) ?_
  refine dc_newi S hw (N := 8) (nI_pos (by decide)) (nI_clamp (by decide)) (by decide) (Nat.le_of_ble_eq_true rfl) (Nat.le_of_ble_eq_true rfl) dX1_init_31 (fun q4 H hw => ?_)
  have hw : dc_Wd dg d A s [(h0, .inr (1, [.ref q1, .ref q2, .ref q3, .null, .null, .null, .null, .int (nI 0), .null, .null, .null, .null, .int (nI 0), .int (nI 0), .int (nI 0)])), (q1, .inl (d.1, 12, .inl (fun _ => nI 0))), (q2, .inl (d.1, 12, .inl (fun _ => nI 0))), (q3, .inl (d.1, 8, .inl (fun _ => nI 0))), (q4, .inl (d.1, 8, .inl (fun _ => nI 0)))] H _ := hw
  refine W.widen (k := 4) (n := 40) (Nat.le_of_ble_eq_true rfl) (Nat.le_of_ble_eq_true rfl) ?_
  refine x1_putF (ws' := [(h0, .inr (1, [.ref q1, .ref q2, .ref q3, .ref q4, .null, .null, .null, .int (nI 0), .null, .null, .null, .null, .int (nI 0), .int (nI 0), .int (nI 0)])), (q1, .inl (d.1, 12, .inl (fun _ => nI 0))), (q2, .inl (d.1, 12, .inl (fun _ => nI 0))), (q3, .inl (d.1, 8, .inl (fun _ => nI 0))), (q4, .inl (d.1, 8, .inl (fun _ => nI 0)))]) S hw hin rfl 3 (by decide) q180 rfl rfl (.array .int) (by decide +kernel) rfl rfl (Nat.le_of_ble_eq_true rfl) rfl dX1_init_33 (fun H locs hw => ?_)
  refine lv_aload_n hx hb dX1_init_36 rfl (lv_at hl 0 rfl) ?_
  refine lv_bipush (v := nI 8) hx hb dX1_init_37 (by decide) ?_
  refine dc_newi S hw (N := 8) (nI_pos (by decide)) (nI_clamp (by decide)) (by decide) (Nat.le_of_ble_eq_true rfl) (Nat.le_of_ble_eq_true rfl) dX1_init_39 (fun q5 H hw => ?_)
  have hw : dc_Wd dg d A s [(h0, .inr (1, [.ref q1, .ref q2, .ref q3, .ref q4, .null, .null, .null, .int (nI 0), .null, .null, .null, .null, .int (nI 0), .int (nI 0), .int (nI 0)])), (q1, .inl (d.1, 12, .inl (fun _ => nI 0))), (q2, .inl (d.1, 12, .inl (fun _ => nI 0))), (q3, .inl (d.1, 8, .inl (fun _ => nI 0))), (q4, .inl (d.1, 8, .inl (fun _ => nI 0))), (q5, .inl (d.1, 8, .inl (fun _ => nI 0)))] H _ := hw
  refine W.widen (k := 5) (n := 48) (Nat.le_of_ble_eq_true rfl) (Nat.le_of_ble_eq_true rfl) ?_
  refine x1_putF (ws' := [(h0, .inr (1, [.ref q1, .ref q2, .ref q3, .ref q4, .ref q5, .null, .null, .int (nI 0), .null, .null, .null, .null, .int (nI 0), .int (nI 0), .int (nI 0)])), (q1, .inl (d.1, 12, .inl (fun _ => nI 0))), (q2, .inl (d.1, 12, .inl (fun _ => nI 0))), (q3, .inl (d.1, 8, .inl (fun _ => nI 0))), (q4, .inl (d.1, 8, .inl (fun _ => nI 0))), (q5, .inl (d.1, 8, .inl (fun _ => nI 0)))]) S hw hin rfl 4 (by decide) q181 rfl rfl (.array .int) (by decide +kernel) rfl rfl (Nat.le_of_ble_eq_true rfl) rfl dX1_init_41 (fun H locs hw => ?_)
  refine lv_aload_n hx hb dX1_init_44 rfl (lv_at hl 0 rfl) ?_
  refine lv_bipush (v := nI 8) hx hb dX1_init_45 (by decide) ?_
  refine dc_newi S hw (N := 8) (nI_pos (by decide)) (nI_clamp (by decide)) (by decide) (Nat.le_of_ble_eq_true rfl) (Nat.le_of_ble_eq_true rfl) dX1_init_47 (fun q6 H hw => ?_)
  have hw : dc_Wd dg d A s [(h0, .inr (1, [.ref q1, .ref q2, .ref q3, .ref q4, .ref q5, .null, .null, .int (nI 0), .null, .null, .null, .null, .int (nI 0), .int (nI 0), .int (nI 0)])), (q1, .inl (d.1, 12, .inl (fun _ => nI 0))), (q2, .inl (d.1, 12, .inl (fun _ => nI 0))), (q3, .inl (d.1, 8, .inl (fun _ => nI 0))), (q4, .inl (d.1, 8, .inl (fun _ => nI 0))), (q5, .inl (d.1, 8, .inl (fun _ => nI 0))), (q6, .inl (d.1, 8, .inl (fun _ => nI 0)))] H _ := hw
  refine W.widen (k := 6) (n := 56) (Nat.le_of_ble_eq_true rfl) (Nat.le_of_ble_eq_true rfl) ?_
  refine x1_putF (ws' := [(h0, .inr (1, [.ref q1, .ref q2, .ref q3, .ref q4, .ref q5, .ref q6, .null, .int (nI 0), .null, .null, .null, .null, .int (nI 0), .int (nI 0), .int (nI 0)])), (q1, .inl (d.1, 12, .inl (fun _ => nI 0))), (q2, .inl (d.1, 12, .inl (fun _ => nI 0))), (q3, .inl (d.1, 8, .inl (fun _ => nI 0))), (q4, .inl (d.1, 8, .inl (fun _ => nI 0))), (q5, .inl (d.1, 8, .inl (fun _ => nI 0))), (q6, .inl (d.1, 8, .inl (fun _ => nI 0)))]) S hw hin rfl 5 (by decide) q182 rfl rfl (.array .int) (by decide +kernel) rfl rfl (Nat.le_of_ble_eq_true rfl) rfl dX1_init_49 (fun H locs hw => ?_)
  refine lv_aload_n hx hb dX1_init_52 rfl (lv_at hl 0 rfl) ?_
  refine lv_bipush (v := nI 8) hx hb dX1_init_53 (by decide) ?_
  refine dc_newi S hw (N := 8) (nI_pos (by decide)) (nI_clamp (by decide)) (by decide) (Nat.le_of_ble_eq_true rfl) (Nat.le_of_ble_eq_true rfl) dX1_init_55 (fun q7 H hw => ?_)
  have hw : dc_Wd dg d A s [(h0, .inr (1, [.ref q1, .ref q2, .ref q3, .ref q4, .ref q5, .ref q6, .null, .int (nI 0), .null, .null, .null, .null, .int (nI 0), .int (nI 0), .int (nI 0)])), (q1, .inl (d.1, 12, .inl (fun _ => nI 0))), (q2, .inl (d.1, 12, .inl (fun _ => nI 0))), (q3, .inl (d.1, 8, .inl (fun _ => nI 0))), (q4, .inl (d.1, 8, .inl (fun _ => nI 0))), (q5, .inl (d.1, 8, .inl (fun _ => nI 0))), (q6, .inl (d.1, 8, .inl (fun _ => nI 0))), (q7, .inl (d.1, 8, .inl (fun _ => nI 0)))] H _ := hw
  refine W.widen (k := 7) (n := 64) (Nat.le_of_ble_eq_true rfl) (Nat.le_of_ble_eq_true rfl) ?_
  refine x1_putF (ws' := [(h0, .inr (1, [.ref q1, .ref q2, .ref q3, .ref q4, .ref q5, .ref q6, .ref q7, .int (nI 0), .null, .null, .null, .null, .int (nI 0), .int (nI 0), .int (nI 0)])), (q1, .inl (d.1, 12, .inl (fun _ => nI 0))), (q2, .inl (d.1, 12, .inl (fun _ => nI 0))), (q3, .inl (d.1, 8, .inl (fun _ => nI 0))), (q4, .inl (d.1, 8, .inl (fun _ => nI 0))), (q5, .inl (d.1, 8, .inl (fun _ => nI 0))), (q6, .inl (d.1, 8, .inl (fun _ => nI 0))), (q7, .inl (d.1, 8, .inl (fun _ => nI 0)))]) S hw hin rfl 6 (by decide) q183 rfl rfl (.array .int) (by decide +kernel) rfl rfl (Nat.le_of_ble_eq_true rfl) rfl dX1_init_57 (fun H locs hw => ?_)
  refine lv_aload_n hx hb dX1_init_60 rfl (lv_at hl 0 rfl) ?_
  refine lv_sipush (v := nI 128) hx hb dX1_init_61 (by decide) ?_
  refine dc_newi S hw (N := 128) (nI_pos (by decide)) (nI_clamp (by decide)) (by decide) (Nat.le_of_ble_eq_true rfl) (Nat.le_of_ble_eq_true rfl) dX1_init_64 (fun q8 H hw => ?_)
  have hw : dc_Wd dg d A s [(h0, .inr (1, [.ref q1, .ref q2, .ref q3, .ref q4, .ref q5, .ref q6, .ref q7, .int (nI 0), .null, .null, .null, .null, .int (nI 0), .int (nI 0), .int (nI 0)])), (q1, .inl (d.1, 12, .inl (fun _ => nI 0))), (q2, .inl (d.1, 12, .inl (fun _ => nI 0))), (q3, .inl (d.1, 8, .inl (fun _ => nI 0))), (q4, .inl (d.1, 8, .inl (fun _ => nI 0))), (q5, .inl (d.1, 8, .inl (fun _ => nI 0))), (q6, .inl (d.1, 8, .inl (fun _ => nI 0))), (q7, .inl (d.1, 8, .inl (fun _ => nI 0))), (q8, .inl (d.1, 128, .inl (fun _ => nI 0)))] H _ := hw
  refine W.widen (k := 8) (n := 192) (Nat.le_of_ble_eq_true rfl) (Nat.le_of_ble_eq_true rfl) ?_
  refine x1_putF (ws' := [(h0, .inr (1, [.ref q1, .ref q2, .ref q3, .ref q4, .ref q5, .ref q6, .ref q7, .int (nI 0), .ref q8, .null, .null, .null, .int (nI 0), .int (nI 0), .int (nI 0)])), (q1, .inl (d.1, 12, .inl (fun _ => nI 0))), (q2, .inl (d.1, 12, .inl (fun _ => nI 0))), (q3, .inl (d.1, 8, .inl (fun _ => nI 0))), (q4, .inl (d.1, 8, .inl (fun _ => nI 0))), (q5, .inl (d.1, 8, .inl (fun _ => nI 0))), (q6, .inl (d.1, 8, .inl (fun _ => nI 0))), (q7, .inl (d.1, 8, .inl (fun _ => nI 0))), (q8, .inl (d.1, 128, .inl (fun _ => nI 0)))]) S hw hin rfl 8 (by decide) q185 rfl rfl (.array .int) (by decide +kernel) rfl rfl (Nat.le_of_ble_eq_true rfl) rfl dX1_init_66 (fun H locs hw => ?_)
  refine lv_aload_n hx hb dX1_init_69 rfl (lv_at hl 0 rfl) ?_
  refine lv_sipush (v := nI 128) hx hb dX1_init_70 (by decide) ?_
  refine dc_newi S hw (N := 128) (nI_pos (by decide)) (nI_clamp (by decide)) (by decide) (Nat.le_of_ble_eq_true rfl) (Nat.le_of_ble_eq_true rfl) dX1_init_73 (fun q9 H hw => ?_)
  have hw : dc_Wd dg d A s [(h0, .inr (1, [.ref q1, .ref q2, .ref q3, .ref q4, .ref q5, .ref q6, .ref q7, .int (nI 0), .ref q8, .null, .null, .null, .int (nI 0), .int (nI 0), .int (nI 0)])), (q1, .inl (d.1, 12, .inl (fun _ => nI 0))), (q2, .inl (d.1, 12, .inl (fun _ => nI 0))), (q3, .inl (d.1, 8, .inl (fun _ => nI 0))), (q4, .inl (d.1, 8, .inl (fun _ => nI 0))), (q5, .inl (d.1, 8, .inl (fun _ => nI 0))), (q6, .inl (d.1, 8, .inl (fun _ => nI 0))), (q7, .inl (d.1, 8, .inl (fun _ => nI 0))), (q8, .inl (d.1, 128, .inl (fun _ => nI 0))), (q9, .inl (d.1, 128, .inl (fun _ => nI 0)))] H _ := hw
  refine W.widen (k := 9) (n := 320) (Nat.le_of_ble_eq_true rfl) (Nat.le_of_ble_eq_true rfl) ?_
  refine x1_putF (ws' := [(h0, .inr (1, [.ref q1, .ref q2, .ref q3, .ref q4, .ref q5, .ref q6, .ref q7, .int (nI 0), .ref q8, .ref q9, .null, .null, .int (nI 0), .int (nI 0), .int (nI 0)])), (q1, .inl (d.1, 12, .inl (fun _ => nI 0))), (q2, .inl (d.1, 12, .inl (fun _ => nI 0))), (q3, .inl (d.1, 8, .inl (fun _ => nI 0))), (q4, .inl (d.1, 8, .inl (fun _ => nI 0))), (q5, .inl (d.1, 8, .inl (fun _ => nI 0))), (q6, .inl (d.1, 8, .inl (fun _ => nI 0))), (q7, .inl (d.1, 8, .inl (fun _ => nI 0))), (q8, .inl (d.1, 128, .inl (fun _ => nI 0))), (q9, .inl (d.1, 128, .inl (fun _ => nI 0)))]) S hw hin rfl 9 (by decide) q186 rfl rfl (.array .int) (by decide +kernel) rfl rfl (Nat.le_of_ble_eq_true rfl) rfl dX1_init_75 (fun H locs hw => ?_)
  refine lv_aload_n hx hb dX1_init_78 rfl (lv_at hl 0 rfl) ?_
  refine lv_sipush (v := nI 128) hx hb dX1_init_79 (by decide) ?_
  refine dc_newi S hw (N := 128) (nI_pos (by decide)) (nI_clamp (by decide)) (by decide) (Nat.le_of_ble_eq_true rfl) (Nat.le_of_ble_eq_true rfl) dX1_init_82 (fun q10 H hw => ?_)
  have hw : dc_Wd dg d A s [(h0, .inr (1, [.ref q1, .ref q2, .ref q3, .ref q4, .ref q5, .ref q6, .ref q7, .int (nI 0), .ref q8, .ref q9, .null, .null, .int (nI 0), .int (nI 0), .int (nI 0)])), (q1, .inl (d.1, 12, .inl (fun _ => nI 0))), (q2, .inl (d.1, 12, .inl (fun _ => nI 0))), (q3, .inl (d.1, 8, .inl (fun _ => nI 0))), (q4, .inl (d.1, 8, .inl (fun _ => nI 0))), (q5, .inl (d.1, 8, .inl (fun _ => nI 0))), (q6, .inl (d.1, 8, .inl (fun _ => nI 0))), (q7, .inl (d.1, 8, .inl (fun _ => nI 0))), (q8, .inl (d.1, 128, .inl (fun _ => nI 0))), (q9, .inl (d.1, 128, .inl (fun _ => nI 0))), (q10, .inl (d.1, 128, .inl (fun _ => nI 0)))] H _ := hw
  refine W.widen (k := 10) (n := 448) (Nat.le_of_ble_eq_true rfl) (Nat.le_of_ble_eq_true rfl) ?_
  refine x1_putF (ws' := [(h0, .inr (1, [.ref q1, .ref q2, .ref q3, .ref q4, .ref q5, .ref q6, .ref q7, .int (nI 0), .ref q8, .ref q9, .ref q10, .null, .int (nI 0), .int (nI 0), .int (nI 0)])), (q1, .inl (d.1, 12, .inl (fun _ => nI 0))), (q2, .inl (d.1, 12, .inl (fun _ => nI 0))), (q3, .inl (d.1, 8, .inl (fun _ => nI 0))), (q4, .inl (d.1, 8, .inl (fun _ => nI 0))), (q5, .inl (d.1, 8, .inl (fun _ => nI 0))), (q6, .inl (d.1, 8, .inl (fun _ => nI 0))), (q7, .inl (d.1, 8, .inl (fun _ => nI 0))), (q8, .inl (d.1, 128, .inl (fun _ => nI 0))), (q9, .inl (d.1, 128, .inl (fun _ => nI 0))), (q10, .inl (d.1, 128, .inl (fun _ => nI 0)))]) S hw hin rfl 10 (by decide) q187 rfl rfl (.array .int) (by decide +kernel) rfl rfl (Nat.le_of_ble_eq_true rfl) rfl dX1_init_84 (fun H locs hw => ?_)
  refine lv_aload_n hx hb dX1_init_87 rfl (lv_at hl 0 rfl) ?_
  refine lv_sipush (v := nI 128) hx hb dX1_init_88 (by decide) ?_
  refine dc_newz S hw (N := 128) (nI_pos (by decide)) (nI_clamp (by decide)) (by decide) (Nat.le_of_ble_eq_true rfl) (Nat.le_of_ble_eq_true rfl) dX1_init_91 (fun q11 H hw => ?_)
  have hw : dc_Wd dg d A s [(h0, .inr (1, [.ref q1, .ref q2, .ref q3, .ref q4, .ref q5, .ref q6, .ref q7, .int (nI 0), .ref q8, .ref q9, .ref q10, .null, .int (nI 0), .int (nI 0), .int (nI 0)])), (q1, .inl (d.1, 12, .inl (fun _ => nI 0))), (q2, .inl (d.1, 12, .inl (fun _ => nI 0))), (q3, .inl (d.1, 8, .inl (fun _ => nI 0))), (q4, .inl (d.1, 8, .inl (fun _ => nI 0))), (q5, .inl (d.1, 8, .inl (fun _ => nI 0))), (q6, .inl (d.1, 8, .inl (fun _ => nI 0))), (q7, .inl (d.1, 8, .inl (fun _ => nI 0))), (q8, .inl (d.1, 128, .inl (fun _ => nI 0))), (q9, .inl (d.1, 128, .inl (fun _ => nI 0))), (q10, .inl (d.1, 128, .inl (fun _ => nI 0))), (q11, .inl (d.2, 128, .inl (fun _ => nI 0)))] H _ := hw
  refine W.widen (k := 11) (n := 576) (Nat.le_of_ble_eq_true rfl) (Nat.le_of_ble_eq_true rfl) ?_
  refine x1_putF (ws' := [(h0, .inr (1, [.ref q1, .ref q2, .ref q3, .ref q4, .ref q5, .ref q6, .ref q7, .int (nI 0), .ref q8, .ref q9, .ref q10, .ref q11, .int (nI 0), .int (nI 0), .int (nI 0)])), (q1, .inl (d.1, 12, .inl (fun _ => nI 0))), (q2, .inl (d.1, 12, .inl (fun _ => nI 0))), (q3, .inl (d.1, 8, .inl (fun _ => nI 0))), (q4, .inl (d.1, 8, .inl (fun _ => nI 0))), (q5, .inl (d.1, 8, .inl (fun _ => nI 0))), (q6, .inl (d.1, 8, .inl (fun _ => nI 0))), (q7, .inl (d.1, 8, .inl (fun _ => nI 0))), (q8, .inl (d.1, 128, .inl (fun _ => nI 0))), (q9, .inl (d.1, 128, .inl (fun _ => nI 0))), (q10, .inl (d.1, 128, .inl (fun _ => nI 0))), (q11, .inl (d.2, 128, .inl (fun _ => nI 0)))]) S hw hin rfl 11 (by decide) q188 rfl rfl (.array .boolean) (by decide +kernel) rfl rfl (Nat.le_of_ble_eq_true rfl) rfl dX1_init_93 (fun H locs hw => ?_)
  exact ret 96 _ _ _ (fun k => ([h0, q1, q2, q3, q4, q5, q6, q7, q8, q9, q10, q11] : List Nat).getD k 0) dX1_init_96 rfl hw
end
section
set_option maxRecDepth 100000
def R_law : String := "DeltaCyclesLaw"
def lw_P (b : Addr) (xs : List Int32) (args : Array Value) (s : State) : Prop := args = #[.ref b] ∧ s.IntsAt b xs ∧ xs.length ≤ 320 ∧ (Jvm.Cond.and given_1 narrow_1).before args s = true
def lw_Q (_ : Array Value) (s : State) (o : Outcome) (t : State) : Prop := o = .returned (some (.int 1)) ∧ Framed s o t [] 600000 7290000
def lw_Z (below : List Frame) (a : Array Value) (s : State) : State → Prop := fun t => ∃ o, t.status = .running ∧ Ended t below o ∧ lw_Q a s o t
/-- the law's own end, with 1 on the stack, nothing written that was there before, its room as the claim has it -/
theorem lw_ret {p : Program} {l : Launch} {e : Env} {s : State} {m : MethodId} {below : List Frame} {meth : Method} {c : Code} {b : Nat} (hx : p.tables.exec = Jvm.exec) (hb : c.code = code) (hr : meth.sig.returnType = ret) (hlocks : meth.locks = false) {pc : Nat} {H : Heap} {ls : Array Slot} (hdg : decode code pc = .ok (.ireturn, 1)) : W p l e room_1 s m #[Value.ref b] below meth c H [] 600000 7290000 (lw_Z below #[Value.ref b] s) (F0 m pc ls [.int 1]) := by
  intro T hT X
  obtain ⟨fs, hret, hrun, hended, hW, hframe⟩ := X.leave (v := some (.int 1)) (hlocks := hlocks) (fun h => by rw [hr] at h; cases h)
  have hmeth' : T.vm.method? m = some meth := X.method'
  refine ⟨T.setFrames fs, ?_, .returned (some (.int 1)), hrun, hended, rfl, ⟨_, rfl⟩, hW, hframe⟩
  jvm_step X.here [X.here.top, hx, hb, hdg, hmeth', hr, ret, narrow_b1]
  (try refine ⟨rfl, ?_⟩); (try refine ⟨rfl, ?_⟩)
  first | (intro acts; rw [hret _ acts rfl rfl rfl]) | rw [hret _ _ rfl rfl rfl]
  exact Steps.refl _
/-- what holds at the law's entry: the machine, the code, the tables' words (any of lw_tbl by 'hts w (by decide +kernel)'), the script of L ints xs at the cell b, what the Statement gives of the start (any of its parts by flat_of_before) -/
def lw_At (p : Program) (s : State) (m : MethodId) (meth : Method) (c : Code) (b L : Nat) (xs : Nat → Int32) : Prop :=
  p.tables.exec = Jvm.exec ∧ c.code = code ∧ meth.sig.returnType = ret ∧ c.maxLocals = 4 ∧ s.vm.findClass R_law = some m.cls ∧ (∀ w ∈ lw_tbl, w.before #[Value.ref b] s = true) ∧ va_X b L xs s s.heap ∧ b < s.heap.size ∧ meth.locks = false ∧ (Jvm.Cond.and given_1 narrow_1).before #[Value.ref b] s = true
section TWO
variable {D : va_G} {d : ClassId × ClassId} {A : Nat → Prop} {s : State} {w1 w2 w3 : va_W} {H H1 : Heap} {locs locs1 : List Loc}
theorem wd_left (h : dc_Wd D d A s (w1 ++ w2) H locs) : dc_Wd D d A s w1 H locs := by
  have at' : ∀ (k : Nat) (q : Nat × va_E), w1[k]? = some q → (w1 ++ w2)[k]? = some q := fun k q hk => by
    rw [List.getElem?_append_left (List.getElem?_eq_some_iff.mp hk).1]; exact hk
  exact ⟨h.1, fun k q hk => h.2.1 k q (at' k q hk), ⟨fun i j x z hi hj e => h.2.2.1.1 i j x z (at' i x hi) (at' j z hj) e, fun k q hk => h.2.2.1.2 k q (at' k q hk)⟩, h.2.2.2⟩
theorem wd_at2 (k : Nat) (q : Nat × va_E) (hk : w2[k]? = some q) : (w1 ++ w2)[w1.length + k]? = some q := by
  rw [List.getElem?_append_right (Nat.le_add_right _ _), Nat.add_sub_cancel_left]; exact hk
theorem wd_right (h : dc_Wd D d A s (w1 ++ w2) H locs) : dc_Wd D d A s w2 H locs := by
  refine ⟨h.1, fun k q hk => h.2.1 _ q (wd_at2 k q hk), ⟨fun i j x z hi hj e => ?_, fun k q hk => h.2.2.1.2 _ q (wd_at2 k q hk)⟩, h.2.2.2⟩
  have := h.2.2.1.1 _ _ x z (wd_at2 (w1 := w1) i x hi) (wd_at2 (w1 := w1) j z hj) e
  omega
theorem wd_apart (h : dc_Wd D d A s (w1 ++ w2) H locs) {i j : Nat} {x z : Nat × va_E} (hi : w1[i]? = some x) (hj : w2[j]? = some z) : x.1 ≠ z.1 := by
  intro e
  have hlt := (List.getElem?_eq_some_iff.mp hi).1
  have := h.2.2.1.1 i (w1.length + j) x z (by rw [List.getElem?_append_left hlt]; exact hi) (wd_at2 j z hj) e
  omega
theorem wd_swap (h : dc_Wd D d A s (w1 ++ w2) H locs) : dc_Wd D d A s (w2 ++ w1) H locs :=
  ⟨h.1, va_P.app (wd_right h).2.1 (wd_left h).2.1, va_D.app (wd_right h).2.2.1 (wd_left h).2.2.1 (fun i j x z hi hj => (wd_apart h hj hi).symm), h.2.2.2⟩
/-- behind a call on the left world: the right one stands, what came back is put behind it -/
theorem wd_join (h : dc_Wd D d A s (w1 ++ w2) H locs) (hk : ∀ q : Nat, q < H.size → ¬ va_A w1 H.size q → H1[q]? = H[q]?) (hP : va_P D vwCl w3 H1) (hD : va_D (va_A w1 H.size) w3) (hS : va_S A s.heap H1 locs1) : dc_Wd D d A s (w2 ++ w3) H1 locs1 := by
  have hr := wd_right h
  have ap : ∀ (k : Nat) (q : Nat × va_E), w2[k]? = some q → q.1 < H.size ∧ ¬ va_A w1 H.size q.1 := by
    intro k q hq
    have hl := (hr.2.1 k q hq).lt
    refine ⟨hl, fun z => ?_⟩
    rcases z with ⟨k2, e, z⟩ | z
    · exact wd_apart h z hq rfl
    · omega
  refine ⟨h.1, va_P.app (fun k q hq => (hr.2.1 k q hq).kept (hk q.1 (ap k q hq).1 (ap k q hq).2)) hP, va_D.app hr.2.2.1 (hD.weaken (fun k q _ z => dc_free (wd_left h) q.1 z)) (fun i j x z hi hj e => (ap i x hi).2 (by rw [e]; exact hD.2 j z hj)), hS, h.2.2.2.2⟩
end TWO
section LAWROWS
variable {p : Program} {l : Launch} {e : Env} {R : Room} {s : State} {m : MethodId} {args : Array Value} {below : List Frame} {meth : Method} {c : Code} {H : Heap} {locs : List Loc} {cells slots : Nat} {Q : State → Prop}
variable {cc : ByteArray} {pc nL : Nat} {ls : Array Slot} {rest : List Value} {own : String} {D : va_G} {d : ClassId × ClassId} {A : Nat → Prop} {w1 w2 : va_W}
variable {y : MethodName} {bytes : ByteArray} {maxL n idx mc ms : Nat} {ret : Option FieldType} {rm : Room} {As st : List Value} {a ci : Nat} {q : vw_C} {fs : List Value}
theorem dc_callIL {S0 : Type} {post : Int32 → S0 → Prop} {wf : S0 → va_W} (S : CallFix p m c cc nL s args lw_all own) (hw : dc_Wd D d A s (w1 ++ w2) H locs) (hM : Met l y (ws_ y bytes maxL ret) rm (dc_Pre D d (.ref a :: As) w1 H.size) (va_Qi post (dc_B D d (va_A w1 H.size) wf) (va_A w1 H.size)) 0 0 (va_A w1 H.size))
    (hcw : CallW R s args own y.cls idx y bytes maxL ret (ws_ y bytes maxL ret) rm 0 0 n) (hc : vwCl[ci]? = some q) (hC : q.1 = y.cls) (he : w1[0]? = some (a, .inr (ci, fs))) (hn : As.length = n) (hls : ls.size = nL) (hst : st = As.reverse ++ .ref a :: rest) (hW : (rest.map fun v => v.category).sum ≤ 8) (hdg : decode cc pc = .ok (.invokevirtual idx, 3)) (hf : cells ≤ R.cells ∧ slots ≤ R.slots)
    (kk : ∀ (r : Int32) (u : S0) (H1 : Heap) (locs1 : List Loc), post r u → dc_Wd D d A s (w2 ++ wf u) H1 locs1 → W p l e R s m args below meth c H1 locs1 cells slots Q (F0 m (pc + 3) ls (.int r :: rest))) : W p l e R s m args below meth c H locs cells slots Q (F0 m pc ls st) := by
  subst hst
  have hl := wd_left hw
  refine va_calli (va_runV S hM hcw ⟨dc_blind, by rw [← hC]; exact va_recv hl.1 hl.2.1 hc he, dc_pre hl _⟩ rfl hn hls rfl (lv_room hW) hdg hf) hl.2.2.2.1 (fun q _ h => dc_free hl q h) (dc_free hl) (fun r u t H1 locs1 ht hvm hp hB hz hk hS => ?_)
  exact kk r u H1 locs1 hp (wd_join hw hk (by rw [← ht]; exact hB.1) hB.2.2 hS)
theorem dc_callVL {S0 : Type} {post : S0 → Prop} {wf : S0 → va_W} (S : CallFix p m c cc nL s args lw_all own) (hw : dc_Wd D d A s (w1 ++ w2) H locs) (hM : Met l y (ws_ y bytes maxL ret) rm (dc_Pre D d (.ref a :: As) w1 H.size) (va_Qv post (dc_B D d (va_A w1 H.size) wf) (va_A w1 H.size)) 0 0 (va_A w1 H.size))
    (hcw : CallW R s args own y.cls idx y bytes maxL ret (ws_ y bytes maxL ret) rm 0 0 n) (hc : vwCl[ci]? = some q) (hC : q.1 = y.cls) (he : w1[0]? = some (a, .inr (ci, fs))) (hn : As.length = n) (hls : ls.size = nL) (hst : st = As.reverse ++ .ref a :: rest) (hW : (rest.map fun v => v.category).sum ≤ 8) (hdg : decode cc pc = .ok (.invokevirtual idx, 3)) (hf : cells ≤ R.cells ∧ slots ≤ R.slots)
    (kk : ∀ (u : S0) (H1 : Heap) (locs1 : List Loc), post u → dc_Wd D d A s (w2 ++ wf u) H1 locs1 → W p l e R s m args below meth c H1 locs1 cells slots Q (F0 m (pc + 3) ls rest)) : W p l e R s m args below meth c H locs cells slots Q (F0 m pc ls st) := by
  subst hst
  have hl := wd_left hw
  refine va_callv (va_runV S hM hcw ⟨dc_blind, by rw [← hC]; exact va_recv hl.1 hl.2.1 hc he, dc_pre hl _⟩ rfl hn hls rfl (lv_room hW) hdg hf) hl.2.2.2.1 (fun q _ h => dc_free hl q h) (dc_free hl) (fun u t H1 locs1 ht hvm hp hB hz hk hS => ?_)
  exact kk u H1 locs1 hp (wd_join hw hk (by rw [← ht]; exact hB.1) hB.2.2 hS)
theorem dc_callC {S0 : Type} {post : S0 → Prop} {wf : S0 → va_W} (S : CallFix p m c cc nL s args lw_all own) (hw : dc_Wd D d A s (w1 ++ w2) H locs) (hM : Met l y (ws_ y bytes maxL none) rm (dc_Pre D d (.ref a :: As) w1 H.size) (va_Qv post (dc_B D d (va_A w1 H.size) wf) (va_A w1 H.size)) mc ms (va_A w1 H.size))
    (hcw : CallB R s args own idx y bytes maxL none (ws_ y bytes maxL none) rm mc ms n ∧ y.name = "<init>" ∧ (Cond.instanceMethod y).before args s = true) (hn : As.length = n) (hls : ls.size = nL) (hst : st = As.reverse ++ .ref a :: rest) (hW : (rest.map fun v => v.category).sum ≤ 8) (hdg : decode cc pc = .ok (.invokespecial idx, 3)) (hf : cells + mc ≤ R.cells ∧ slots + ms ≤ R.slots)
    (kk : ∀ (u : S0) (H1 : Heap) (locs1 : List Loc), post u → dc_Wd D d A s (w2 ++ wf u) H1 locs1 → W p l e R s m args below meth c H1 locs1 (cells + mc) (slots + ms) Q (F0 m (pc + 3) ls rest)) : W p l e R s m args below meth c H locs cells slots Q (F0 m pc ls st) := by
  subst hst
  have hl := wd_left hw
  refine va_callv (va_runI S hM hcw ⟨dc_blind, dc_pre hl _⟩ rfl hn hls rfl (lv_room hW) hdg hf) hl.2.2.2.1 (fun q _ h => dc_free hl q h) (dc_free hl) (fun u t H1 locs1 ht hvm hp hB hz hk hS => ?_)
  exact kk u H1 locs1 hp (wd_join hw hk (by rw [← ht]; exact hB.1) hB.2.2 hS)
theorem dc_sld {b L : Nat} {xs : Nat → Int32} (S : CallFix p m c cc nL s args lw_all own) (hX : va_X b L xs s s.heap) (hbl : b < s.heap.size) (hw : dc_Wd D d (fun q : Nat => s.heap.size ≤ q) s w1 H locs) {i : Nat} (hi : i < L) (hL : L < 2 ^ 31) (hdg : decode cc pc = .ok (.iaload, 1))
    (kk : W p l e R s m args below meth c H locs cells slots Q (F0 m (pc + 1) ls (.int (xs i) :: rest))) : W p l e R s m args below meth c H locs cells slots Q (F0 m pc ls (.int (nI i) :: .ref b :: rest)) :=
  va_sld S.1 S.2.1 hX hbl (Nat.not_le.mpr hbl) hw.2.2.2.1 (vp_in_nI hi hL) hdg (by rw [nI_clamp (by omega)]; exact kk)
theorem dc_slen {b L : Nat} {xs : Nat → Int32} (S : CallFix p m c cc nL s args lw_all own) (hX : va_X b L xs s s.heap) (hbl : b < s.heap.size) (hw : dc_Wd D d (fun q : Nat => s.heap.size ≤ q) s w1 H locs) (hdg : decode cc pc = .ok (.arraylength, 1))
    (kk : W p l e R s m args below meth c H locs cells slots Q (F0 m (pc + 1) ls (.int (nI L) :: rest))) : W p l e R s m args below meth c H locs cells slots Q (F0 m pc ls (.ref b :: rest)) :=
  va_slen S.1 S.2.1 hX hbl (Nat.not_le.mpr hbl) hw.2.2.2.1 hdg kk
end LAWROWS
theorem dc_len5 {L i : Nat} (hL : L ≤ 320) (hi : i ≤ 320) : nI L - nI 5 < nI i ↔ L < i + 5 := by
  rw [Int32.lt_iff_toInt_lt, pk_sub_toInt (by omega) (by omega), nI_toInt (by omega)]
  omega
/-- between the calls: both objects hold the same -/
def dc_J (d : ClassId × ClassId) (aX aM : Nat → Nat) (j : Nat) (ws : va_W) : Prop :=
  ∃ (Q : dc_Q) (V E : Nat → Int32) (t : Nat) (dn : Int32) (G : dc_T) (ds : Int32) (DV WS WV : Nat → Int32) (c0 : Nat) (SG VL TM NX : Nat → Int32),
    dc_RX t Q ds DV WS WV ∧ dc_RM t Q c0 SG VL TM NX ∧ dc_okT G ∧ t ≤ 2000 * j ∧
    ws = dc_wX d aX V E (nI G.1) G.2.1 G.2.2.1 G.2.2.2.1 G.2.2.2.2.1 G.2.2.2.2.2 (nI t) dn ds DV WS WV ++ dc_wM d aM V E G.2.1 G.2.2.1 (fun p => G.2.2.2.1 p &&& 65535) G.2.2.2.2.1 G.2.2.2.2.2 (nI G.1) SG VL TM NX (nI c0) (nI t) dn
theorem rm_none (SG VL TM NX : Nat → Int32) : dc_RM 0 (fun _ _ => none) 0 SG VL TM NX := by
  refine ⟨[], rfl, fun i e h => by simp at h, ⟨fun T s v => ⟨fun h => absurd h List.not_mem_nil, (fun h => by cases h)⟩, List.Pairwise.nil⟩, fun T s h => absurd rfl h⟩
end
section
set_option maxRecDepth 100000
set_option maxHeartbeats 4000000 in
set_option maxRecDepth 100000 in
/-- THE LAW'S LOOP: at its head, with j calls made, both objects hold the same -/
theorem law_loop {p : Program} {l : Launch} {e : Env} {s : State} {m : MethodId} {below : List Frame} {meth : Method} {c : Code} {dg : va_G} {d : ClassId × ClassId} {aX aM : Nat → Nat} {b L : Nat} {xs : Nat → Int32} (hL : L ≤ 320) (C0 : lw_At p s m meth c b L xs) :
    ∀ (n j : Nat), 5 * j ≤ L → L + 1 ≤ 5 * j + n → ∀ ws : va_W, dc_J d aX aM j ws → ∀ (H : Heap) (locs : List Loc), dc_Wd dg d (fun q : Nat => s.heap.size ≤ q) s ws H locs → ∀ ls : Array Slot, lv_has ls 4 [(3, .int (nI (5 * j))), (2, .ref (aM 0)), (1, .ref (aX 0)), (0, .ref b)] → W p l e room_1 s m #[Value.ref b] below meth c H locs 23 811 (lw_Z below #[Value.ref b] s) (F0 m 18 ls []) := by
  obtain ⟨hx, hb, hr, hml, hown, hts0, hX, hbl, hlocks, hgv⟩ := C0
  have hts : ∀ w ∈ lw_all, w.before #[Value.ref b] s = true := fun w h => hts0 w (lw_all_tbl h)
  have S : CallFix p m c cL_law 4 s #[Value.ref b] lw_all R_law := ⟨hx, hb, hml, hown, hts⟩
  intro n
  induction n with
  | zero =>
    intro j h1 h2
    exact absurd h2 (by omega)
  | succ n ih =>
    intro j hj hn ws hJ H locs hw ls hl
    obtain ⟨i, ei⟩ : ∃ i, i = 5 * j := ⟨_, rfl⟩
    rw [← ei] at hl
    refine lv_iload_n hx hb dL_law_18 rfl (lv_at hl 0 rfl) ?_
    refine lv_aload_n hx hb dL_law_19 rfl (lv_at hl 3 rfl) ?_
    refine dc_slen S hX hbl hw dL_law_20 ?_
    refine lv_iconst (v := nI 5) hx hb dL_law_21 (by decide) ?_
    refine lv_isub hx hb dL_law_22 ?_
    refine lv_icmp_gt (tgt := 403) hx hb dL_law_23 (by decide) (fun c_23 => ?_) (fun c_23 => ?_)
    · refine lv_iconst (v := 1) hx hb dL_law_403 (by decide) ?_
      refine va_forget (fun q hq => hw.2.2.2.1.2.2 q hq) ?_
      refine W.widen (k := 600000) (n := 7290000) (Nat.le_of_ble_eq_true rfl) (Nat.le_of_ble_eq_true rfl) ?_
      exact lw_ret hx hb hr hlocks dL_law_404
    · have hi5 : i + 5 ≤ L := Nat.not_lt.mp fun q => c_23 ((dc_len5 hL (by omega)).mpr q)
      have nx : ∀ ws : va_W, dc_J d aX aM (j + 1) ws → ∀ (H : Heap) (locs : List Loc), dc_Wd dg d (fun q : Nat => s.heap.size ≤ q) s ws H locs → ∀ ls : Array Slot, lv_has ls 4 [(3, .int (nI i)), (2, .ref (aM 0)), (1, .ref (aX 0)), (0, .ref b)] → W p l e room_1 s m #[Value.ref b] below meth c H locs 23 811 (lw_Z below #[Value.ref b] s) (F0 m 397 ls []) := by
        intro ws hJ H locs hw ls hl
        refine lv_iinc (v := nI (5 * (j + 1))) (lv' := [(3, .int (nI (5 * (j + 1)))), (2, .ref (aM 0)), (1, .ref (aX 0)), (0, .ref b)]) hx hb dL_law_397 hl (k := 0) rfl (by rw [ei]; exact nI_add (5 * j) 5) (by decide) rfl (fun ls hl => ?_)
        refine lv_goto (tgt := 18) hx hb dL_law_400 (by decide) ?_
        exact ih (j + 1) (by omega) (by omega) ws hJ H locs hw ls hl
      refine lv_aload_n hx hb dL_law_26 rfl (lv_at hl 3 rfl) ?_
      refine lv_iload_n hx hb dL_law_27 rfl (lv_at hl 0 rfl) ?_
      refine dc_sld S hX hbl hw (i := i) (by omega) (by omega) dL_law_28 ?_
      refine lv_bipush (v := nI 15) hx hb dL_law_29 (by decide) ?_
      refine lv_iand hx hb dL_law_31 ?_
      obtain ⟨k, hk, ek⟩ := pk_andE (xs i) (m := nI 15) 4 (by decide)
      refine dc_top ek ?_
      obtain ⟨Q, V, E, t, dn, ⟨n0, K, Y, P, C, Wt⟩, ds, DV, WS, WV, c0, SG, VL, TM, NX, hR, hM, hG, htj, ews⟩ := hJ
      have h8 : n0 ≤ 8 := hG.1
      have ews : ws = dc_wX d aX V E (nI n0) K Y P C Wt (nI t) dn ds DV WS WV ++ dc_wM d aM V E K Y (fun p => P p &&& 65535) C Wt (nI n0) SG VL TM NX (nI c0) (nI t) dn := ews
      subst ews
      rcases (show k = 0 ∨ k = 1 ∨ k = 2 ∨ k = 3 ∨ k = 4 ∨ k = 5 ∨ k = 6 ∨ k = 7 ∨ k = 8 ∨ k = 9 ∨ k = 10 ∨ k = 11 ∨ k = 12 ∨ 13 ≤ k by omega) with h | h | h | h | h | h | h | h | h | h | h | h | h | h
      · subst h
        refine lv_tableIn (off := 68) (tgt := 100) hx hb dL_law_32 (by decide) (by decide) rfl (by decide) ?_
        refine lv_aload_n hx hb dL_law_100 rfl (lv_at hl 2 rfl) ?_
        refine lv_aload_n hx hb dL_law_101 rfl (lv_at hl 3 rfl) ?_
        refine lv_iload_n hx hb dL_law_102 rfl (lv_at hl 0 rfl) ?_
        refine lv_iconst (v := nI 1) hx hb dL_law_103 (by decide) ?_
        refine dc_addN hx hb dL_law_104 ?_
        refine dc_sld S hX hbl hw (i := i + 1) (by omega) (by omega) dL_law_105 ?_
        refine lv_aload_n hx hb dL_law_106 rfl (lv_at hl 3 rfl) ?_
        refine lv_iload_n hx hb dL_law_107 rfl (lv_at hl 0 rfl) ?_
        refine lv_iconst (v := nI 2) hx hb dL_law_108 (by decide) ?_
        refine dc_addN hx hb dL_law_109 ?_
        refine dc_sld S hX hbl hw (i := i + 2) (by omega) (by omega) dL_law_110 ?_
        refine lv_aload_n hx hb dL_law_111 rfl (lv_at hl 3 rfl) ?_
        refine lv_iload_n hx hb dL_law_112 rfl (lv_at hl 0 rfl) ?_
        refine lv_iconst (v := nI 3) hx hb dL_law_113 (by decide) ?_
        refine dc_addN hx hb dL_law_114 ?_
        refine dc_sld S hX hbl hw (i := i + 3) (by omega) (by omega) dL_law_115 ?_
        refine lv_aload_n hx hb dL_law_116 rfl (lv_at hl 3 rfl) ?_
        refine lv_iload_n hx hb dL_law_117 rfl (lv_at hl 0 rfl) ?_
        refine lv_iconst (v := nI 4) hx hb dL_law_118 (by decide) ?_
        refine dc_addN hx hb dL_law_119 ?_
        refine dc_sld S hX hbl hw (i := i + 4) (by omega) (by omega) dL_law_120 ?_
        refine dc_callIL (As := [.int (xs (i + 1)), .int (xs (i + 2)), .int (xs (i + 3)), .int (xs (i + 4))]) (rest := []) S hw (mX0_process l dg d aX _ V E n0 K Y P C Wt (nI t) dn ds DV WS WV (xs (i + 1)) (xs (i + 2)) (xs (i + 3)) (xs (i + 4)) h8) (cwV 4 S.2.2.2.2 (lw_V q71 q72 q73 q17 q74) rfl rfl rfl (by decide +kernel) ⟨Nat.le_of_ble_eq_true rfl, Nat.le_of_ble_eq_true rfl⟩) (ci := 0) rfl rfl rfl rfl hl.1 rfl (Nat.le_of_ble_eq_true rfl) dL_law_121 ⟨Nat.le_of_ble_eq_true rfl, Nat.le_of_ble_eq_true rfl⟩ (fun r1 z H locs hz hw => ?_)
        obtain ⟨hr1, hz1⟩ := hz
        refine lv_aload_n hx hb dL_law_124 rfl (lv_at hl 1 rfl) ?_
        refine lv_aload_n hx hb dL_law_125 rfl (lv_at hl 3 rfl) ?_
        refine lv_iload_n hx hb dL_law_126 rfl (lv_at hl 0 rfl) ?_
        refine lv_iconst (v := nI 1) hx hb dL_law_127 (by decide) ?_
        refine dc_addN hx hb dL_law_128 ?_
        refine dc_sld S hX hbl hw (i := i + 1) (by omega) (by omega) dL_law_129 ?_
        refine lv_aload_n hx hb dL_law_130 rfl (lv_at hl 3 rfl) ?_
        refine lv_iload_n hx hb dL_law_131 rfl (lv_at hl 0 rfl) ?_
        refine lv_iconst (v := nI 2) hx hb dL_law_132 (by decide) ?_
        refine dc_addN hx hb dL_law_133 ?_
        refine dc_sld S hX hbl hw (i := i + 2) (by omega) (by omega) dL_law_134 ?_
        refine lv_aload_n hx hb dL_law_135 rfl (lv_at hl 3 rfl) ?_
        refine lv_iload_n hx hb dL_law_136 rfl (lv_at hl 0 rfl) ?_
        refine lv_iconst (v := nI 3) hx hb dL_law_137 (by decide) ?_
        refine dc_addN hx hb dL_law_138 ?_
        refine dc_sld S hX hbl hw (i := i + 3) (by omega) (by omega) dL_law_139 ?_
        refine lv_aload_n hx hb dL_law_140 rfl (lv_at hl 3 rfl) ?_
        refine lv_iload_n hx hb dL_law_141 rfl (lv_at hl 0 rfl) ?_
        refine lv_iconst (v := nI 4) hx hb dL_law_142 (by decide) ?_
        refine dc_addN hx hb dL_law_143 ?_
        refine dc_sld S hX hbl hw (i := i + 4) (by omega) (by omega) dL_law_144 ?_
        refine dc_callIL (As := [.int (xs (i + 1)), .int (xs (i + 2)), .int (xs (i + 3)), .int (xs (i + 4))]) (rest := [.int (r1)]) S hw (mX1_process l dg d aM _ V E K Y P C Wt n0 SG VL TM NX (nI c0) (nI t) dn (xs (i + 1)) (xs (i + 2)) (xs (i + 3)) (xs (i + 4)) h8) (cwV 4 S.2.2.2.2 (lw_V q224 q225 q226 q18 q227) rfl rfl rfl (by decide +kernel) ⟨Nat.le_of_ble_eq_true rfl, Nat.le_of_ble_eq_true rfl⟩) (ci := 1) rfl rfl rfl rfl hl.1 rfl (Nat.le_of_ble_eq_true rfl) dL_law_145 ⟨Nat.le_of_ble_eq_true rfl, Nat.le_of_ble_eq_true rfl⟩ (fun r2 z2 H locs hz2 hw => ?_)
        obtain ⟨hr2, hz2⟩ := hz2
        subst hz1
        subst hz2
        refine lv_icmp_eq (tgt := 397) hx hb dL_law_148 (by decide) (fun cE => ?_) (fun cE => ?_)
        · exact nx _ ⟨Q, V, E, t, dn, dc_prG (n0, K, Y, P, C, Wt) (xs (i + 1)) (xs (i + 2)) (xs (i + 3)) (xs (i + 4)), ds, DV, WS, WV, c0, SG, VL, TM, NX, hR, hM, dc_okT_pr hG _ _ _ _, (by omega), rfl⟩ H locs hw ls hl
        · exact absurd (by rw [hr1, hr2]) cE
      · subst h
        refine lv_tableIn (off := 121) (tgt := 153) hx hb dL_law_32 (by decide) (by decide) rfl (by decide) ?_
        refine lv_aload_n hx hb dL_law_153 rfl (lv_at hl 2 rfl) ?_
        refine lv_aload_n hx hb dL_law_154 rfl (lv_at hl 3 rfl) ?_
        refine lv_iload_n hx hb dL_law_155 rfl (lv_at hl 0 rfl) ?_
        refine lv_iconst (v := nI 1) hx hb dL_law_156 (by decide) ?_
        refine dc_addN hx hb dL_law_157 ?_
        refine dc_sld S hX hbl hw (i := i + 1) (by omega) (by omega) dL_law_158 ?_
        refine lv_aload_n hx hb dL_law_159 rfl (lv_at hl 3 rfl) ?_
        refine lv_iload_n hx hb dL_law_160 rfl (lv_at hl 0 rfl) ?_
        refine lv_iconst (v := nI 2) hx hb dL_law_161 (by decide) ?_
        refine dc_addN hx hb dL_law_162 ?_
        refine dc_sld S hX hbl hw (i := i + 2) (by omega) (by omega) dL_law_163 ?_
        refine lv_aload_n hx hb dL_law_164 rfl (lv_at hl 3 rfl) ?_
        refine lv_iload_n hx hb dL_law_165 rfl (lv_at hl 0 rfl) ?_
        refine lv_iconst (v := nI 3) hx hb dL_law_166 (by decide) ?_
        refine dc_addN hx hb dL_law_167 ?_
        refine dc_sld S hX hbl hw (i := i + 3) (by omega) (by omega) dL_law_168 ?_
        refine dc_callIL (As := [.int (xs (i + 1)), .int (xs (i + 2)), .int (xs (i + 3))]) (rest := []) S hw (mX0_drive l dg d aX _ V E (nI n0) K Y P C Wt t dn ds DV WS WV Q (xs (i + 1)) (xs (i + 2)) (xs (i + 3)) (by omega) hR) (cwV 3 S.2.2.2.2 (lw_V q78 q79 q80 q17 q81) rfl rfl rfl (by decide +kernel) ⟨Nat.le_of_ble_eq_true rfl, Nat.le_of_ble_eq_true rfl⟩) (ci := 0) rfl rfl rfl rfl hl.1 rfl (Nat.le_of_ble_eq_true rfl) dL_law_169 ⟨Nat.le_of_ble_eq_true rfl, Nat.le_of_ble_eq_true rfl⟩ (fun r1 z H locs hz hw => ?_)
        obtain ⟨ds1, DV1, WS1, WV1⟩ := z
        obtain ⟨hr1, hR1⟩ := hz
        refine lv_aload_n hx hb dL_law_172 rfl (lv_at hl 1 rfl) ?_
        refine lv_aload_n hx hb dL_law_173 rfl (lv_at hl 3 rfl) ?_
        refine lv_iload_n hx hb dL_law_174 rfl (lv_at hl 0 rfl) ?_
        refine lv_iconst (v := nI 1) hx hb dL_law_175 (by decide) ?_
        refine dc_addN hx hb dL_law_176 ?_
        refine dc_sld S hX hbl hw (i := i + 1) (by omega) (by omega) dL_law_177 ?_
        refine lv_aload_n hx hb dL_law_178 rfl (lv_at hl 3 rfl) ?_
        refine lv_iload_n hx hb dL_law_179 rfl (lv_at hl 0 rfl) ?_
        refine lv_iconst (v := nI 2) hx hb dL_law_180 (by decide) ?_
        refine dc_addN hx hb dL_law_181 ?_
        refine dc_sld S hX hbl hw (i := i + 2) (by omega) (by omega) dL_law_182 ?_
        refine lv_aload_n hx hb dL_law_183 rfl (lv_at hl 3 rfl) ?_
        refine lv_iload_n hx hb dL_law_184 rfl (lv_at hl 0 rfl) ?_
        refine lv_iconst (v := nI 3) hx hb dL_law_185 (by decide) ?_
        refine dc_addN hx hb dL_law_186 ?_
        refine dc_sld S hX hbl hw (i := i + 3) (by omega) (by omega) dL_law_187 ?_
        refine dc_callIL (As := [.int (xs (i + 1)), .int (xs (i + 2)), .int (xs (i + 3))]) (rest := [.int (r1)]) S hw (mX1_drive l dg d aM _ V E K Y (fun p => P p &&& 65535) C Wt (nI n0) SG VL TM NX c0 t dn Q (xs (i + 1)) (xs (i + 2)) (xs (i + 3)) (by omega) hM) (cwV 3 S.2.2.2.2 (lw_V q229 q230 q231 q18 q232) rfl rfl rfl (by decide +kernel) ⟨Nat.le_of_ble_eq_true rfl, Nat.le_of_ble_eq_true rfl⟩) (ci := 1) rfl rfl rfl rfl hl.1 rfl (Nat.le_of_ble_eq_true rfl) dL_law_188 ⟨Nat.le_of_ble_eq_true rfl, Nat.le_of_ble_eq_true rfl⟩ (fun r2 z2 H locs hz2 hw => ?_)
        obtain ⟨c1, SG1, VL1, TM1, NX1⟩ := z2
        obtain ⟨hr2, hM1⟩ := hz2
        refine lv_icmp_eq (tgt := 397) hx hb dL_law_191 (by decide) (fun cE => ?_) (fun cE => ?_)
        · exact nx _ ⟨dc_drQ t Q (xs (i + 1)) (xs (i + 2)) (xs (i + 3)), V, E, t, dn, (n0, K, Y, P, C, Wt), ds1, DV1, WS1, WV1, c1, SG1, VL1, TM1, NX1, hR1, hM1, hG, (by omega), rfl⟩ H locs hw ls hl
        · exact absurd (by rw [hr1, hr2]) cE
      · subst h
        refine lv_tableIn (off := 164) (tgt := 196) hx hb dL_law_32 (by decide) (by decide) rfl (by decide) ?_
        refine lv_aload_n hx hb dL_law_196 rfl (lv_at hl 2 rfl) ?_
        refine lv_aload_n hx hb dL_law_197 rfl (lv_at hl 3 rfl) ?_
        refine lv_iload_n hx hb dL_law_198 rfl (lv_at hl 0 rfl) ?_
        refine lv_iconst (v := nI 1) hx hb dL_law_199 (by decide) ?_
        refine dc_addN hx hb dL_law_200 ?_
        refine dc_sld S hX hbl hw (i := i + 1) (by omega) (by omega) dL_law_201 ?_
        refine dc_callIL (As := [.int (xs (i + 1))]) (rest := []) S hw (mX0_poke l dg d aX _ V E n0 K Y P C Wt t dn ds DV WS WV Q (xs (i + 1)) hG (by omega) hR) (cwV 1 S.2.2.2.2 (lw_V q97 q98 q99 q17 q100) rfl rfl rfl (by decide +kernel) ⟨Nat.le_of_ble_eq_true rfl, Nat.le_of_ble_eq_true rfl⟩) (ci := 0) rfl rfl rfl rfl hl.1 rfl (Nat.le_of_ble_eq_true rfl) dL_law_202 ⟨Nat.le_of_ble_eq_true rfl, Nat.le_of_ble_eq_true rfl⟩ (fun r1 z H locs hz hw => ?_)
        obtain ⟨ds1, DV1, WS1, WV1⟩ := z
        obtain ⟨hr1, hR1⟩ := hz
        refine lv_aload_n hx hb dL_law_205 rfl (lv_at hl 1 rfl) ?_
        refine lv_aload_n hx hb dL_law_206 rfl (lv_at hl 3 rfl) ?_
        refine lv_iload_n hx hb dL_law_207 rfl (lv_at hl 0 rfl) ?_
        refine lv_iconst (v := nI 1) hx hb dL_law_208 (by decide) ?_
        refine dc_addN hx hb dL_law_209 ?_
        refine dc_sld S hX hbl hw (i := i + 1) (by omega) (by omega) dL_law_210 ?_
        refine dc_callIL (As := [.int (xs (i + 1))]) (rest := [.int (r1)]) S hw (mX1_poke l dg d aM _ V E K Y P C Wt n0 SG VL TM NX c0 t dn Q (xs (i + 1)) hG (by omega) hM) (cwV 1 S.2.2.2.2 (lw_V q245 q246 q247 q18 q248) rfl rfl rfl (by decide +kernel) ⟨Nat.le_of_ble_eq_true rfl, Nat.le_of_ble_eq_true rfl⟩) (ci := 1) rfl rfl rfl rfl hl.1 rfl (Nat.le_of_ble_eq_true rfl) dL_law_211 ⟨Nat.le_of_ble_eq_true rfl, Nat.le_of_ble_eq_true rfl⟩ (fun r2 z2 H locs hz2 hw => ?_)
        obtain ⟨c1, SG1, VL1, TM1, NX1⟩ := z2
        obtain ⟨hr2, hM1⟩ := hz2
        refine lv_icmp_eq (tgt := 397) hx hb dL_law_214 (by decide) (fun cE => ?_) (fun cE => ?_)
        · exact nx _ ⟨dc_pkQ (n0, K, Y, P, C, Wt) V t Q (xs (i + 1)), V, E, t, dn, (n0, K, Y, P, C, Wt), ds1, DV1, WS1, WV1, c1, SG1, VL1, TM1, NX1, hR1, hM1, hG, (by omega), rfl⟩ H locs hw ls hl
        · exact absurd (by rw [hr1, hr2]) cE
      · subst h
        refine lv_tableIn (off := 187) (tgt := 219) hx hb dL_law_32 (by decide) (by decide) rfl (by decide) ?_
        refine lv_aload_n hx hb dL_law_219 rfl (lv_at hl 2 rfl) ?_
        refine dc_callIL (As := []) (rest := []) S hw (mX0_step l dg d aX _ V E n0 K Y P C Wt t dn ds DV WS WV Q hG (by omega) hR) (cwV 0 S.2.2.2.2 (lw_V q113 q114 q115 q17 q116) rfl rfl rfl (by decide +kernel) ⟨Nat.le_of_ble_eq_true rfl, Nat.le_of_ble_eq_true rfl⟩) (ci := 0) rfl rfl rfl rfl hl.1 rfl (Nat.le_of_ble_eq_true rfl) dL_law_220 ⟨Nat.le_of_ble_eq_true rfl, Nat.le_of_ble_eq_true rfl⟩ (fun r1 z H locs hz hw => ?_)
        obtain ⟨S1, ds1, DV1, WS1, WV1⟩ := z
        obtain ⟨hr1, hS1, hR1⟩ := hz
        refine lv_aload_n hx hb dL_law_223 rfl (lv_at hl 1 rfl) ?_
        refine dc_callIL (As := []) (rest := [.int (r1)]) S hw (mX1_step l dg d aM _ V E K Y P C Wt n0 SG VL TM NX c0 t dn Q hG (by omega) hM) (cwV 0 S.2.2.2.2 (lw_V q253 q254 q255 q18 q256) rfl rfl rfl (by decide +kernel) ⟨Nat.le_of_ble_eq_true rfl, Nat.le_of_ble_eq_true rfl⟩) (ci := 1) rfl rfl rfl rfl hl.1 rfl (Nat.le_of_ble_eq_true rfl) dL_law_224 ⟨Nat.le_of_ble_eq_true rfl, Nat.le_of_ble_eq_true rfl⟩ (fun r2 z2 H locs hz2 hw => ?_)
        obtain ⟨S2, c1, SG1, VL1, TM1, NX1⟩ := z2
        obtain ⟨hr2, hS2, hM1⟩ := hz2
        have hS1 : S1 = dc_st (n0, K, Y, P, C, Wt) (Q, V, E, t, dn) := hS1
        have hS2 : S2 = dc_st (n0, K, Y, P, C, Wt) (Q, V, E, t, dn) := hS2
        have hS12 : S2 = S1 := hS2.trans hS1.symm
        subst hS12
        have hbt := (dc_ok_st (G := (n0, K, Y, P, C, Wt)) (S := (Q, V, E, t, dn)) hG hR.1).2
        rw [← hS1] at hbt
        obtain ⟨Q1, V1, E1, t1, dn1⟩ := S2
        have hbt : t1 ≤ t + 9 := hbt
        refine lv_icmp_eq (tgt := 397) hx hb dL_law_227 (by decide) (fun cE => ?_) (fun cE => ?_)
        · exact nx _ ⟨Q1, V1, E1, t1, dn1, (n0, K, Y, P, C, Wt), ds1, DV1, WS1, WV1, c1, SG1, VL1, TM1, NX1, hR1, hM1, hG, (by omega), rfl⟩ H locs hw ls hl
        · exact absurd (by rw [hr1, hr2]) cE
      · subst h
        refine lv_tableIn (off := 200) (tgt := 232) hx hb dL_law_32 (by decide) (by decide) rfl (by decide) ?_
        refine lv_aload_n hx hb dL_law_232 rfl (lv_at hl 2 rfl) ?_
        refine lv_aload_n hx hb dL_law_233 rfl (lv_at hl 3 rfl) ?_
        refine lv_iload_n hx hb dL_law_234 rfl (lv_at hl 0 rfl) ?_
        refine lv_iconst (v := nI 1) hx hb dL_law_235 (by decide) ?_
        refine dc_addN hx hb dL_law_236 ?_
        refine dc_sld S hX hbl hw (i := i + 1) (by omega) (by omega) dL_law_237 ?_
        refine lv_aload_n hx hb dL_law_238 rfl (lv_at hl 3 rfl) ?_
        refine lv_iload_n hx hb dL_law_239 rfl (lv_at hl 0 rfl) ?_
        refine lv_iconst (v := nI 2) hx hb dL_law_240 (by decide) ?_
        refine dc_addN hx hb dL_law_241 ?_
        refine dc_sld S hX hbl hw (i := i + 2) (by omega) (by omega) dL_law_242 ?_
        refine dc_callIL (As := [.int (xs (i + 1)), .int (xs (i + 2))]) (rest := []) S hw (mX0_run l dg d aX _ V E n0 K Y P C Wt t dn ds DV WS WV Q (xs (i + 1)) (xs (i + 2)) hG (by omega) hR) (cwV 2 S.2.2.2.2 (lw_V q133 q134 q135 q17 q136) rfl rfl rfl (by decide +kernel) ⟨Nat.le_of_ble_eq_true rfl, Nat.le_of_ble_eq_true rfl⟩) (ci := 0) rfl rfl rfl rfl hl.1 rfl (Nat.le_of_ble_eq_true rfl) dL_law_243 ⟨Nat.le_of_ble_eq_true rfl, Nat.le_of_ble_eq_true rfl⟩ (fun r1 z H locs hz hw => ?_)
        obtain ⟨S1, ds1, DV1, WS1, WV1⟩ := z
        obtain ⟨hr1, hS1, hR1⟩ := hz
        refine lv_aload_n hx hb dL_law_246 rfl (lv_at hl 1 rfl) ?_
        refine lv_aload_n hx hb dL_law_247 rfl (lv_at hl 3 rfl) ?_
        refine lv_iload_n hx hb dL_law_248 rfl (lv_at hl 0 rfl) ?_
        refine lv_iconst (v := nI 1) hx hb dL_law_249 (by decide) ?_
        refine dc_addN hx hb dL_law_250 ?_
        refine dc_sld S hX hbl hw (i := i + 1) (by omega) (by omega) dL_law_251 ?_
        refine lv_aload_n hx hb dL_law_252 rfl (lv_at hl 3 rfl) ?_
        refine lv_iload_n hx hb dL_law_253 rfl (lv_at hl 0 rfl) ?_
        refine lv_iconst (v := nI 2) hx hb dL_law_254 (by decide) ?_
        refine dc_addN hx hb dL_law_255 ?_
        refine dc_sld S hX hbl hw (i := i + 2) (by omega) (by omega) dL_law_256 ?_
        refine dc_callIL (As := [.int (xs (i + 1)), .int (xs (i + 2))]) (rest := [.int (r1)]) S hw (mX1_run l dg d aM _ V E K Y P C Wt n0 SG VL TM NX c0 t dn Q (xs (i + 1)) (xs (i + 2)) hG (by omega) hM) (cwV 2 S.2.2.2.2 (lw_V q269 q270 q271 q18 q272) rfl rfl rfl (by decide +kernel) ⟨Nat.le_of_ble_eq_true rfl, Nat.le_of_ble_eq_true rfl⟩) (ci := 1) rfl rfl rfl rfl hl.1 rfl (Nat.le_of_ble_eq_true rfl) dL_law_257 ⟨Nat.le_of_ble_eq_true rfl, Nat.le_of_ble_eq_true rfl⟩ (fun r2 z2 H locs hz2 hw => ?_)
        obtain ⟨S2, c1, SG1, VL1, TM1, NX1⟩ := z2
        obtain ⟨hr2, hS2, hM1⟩ := hz2
        have hS1 : S1 = (dc_run (n0, K, Y, P, C, Wt) (t + dc_far (xs (i + 1))) (dc_most (xs (i + 2))) (Q, V, E, t, dn)).1 := hS1
        have hS2 : S2 = (dc_run (n0, K, Y, P, C, Wt) (t + dc_far (xs (i + 1))) (dc_most (xs (i + 2))) (Q, V, E, t, dn)).1 := hS2
        have hS12 : S2 = S1 := hS2.trans hS1.symm
        subst hS12
        have hbt := (dc_ok_run (G := (n0, K, Y, P, C, Wt)) hG (e := t + dc_far (xs (i + 1))) (dc_most (xs (i + 2))) (Q, V, E, t, dn) hR.1).2
        have hml := dc_most_le (xs (i + 2))
        rw [← hS1] at hbt
        obtain ⟨Q1, V1, E1, t1, dn1⟩ := S2
        have hbt : t1 ≤ t + 9 * dc_most (xs (i + 2)) := hbt
        refine lv_icmp_eq (tgt := 397) hx hb dL_law_260 (by decide) (fun cE => ?_) (fun cE => ?_)
        · exact nx _ ⟨Q1, V1, E1, t1, dn1, (n0, K, Y, P, C, Wt), ds1, DV1, WS1, WV1, c1, SG1, VL1, TM1, NX1, hR1, hM1, hG, (by omega), rfl⟩ H locs hw ls hl
        · exact absurd (by rw [hr1, hr2]) cE
      · subst h
        refine lv_tableIn (off := 233) (tgt := 265) hx hb dL_law_32 (by decide) (by decide) rfl (by decide) ?_
        refine lv_aload_n hx hb dL_law_265 rfl (lv_at hl 2 rfl) ?_
        refine dc_callVL (As := []) (rest := []) S hw (mX0_reset l dg d aX _ V E (nI n0) K Y P C Wt (nI t) dn ds DV WS WV ) (cwV 0 S.2.2.2.2 (lw_V q142 q143 q144 q17 q145) rfl rfl rfl (by decide +kernel) ⟨Nat.le_of_ble_eq_true rfl, Nat.le_of_ble_eq_true rfl⟩) (ci := 0) rfl rfl rfl rfl hl.1 rfl (Nat.le_of_ble_eq_true rfl) dL_law_266 ⟨Nat.le_of_ble_eq_true rfl, Nat.le_of_ble_eq_true rfl⟩ (fun z H locs hz hw => ?_)
        refine lv_aload_n hx hb dL_law_269 rfl (lv_at hl 1 rfl) ?_
        refine dc_callVL (As := []) (rest := []) S hw (mX1_reset l dg d aM _ V E K Y (fun p => P p &&& 65535) C Wt (nI n0) SG VL TM NX (nI c0) (nI t) dn ) (cwV 0 S.2.2.2.2 (lw_V q274 q275 q276 q18 q277) rfl rfl rfl (by decide +kernel) ⟨Nat.le_of_ble_eq_true rfl, Nat.le_of_ble_eq_true rfl⟩) (ci := 1) rfl rfl rfl rfl hl.1 rfl (Nat.le_of_ble_eq_true rfl) dL_law_270 ⟨Nat.le_of_ble_eq_true rfl, Nat.le_of_ble_eq_true rfl⟩ (fun z2 H locs hz2 hw => ?_)
        refine lv_goto (tgt := 397) hx hb dL_law_273 (by decide) ?_
        exact nx _ ⟨(fun _ _ => none), _, _, 0, (nI 0), (n0, K, Y, P, C, Wt), (nI 0), DV, _, WV, 0, SG, VL, TM, NX, rx_none rfl (fun j hj => fa_fill_in hj), rm_none SG VL TM NX, hG, (by omega), rfl⟩ H locs hw ls hl
      · subst h
        refine lv_tableIn (off := 244) (tgt := 276) hx hb dL_law_32 (by decide) (by decide) rfl (by decide) ?_
        refine lv_aload_n hx hb dL_law_276 rfl (lv_at hl 2 rfl) ?_
        refine lv_aload_n hx hb dL_law_277 rfl (lv_at hl 3 rfl) ?_
        refine lv_iload_n hx hb dL_law_278 rfl (lv_at hl 0 rfl) ?_
        refine lv_iconst (v := nI 1) hx hb dL_law_279 (by decide) ?_
        refine dc_addN hx hb dL_law_280 ?_
        refine dc_sld S hX hbl hw (i := i + 1) (by omega) (by omega) dL_law_281 ?_
        refine dc_callR (As := [.int (xs (i + 1))]) (rest := []) S (wd_left hw) (mX0_value l dg d aX _ V E (nI n0) K Y P C Wt (nI t) dn ds DV WS WV (xs (i + 1))) (cwV 1 S.2.2.2.2 (lw_V q146 q147 q148 q17 q149) rfl rfl rfl (by decide +kernel) ⟨Nat.le_of_ble_eq_true rfl, Nat.le_of_ble_eq_true rfl⟩) (ci := 0) rfl rfl rfl rfl hl.1 rfl (Nat.le_of_ble_eq_true rfl) dL_law_282 ⟨Nat.le_of_ble_eq_true rfl, Nat.le_of_ble_eq_true rfl⟩ (fun r1 hr1 => ?_)
        refine lv_aload_n hx hb dL_law_285 rfl (lv_at hl 1 rfl) ?_
        refine lv_aload_n hx hb dL_law_286 rfl (lv_at hl 3 rfl) ?_
        refine lv_iload_n hx hb dL_law_287 rfl (lv_at hl 0 rfl) ?_
        refine lv_iconst (v := nI 1) hx hb dL_law_288 (by decide) ?_
        refine dc_addN hx hb dL_law_289 ?_
        refine dc_sld S hX hbl hw (i := i + 1) (by omega) (by omega) dL_law_290 ?_
        refine dc_callR (As := [.int (xs (i + 1))]) (rest := [.int (r1)]) S (wd_right hw) (mX1_value l dg d aM _ V E K Y (fun p => P p &&& 65535) C Wt (nI n0) SG VL TM NX (nI c0) (nI t) dn (xs (i + 1))) (cwV 1 S.2.2.2.2 (lw_V q278 q279 q280 q18 q281) rfl rfl rfl (by decide +kernel) ⟨Nat.le_of_ble_eq_true rfl, Nat.le_of_ble_eq_true rfl⟩) (ci := 1) rfl rfl rfl rfl hl.1 rfl (Nat.le_of_ble_eq_true rfl) dL_law_291 ⟨Nat.le_of_ble_eq_true rfl, Nat.le_of_ble_eq_true rfl⟩ (fun r2 hr2 => ?_)
        refine lv_icmp_eq (tgt := 397) hx hb dL_law_294 (by decide) (fun cE => ?_) (fun cE => ?_)
        · exact nx _ ⟨Q, V, E, t, dn, (n0, K, Y, P, C, Wt), ds, DV, WS, WV, c0, SG, VL, TM, NX, hR, hM, hG, (by omega), rfl⟩ H locs hw ls hl
        · exact absurd (by rw [hr1, hr2]) cE
      · subst h
        refine lv_tableIn (off := 267) (tgt := 299) hx hb dL_law_32 (by decide) (by decide) rfl (by decide) ?_
        refine lv_aload_n hx hb dL_law_299 rfl (lv_at hl 2 rfl) ?_
        refine dc_callR (As := []) (rest := []) S (wd_left hw) (mX0_time l dg d aX _ V E (nI n0) K Y P C Wt (nI t) dn ds DV WS WV ) (cwV 0 S.2.2.2.2 (lw_V q150 q151 q152 q17 q153) rfl rfl rfl (by decide +kernel) ⟨Nat.le_of_ble_eq_true rfl, Nat.le_of_ble_eq_true rfl⟩) (ci := 0) rfl rfl rfl rfl hl.1 rfl (Nat.le_of_ble_eq_true rfl) dL_law_300 ⟨Nat.le_of_ble_eq_true rfl, Nat.le_of_ble_eq_true rfl⟩ (fun r1 hr1 => ?_)
        refine lv_aload_n hx hb dL_law_303 rfl (lv_at hl 1 rfl) ?_
        refine dc_callR (As := []) (rest := [.int (r1)]) S (wd_right hw) (mX1_time l dg d aM _ V E K Y (fun p => P p &&& 65535) C Wt (nI n0) SG VL TM NX (nI c0) (nI t) dn ) (cwV 0 S.2.2.2.2 (lw_V q282 q283 q284 q18 q285) rfl rfl rfl (by decide +kernel) ⟨Nat.le_of_ble_eq_true rfl, Nat.le_of_ble_eq_true rfl⟩) (ci := 1) rfl rfl rfl rfl hl.1 rfl (Nat.le_of_ble_eq_true rfl) dL_law_304 ⟨Nat.le_of_ble_eq_true rfl, Nat.le_of_ble_eq_true rfl⟩ (fun r2 hr2 => ?_)
        refine lv_icmp_eq (tgt := 397) hx hb dL_law_307 (by decide) (fun cE => ?_) (fun cE => ?_)
        · exact nx _ ⟨Q, V, E, t, dn, (n0, K, Y, P, C, Wt), ds, DV, WS, WV, c0, SG, VL, TM, NX, hR, hM, hG, (by omega), rfl⟩ H locs hw ls hl
        · exact absurd (by rw [hr1, hr2]) cE
      · subst h
        refine lv_tableIn (off := 280) (tgt := 312) hx hb dL_law_32 (by decide) (by decide) rfl (by decide) ?_
        refine lv_aload_n hx hb dL_law_312 rfl (lv_at hl 2 rfl) ?_
        refine dc_callR (As := []) (rest := []) S (wd_left hw) (mX0_pending l dg d aX _ V E (nI n0) K Y P C Wt t dn ds DV WS WV Q hR) (cwV 0 S.2.2.2.2 (lw_V q154 q91 q92 q17 q93) rfl rfl rfl (by decide +kernel) ⟨Nat.le_of_ble_eq_true rfl, Nat.le_of_ble_eq_true rfl⟩) (ci := 0) rfl rfl rfl rfl hl.1 rfl (Nat.le_of_ble_eq_true rfl) dL_law_313 ⟨Nat.le_of_ble_eq_true rfl, Nat.le_of_ble_eq_true rfl⟩ (fun r1 hr1 => ?_)
        refine lv_aload_n hx hb dL_law_316 rfl (lv_at hl 1 rfl) ?_
        refine dc_callR (As := []) (rest := [.int (r1)]) S (wd_right hw) (mX1_pending l dg d aM _ V E K Y (fun p => P p &&& 65535) C Wt (nI n0) SG VL TM NX (nI c0) (nI t) dn ) (cwV 0 S.2.2.2.2 (lw_V q286 q287 q288 q18 q289) rfl rfl rfl (by decide +kernel) ⟨Nat.le_of_ble_eq_true rfl, Nat.le_of_ble_eq_true rfl⟩) (ci := 1) rfl rfl rfl rfl hl.1 rfl (Nat.le_of_ble_eq_true rfl) dL_law_317 ⟨Nat.le_of_ble_eq_true rfl, Nat.le_of_ble_eq_true rfl⟩ (fun r2 hr2 => ?_)
        refine lv_icmp_eq (tgt := 397) hx hb dL_law_320 (by decide) (fun cE => ?_) (fun cE => ?_)
        · exact nx _ ⟨Q, V, E, t, dn, (n0, K, Y, P, C, Wt), ds, DV, WS, WV, c0, SG, VL, TM, NX, hR, hM, hG, (by omega), rfl⟩ H locs hw ls hl
        · exact absurd (by rw [hr1, hr2, ← rm_count hM]) cE
      · subst h
        refine lv_tableIn (off := 293) (tgt := 325) hx hb dL_law_32 (by decide) (by decide) rfl (by decide) ?_
        refine lv_aload_n hx hb dL_law_325 rfl (lv_at hl 2 rfl) ?_
        refine dc_callR (As := []) (rest := []) S (wd_left hw) (mX0_nextTime l dg d aX _ V E (nI n0) K Y P C Wt t dn ds DV WS WV Q (by omega) hR) (cwV 0 S.2.2.2.2 (lw_V q155 q156 q157 q17 q158) rfl rfl rfl (by decide +kernel) ⟨Nat.le_of_ble_eq_true rfl, Nat.le_of_ble_eq_true rfl⟩) (ci := 0) rfl rfl rfl rfl hl.1 rfl (Nat.le_of_ble_eq_true rfl) dL_law_326 ⟨Nat.le_of_ble_eq_true rfl, Nat.le_of_ble_eq_true rfl⟩ (fun r1 hr1 => ?_)
        refine lv_aload_n hx hb dL_law_329 rfl (lv_at hl 1 rfl) ?_
        refine dc_callR (As := []) (rest := [.int (r1)]) S (wd_right hw) (mX1_nextTime l dg d aM _ V E K Y (fun p => P p &&& 65535) C Wt (nI n0) SG VL TM NX c0 (nI t) dn t Q (by omega) hM) (cwV 0 S.2.2.2.2 (lw_V q290 q262 q263 q18 q264) rfl rfl rfl (by decide +kernel) ⟨Nat.le_of_ble_eq_true rfl, Nat.le_of_ble_eq_true rfl⟩) (ci := 1) rfl rfl rfl rfl hl.1 rfl (Nat.le_of_ble_eq_true rfl) dL_law_330 ⟨Nat.le_of_ble_eq_true rfl, Nat.le_of_ble_eq_true rfl⟩ (fun r2 hr2 => ?_)
        refine lv_icmp_eq (tgt := 397) hx hb dL_law_333 (by decide) (fun cE => ?_) (fun cE => ?_)
        · exact nx _ ⟨Q, V, E, t, dn, (n0, K, Y, P, C, Wt), ds, DV, WS, WV, c0, SG, VL, TM, NX, hR, hM, hG, (by omega), rfl⟩ H locs hw ls hl
        · exact absurd (dc_nt_one hr1 hr2) cE
      · subst h
        refine lv_tableIn (off := 306) (tgt := 338) hx hb dL_law_32 (by decide) (by decide) rfl (by decide) ?_
        refine lv_aload_n hx hb dL_law_338 rfl (lv_at hl 2 rfl) ?_
        refine lv_aload_n hx hb dL_law_339 rfl (lv_at hl 3 rfl) ?_
        refine lv_iload_n hx hb dL_law_340 rfl (lv_at hl 0 rfl) ?_
        refine lv_iconst (v := nI 1) hx hb dL_law_341 (by decide) ?_
        refine dc_addN hx hb dL_law_342 ?_
        refine dc_sld S hX hbl hw (i := i + 1) (by omega) (by omega) dL_law_343 ?_
        refine dc_callR (As := [.int (xs (i + 1))]) (rest := []) S (wd_left hw) (mX0_events l dg d aX _ V E (nI n0) K Y P C Wt (nI t) dn ds DV WS WV (xs (i + 1))) (cwV 1 S.2.2.2.2 (lw_V q159 q160 q161 q17 q162) rfl rfl rfl (by decide +kernel) ⟨Nat.le_of_ble_eq_true rfl, Nat.le_of_ble_eq_true rfl⟩) (ci := 0) rfl rfl rfl rfl hl.1 rfl (Nat.le_of_ble_eq_true rfl) dL_law_344 ⟨Nat.le_of_ble_eq_true rfl, Nat.le_of_ble_eq_true rfl⟩ (fun r1 hr1 => ?_)
        refine lv_aload_n hx hb dL_law_347 rfl (lv_at hl 1 rfl) ?_
        refine lv_aload_n hx hb dL_law_348 rfl (lv_at hl 3 rfl) ?_
        refine lv_iload_n hx hb dL_law_349 rfl (lv_at hl 0 rfl) ?_
        refine lv_iconst (v := nI 1) hx hb dL_law_350 (by decide) ?_
        refine dc_addN hx hb dL_law_351 ?_
        refine dc_sld S hX hbl hw (i := i + 1) (by omega) (by omega) dL_law_352 ?_
        refine dc_callR (As := [.int (xs (i + 1))]) (rest := [.int (r1)]) S (wd_right hw) (mX1_events l dg d aM _ V E K Y (fun p => P p &&& 65535) C Wt (nI n0) SG VL TM NX (nI c0) (nI t) dn (xs (i + 1))) (cwV 1 S.2.2.2.2 (lw_V q291 q292 q293 q18 q294) rfl rfl rfl (by decide +kernel) ⟨Nat.le_of_ble_eq_true rfl, Nat.le_of_ble_eq_true rfl⟩) (ci := 1) rfl rfl rfl rfl hl.1 rfl (Nat.le_of_ble_eq_true rfl) dL_law_353 ⟨Nat.le_of_ble_eq_true rfl, Nat.le_of_ble_eq_true rfl⟩ (fun r2 hr2 => ?_)
        refine lv_icmp_eq (tgt := 397) hx hb dL_law_356 (by decide) (fun cE => ?_) (fun cE => ?_)
        · exact nx _ ⟨Q, V, E, t, dn, (n0, K, Y, P, C, Wt), ds, DV, WS, WV, c0, SG, VL, TM, NX, hR, hM, hG, (by omega), rfl⟩ H locs hw ls hl
        · exact absurd (by rw [hr1, hr2]) cE
      · subst h
        refine lv_tableIn (off := 329) (tgt := 361) hx hb dL_law_32 (by decide) (by decide) rfl (by decide) ?_
        refine lv_aload_n hx hb dL_law_361 rfl (lv_at hl 2 rfl) ?_
        refine dc_callR (As := []) (rest := []) S (wd_left hw) (mX0_cycles l dg d aX _ V E (nI n0) K Y P C Wt (nI t) dn ds DV WS WV ) (cwV 0 S.2.2.2.2 (lw_V q163 q164 q165 q17 q166) rfl rfl rfl (by decide +kernel) ⟨Nat.le_of_ble_eq_true rfl, Nat.le_of_ble_eq_true rfl⟩) (ci := 0) rfl rfl rfl rfl hl.1 rfl (Nat.le_of_ble_eq_true rfl) dL_law_362 ⟨Nat.le_of_ble_eq_true rfl, Nat.le_of_ble_eq_true rfl⟩ (fun r1 hr1 => ?_)
        refine lv_aload_n hx hb dL_law_365 rfl (lv_at hl 1 rfl) ?_
        refine dc_callR (As := []) (rest := [.int (r1)]) S (wd_right hw) (mX1_cycles l dg d aM _ V E K Y (fun p => P p &&& 65535) C Wt (nI n0) SG VL TM NX (nI c0) (nI t) dn ) (cwV 0 S.2.2.2.2 (lw_V q295 q296 q297 q18 q298) rfl rfl rfl (by decide +kernel) ⟨Nat.le_of_ble_eq_true rfl, Nat.le_of_ble_eq_true rfl⟩) (ci := 1) rfl rfl rfl rfl hl.1 rfl (Nat.le_of_ble_eq_true rfl) dL_law_366 ⟨Nat.le_of_ble_eq_true rfl, Nat.le_of_ble_eq_true rfl⟩ (fun r2 hr2 => ?_)
        refine lv_icmp_eq (tgt := 397) hx hb dL_law_369 (by decide) (fun cE => ?_) (fun cE => ?_)
        · exact nx _ ⟨Q, V, E, t, dn, (n0, K, Y, P, C, Wt), ds, DV, WS, WV, c0, SG, VL, TM, NX, hR, hM, hG, (by omega), rfl⟩ H locs hw ls hl
        · exact absurd (by rw [hr1, hr2]) cE
      · subst h
        refine lv_tableIn (off := 342) (tgt := 374) hx hb dL_law_32 (by decide) (by decide) rfl (by decide) ?_
        refine lv_aload_n hx hb dL_law_374 rfl (lv_at hl 2 rfl) ?_
        refine lv_aload_n hx hb dL_law_375 rfl (lv_at hl 3 rfl) ?_
        refine lv_iload_n hx hb dL_law_376 rfl (lv_at hl 0 rfl) ?_
        refine lv_iconst (v := nI 1) hx hb dL_law_377 (by decide) ?_
        refine dc_addN hx hb dL_law_378 ?_
        refine dc_sld S hX hbl hw (i := i + 1) (by omega) (by omega) dL_law_379 ?_
        refine dc_callR (As := [.int (xs (i + 1))]) (rest := []) S (wd_left hw) (mX0_coming l dg d aX _ V E (nI n0) K Y P C Wt t dn ds DV WS WV Q (xs (i + 1)) (by omega) hR) (cwV 1 S.2.2.2.2 (lw_V q167 q168 q169 q17 q170) rfl rfl rfl (by decide +kernel) ⟨Nat.le_of_ble_eq_true rfl, Nat.le_of_ble_eq_true rfl⟩) (ci := 0) rfl rfl rfl rfl hl.1 rfl (Nat.le_of_ble_eq_true rfl) dL_law_380 ⟨Nat.le_of_ble_eq_true rfl, Nat.le_of_ble_eq_true rfl⟩ (fun r1 hr1 => ?_)
        refine lv_aload_n hx hb dL_law_383 rfl (lv_at hl 1 rfl) ?_
        refine lv_aload_n hx hb dL_law_384 rfl (lv_at hl 3 rfl) ?_
        refine lv_iload_n hx hb dL_law_385 rfl (lv_at hl 0 rfl) ?_
        refine lv_iconst (v := nI 1) hx hb dL_law_386 (by decide) ?_
        refine dc_addN hx hb dL_law_387 ?_
        refine dc_sld S hX hbl hw (i := i + 1) (by omega) (by omega) dL_law_388 ?_
        refine dc_callR (As := [.int (xs (i + 1))]) (rest := [.int (r1)]) S (wd_right hw) (mX1_coming l dg d aM _ V E K Y (fun p => P p &&& 65535) C Wt (nI n0) SG VL TM NX c0 t dn Q (xs (i + 1)) (by omega) hM) (cwV 1 S.2.2.2.2 (lw_V q299 q300 q301 q18 q302) rfl rfl rfl (by decide +kernel) ⟨Nat.le_of_ble_eq_true rfl, Nat.le_of_ble_eq_true rfl⟩) (ci := 1) rfl rfl rfl rfl hl.1 rfl (Nat.le_of_ble_eq_true rfl) dL_law_389 ⟨Nat.le_of_ble_eq_true rfl, Nat.le_of_ble_eq_true rfl⟩ (fun r2 hr2 => ?_)
        refine lv_icmp_eq (tgt := 397) hx hb dL_law_392 (by decide) (fun cE => ?_) (fun cE => ?_)
        · exact nx _ ⟨Q, V, E, t, dn, (n0, K, Y, P, C, Wt), ds, DV, WS, WV, c0, SG, VL, TM, NX, hR, hM, hG, (by omega), rfl⟩ H locs hw ls hl
        · exact absurd (dc_com_one hr1 hr2) cE
      · refine lv_tableOut (tgt := 397) hx hb dL_law_32 (Or.inr (by rw [nI_toInt (by omega)]; omega)) (by decide) ?_
        exact nx _ ⟨Q, V, E, t, dn, (n0, K, Y, P, C, Wt), ds, DV, WS, WV, c0, SG, VL, TM, NX, hR, hM, hG, (by omega), rfl⟩ H locs hw ls hl
end
section
set_option maxRecDepth 100000
theorem dc_J_0 (d : ClassId × ClassId) (aX aM : Nat → Nat) : dc_J d aX aM 0 (dc_wX d aX (fun _ => nI 0) (fun _ => nI 0) (nI 0) (fun _ => nI 0) (fun _ => nI 0) (fun _ => nI 0) (fun _ => nI 0) (fun _ => nI 0) (nI 0) (nI 0) (nI 0) (fun _ => nI 0) (fun _ => nI 0) (fun _ => nI 0) ++ dc_wM d aM (fun _ => nI 0) (fun _ => nI 0) (fun _ => nI 0) (fun _ => nI 0) (fun _ => nI 0) (fun _ => nI 0) (fun _ => nI 0) (nI 0) (fun _ => nI 0) (fun _ => nI 0) (fun _ => nI 0) (fun _ => nI 0) (nI 0) (nI 0) (nI 0)) := by
  have e0 : (fun _ : Nat => nI 0 &&& 65535) = (fun _ => nI 0) := funext fun _ => by decide
  refine ⟨fun _ _ => none, fun _ => nI 0, fun _ => nI 0, 0, nI 0, (0, fun _ => nI 0, fun _ => nI 0, fun _ => nI 0, fun _ => nI 0, fun _ => nI 0), nI 0, fun _ => nI 0, fun _ => nI 0, fun _ => nI 0, 0, fun _ => nI 0, fun _ => nI 0, fun _ => nI 0, fun _ => nI 0, rx_none rfl (fun _ _ => rfl), rm_none _ _ _ _, ⟨Nat.zero_le _, fun p hp => absurd hp (Nat.not_lt_zero p)⟩, Nat.le_refl _, ?_⟩
  dsimp only
  rw [e0]
set_option maxHeartbeats 4000000 in
set_option maxRecDepth 100000 in
/-- THE LAW, from its entry -/
theorem whole_start {p : Program} {e : Env} {s : State} {m : MethodId} {below : List Frame} {meth : Method} {c : Code} (l : Launch) {b L : Nat} {xs : Nat → Int32} (hL : L ≤ 320) (C0 : lw_At p s m meth c b L xs) : W p l e room_1 s m #[Value.ref b] below meth c s.heap [] 0 0 (lw_Z below #[Value.ref b] s) (entryFrame m ([Value.ref b] : List Value).toArray 4) := by
  obtain ⟨hx, hb, hr, hml, hown, hts0, hX, hbl, hlocks, hgv⟩ := id C0
  have hts : ∀ w ∈ lw_all, w.before #[Value.ref b] s = true := fun w h => hts0 w (lw_all_tbl h)
  have S : CallFix p m c cL_law 4 s #[Value.ref b] lw_all R_law := ⟨hx, hb, hml, hown, hts⟩
  obtain ⟨c0_, iS0, hKn0⟩ := u_known (C := RX0) (T := TX0) (N := 14) (n := 14) hts in_X0 (hts _ q20)
  obtain ⟨c1_, iS1, hKn1⟩ := u_known (C := RX1) (T := TX1) (N := 15) (n := 15) hts in_X1 (hts _ q172)
  obtain ⟨dg, hKc⟩ : ∃ dg : va_G, ∀ (k : Nat) (q : vw_C), vwCl[k]? = some q → u_Kn s q.1 q.2.1 q.2.2 (dg.1 k) (dg.2 k) := by
    refine ⟨(fun k => if k = 0 then c0_ else c1_, fun k => if k = 0 then iS0 else iS1), ?_⟩
    intro k q hq
    match k, hq with
    | 0, hq => cases hq; exact hKn0
    | 1, hq => cases hq; exact hKn1
    | k + 2, hq => simp [vwCl] at hq
  obtain ⟨cI, kI, coI, hfI, hkI, hkdI⟩ := Cond.arrayClass_spec (hts _ q70)
  obtain ⟨cZ, kZ, coZ, hfZ, hkZ, hkdZ⟩ := Cond.arrayClass_spec (hts _ q223)
  have hK : va_K dg vwCl (dc_ty (cI, cZ)) s := by
    refine ⟨hKc, fun k q hq => ?_⟩
    match k, hq with
    | 0, hq => cases hq; exact ⟨fun n z => ⟨fun k h => (by cases h), kI, hkI, coI, hkdI⟩, hfI⟩
    | 1, hq => cases hq; exact ⟨fun n z => ⟨fun k h => (by cases h), kZ, hkZ, coZ, hkdZ⟩, hfZ⟩
    | k + 2, hq => simp at hq
  have hw : dc_Wd dg (cI, cZ) (fun q : Nat => s.heap.size ≤ q) s [] s.heap [] := ⟨hK, fun k q h => by simp at h, ⟨fun i j p q h => by simp at h, fun k q h => by simp at h⟩, va_S.rf, fun _ h => h⟩
  have hl := lv_entry ([.ref b]) (n := 4) (Nat.le_of_ble_eq_true rfl)
  rw [lg_entry_eq]
  generalize (lg_sl ([.ref b]) ++ List.replicate (4 - (lg_sl ([.ref b])).length) Slot.unset).toArray = ls at hl ⊢
  have hl : lv_has ls 4 [(0, .ref b)] := hl
  refine va_new (D := dg) (cl := vwCl) (tys := dc_ty (cI, cZ)) (ci := 0) (fs := [.null, .null, .int (nI 0), .null, .null, .null, .null, .null, .int (nI 0), .int (nI 0), .int (nI 0), .null, .null, .null]) (C := RX0) (T := TX0) (N := 14) hx hb hts in_X0 tyX0 tyX0_ok hown (hts _ q19) (hts _ q20) (hts _ q17) hw.1 hw.2.1 hw.2.2.1 hw.2.2.2.1 hw.2.2.2.2 rfl (fun j hj => by rcases (show j = 0 ∨ j = 1 ∨ j = 2 ∨ j = 3 ∨ j = 4 ∨ j = 5 ∨ j = 6 ∨ j = 7 ∨ j = 8 ∨ j = 9 ∨ j = 10 ∨ j = 11 ∨ j = 12 ∨ j = 13 by omega) with rfl | rfl | rfl | rfl | rfl | rfl | rfl | rfl | rfl | rfl | rfl | rfl | rfl | rfl <;> rfl) (Nat.le_of_ble_eq_true rfl) (Nat.le_of_ble_eq_true rfl) dL_law_0 (fun q0 H hP hD hS => ?_)
  have hw : dc_Wd dg (cI, cZ) (fun q : Nat => s.heap.size ≤ q) s ([(q0, .inr (0, [.null, .null, .int (nI 0), .null, .null, .null, .null, .null, .int (nI 0), .int (nI 0), .int (nI 0), .null, .null, .null]))] ++ []) H [] := ⟨hK, hP, hD, hS, fun _ h => h⟩
  refine W.widen (k := 1) (n := 14) (Nat.le_of_ble_eq_true rfl) (Nat.le_of_ble_eq_true rfl) ?_
  refine lv_dup hx hb dL_law_3 rfl ?_
  refine dc_callC (As := []) (rest := [.ref q0]) S hw (mX0_init l dg (cI, cZ) q0 _) (cwI 0 S.2.2.2.2 (lw_meth q23) rfl rfl rfl (hts _ q17) (hts _ q21) (hts _ q22) rfl (by decide +kernel) ⟨Nat.le_of_ble_eq_true rfl, Nat.le_of_ble_eq_true rfl⟩) rfl hl.1 rfl (Nat.le_of_ble_eq_true rfl) dL_law_4 ⟨Nat.le_of_ble_eq_true rfl, Nat.le_of_ble_eq_true rfl⟩ (fun aX H2 locs2 haX hw2 => ?_)
  have haX : aX 0 = q0 := haX
  subst haX
  have hw : dc_Wd dg (cI, cZ) (fun q : Nat => s.heap.size ≤ q) s (dc_wX (cI, cZ) aX (fun _ => nI 0) (fun _ => nI 0) (nI 0) (fun _ => nI 0) (fun _ => nI 0) (fun _ => nI 0) (fun _ => nI 0) (fun _ => nI 0) (nI 0) (nI 0) (nI 0) (fun _ => nI 0) (fun _ => nI 0) (fun _ => nI 0)) H2 locs2 := hw2
  refine W.widen (k := 11) (n := 220) (Nat.le_of_ble_eq_true rfl) (Nat.le_of_ble_eq_true rfl) ?_
  refine lv_astore_n (lv' := [(1, .ref (aX 0)), (0, .ref b)]) hx hb dL_law_7 rfl hl (by decide) rfl (fun ls hl => ?_)
  refine va_new (D := dg) (cl := vwCl) (tys := dc_ty (cI, cZ)) (ci := 1) (fs := [.null, .null, .null, .null, .null, .null, .null, .int (nI 0), .null, .null, .null, .null, .int (nI 0), .int (nI 0), .int (nI 0)]) (C := RX1) (T := TX1) (N := 15) hx hb hts in_X1 tyX1 tyX1_ok hown (hts _ q171) (hts _ q172) (hts _ q18) hw.1 hw.2.1 hw.2.2.1 hw.2.2.2.1 hw.2.2.2.2 rfl (fun j hj => by rcases (show j = 0 ∨ j = 1 ∨ j = 2 ∨ j = 3 ∨ j = 4 ∨ j = 5 ∨ j = 6 ∨ j = 7 ∨ j = 8 ∨ j = 9 ∨ j = 10 ∨ j = 11 ∨ j = 12 ∨ j = 13 ∨ j = 14 by omega) with rfl | rfl | rfl | rfl | rfl | rfl | rfl | rfl | rfl | rfl | rfl | rfl | rfl | rfl | rfl <;> rfl) (Nat.le_of_ble_eq_true rfl) (Nat.le_of_ble_eq_true rfl) dL_law_8 (fun q1 H hP hD hS => ?_)
  have hw : dc_Wd dg (cI, cZ) (fun q : Nat => s.heap.size ≤ q) s (dc_wX (cI, cZ) aX (fun _ => nI 0) (fun _ => nI 0) (nI 0) (fun _ => nI 0) (fun _ => nI 0) (fun _ => nI 0) (fun _ => nI 0) (fun _ => nI 0) (nI 0) (nI 0) (nI 0) (fun _ => nI 0) (fun _ => nI 0) (fun _ => nI 0) ++ [(q1, .inr (1, [.null, .null, .null, .null, .null, .null, .null, .int (nI 0), .null, .null, .null, .null, .int (nI 0), .int (nI 0), .int (nI 0)]))]) H locs2 := ⟨hK, hP, hD, hS, fun _ h => h⟩
  have hw := wd_swap hw
  refine W.widen (k := 12) (n := 235) (Nat.le_of_ble_eq_true rfl) (Nat.le_of_ble_eq_true rfl) ?_
  refine lv_dup hx hb dL_law_11 rfl ?_
  refine dc_callC (As := []) (rest := [.ref q1]) S hw (mX1_init l dg (cI, cZ) q1 _) (cwI 0 S.2.2.2.2 (lw_meth q175) rfl rfl rfl (hts _ q18) (hts _ q173) (hts _ q174) rfl (by decide +kernel) ⟨Nat.le_of_ble_eq_true rfl, Nat.le_of_ble_eq_true rfl⟩) rfl hl.1 rfl (Nat.le_of_ble_eq_true rfl) dL_law_12 ⟨Nat.le_of_ble_eq_true rfl, Nat.le_of_ble_eq_true rfl⟩ (fun aM H3 locs3 haM hw3 => ?_)
  have haM : aM 0 = q1 := haM
  subst haM
  have hw : dc_Wd dg (cI, cZ) (fun q : Nat => s.heap.size ≤ q) s (dc_wX (cI, cZ) aX (fun _ => nI 0) (fun _ => nI 0) (nI 0) (fun _ => nI 0) (fun _ => nI 0) (fun _ => nI 0) (fun _ => nI 0) (fun _ => nI 0) (nI 0) (nI 0) (nI 0) (fun _ => nI 0) (fun _ => nI 0) (fun _ => nI 0) ++ dc_wM (cI, cZ) aM (fun _ => nI 0) (fun _ => nI 0) (fun _ => nI 0) (fun _ => nI 0) (fun _ => nI 0) (fun _ => nI 0) (fun _ => nI 0) (nI 0) (fun _ => nI 0) (fun _ => nI 0) (fun _ => nI 0) (fun _ => nI 0) (nI 0) (nI 0) (nI 0)) H3 locs3 := hw3
  refine W.widen (k := 23) (n := 811) (Nat.le_of_ble_eq_true rfl) (Nat.le_of_ble_eq_true rfl) ?_
  refine lv_astore_n (lv' := [(2, .ref (aM 0)), (1, .ref (aX 0)), (0, .ref b)]) hx hb dL_law_15 rfl hl (by decide) rfl (fun ls hl => ?_)
  refine lv_iconst (v := nI 0) hx hb dL_law_16 (by decide) ?_
  refine lv_istore_n (lv' := [(3, .int (nI 0)), (2, .ref (aM 0)), (1, .ref (aX 0)), (0, .ref b)]) hx hb dL_law_17 rfl hl (by decide) rfl (fun ls hl => ?_)
  exact law_loop hL C0 (L + 1) 0 (Nat.zero_le L) (by omega) _ (dc_J_0 (cI, cZ) aX aM) H3 locs3 hw ls hl
end
section
set_option maxHeartbeats 4000000 in
theorem lw_walk (l : Launch) (b : Addr) (xs : List Int32) : MetFree l x (headSpec (Jvm.Cond.code x code maxLocals ret :: tables_1) room_1) (lw_P b xs) (fun _ _ _ _ _ => True) lw_Q := by
  refine MetFree.of_bodyS (code := code) (maxLocals := maxLocals) (ret := ret) (by decide) ?_ ?_
  · intro args s m h hn
    obtain ⟨meth, c, h1, h2, h3, h4, h5, h6, -, -⟩ := Cond.code_spec hn (atoms_spec (ws := Jvm.Cond.code x code maxLocals ret :: tables_1) h _ List.mem_cons_self)
    exact ⟨meth, c, h1, h2, h3, h4, h5, h6⟩
  · intro p e s m args below meth c s₁ B hml0 hP _
    obtain ⟨rfl, hx, hbd, hgv⟩ := hP
    obtain ⟨scr, harrAt, hlist, hof, hsmall⟩ := hx
    obtain ⟨hcb, hkn, -, -⟩ := State.arrayAt?_spec harrAt
    have hown : s.vm.findClass R_law = some m.cls := findClass_of_methodNamed B.named
    have hts0 : ∀ c ∈ (Jvm.Cond.code x code maxLocals ret :: tables_1), c.before #[Value.ref b] s = true := atoms_spec (ws := Jvm.Cond.code x code maxLocals ret :: tables_1) B.pre
    have hts : ∀ w ∈ lw_tbl, w.before #[Value.ref b] s = true := k2_hts_sels lw_privs (fun w hw => hts0 w (List.mem_cons_of_mem _ hw)) lw_privs_ok
    have hml : c.maxLocals = 4 := B.maxLocals_eq (hts0 _ List.mem_cons_self)
    have X₀ : Stand p l e room_1 s m #[Value.ref b] below meth c s₁ [] 0 0 := Stand.of_body B
    have hh0 : s₁.heap = s.heap := by rw [B.state]; rfl
    have hsz : scr.slots.size = xs.length := by rw [← Array.length_toList, hlist, List.length_map]
    have hval : ∀ j : Nat, j < xs.length → scr.slots[j]? = some (.int (xs.getD j 0)) := fun j hj => by
      rw [← Array.getElem?_toList, hlist]
      simp [hj]
    have hbl : b < s.heap.size := (Array.getElem?_eq_some_iff.mp hcb).1
    have hX : va_X b xs.length (fun j => xs.getD j 0) s s.heap := ⟨scr, hcb, hof, hkn, hsz, hval⟩
    have K : W p l e room_1 s m #[Value.ref b] below meth c s₁.heap [] 0 0 (lw_Z below #[Value.ref b] s) (entryFrame m ([Value.ref b] : List Value).toArray 4) := by
      rw [hh0]
      exact whole_start l hbd ⟨B.exec, B.bytes, B.returns, hml, hown, hts, hX, hbl, B.notSynchronized, hgv⟩
    obtain ⟨t, a1, o, b1, b2, b3⟩ := K s₁ rfl X₀
    exact ⟨t, o, a1, b1, b2, b3⟩
theorem lw_pre_spec {args : Array Value} {s : State} (h : (Jvm.Cond.and given_1 narrow_1).before args s = true) (hr : rest_1_c.before args s = true) : ∃ (b : Addr) (xs : List Int32), lw_P b xs args s := by
  have hs := flat_of_before _ h
  have hq := flat_of_before _ hr
  have hc : (Cond.count 1).before args s = true := hs _ (by decide +kernel)
  have harr : (Cond.arrayOf (.arg 0) .int).before args s = true := hs _ (by decide +kernel)
  have hle : (Cond.le (.length (.arg 0)) (.int 320)).before args s = true := hs _ (by decide +kernel)
  have hlen : (Cond.isInt (.length (.arg 0))).before args s = true := hq _ (by decide +kernel)
  have hall : (Cond.all (.arg 0) (.isInt (.elem (.arg 0) (.index 0)))).before args s = true := hq _ (by decide +kernel)
  obtain ⟨b, xs, hb, hx⟩ := State.ints_of_pre rfl harr hlen hall
  have hsm : xs.length < 2 ^ 31 := hx.choose_spec.2.2.2
  have hev : (Term.length (.arg 0)).eval args s none [] s = some (.int xs.length.toInt32) := hx.length_eval hb
  have hv := Cond.le_ints hev (show (Term.int 320).eval args s none [] s = some (.int 320) from rfl)
  have hd : xs.length.toInt32 ≤ 320 := by
    simpa [Cond.before, Cond.holds, hv] using hle
  have hN : xs.length ≤ 320 := (Int32.ofNat_le_ofNat hsm (by decide)).mp (show Int32.ofNat xs.length ≤ Int32.ofNat 320 from hd)
  exact ⟨b, xs, Cond.one_arg hc (show args[0]? = some (.ref b) from hb), hx, hN, h⟩
theorem lw_comes (l : Launch) : Comes l x (Jvm.Cond.code x code maxLocals ret :: tables_1) room_1 (fun tb e args s => Calls_1 tb e args s ∧ rest_1 tb e args s ∧ Pre_1 tb e args s)
    (fun _ _ args s o t => lw_Q args s o t) := by
  intro p e ha hc hk s m args below hf hfit hheap happ hpre
  obtain ⟨b, xs, hP⟩ := lw_pre_spec hpre.2.2 hpre.2.1
  obtain ⟨k, o, h1, h2, h3, hQ⟩ := lw_walk l b xs p e ha hc hk s m args below hf ((Spec.applies_iff_loose hf).mp happ).1 hP trivial
  exact ⟨k, o, h1, h2, h3, hQ⟩
theorem lw_frame {s t : State} {o : Outcome} {args : Array Value} (h : Framed s o t [] 600000 7290000) :
    Framed s o t (fieldLocs frame_1_writes args s ++ arrayLocs frame_1_arrays args s ++ staticLocs frame_1_statics s) 600000 7290000 := h
theorem lw_limb (L : Cond) (hL : ∀ (args : Array Value) (s t : State), L.after args s (.returned (some (.int 1))) t = true) :
    ArmFor flags0 classFile x code maxLocals ret World_1 tables_1 room_1 Calls_1 rest_1 Pre_1
      (fun tb e a s o t => postC L tb e a s o t ∧ Framed s o t (fieldLocs frame_1_writes a s ++ arrayLocs frame_1_arrays a s ++ staticLocs frame_1_statics s) 600000 7290000) := by
  intro l _ _ _ p e ha hc hk s m args below hf hfit hheap happ hpre
  obtain ⟨k, o, h1, h2, h3, rfl, hF⟩ := lw_comes l p e ha hc hk s m args below hf hfit hheap happ hpre
  exact ⟨k, _, h1, h2, h3, hL args s _, lw_frame hF⟩
theorem i_vc : Claimed_1_1 ∧ Claimed_1_2 := ⟨lw_limb limb_1_1 (fun args s t => by simp [limb_1_1, Cond.after, Cond.holds, Cond.value]), lw_limb limb_1_2 (fun args s t => Cond.after_iff.mpr (by
  first | (rw [show limb_1_2 = Cond.eq .result (.int 1) from rfl, Cond.eq_ints (x := 1) (y := 1) rfl rfl]; simp; done) | (simp [limb_1_2, Cond.value, Term.eval]; done)))⟩
end
