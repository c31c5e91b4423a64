section
-- ===== PART A: goes FIRST, ahead of the names: the tables' words, and 'selects' of the private methods out of them =====
/-- a private method of a class that the tables say can be made, by its rows of tables_1 -/
def lw_okq (q : MethodName × Nat) : Prop := (q.1.cls ≠ "java/lang/invoke/MethodHandle" ∧ q.1.cls ≠ "java/lang/invoke/VarHandle") ∧ Cond.instantiable q.1.cls q.2 ∈ tables_1 ∧ Cond.privateMethod q.1 ∈ tables_1 ∧ Cond.instanceMethod q.1 ∈ tables_1
set_option maxRecDepth 100000
theorem lw_t1 {w : Cond} (h : w ∈ tables_1_1) : w ∈ tables_1 := List.mem_append_left _ h
theorem lw_t2 {w : Cond} (h : w ∈ tables_1_2) : w ∈ tables_1 := List.mem_append_right _ h
theorem lw_p0 : lw_okq (⟨"SliceTable", "setColumn", "(III)V"⟩, 15) := ⟨⟨by decide +kernel, by decide +kernel⟩, lw_t1 (List.mem_of_getElem? (i := 4) rfl), lw_t1 (List.mem_of_getElem? (i := 65) rfl), lw_t1 (List.mem_of_getElem? (i := 66) rfl)⟩
theorem lw_p1 : lw_okq (⟨"SliceTable", "forgetAnswers", "()V"⟩, 15) := ⟨⟨by decide +kernel, by decide +kernel⟩, lw_t1 (List.mem_of_getElem? (i := 4) rfl), lw_t1 (List.mem_of_getElem? (i := 70) rfl), lw_t1 (List.mem_of_getElem? (i := 71) rfl)⟩
theorem lw_p2 : lw_okq (⟨"SliceTable", "make", "(IIIII)I"⟩, 15) := ⟨⟨by decide +kernel, by decide +kernel⟩, lw_t1 (List.mem_of_getElem? (i := 4) rfl), lw_t1 (List.mem_of_getElem? (i := 85) rfl), lw_t1 (List.mem_of_getElem? (i := 86) rfl)⟩
theorem lw_p3 : lw_okq (⟨"SliceTable", "isCondition", "(I)Z"⟩, 15) := ⟨⟨by decide +kernel, by decide +kernel⟩, lw_t1 (List.mem_of_getElem? (i := 4) rfl), lw_t1 (List.mem_of_getElem? (i := 109) rfl), lw_t1 (List.mem_of_getElem? (i := 110) rfl)⟩
theorem lw_p4 : lw_okq (⟨"SliceTable", "rowsOf", "(I)J"⟩, 15) := ⟨⟨by decide +kernel, by decide +kernel⟩, lw_t1 (List.mem_of_getElem? (i := 4) rfl), lw_t1 (List.mem_of_getElem? (i := 113) rfl), lw_t1 (List.mem_of_getElem? (i := 114) rfl)⟩
theorem lw_p5 : lw_okq (⟨"SliceTable", "workOut", "(I)J"⟩, 15) := ⟨⟨by decide +kernel, by decide +kernel⟩, lw_t1 (List.mem_of_getElem? (i := 4) rfl), lw_t1 (List.mem_of_getElem? (i := 117) rfl), lw_t1 (List.mem_of_getElem? (i := 118) rfl)⟩
theorem lw_p6 : lw_okq (⟨"SliceTable", "takeColumn", "(I)V"⟩, 15) := ⟨⟨by decide +kernel, by decide +kernel⟩, lw_t1 (List.mem_of_getElem? (i := 4) rfl), lw_t1 (List.mem_of_getElem? (i := 121) rfl), lw_t1 (List.mem_of_getElem? (i := 122) rfl)⟩
theorem lw_p7 : lw_okq (⟨"SliceTable", "compareWithConstant", "(I)V"⟩, 15) := ⟨⟨by decide +kernel, by decide +kernel⟩, lw_t1 (List.mem_of_getElem? (i := 4) rfl), lw_t1 (List.mem_of_getElem? (i := 125) rfl), lw_t1 (List.mem_of_getElem? (i := 126) rfl)⟩
theorem lw_p8 : lw_okq (⟨"SliceTable", "compareColumns", "(II)V"⟩, 15) := ⟨⟨by decide +kernel, by decide +kernel⟩, lw_t1 (List.mem_of_getElem? (i := 4) rfl), lw_t1 (List.mem_of_getElem? (i := 129) rfl), lw_t1 (List.mem_of_getElem? (i := 130) rfl)⟩
theorem lw_p9 : lw_okq (⟨"SliceTable", "addColumns", "(II)V"⟩, 15) := ⟨⟨by decide +kernel, by decide +kernel⟩, lw_t1 (List.mem_of_getElem? (i := 4) rfl), lw_t1 (List.mem_of_getElem? (i := 133) rfl), lw_t1 (List.mem_of_getElem? (i := 134) rfl)⟩
theorem lw_p10 : lw_okq (⟨"SliceTable", "chosen", "(I)J"⟩, 15) := ⟨⟨by decide +kernel, by decide +kernel⟩, lw_t1 (List.mem_of_getElem? (i := 4) rfl), lw_t1 (List.mem_of_getElem? (i := 137) rfl), lw_t1 (List.mem_of_getElem? (i := 138) rfl)⟩
theorem lw_p11 : lw_okq (⟨"SliceTable", "splitSets", "(IJ)I"⟩, 15) := ⟨⟨by decide +kernel, by decide +kernel⟩, lw_t1 (List.mem_of_getElem? (i := 4) rfl), lw_t1 (List.mem_of_getElem? (i := 164) rfl), lw_t1 (List.mem_of_getElem? (i := 165) rfl)⟩
theorem lw_p12 : lw_okq (⟨"SliceTableModel", "make", "(IIIII)I"⟩, 9) := ⟨⟨by decide +kernel, by decide +kernel⟩, lw_t1 (List.mem_of_getElem? (i := 168) rfl), lw_t1 (List.mem_of_getElem? (i := 217) rfl), lw_t1 (List.mem_of_getElem? (i := 218) rfl)⟩
theorem lw_p13 : lw_okq (⟨"SliceTableModel", "missing", "(I)Z"⟩, 9) := ⟨⟨by decide +kernel, by decide +kernel⟩, lw_t1 (List.mem_of_getElem? (i := 168) rfl), lw_t2 (List.mem_of_getElem? (i := 1) rfl), lw_t2 (List.mem_of_getElem? (i := 2) rfl)⟩
theorem lw_p14 : lw_okq (⟨"SliceTableModel", "meets", "(II)Z"⟩, 9) := ⟨⟨by decide +kernel, by decide +kernel⟩, lw_t1 (List.mem_of_getElem? (i := 168) rfl), lw_t2 (List.mem_of_getElem? (i := 5) rfl), lw_t2 (List.mem_of_getElem? (i := 6) rfl)⟩
theorem lw_p15 : lw_okq (⟨"SliceTableModel", "having", "(III)I"⟩, 9) := ⟨⟨by decide +kernel, by decide +kernel⟩, lw_t1 (List.mem_of_getElem? (i := 168) rfl), lw_t2 (List.mem_of_getElem? (i := 27) rfl), lw_t2 (List.mem_of_getElem? (i := 28) rfl)⟩
def lw_privs_1 : List (MethodName × Nat) := [(⟨"SliceTable", "setColumn", "(III)V"⟩, 15), (⟨"SliceTable", "forgetAnswers", "()V"⟩, 15), (⟨"SliceTable", "make", "(IIIII)I"⟩, 15), (⟨"SliceTable", "isCondition", "(I)Z"⟩, 15), (⟨"SliceTable", "rowsOf", "(I)J"⟩, 15), (⟨"SliceTable", "workOut", "(I)J"⟩, 15), (⟨"SliceTable", "takeColumn", "(I)V"⟩, 15), (⟨"SliceTable", "compareWithConstant", "(I)V"⟩, 15), (⟨"SliceTable", "compareColumns", "(II)V"⟩, 15), (⟨"SliceTable", "addColumns", "(II)V"⟩, 15), (⟨"SliceTable", "chosen", "(I)J"⟩, 15), (⟨"SliceTable", "splitSets", "(IJ)I"⟩, 15), (⟨"SliceTableModel", "make", "(IIIII)I"⟩, 9), (⟨"SliceTableModel", "missing", "(I)Z"⟩, 9), (⟨"SliceTableModel", "meets", "(II)Z"⟩, 9), (⟨"SliceTableModel", "having", "(III)I"⟩, 9)]
theorem lw_r1 : ∀ q ∈ lw_privs_1, lw_okq q := List.forall_mem_cons.mpr ⟨lw_p0, List.forall_mem_cons.mpr ⟨lw_p1, List.forall_mem_cons.mpr ⟨lw_p2, List.forall_mem_cons.mpr ⟨lw_p3, List.forall_mem_cons.mpr ⟨lw_p4, List.forall_mem_cons.mpr ⟨lw_p5, List.forall_mem_cons.mpr ⟨lw_p6, List.forall_mem_cons.mpr ⟨lw_p7, List.forall_mem_cons.mpr ⟨lw_p8, List.forall_mem_cons.mpr ⟨lw_p9, List.forall_mem_cons.mpr ⟨lw_p10, List.forall_mem_cons.mpr ⟨lw_p11, List.forall_mem_cons.mpr ⟨lw_p12, List.forall_mem_cons.mpr ⟨lw_p13, List.forall_mem_cons.mpr ⟨lw_p14, List.forall_mem_cons.mpr ⟨lw_p15, fun _ h => absurd h List.not_mem_nil⟩⟩⟩⟩⟩⟩⟩⟩⟩⟩⟩⟩⟩⟩⟩⟩
def lw_privs : List (MethodName × Nat) := lw_privs_1
def lw_tbl : List Cond := k2_sels lw_privs ++ tables_1
theorem lw_privs_ok : ∀ q ∈ lw_privs, lw_okq q := lw_r1
-- ===== ONE list of words for every method: the tables' words that hold all through a run =====
def lw_all : List Cond := lw_tbl.filter goodWord
/-- a word of the tables by its place: claim/WORDS.tsv -/
theorem lw_w {w : Cond} (i : Nat) (h : lw_tbl[i]? = some w) (g : goodWord w = true) : w ∈ lw_all := List.mem_filter.mpr ⟨List.mem_of_getElem? h, g⟩
theorem lw_all_tbl {w : Cond} (h : w ∈ lw_all) : w ∈ lw_tbl := (List.mem_filter.mp h).1
theorem lw_self : GoodIn lw_all lw_all := fun w h => ⟨h, good_of_word (List.mem_filter.mp h).2⟩
/-- a class's field words, by their places -/
theorem lw_in (ws : List Cond) (ps : List Nat) (hp : ws = ps.filterMap (fun i => lw_tbl[i]?)) (hg : ws.all goodWord = true) : ∀ w ∈ ws, w ∈ lw_all := by
  intro w h
  have h1 := List.all_eq_true.mp hg w h
  rw [hp] at h
  obtain ⟨i, -, hi⟩ := List.mem_filterMap.mp h
  exact lw_w i hi h1
/-- the words of a contract for the method y with code b, L locals, answer r -/
abbrev ws_ (y : MethodName) (b : ByteArray) (L : Nat) (r : Option FieldType) : List Cond := Cond.code y b L r :: lw_all
theorem lw_meth {y : MethodName} {b : ByteArray} {L : Nat} {r : Option FieldType} (h : Cond.code y b L r ∈ lw_all) : GoodIn lw_all (ws_ y b L r) := by
  intro w hw
  rcases List.mem_cons.mp hw with e | e
  · rw [e]
    exact lw_self _ h
  · exact lw_self _ e
theorem lw_app {a c : List Cond} (ha : ∀ w ∈ a, w ∈ lw_all) (hc : GoodIn lw_all c) : GoodIn lw_all (a ++ c) := by
  intro w hw
  rcases List.mem_append.mp hw with e | e
  · exact lw_self w (ha w e)
  · exact hc w e
/-- what a call through an object asks: cwV n hts (lw_V ..) -/
theorem lw_V {own : String} {idx : Nat} {C : String} {y : MethodName} {b : ByteArray} {L : Nat} {r : Option FieldType} (h1 : Cond.methodLink own idx y ∈ lw_all) (h2 : Cond.instanceMethod y ∈ lw_all) (h3 : Cond.selects C y y ∈ lw_all) (h4 : Cond.initialized C ∈ lw_all) (h5 : Cond.code y b L r ∈ lw_all) : GoodIn lw_all (wsV own idx C y (ws_ y b L r)) := by
  refine lw_app ?_ (lw_meth h5)
  intro w hw
  simp only [List.mem_cons, List.not_mem_nil, or_false] at hw
  rcases hw with e | e | e | e
  · rw [e]; exact h1
  · rw [e]; exact h2
  · rw [e]; exact h3
  · rw [e]; exact h4
/-- what a static call asks: va_cwS n hts (lw_S ..) -/
theorem lw_S {own : String} {idx : Nat} {y : MethodName} {b : ByteArray} {L : Nat} {r : Option FieldType} (h1 : Cond.methodLink own idx y ∈ lw_all) (h2 : Cond.static y ∈ lw_all) (h3 : Cond.initialized y.cls ∈ lw_all) (h4 : Cond.code y b L r ∈ lw_all) : GoodIn lw_all (va_wsS own idx y (ws_ y b L r)) := by
  refine lw_app ?_ (lw_meth h4)
  intro w hw
  simp only [List.mem_cons, List.not_mem_nil, or_false] at hw
  rcases hw with e | e | e
  · rw [e]; exact h1
  · rw [e]; exact h2
  · rw [e]; exact h3
/-- the words of a contract for a method WITH HANDLERS (hh: its table) -/
abbrev wsW_ (y : MethodName) (b : ByteArray) (L : Nat) (r : Option FieldType) (hh : List (Nat × Nat × Nat × Nat)) : List Cond := Cond.codeWith y b L r hh :: lw_all
theorem lw_methW {y : MethodName} {b : ByteArray} {L : Nat} {r : Option FieldType} {hh : List (Nat × Nat × Nat × Nat)} (h : Cond.codeWith y b L r hh ∈ lw_all) : GoodIn lw_all (wsW_ y b L r hh) := by
  intro w hw
  rcases List.mem_cons.mp hw with e | e
  · rw [e]
    exact lw_self _ h
  · exact lw_self _ e
/-- any list of words by their places (lw_in), good -/
theorem lw_good {ws : List Cond} (h : ∀ w ∈ ws, w ∈ lw_all) : GoodIn lw_all ws := fun w hw => lw_self w (h w hw)
/-- what a call of a method with handlers asks: vx_cwVW n hts (lw_VW ..), vx_cwSW n hts (lw_SW ..) -/
theorem lw_VW {own : String} {idx : Nat} {C : String} {y : MethodName} {b : ByteArray} {L : Nat} {r : Option FieldType} {hh : List (Nat × Nat × Nat × Nat)} (h1 : Cond.methodLink own idx y ∈ lw_all) (h2 : Cond.instanceMethod y ∈ lw_all) (h3 : Cond.selects C y y ∈ lw_all) (h4 : Cond.initialized C ∈ lw_all) (h5 : Cond.codeWith y b L r hh ∈ lw_all) : GoodIn lw_all (wsV own idx C y (wsW_ y b L r hh)) := by
  refine lw_app ?_ (lw_methW h5)
  intro w hw
  simp only [List.mem_cons, List.not_mem_nil, or_false] at hw
  rcases hw with e | e | e | e
  · rw [e]; exact h1
  · rw [e]; exact h2
  · rw [e]; exact h3
  · rw [e]; exact h4
theorem lw_SW {own : String} {idx : Nat} {y : MethodName} {b : ByteArray} {L : Nat} {r : Option FieldType} {hh : List (Nat × Nat × Nat × Nat)} (h1 : Cond.methodLink own idx y ∈ lw_all) (h2 : Cond.static y ∈ lw_all) (h3 : Cond.initialized y.cls ∈ lw_all) (h4 : Cond.codeWith y b L r hh ∈ lw_all) : GoodIn lw_all (va_wsS own idx y (wsW_ y b L r hh)) := by
  refine lw_app ?_ (lw_methW h4)
  intro w hw
  simp only [List.mem_cons, List.not_mem_nil, or_false] at hw
  rcases hw with e | e | e
  · rw [e]; exact h1
  · rw [e]; exact h2
  · rw [e]; exact h3
/-- a word by its place in its run of the tables -/
theorem lw_at {r : List Cond} (hr : ∀ w ∈ r, w ∈ lw_tbl) {w : Cond} (i : Nat) (h : r[i]? = some w) : w ∈ lw_tbl := hr w (List.mem_of_getElem? h)
theorem lw_g {w : Cond} (h : w ∈ lw_tbl) (g : goodWord w = true) : w ∈ lw_all := List.mem_filter.mpr ⟨h, g⟩
theorem lw_ms : ∀ w ∈ k2_sels lw_privs, w ∈ lw_tbl := fun w h => show w ∈ k2_sels lw_privs ++ tables_1 from List.mem_append_left _ h
theorem lw_m1 : ∀ w ∈ tables_1_1, w ∈ lw_tbl := fun w h => show w ∈ k2_sels lw_privs ++ tables_1 from List.mem_append_right (k2_sels lw_privs) (show w ∈ tables_1 from List.mem_append_left _ h)
theorem lw_m2 : ∀ w ∈ tables_1_2, w ∈ lw_tbl := fun w h => show w ∈ k2_sels lw_privs ++ tables_1 from List.mem_append_right (k2_sels lw_privs) (show w ∈ tables_1 from List.mem_append_right _ h)
theorem qs0 : (Cond.selects "SliceTable" ⟨"SliceTable", "setColumn", "(III)V"⟩ ⟨"SliceTable", "setColumn", "(III)V"⟩) ∈ lw_all := lw_g (lw_at lw_ms 0 rfl) rfl
theorem qs1 : (Cond.selects "SliceTable" ⟨"SliceTable", "forgetAnswers", "()V"⟩ ⟨"SliceTable", "forgetAnswers", "()V"⟩) ∈ lw_all := lw_g (lw_at lw_ms 1 rfl) rfl
theorem qs2 : (Cond.selects "SliceTable" ⟨"SliceTable", "make", "(IIIII)I"⟩ ⟨"SliceTable", "make", "(IIIII)I"⟩) ∈ lw_all := lw_g (lw_at lw_ms 2 rfl) rfl
theorem qs3 : (Cond.selects "SliceTable" ⟨"SliceTable", "isCondition", "(I)Z"⟩ ⟨"SliceTable", "isCondition", "(I)Z"⟩) ∈ lw_all := lw_g (lw_at lw_ms 3 rfl) rfl
theorem qs4 : (Cond.selects "SliceTable" ⟨"SliceTable", "rowsOf", "(I)J"⟩ ⟨"SliceTable", "rowsOf", "(I)J"⟩) ∈ lw_all := lw_g (lw_at lw_ms 4 rfl) rfl
theorem qs5 : (Cond.selects "SliceTable" ⟨"SliceTable", "workOut", "(I)J"⟩ ⟨"SliceTable", "workOut", "(I)J"⟩) ∈ lw_all := lw_g (lw_at lw_ms 5 rfl) rfl
theorem qs6 : (Cond.selects "SliceTable" ⟨"SliceTable", "takeColumn", "(I)V"⟩ ⟨"SliceTable", "takeColumn", "(I)V"⟩) ∈ lw_all := lw_g (lw_at lw_ms 6 rfl) rfl
theorem qs7 : (Cond.selects "SliceTable" ⟨"SliceTable", "compareWithConstant", "(I)V"⟩ ⟨"SliceTable", "compareWithConstant", "(I)V"⟩) ∈ lw_all := lw_g (lw_at lw_ms 7 rfl) rfl
theorem qs8 : (Cond.selects "SliceTable" ⟨"SliceTable", "compareColumns", "(II)V"⟩ ⟨"SliceTable", "compareColumns", "(II)V"⟩) ∈ lw_all := lw_g (lw_at lw_ms 8 rfl) rfl
theorem qs9 : (Cond.selects "SliceTable" ⟨"SliceTable", "addColumns", "(II)V"⟩ ⟨"SliceTable", "addColumns", "(II)V"⟩) ∈ lw_all := lw_g (lw_at lw_ms 9 rfl) rfl
theorem qs10 : (Cond.selects "SliceTable" ⟨"SliceTable", "chosen", "(I)J"⟩ ⟨"SliceTable", "chosen", "(I)J"⟩) ∈ lw_all := lw_g (lw_at lw_ms 10 rfl) rfl
theorem qs11 : (Cond.selects "SliceTable" ⟨"SliceTable", "splitSets", "(IJ)I"⟩ ⟨"SliceTable", "splitSets", "(IJ)I"⟩) ∈ lw_all := lw_g (lw_at lw_ms 11 rfl) rfl
theorem qs12 : (Cond.selects "SliceTableModel" ⟨"SliceTableModel", "make", "(IIIII)I"⟩ ⟨"SliceTableModel", "make", "(IIIII)I"⟩) ∈ lw_all := lw_g (lw_at lw_ms 12 rfl) rfl
theorem qs13 : (Cond.selects "SliceTableModel" ⟨"SliceTableModel", "missing", "(I)Z"⟩ ⟨"SliceTableModel", "missing", "(I)Z"⟩) ∈ lw_all := lw_g (lw_at lw_ms 13 rfl) rfl
theorem qs14 : (Cond.selects "SliceTableModel" ⟨"SliceTableModel", "meets", "(II)Z"⟩ ⟨"SliceTableModel", "meets", "(II)Z"⟩) ∈ lw_all := lw_g (lw_at lw_ms 14 rfl) rfl
theorem qs15 : (Cond.selects "SliceTableModel" ⟨"SliceTableModel", "having", "(III)I"⟩ ⟨"SliceTableModel", "having", "(III)I"⟩) ∈ lw_all := lw_g (lw_at lw_ms 15 rfl) rfl
end
section
set_option maxRecDepth 100000
/-! SliceTable -/
def RX0 : String := "SliceTable"
def TX0 : u_T := fun k => match k with
  | 0 => ("SliceTable", "present", "J", false)
  | 1 => ("SliceTable", "slice", "[J", true)
  | 2 => ("SliceTable", "conditions", "I", false)
  | 3 => ("SliceTable", "sort", "[I", true)
  | 4 => ("SliceTable", "first", "[I", true)
  | 5 => ("SliceTable", "second", "[I", true)
  | 6 => ("SliceTable", "how", "[I", true)
  | 7 => ("SliceTable", "constant", "[I", true)
  | 8 => ("SliceTable", "met", "[J", true)
  | 9 => ("SliceTable", "fresh", "[Z", true)
  | 10 => ("SliceTable", "total", "[J", true)
  | 11 => ("SliceTable", "less", "J", false)
  | 12 => ("SliceTable", "equal", "J", false)
  | 13 => ("SliceTable", "sets", "[J", true)
  | _ => ("SliceTable", "halves", "[J", true)
def tyX0 : Nat → FieldType := fun k => match k with
  | 0 => .long
  | 1 => .array .long
  | 2 => .int
  | 3 => .array .int
  | 4 => .array .int
  | 5 => .array .int
  | 6 => .array .int
  | 7 => .array .int
  | 8 => .array .long
  | 9 => .array .boolean
  | 10 => .array .long
  | 11 => .long
  | 12 => .long
  | 13 => .array .long
  | _ => .array .long
abbrev wsX00 : List Cond := u_ws RX0 TX0 15
set_option maxRecDepth 100000 in
theorem nmX0 : ∀ a, a < 15 → ∀ b, b < 15 → a ≠ b → (TX0 a).2.1 ≠ (TX0 b).2.1 := by decide +kernel
set_option maxRecDepth 100000 in
theorem tyX0_ok : ∀ k, k < 15 → parseFieldDescriptor (TX0 k).2.2.1 = some (tyX0 k) := by decide +kernel
abbrev cX0_init : ByteArray := prog_1_method_1_code
def yX0_init : MethodName := ⟨RX0, "<init>", "()V"⟩
abbrev cX0_put : ByteArray := prog_1_method_2_code
def yX0_put : MethodName := ⟨RX0, "put", "(IIII)I"⟩
abbrev cX0_setColumn : ByteArray := prog_1_method_4_code
def yX0_setColumn : MethodName := ⟨RX0, "setColumn", "(III)V"⟩
abbrev cX0_forgetAnswers : ByteArray := prog_1_method_5_code
def yX0_forgetAnswers : MethodName := ⟨RX0, "forgetAnswers", "()V"⟩
abbrev cX0_drop : ByteArray := prog_1_method_3_code
def yX0_drop : MethodName := ⟨RX0, "drop", "(I)I"⟩
abbrev cX0_compare : ByteArray := prog_1_method_6_code
def yX0_compare : MethodName := ⟨RX0, "compare", "(III)I"⟩
abbrev cX0_isColumn : ByteArray := prog_1_method_11_code
def yX0_isColumn : MethodName := ⟨RX0, "isColumn", "(I)Z"⟩
abbrev cX0_make : ByteArray := prog_1_method_12_code
def yX0_make : MethodName := ⟨RX0, "make", "(IIIII)I"⟩
abbrev cX0_columns : ByteArray := prog_1_method_7_code
def yX0_columns : MethodName := ⟨RX0, "columns", "(III)I"⟩
abbrev cX0_sums : ByteArray := prog_1_method_8_code
def yX0_sums : MethodName := ⟨RX0, "sums", "(IIII)I"⟩
abbrev cX0_join : ByteArray := prog_1_method_9_code
def yX0_join : MethodName := ⟨RX0, "join", "(III)I"⟩
abbrev cX0_clear : ByteArray := prog_1_method_10_code
def yX0_clear : MethodName := ⟨RX0, "clear", "()V"⟩
abbrev cX0_count : ByteArray := prog_1_method_13_code
def yX0_count : MethodName := ⟨RX0, "count", "(I)I"⟩
abbrev cX0_isCondition : ByteArray := prog_1_method_20_code
def yX0_isCondition : MethodName := ⟨RX0, "isCondition", "(I)Z"⟩
abbrev cX0_rowsOf : ByteArray := prog_1_method_21_code
def yX0_rowsOf : MethodName := ⟨RX0, "rowsOf", "(I)J"⟩
abbrev cX0_workOut : ByteArray := prog_1_method_22_code
def yX0_workOut : MethodName := ⟨RX0, "workOut", "(I)J"⟩
abbrev cX0_takeColumn : ByteArray := prog_1_method_24_code
def yX0_takeColumn : MethodName := ⟨RX0, "takeColumn", "(I)V"⟩
abbrev cX0_compareWithConstant : ByteArray := prog_1_method_26_code
def yX0_compareWithConstant : MethodName := ⟨RX0, "compareWithConstant", "(I)V"⟩
abbrev cX0_compareColumns : ByteArray := prog_1_method_27_code
def yX0_compareColumns : MethodName := ⟨RX0, "compareColumns", "(II)V"⟩
abbrev cX0_addColumns : ByteArray := prog_1_method_25_code
def yX0_addColumns : MethodName := ⟨RX0, "addColumns", "(II)V"⟩
abbrev cX0_chosen : ByteArray := prog_1_method_23_code
def yX0_chosen : MethodName := ⟨RX0, "chosen", "(I)J"⟩
abbrev cX0_ones : ByteArray := prog_1_method_19_code
def yX0_ones : MethodName := ⟨RX0, "ones", "(J)I"⟩
abbrev cX0_row : ByteArray := prog_1_method_14_code
def yX0_row : MethodName := ⟨RX0, "row", "(II)I"⟩
abbrev cX0_sum : ByteArray := prog_1_method_15_code
def yX0_sum : MethodName := ⟨RX0, "sum", "(II)I"⟩
abbrev cX0_ranked : ByteArray := prog_1_method_16_code
def yX0_ranked : MethodName := ⟨RX0, "ranked", "(III)I"⟩
abbrev cX0_different : ByteArray := prog_1_method_17_code
def yX0_different : MethodName := ⟨RX0, "different", "(II)I"⟩
abbrev cX0_splitSets : ByteArray := prog_1_method_18_code
def yX0_splitSets : MethodName := ⟨RX0, "splitSets", "(IJ)I"⟩
theorem q17 : (Jvm.Cond.initialized "SliceTable") ∈ lw_all := lw_g (lw_at lw_m1 1 rfl) rfl
theorem q20 : (Jvm.Cond.instantiable "SliceTable" (15 : Nat)) ∈ lw_all := lw_g (lw_at lw_m1 4 rfl) rfl
theorem q22 : (Jvm.Cond.instanceMethod ({ cls := "SliceTable", name := "<init>", desc := "()V" } : Jvm.MethodName)) ∈ lw_all := lw_g (lw_at lw_m1 6 rfl) rfl
theorem q23 : (Jvm.Cond.code ({ cls := "SliceTable", name := "<init>", desc := "()V" } : Jvm.MethodName) prog_1_method_1_code (1 : Nat) (Option.none : Option Jvm.ClassFile.FieldType)) ∈ lw_all := lw_g (lw_at lw_m1 7 rfl) rfl
theorem q24 : (Jvm.Cond.methodLink "SliceTable" (1 : Nat) ({ cls := "java/lang/Object", name := "<init>", desc := "()V" } : Jvm.MethodName)) ∈ lw_all := lw_g (lw_at lw_m1 8 rfl) rfl
theorem q27 : (Jvm.Cond.fieldLink "SliceTable" (45 : Nat) "SliceTable" "present" "J") ∈ lw_all := lw_g (lw_at lw_m1 11 rfl) rfl
theorem q28 : (Jvm.Cond.fieldLink "SliceTable" (7 : Nat) "SliceTable" "slice" "[J") ∈ lw_all := lw_g (lw_at lw_m1 12 rfl) rfl
theorem q29 : (Jvm.Cond.fieldLink "SliceTable" (66 : Nat) "SliceTable" "conditions" "I") ∈ lw_all := lw_g (lw_at lw_m1 13 rfl) rfl
theorem q30 : (Jvm.Cond.fieldLink "SliceTable" (13 : Nat) "SliceTable" "sort" "[I") ∈ lw_all := lw_g (lw_at lw_m1 14 rfl) rfl
theorem q31 : (Jvm.Cond.fieldLink "SliceTable" (17 : Nat) "SliceTable" "first" "[I") ∈ lw_all := lw_g (lw_at lw_m1 15 rfl) rfl
theorem q32 : (Jvm.Cond.fieldLink "SliceTable" (20 : Nat) "SliceTable" "second" "[I") ∈ lw_all := lw_g (lw_at lw_m1 16 rfl) rfl
theorem q33 : (Jvm.Cond.fieldLink "SliceTable" (23 : Nat) "SliceTable" "how" "[I") ∈ lw_all := lw_g (lw_at lw_m1 17 rfl) rfl
theorem q34 : (Jvm.Cond.fieldLink "SliceTable" (26 : Nat) "SliceTable" "constant" "[I") ∈ lw_all := lw_g (lw_at lw_m1 18 rfl) rfl
theorem q35 : (Jvm.Cond.fieldLink "SliceTable" (29 : Nat) "SliceTable" "met" "[J") ∈ lw_all := lw_g (lw_at lw_m1 19 rfl) rfl
theorem q36 : (Jvm.Cond.fieldLink "SliceTable" (32 : Nat) "SliceTable" "fresh" "[Z") ∈ lw_all := lw_g (lw_at lw_m1 20 rfl) rfl
theorem q37 : (Jvm.Cond.fieldLink "SliceTable" (36 : Nat) "SliceTable" "total" "[J") ∈ lw_all := lw_g (lw_at lw_m1 21 rfl) rfl
theorem q38 : (Jvm.Cond.fieldLink "SliceTable" (116 : Nat) "SliceTable" "less" "J") ∈ lw_all := lw_g (lw_at lw_m1 22 rfl) rfl
theorem q39 : (Jvm.Cond.fieldLink "SliceTable" (113 : Nat) "SliceTable" "equal" "J") ∈ lw_all := lw_g (lw_at lw_m1 23 rfl) rfl
theorem q40 : (Jvm.Cond.fieldLink "SliceTable" (39 : Nat) "SliceTable" "sets" "[J") ∈ lw_all := lw_g (lw_at lw_m1 24 rfl) rfl
theorem q41 : (Jvm.Cond.fieldLink "SliceTable" (42 : Nat) "SliceTable" "halves" "[J") ∈ lw_all := lw_g (lw_at lw_m1 25 rfl) rfl
theorem q42 : (Jvm.Cond.lays "SliceTable" "SliceTable" "present" "J") ∈ lw_all := lw_g (lw_at lw_m1 26 rfl) rfl
theorem q43 : (Jvm.Cond.soleField "SliceTable" "present") ∈ lw_all := lw_g (lw_at lw_m1 27 rfl) rfl
theorem q44 : (Jvm.Cond.laysFinal "SliceTable" "SliceTable" "slice" "[J") ∈ lw_all := lw_g (lw_at lw_m1 28 rfl) rfl
theorem q45 : (Jvm.Cond.soleField "SliceTable" "slice") ∈ lw_all := lw_g (lw_at lw_m1 29 rfl) rfl
theorem q46 : (Jvm.Cond.lays "SliceTable" "SliceTable" "conditions" "I") ∈ lw_all := lw_g (lw_at lw_m1 30 rfl) rfl
theorem q47 : (Jvm.Cond.soleField "SliceTable" "conditions") ∈ lw_all := lw_g (lw_at lw_m1 31 rfl) rfl
theorem q48 : (Jvm.Cond.laysFinal "SliceTable" "SliceTable" "sort" "[I") ∈ lw_all := lw_g (lw_at lw_m1 32 rfl) rfl
theorem q49 : (Jvm.Cond.soleField "SliceTable" "sort") ∈ lw_all := lw_g (lw_at lw_m1 33 rfl) rfl
theorem q50 : (Jvm.Cond.laysFinal "SliceTable" "SliceTable" "first" "[I") ∈ lw_all := lw_g (lw_at lw_m1 34 rfl) rfl
theorem q51 : (Jvm.Cond.soleField "SliceTable" "first") ∈ lw_all := lw_g (lw_at lw_m1 35 rfl) rfl
theorem q52 : (Jvm.Cond.laysFinal "SliceTable" "SliceTable" "second" "[I") ∈ lw_all := lw_g (lw_at lw_m1 36 rfl) rfl
theorem q53 : (Jvm.Cond.soleField "SliceTable" "second") ∈ lw_all := lw_g (lw_at lw_m1 37 rfl) rfl
theorem q54 : (Jvm.Cond.laysFinal "SliceTable" "SliceTable" "how" "[I") ∈ lw_all := lw_g (lw_at lw_m1 38 rfl) rfl
theorem q55 : (Jvm.Cond.soleField "SliceTable" "how") ∈ lw_all := lw_g (lw_at lw_m1 39 rfl) rfl
theorem q56 : (Jvm.Cond.laysFinal "SliceTable" "SliceTable" "constant" "[I") ∈ lw_all := lw_g (lw_at lw_m1 40 rfl) rfl
theorem q57 : (Jvm.Cond.soleField "SliceTable" "constant") ∈ lw_all := lw_g (lw_at lw_m1 41 rfl) rfl
theorem q58 : (Jvm.Cond.laysFinal "SliceTable" "SliceTable" "met" "[J") ∈ lw_all := lw_g (lw_at lw_m1 42 rfl) rfl
theorem q59 : (Jvm.Cond.soleField "SliceTable" "met") ∈ lw_all := lw_g (lw_at lw_m1 43 rfl) rfl
theorem q60 : (Jvm.Cond.laysFinal "SliceTable" "SliceTable" "fresh" "[Z") ∈ lw_all := lw_g (lw_at lw_m1 44 rfl) rfl
theorem q61 : (Jvm.Cond.soleField "SliceTable" "fresh") ∈ lw_all := lw_g (lw_at lw_m1 45 rfl) rfl
theorem q62 : (Jvm.Cond.laysFinal "SliceTable" "SliceTable" "total" "[J") ∈ lw_all := lw_g (lw_at lw_m1 46 rfl) rfl
theorem q63 : (Jvm.Cond.soleField "SliceTable" "total") ∈ lw_all := lw_g (lw_at lw_m1 47 rfl) rfl
theorem q64 : (Jvm.Cond.lays "SliceTable" "SliceTable" "less" "J") ∈ lw_all := lw_g (lw_at lw_m1 48 rfl) rfl
theorem q65 : (Jvm.Cond.soleField "SliceTable" "less") ∈ lw_all := lw_g (lw_at lw_m1 49 rfl) rfl
theorem q66 : (Jvm.Cond.lays "SliceTable" "SliceTable" "equal" "J") ∈ lw_all := lw_g (lw_at lw_m1 50 rfl) rfl
theorem q67 : (Jvm.Cond.soleField "SliceTable" "equal") ∈ lw_all := lw_g (lw_at lw_m1 51 rfl) rfl
theorem q68 : (Jvm.Cond.laysFinal "SliceTable" "SliceTable" "sets" "[J") ∈ lw_all := lw_g (lw_at lw_m1 52 rfl) rfl
theorem q69 : (Jvm.Cond.soleField "SliceTable" "sets") ∈ lw_all := lw_g (lw_at lw_m1 53 rfl) rfl
theorem q70 : (Jvm.Cond.laysFinal "SliceTable" "SliceTable" "halves" "[J") ∈ lw_all := lw_g (lw_at lw_m1 54 rfl) rfl
theorem q71 : (Jvm.Cond.soleField "SliceTable" "halves") ∈ lw_all := lw_g (lw_at lw_m1 55 rfl) rfl
theorem q72 : (Jvm.Cond.superclass "SliceTable" "java/lang/Object") ∈ lw_all := lw_g (lw_at lw_m1 56 rfl) rfl
theorem q77 : (Jvm.Cond.instanceMethod ({ cls := "SliceTable", name := "put", desc := "(IIII)I" } : Jvm.MethodName)) ∈ lw_all := lw_g (lw_at lw_m1 61 rfl) rfl
theorem q78 : (Jvm.Cond.selects "SliceTable" ({ cls := "SliceTable", name := "put", desc := "(IIII)I" } : Jvm.MethodName) ({ cls := "SliceTable", name := "put", desc := "(IIII)I" } : Jvm.MethodName)) ∈ lw_all := lw_g (lw_at lw_m1 62 rfl) rfl
theorem q79 : (Jvm.Cond.code ({ cls := "SliceTable", name := "put", desc := "(IIII)I" } : Jvm.MethodName) prog_1_method_2_code (5 : Nat) (Option.some Jvm.ClassFile.FieldType.int)) ∈ lw_all := lw_g (lw_at lw_m1 63 rfl) rfl
theorem q80 : (Jvm.Cond.methodLink "SliceTable" (49 : Nat) ({ cls := "SliceTable", name := "setColumn", desc := "(III)V" } : Jvm.MethodName)) ∈ lw_all := lw_g (lw_at lw_m1 64 rfl) rfl
theorem q81 : (Jvm.Cond.privateMethod ({ cls := "SliceTable", name := "setColumn", desc := "(III)V" } : Jvm.MethodName)) ∈ lw_tbl := lw_at lw_m1 65 rfl
theorem q82 : (Jvm.Cond.instanceMethod ({ cls := "SliceTable", name := "setColumn", desc := "(III)V" } : Jvm.MethodName)) ∈ lw_all := lw_g (lw_at lw_m1 66 rfl) rfl
theorem q83 : (Jvm.Cond.code ({ cls := "SliceTable", name := "setColumn", desc := "(III)V" } : Jvm.MethodName) prog_1_method_4_code (6 : Nat) (Option.none : Option Jvm.ClassFile.FieldType)) ∈ lw_all := lw_g (lw_at lw_m1 67 rfl) rfl
theorem q84 : (Jvm.Cond.constantLong "SliceTable" (56 : Nat) (-1 : Int64)) ∈ lw_all := lw_g (lw_at lw_m1 68 rfl) rfl
theorem q85 : (Jvm.Cond.methodLink "SliceTable" (53 : Nat) ({ cls := "SliceTable", name := "forgetAnswers", desc := "()V" } : Jvm.MethodName)) ∈ lw_all := lw_g (lw_at lw_m1 69 rfl) rfl
theorem q86 : (Jvm.Cond.privateMethod ({ cls := "SliceTable", name := "forgetAnswers", desc := "()V" } : Jvm.MethodName)) ∈ lw_tbl := lw_at lw_m1 70 rfl
theorem q87 : (Jvm.Cond.instanceMethod ({ cls := "SliceTable", name := "forgetAnswers", desc := "()V" } : Jvm.MethodName)) ∈ lw_all := lw_g (lw_at lw_m1 71 rfl) rfl
theorem q88 : (Jvm.Cond.code ({ cls := "SliceTable", name := "forgetAnswers", desc := "()V" } : Jvm.MethodName) prog_1_method_5_code (2 : Nat) (Option.none : Option Jvm.ClassFile.FieldType)) ∈ lw_all := lw_g (lw_at lw_m1 72 rfl) rfl
theorem q90 : (Jvm.Cond.instanceMethod ({ cls := "SliceTable", name := "drop", desc := "(I)I" } : Jvm.MethodName)) ∈ lw_all := lw_g (lw_at lw_m1 74 rfl) rfl
theorem q91 : (Jvm.Cond.selects "SliceTable" ({ cls := "SliceTable", name := "drop", desc := "(I)I" } : Jvm.MethodName) ({ cls := "SliceTable", name := "drop", desc := "(I)I" } : Jvm.MethodName)) ∈ lw_all := lw_g (lw_at lw_m1 75 rfl) rfl
theorem q92 : (Jvm.Cond.code ({ cls := "SliceTable", name := "drop", desc := "(I)I" } : Jvm.MethodName) prog_1_method_3_code (3 : Nat) (Option.some Jvm.ClassFile.FieldType.int)) ∈ lw_all := lw_g (lw_at lw_m1 76 rfl) rfl
theorem q94 : (Jvm.Cond.instanceMethod ({ cls := "SliceTable", name := "compare", desc := "(III)I" } : Jvm.MethodName)) ∈ lw_all := lw_g (lw_at lw_m1 78 rfl) rfl
theorem q95 : (Jvm.Cond.selects "SliceTable" ({ cls := "SliceTable", name := "compare", desc := "(III)I" } : Jvm.MethodName) ({ cls := "SliceTable", name := "compare", desc := "(III)I" } : Jvm.MethodName)) ∈ lw_all := lw_g (lw_at lw_m1 79 rfl) rfl
theorem q96 : (Jvm.Cond.code ({ cls := "SliceTable", name := "compare", desc := "(III)I" } : Jvm.MethodName) prog_1_method_6_code (4 : Nat) (Option.some Jvm.ClassFile.FieldType.int)) ∈ lw_all := lw_g (lw_at lw_m1 80 rfl) rfl
theorem q97 : (Jvm.Cond.methodLink "SliceTable" (58 : Nat) ({ cls := "SliceTable", name := "isColumn", desc := "(I)Z" } : Jvm.MethodName)) ∈ lw_all := lw_g (lw_at lw_m1 81 rfl) rfl
theorem q98 : (Jvm.Cond.static ({ cls := "SliceTable", name := "isColumn", desc := "(I)Z" } : Jvm.MethodName)) ∈ lw_all := lw_g (lw_at lw_m1 82 rfl) rfl
theorem q99 : (Jvm.Cond.code ({ cls := "SliceTable", name := "isColumn", desc := "(I)Z" } : Jvm.MethodName) prog_1_method_11_code (1 : Nat) (Option.some Jvm.ClassFile.FieldType.boolean)) ∈ lw_all := lw_g (lw_at lw_m1 83 rfl) rfl
theorem q100 : (Jvm.Cond.methodLink "SliceTable" (62 : Nat) ({ cls := "SliceTable", name := "make", desc := "(IIIII)I" } : Jvm.MethodName)) ∈ lw_all := lw_g (lw_at lw_m1 84 rfl) rfl
theorem q101 : (Jvm.Cond.privateMethod ({ cls := "SliceTable", name := "make", desc := "(IIIII)I" } : Jvm.MethodName)) ∈ lw_tbl := lw_at lw_m1 85 rfl
theorem q102 : (Jvm.Cond.instanceMethod ({ cls := "SliceTable", name := "make", desc := "(IIIII)I" } : Jvm.MethodName)) ∈ lw_all := lw_g (lw_at lw_m1 86 rfl) rfl
theorem q103 : (Jvm.Cond.code ({ cls := "SliceTable", name := "make", desc := "(IIIII)I" } : Jvm.MethodName) prog_1_method_12_code (7 : Nat) (Option.some Jvm.ClassFile.FieldType.int)) ∈ lw_all := lw_g (lw_at lw_m1 87 rfl) rfl
theorem q105 : (Jvm.Cond.instanceMethod ({ cls := "SliceTable", name := "columns", desc := "(III)I" } : Jvm.MethodName)) ∈ lw_all := lw_g (lw_at lw_m1 89 rfl) rfl
theorem q106 : (Jvm.Cond.selects "SliceTable" ({ cls := "SliceTable", name := "columns", desc := "(III)I" } : Jvm.MethodName) ({ cls := "SliceTable", name := "columns", desc := "(III)I" } : Jvm.MethodName)) ∈ lw_all := lw_g (lw_at lw_m1 90 rfl) rfl
theorem q107 : (Jvm.Cond.code ({ cls := "SliceTable", name := "columns", desc := "(III)I" } : Jvm.MethodName) prog_1_method_7_code (4 : Nat) (Option.some Jvm.ClassFile.FieldType.int)) ∈ lw_all := lw_g (lw_at lw_m1 91 rfl) rfl
theorem q109 : (Jvm.Cond.instanceMethod ({ cls := "SliceTable", name := "sums", desc := "(IIII)I" } : Jvm.MethodName)) ∈ lw_all := lw_g (lw_at lw_m1 93 rfl) rfl
theorem q110 : (Jvm.Cond.selects "SliceTable" ({ cls := "SliceTable", name := "sums", desc := "(IIII)I" } : Jvm.MethodName) ({ cls := "SliceTable", name := "sums", desc := "(IIII)I" } : Jvm.MethodName)) ∈ lw_all := lw_g (lw_at lw_m1 94 rfl) rfl
theorem q111 : (Jvm.Cond.code ({ cls := "SliceTable", name := "sums", desc := "(IIII)I" } : Jvm.MethodName) prog_1_method_8_code (5 : Nat) (Option.some Jvm.ClassFile.FieldType.int)) ∈ lw_all := lw_g (lw_at lw_m1 95 rfl) rfl
theorem q113 : (Jvm.Cond.instanceMethod ({ cls := "SliceTable", name := "join", desc := "(III)I" } : Jvm.MethodName)) ∈ lw_all := lw_g (lw_at lw_m1 97 rfl) rfl
theorem q114 : (Jvm.Cond.selects "SliceTable" ({ cls := "SliceTable", name := "join", desc := "(III)I" } : Jvm.MethodName) ({ cls := "SliceTable", name := "join", desc := "(III)I" } : Jvm.MethodName)) ∈ lw_all := lw_g (lw_at lw_m1 98 rfl) rfl
theorem q115 : (Jvm.Cond.code ({ cls := "SliceTable", name := "join", desc := "(III)I" } : Jvm.MethodName) prog_1_method_9_code (4 : Nat) (Option.some Jvm.ClassFile.FieldType.int)) ∈ lw_all := lw_g (lw_at lw_m1 99 rfl) rfl
theorem q117 : (Jvm.Cond.instanceMethod ({ cls := "SliceTable", name := "clear", desc := "()V" } : Jvm.MethodName)) ∈ lw_all := lw_g (lw_at lw_m1 101 rfl) rfl
theorem q118 : (Jvm.Cond.selects "SliceTable" ({ cls := "SliceTable", name := "clear", desc := "()V" } : Jvm.MethodName) ({ cls := "SliceTable", name := "clear", desc := "()V" } : Jvm.MethodName)) ∈ lw_all := lw_g (lw_at lw_m1 102 rfl) rfl
theorem q119 : (Jvm.Cond.code ({ cls := "SliceTable", name := "clear", desc := "()V" } : Jvm.MethodName) prog_1_method_10_code (1 : Nat) (Option.none : Option Jvm.ClassFile.FieldType)) ∈ lw_all := lw_g (lw_at lw_m1 103 rfl) rfl
theorem q121 : (Jvm.Cond.instanceMethod ({ cls := "SliceTable", name := "count", desc := "(I)I" } : Jvm.MethodName)) ∈ lw_all := lw_g (lw_at lw_m1 105 rfl) rfl
theorem q122 : (Jvm.Cond.selects "SliceTable" ({ cls := "SliceTable", name := "count", desc := "(I)I" } : Jvm.MethodName) ({ cls := "SliceTable", name := "count", desc := "(I)I" } : Jvm.MethodName)) ∈ lw_all := lw_g (lw_at lw_m1 106 rfl) rfl
theorem q123 : (Jvm.Cond.code ({ cls := "SliceTable", name := "count", desc := "(I)I" } : Jvm.MethodName) prog_1_method_13_code (4 : Nat) (Option.some Jvm.ClassFile.FieldType.int)) ∈ lw_all := lw_g (lw_at lw_m1 107 rfl) rfl
theorem q124 : (Jvm.Cond.methodLink "SliceTable" (70 : Nat) ({ cls := "SliceTable", name := "isCondition", desc := "(I)Z" } : Jvm.MethodName)) ∈ lw_all := lw_g (lw_at lw_m1 108 rfl) rfl
theorem q125 : (Jvm.Cond.privateMethod ({ cls := "SliceTable", name := "isCondition", desc := "(I)Z" } : Jvm.MethodName)) ∈ lw_tbl := lw_at lw_m1 109 rfl
theorem q126 : (Jvm.Cond.instanceMethod ({ cls := "SliceTable", name := "isCondition", desc := "(I)Z" } : Jvm.MethodName)) ∈ lw_all := lw_g (lw_at lw_m1 110 rfl) rfl
theorem q127 : (Jvm.Cond.code ({ cls := "SliceTable", name := "isCondition", desc := "(I)Z" } : Jvm.MethodName) prog_1_method_20_code (2 : Nat) (Option.some Jvm.ClassFile.FieldType.boolean)) ∈ lw_all := lw_g (lw_at lw_m1 111 rfl) rfl
theorem q128 : (Jvm.Cond.methodLink "SliceTable" (73 : Nat) ({ cls := "SliceTable", name := "rowsOf", desc := "(I)J" } : Jvm.MethodName)) ∈ lw_all := lw_g (lw_at lw_m1 112 rfl) rfl
theorem q129 : (Jvm.Cond.privateMethod ({ cls := "SliceTable", name := "rowsOf", desc := "(I)J" } : Jvm.MethodName)) ∈ lw_tbl := lw_at lw_m1 113 rfl
theorem q130 : (Jvm.Cond.instanceMethod ({ cls := "SliceTable", name := "rowsOf", desc := "(I)J" } : Jvm.MethodName)) ∈ lw_all := lw_g (lw_at lw_m1 114 rfl) rfl
theorem q131 : (Jvm.Cond.code ({ cls := "SliceTable", name := "rowsOf", desc := "(I)J" } : Jvm.MethodName) prog_1_method_21_code (3 : Nat) (Option.some Jvm.ClassFile.FieldType.long)) ∈ lw_all := lw_g (lw_at lw_m1 115 rfl) rfl
theorem q132 : (Jvm.Cond.methodLink "SliceTable" (93 : Nat) ({ cls := "SliceTable", name := "workOut", desc := "(I)J" } : Jvm.MethodName)) ∈ lw_all := lw_g (lw_at lw_m1 116 rfl) rfl
theorem q133 : (Jvm.Cond.privateMethod ({ cls := "SliceTable", name := "workOut", desc := "(I)J" } : Jvm.MethodName)) ∈ lw_tbl := lw_at lw_m1 117 rfl
theorem q134 : (Jvm.Cond.instanceMethod ({ cls := "SliceTable", name := "workOut", desc := "(I)J" } : Jvm.MethodName)) ∈ lw_all := lw_g (lw_at lw_m1 118 rfl) rfl
theorem q135 : (Jvm.Cond.code ({ cls := "SliceTable", name := "workOut", desc := "(I)J" } : Jvm.MethodName) prog_1_method_22_code (6 : Nat) (Option.some Jvm.ClassFile.FieldType.long)) ∈ lw_all := lw_g (lw_at lw_m1 119 rfl) rfl
theorem q136 : (Jvm.Cond.methodLink "SliceTable" (96 : Nat) ({ cls := "SliceTable", name := "takeColumn", desc := "(I)V" } : Jvm.MethodName)) ∈ lw_all := lw_g (lw_at lw_m1 120 rfl) rfl
theorem q137 : (Jvm.Cond.privateMethod ({ cls := "SliceTable", name := "takeColumn", desc := "(I)V" } : Jvm.MethodName)) ∈ lw_tbl := lw_at lw_m1 121 rfl
theorem q138 : (Jvm.Cond.instanceMethod ({ cls := "SliceTable", name := "takeColumn", desc := "(I)V" } : Jvm.MethodName)) ∈ lw_all := lw_g (lw_at lw_m1 122 rfl) rfl
theorem q139 : (Jvm.Cond.code ({ cls := "SliceTable", name := "takeColumn", desc := "(I)V" } : Jvm.MethodName) prog_1_method_24_code (3 : Nat) (Option.none : Option Jvm.ClassFile.FieldType)) ∈ lw_all := lw_g (lw_at lw_m1 123 rfl) rfl
theorem q140 : (Jvm.Cond.methodLink "SliceTable" (100 : Nat) ({ cls := "SliceTable", name := "compareWithConstant", desc := "(I)V" } : Jvm.MethodName)) ∈ lw_all := lw_g (lw_at lw_m1 124 rfl) rfl
theorem q141 : (Jvm.Cond.privateMethod ({ cls := "SliceTable", name := "compareWithConstant", desc := "(I)V" } : Jvm.MethodName)) ∈ lw_tbl := lw_at lw_m1 125 rfl
theorem q142 : (Jvm.Cond.instanceMethod ({ cls := "SliceTable", name := "compareWithConstant", desc := "(I)V" } : Jvm.MethodName)) ∈ lw_all := lw_g (lw_at lw_m1 126 rfl) rfl
theorem q143 : (Jvm.Cond.code ({ cls := "SliceTable", name := "compareWithConstant", desc := "(I)V" } : Jvm.MethodName) prog_1_method_26_code (3 : Nat) (Option.none : Option Jvm.ClassFile.FieldType)) ∈ lw_all := lw_g (lw_at lw_m1 127 rfl) rfl
theorem q144 : (Jvm.Cond.methodLink "SliceTable" (103 : Nat) ({ cls := "SliceTable", name := "compareColumns", desc := "(II)V" } : Jvm.MethodName)) ∈ lw_all := lw_g (lw_at lw_m1 128 rfl) rfl
theorem q145 : (Jvm.Cond.privateMethod ({ cls := "SliceTable", name := "compareColumns", desc := "(II)V" } : Jvm.MethodName)) ∈ lw_tbl := lw_at lw_m1 129 rfl
theorem q146 : (Jvm.Cond.instanceMethod ({ cls := "SliceTable", name := "compareColumns", desc := "(II)V" } : Jvm.MethodName)) ∈ lw_all := lw_g (lw_at lw_m1 130 rfl) rfl
theorem q147 : (Jvm.Cond.code ({ cls := "SliceTable", name := "compareColumns", desc := "(II)V" } : Jvm.MethodName) prog_1_method_27_code (8 : Nat) (Option.none : Option Jvm.ClassFile.FieldType)) ∈ lw_all := lw_g (lw_at lw_m1 131 rfl) rfl
theorem q148 : (Jvm.Cond.methodLink "SliceTable" (107 : Nat) ({ cls := "SliceTable", name := "addColumns", desc := "(II)V" } : Jvm.MethodName)) ∈ lw_all := lw_g (lw_at lw_m1 132 rfl) rfl
theorem q149 : (Jvm.Cond.privateMethod ({ cls := "SliceTable", name := "addColumns", desc := "(II)V" } : Jvm.MethodName)) ∈ lw_tbl := lw_at lw_m1 133 rfl
theorem q150 : (Jvm.Cond.instanceMethod ({ cls := "SliceTable", name := "addColumns", desc := "(II)V" } : Jvm.MethodName)) ∈ lw_all := lw_g (lw_at lw_m1 134 rfl) rfl
theorem q151 : (Jvm.Cond.code ({ cls := "SliceTable", name := "addColumns", desc := "(II)V" } : Jvm.MethodName) prog_1_method_25_code (10 : Nat) (Option.none : Option Jvm.ClassFile.FieldType)) ∈ lw_all := lw_g (lw_at lw_m1 135 rfl) rfl
theorem q152 : (Jvm.Cond.methodLink "SliceTable" (110 : Nat) ({ cls := "SliceTable", name := "chosen", desc := "(I)J" } : Jvm.MethodName)) ∈ lw_all := lw_g (lw_at lw_m1 136 rfl) rfl
theorem q153 : (Jvm.Cond.privateMethod ({ cls := "SliceTable", name := "chosen", desc := "(I)J" } : Jvm.MethodName)) ∈ lw_tbl := lw_at lw_m1 137 rfl
theorem q154 : (Jvm.Cond.instanceMethod ({ cls := "SliceTable", name := "chosen", desc := "(I)J" } : Jvm.MethodName)) ∈ lw_all := lw_g (lw_at lw_m1 138 rfl) rfl
theorem q155 : (Jvm.Cond.code ({ cls := "SliceTable", name := "chosen", desc := "(I)J" } : Jvm.MethodName) prog_1_method_23_code (2 : Nat) (Option.some Jvm.ClassFile.FieldType.long)) ∈ lw_all := lw_g (lw_at lw_m1 139 rfl) rfl
theorem q156 : (Jvm.Cond.methodLink "SliceTable" (77 : Nat) ({ cls := "SliceTable", name := "ones", desc := "(J)I" } : Jvm.MethodName)) ∈ lw_all := lw_g (lw_at lw_m1 140 rfl) rfl
theorem q157 : (Jvm.Cond.static ({ cls := "SliceTable", name := "ones", desc := "(J)I" } : Jvm.MethodName)) ∈ lw_all := lw_g (lw_at lw_m1 141 rfl) rfl
theorem q158 : (Jvm.Cond.code ({ cls := "SliceTable", name := "ones", desc := "(J)I" } : Jvm.MethodName) prog_1_method_19_code (4 : Nat) (Option.some Jvm.ClassFile.FieldType.int)) ∈ lw_all := lw_g (lw_at lw_m1 142 rfl) rfl
theorem q159 : (Jvm.Cond.constantLong "SliceTable" (85 : Nat) (6148914691236517205 : Int64)) ∈ lw_all := lw_g (lw_at lw_m1 143 rfl) rfl
theorem q160 : (Jvm.Cond.constantLong "SliceTable" (87 : Nat) (3689348814741910323 : Int64)) ∈ lw_all := lw_g (lw_at lw_m1 144 rfl) rfl
theorem q161 : (Jvm.Cond.constantLong "SliceTable" (89 : Nat) (1085102592571150095 : Int64)) ∈ lw_all := lw_g (lw_at lw_m1 145 rfl) rfl
theorem q162 : (Jvm.Cond.constantLong "SliceTable" (91 : Nat) (72340172838076673 : Int64)) ∈ lw_all := lw_g (lw_at lw_m1 146 rfl) rfl
theorem q164 : (Jvm.Cond.instanceMethod ({ cls := "SliceTable", name := "row", desc := "(II)I" } : Jvm.MethodName)) ∈ lw_all := lw_g (lw_at lw_m1 148 rfl) rfl
theorem q165 : (Jvm.Cond.selects "SliceTable" ({ cls := "SliceTable", name := "row", desc := "(II)I" } : Jvm.MethodName) ({ cls := "SliceTable", name := "row", desc := "(II)I" } : Jvm.MethodName)) ∈ lw_all := lw_g (lw_at lw_m1 149 rfl) rfl
theorem q166 : (Jvm.Cond.code ({ cls := "SliceTable", name := "row", desc := "(II)I" } : Jvm.MethodName) prog_1_method_14_code (11 : Nat) (Option.some Jvm.ClassFile.FieldType.int)) ∈ lw_all := lw_g (lw_at lw_m1 150 rfl) rfl
theorem q168 : (Jvm.Cond.instanceMethod ({ cls := "SliceTable", name := "sum", desc := "(II)I" } : Jvm.MethodName)) ∈ lw_all := lw_g (lw_at lw_m1 152 rfl) rfl
theorem q169 : (Jvm.Cond.selects "SliceTable" ({ cls := "SliceTable", name := "sum", desc := "(II)I" } : Jvm.MethodName) ({ cls := "SliceTable", name := "sum", desc := "(II)I" } : Jvm.MethodName)) ∈ lw_all := lw_g (lw_at lw_m1 153 rfl) rfl
theorem q170 : (Jvm.Cond.code ({ cls := "SliceTable", name := "sum", desc := "(II)I" } : Jvm.MethodName) prog_1_method_15_code (8 : Nat) (Option.some Jvm.ClassFile.FieldType.int)) ∈ lw_all := lw_g (lw_at lw_m1 154 rfl) rfl
theorem q172 : (Jvm.Cond.instanceMethod ({ cls := "SliceTable", name := "ranked", desc := "(III)I" } : Jvm.MethodName)) ∈ lw_all := lw_g (lw_at lw_m1 156 rfl) rfl
theorem q173 : (Jvm.Cond.selects "SliceTable" ({ cls := "SliceTable", name := "ranked", desc := "(III)I" } : Jvm.MethodName) ({ cls := "SliceTable", name := "ranked", desc := "(III)I" } : Jvm.MethodName)) ∈ lw_all := lw_g (lw_at lw_m1 157 rfl) rfl
theorem q174 : (Jvm.Cond.code ({ cls := "SliceTable", name := "ranked", desc := "(III)I" } : Jvm.MethodName) prog_1_method_16_code (12 : Nat) (Option.some Jvm.ClassFile.FieldType.int)) ∈ lw_all := lw_g (lw_at lw_m1 158 rfl) rfl
theorem q176 : (Jvm.Cond.instanceMethod ({ cls := "SliceTable", name := "different", desc := "(II)I" } : Jvm.MethodName)) ∈ lw_all := lw_g (lw_at lw_m1 160 rfl) rfl
theorem q177 : (Jvm.Cond.selects "SliceTable" ({ cls := "SliceTable", name := "different", desc := "(II)I" } : Jvm.MethodName) ({ cls := "SliceTable", name := "different", desc := "(II)I" } : Jvm.MethodName)) ∈ lw_all := lw_g (lw_at lw_m1 161 rfl) rfl
theorem q178 : (Jvm.Cond.code ({ cls := "SliceTable", name := "different", desc := "(II)I" } : Jvm.MethodName) prog_1_method_17_code (5 : Nat) (Option.some Jvm.ClassFile.FieldType.int)) ∈ lw_all := lw_g (lw_at lw_m1 162 rfl) rfl
theorem q179 : (Jvm.Cond.methodLink "SliceTable" (81 : Nat) ({ cls := "SliceTable", name := "splitSets", desc := "(IJ)I" } : Jvm.MethodName)) ∈ lw_all := lw_g (lw_at lw_m1 163 rfl) rfl
theorem q180 : (Jvm.Cond.privateMethod ({ cls := "SliceTable", name := "splitSets", desc := "(IJ)I" } : Jvm.MethodName)) ∈ lw_tbl := lw_at lw_m1 164 rfl
theorem q181 : (Jvm.Cond.instanceMethod ({ cls := "SliceTable", name := "splitSets", desc := "(IJ)I" } : Jvm.MethodName)) ∈ lw_all := lw_g (lw_at lw_m1 165 rfl) rfl
theorem q182 : (Jvm.Cond.code ({ cls := "SliceTable", name := "splitSets", desc := "(IJ)I" } : Jvm.MethodName) prog_1_method_18_code (10 : Nat) (Option.some Jvm.ClassFile.FieldType.int)) ∈ lw_all := lw_g (lw_at lw_m1 166 rfl) rfl
theorem in_X0 : ∀ w ∈ wsX00, w ∈ lw_all := lw_in wsX00 [42, 44, 46, 48, 50, 52, 54, 56, 58, 60, 62, 64, 66, 68, 70] (by decide +kernel) (by decide +kernel)

/-! SliceTableModel -/
def RX1 : String := "SliceTableModel"
def TX1 : u_T := fun k => match k with
  | 0 => ("SliceTableModel", "there", "[Z", true)
  | 1 => ("SliceTableModel", "values", "[I", true)
  | 2 => ("SliceTableModel", "conditions", "I", false)
  | 3 => ("SliceTableModel", "kind", "[I", true)
  | 4 => ("SliceTableModel", "left", "[I", true)
  | 5 => ("SliceTableModel", "right", "[I", true)
  | 6 => ("SliceTableModel", "how", "[I", true)
  | 7 => ("SliceTableModel", "constant", "[I", true)
  | _ => ("SliceTableModel", "met", "[Z", true)
def tyX1 : Nat → FieldType := fun k => match k with
  | 0 => .array .boolean
  | 1 => .array .int
  | 2 => .int
  | 3 => .array .int
  | 4 => .array .int
  | 5 => .array .int
  | 6 => .array .int
  | 7 => .array .int
  | _ => .array .boolean
abbrev wsX10 : List Cond := u_ws RX1 TX1 9
theorem nmX1 : ∀ a, a < 9 → ∀ b, b < 9 → a ≠ b → (TX1 a).2.1 ≠ (TX1 b).2.1 := by decide +kernel
theorem tyX1_ok : ∀ k, k < 9 → parseFieldDescriptor (TX1 k).2.2.1 = some (tyX1 k) := by decide +kernel
abbrev cX1_init : ByteArray := prog_3_method_1_code
def yX1_init : MethodName := ⟨RX1, "<init>", "()V"⟩
abbrev cX1_put : ByteArray := prog_3_method_2_code
def yX1_put : MethodName := ⟨RX1, "put", "(IIII)I"⟩
abbrev cX1_drop : ByteArray := prog_3_method_3_code
def yX1_drop : MethodName := ⟨RX1, "drop", "(I)I"⟩
abbrev cX1_compare : ByteArray := prog_3_method_6_code
def yX1_compare : MethodName := ⟨RX1, "compare", "(III)I"⟩
abbrev cX1_badColumn : ByteArray := prog_3_method_4_code
def yX1_badColumn : MethodName := ⟨RX1, "badColumn", "(I)Z"⟩
abbrev cX1_make : ByteArray := prog_3_method_5_code
def yX1_make : MethodName := ⟨RX1, "make", "(IIIII)I"⟩
abbrev cX1_columns : ByteArray := prog_3_method_7_code
def yX1_columns : MethodName := ⟨RX1, "columns", "(III)I"⟩
abbrev cX1_sums : ByteArray := prog_3_method_8_code
def yX1_sums : MethodName := ⟨RX1, "sums", "(IIII)I"⟩
abbrev cX1_join : ByteArray := prog_3_method_9_code
def yX1_join : MethodName := ⟨RX1, "join", "(III)I"⟩
abbrev cX1_clear : ByteArray := prog_3_method_10_code
def yX1_clear : MethodName := ⟨RX1, "clear", "()V"⟩
abbrev cX1_count : ByteArray := prog_3_method_15_code
def yX1_count : MethodName := ⟨RX1, "count", "(I)I"⟩
abbrev cX1_missing : ByteArray := prog_3_method_14_code
def yX1_missing : MethodName := ⟨RX1, "missing", "(I)Z"⟩
abbrev cX1_meets : ByteArray := prog_3_method_13_code
def yX1_meets : MethodName := ⟨RX1, "meets", "(II)Z"⟩
abbrev cX1_compared : ByteArray := prog_3_method_11_code
def yX1_compared : MethodName := ⟨RX1, "compared", "(III)Z"⟩
abbrev cX1_joined : ByteArray := prog_3_method_12_code
def yX1_joined : MethodName := ⟨RX1, "joined", "(ZIZ)Z"⟩
abbrev cX1_row : ByteArray := prog_3_method_16_code
def yX1_row : MethodName := ⟨RX1, "row", "(II)I"⟩
abbrev cX1_sum : ByteArray := prog_3_method_17_code
def yX1_sum : MethodName := ⟨RX1, "sum", "(II)I"⟩
abbrev cX1_ranked : ByteArray := prog_3_method_19_code
def yX1_ranked : MethodName := ⟨RX1, "ranked", "(III)I"⟩
abbrev cX1_having : ByteArray := prog_3_method_18_code
def yX1_having : MethodName := ⟨RX1, "having", "(III)I"⟩
abbrev cX1_different : ByteArray := prog_3_method_20_code
def yX1_different : MethodName := ⟨RX1, "different", "(II)I"⟩
theorem q18 : (Jvm.Cond.initialized "SliceTableModel") ∈ lw_all := lw_g (lw_at lw_m1 2 rfl) rfl
theorem q184 : (Jvm.Cond.instantiable "SliceTableModel" (9 : Nat)) ∈ lw_all := lw_g (lw_at lw_m1 168 rfl) rfl
theorem q186 : (Jvm.Cond.instanceMethod ({ cls := "SliceTableModel", name := "<init>", desc := "()V" } : Jvm.MethodName)) ∈ lw_all := lw_g (lw_at lw_m1 170 rfl) rfl
theorem q187 : (Jvm.Cond.code ({ cls := "SliceTableModel", name := "<init>", desc := "()V" } : Jvm.MethodName) prog_3_method_1_code (1 : Nat) (Option.none : Option Jvm.ClassFile.FieldType)) ∈ lw_all := lw_g (lw_at lw_m1 171 rfl) rfl
theorem q188 : (Jvm.Cond.methodLink "SliceTableModel" (1 : Nat) ({ cls := "java/lang/Object", name := "<init>", desc := "()V" } : Jvm.MethodName)) ∈ lw_all := lw_g (lw_at lw_m1 172 rfl) rfl
theorem q189 : (Jvm.Cond.fieldLink "SliceTableModel" (7 : Nat) "SliceTableModel" "there" "[Z") ∈ lw_all := lw_g (lw_at lw_m1 173 rfl) rfl
theorem q190 : (Jvm.Cond.fieldLink "SliceTableModel" (13 : Nat) "SliceTableModel" "values" "[I") ∈ lw_all := lw_g (lw_at lw_m1 174 rfl) rfl
theorem q191 : (Jvm.Cond.fieldLink "SliceTableModel" (35 : Nat) "SliceTableModel" "conditions" "I") ∈ lw_all := lw_g (lw_at lw_m1 175 rfl) rfl
theorem q192 : (Jvm.Cond.fieldLink "SliceTableModel" (17 : Nat) "SliceTableModel" "kind" "[I") ∈ lw_all := lw_g (lw_at lw_m1 176 rfl) rfl
theorem q193 : (Jvm.Cond.fieldLink "SliceTableModel" (20 : Nat) "SliceTableModel" "left" "[I") ∈ lw_all := lw_g (lw_at lw_m1 177 rfl) rfl
theorem q194 : (Jvm.Cond.fieldLink "SliceTableModel" (23 : Nat) "SliceTableModel" "right" "[I") ∈ lw_all := lw_g (lw_at lw_m1 178 rfl) rfl
theorem q195 : (Jvm.Cond.fieldLink "SliceTableModel" (26 : Nat) "SliceTableModel" "how" "[I") ∈ lw_all := lw_g (lw_at lw_m1 179 rfl) rfl
theorem q196 : (Jvm.Cond.fieldLink "SliceTableModel" (29 : Nat) "SliceTableModel" "constant" "[I") ∈ lw_all := lw_g (lw_at lw_m1 180 rfl) rfl
theorem q197 : (Jvm.Cond.fieldLink "SliceTableModel" (32 : Nat) "SliceTableModel" "met" "[Z") ∈ lw_all := lw_g (lw_at lw_m1 181 rfl) rfl
theorem q198 : (Jvm.Cond.laysFinal "SliceTableModel" "SliceTableModel" "there" "[Z") ∈ lw_all := lw_g (lw_at lw_m1 182 rfl) rfl
theorem q199 : (Jvm.Cond.soleField "SliceTableModel" "there") ∈ lw_all := lw_g (lw_at lw_m1 183 rfl) rfl
theorem q200 : (Jvm.Cond.laysFinal "SliceTableModel" "SliceTableModel" "values" "[I") ∈ lw_all := lw_g (lw_at lw_m1 184 rfl) rfl
theorem q201 : (Jvm.Cond.soleField "SliceTableModel" "values") ∈ lw_all := lw_g (lw_at lw_m1 185 rfl) rfl
theorem q202 : (Jvm.Cond.lays "SliceTableModel" "SliceTableModel" "conditions" "I") ∈ lw_all := lw_g (lw_at lw_m1 186 rfl) rfl
theorem q203 : (Jvm.Cond.soleField "SliceTableModel" "conditions") ∈ lw_all := lw_g (lw_at lw_m1 187 rfl) rfl
theorem q204 : (Jvm.Cond.laysFinal "SliceTableModel" "SliceTableModel" "kind" "[I") ∈ lw_all := lw_g (lw_at lw_m1 188 rfl) rfl
theorem q205 : (Jvm.Cond.soleField "SliceTableModel" "kind") ∈ lw_all := lw_g (lw_at lw_m1 189 rfl) rfl
theorem q206 : (Jvm.Cond.laysFinal "SliceTableModel" "SliceTableModel" "left" "[I") ∈ lw_all := lw_g (lw_at lw_m1 190 rfl) rfl
theorem q207 : (Jvm.Cond.soleField "SliceTableModel" "left") ∈ lw_all := lw_g (lw_at lw_m1 191 rfl) rfl
theorem q208 : (Jvm.Cond.laysFinal "SliceTableModel" "SliceTableModel" "right" "[I") ∈ lw_all := lw_g (lw_at lw_m1 192 rfl) rfl
theorem q209 : (Jvm.Cond.soleField "SliceTableModel" "right") ∈ lw_all := lw_g (lw_at lw_m1 193 rfl) rfl
theorem q210 : (Jvm.Cond.laysFinal "SliceTableModel" "SliceTableModel" "how" "[I") ∈ lw_all := lw_g (lw_at lw_m1 194 rfl) rfl
theorem q211 : (Jvm.Cond.soleField "SliceTableModel" "how") ∈ lw_all := lw_g (lw_at lw_m1 195 rfl) rfl
theorem q212 : (Jvm.Cond.laysFinal "SliceTableModel" "SliceTableModel" "constant" "[I") ∈ lw_all := lw_g (lw_at lw_m1 196 rfl) rfl
theorem q213 : (Jvm.Cond.soleField "SliceTableModel" "constant") ∈ lw_all := lw_g (lw_at lw_m1 197 rfl) rfl
theorem q214 : (Jvm.Cond.laysFinal "SliceTableModel" "SliceTableModel" "met" "[Z") ∈ lw_all := lw_g (lw_at lw_m1 198 rfl) rfl
theorem q215 : (Jvm.Cond.soleField "SliceTableModel" "met") ∈ lw_all := lw_g (lw_at lw_m1 199 rfl) rfl
theorem q216 : (Jvm.Cond.superclass "SliceTableModel" "java/lang/Object") ∈ lw_all := lw_g (lw_at lw_m1 200 rfl) rfl
theorem q218 : (Jvm.Cond.instanceMethod ({ cls := "SliceTableModel", name := "put", desc := "(IIII)I" } : Jvm.MethodName)) ∈ lw_all := lw_g (lw_at lw_m1 202 rfl) rfl
theorem q219 : (Jvm.Cond.selects "SliceTableModel" ({ cls := "SliceTableModel", name := "put", desc := "(IIII)I" } : Jvm.MethodName) ({ cls := "SliceTableModel", name := "put", desc := "(IIII)I" } : Jvm.MethodName)) ∈ lw_all := lw_g (lw_at lw_m1 203 rfl) rfl
theorem q220 : (Jvm.Cond.code ({ cls := "SliceTableModel", name := "put", desc := "(IIII)I" } : Jvm.MethodName) prog_3_method_2_code (5 : Nat) (Option.some Jvm.ClassFile.FieldType.int)) ∈ lw_all := lw_g (lw_at lw_m1 204 rfl) rfl
theorem q222 : (Jvm.Cond.instanceMethod ({ cls := "SliceTableModel", name := "drop", desc := "(I)I" } : Jvm.MethodName)) ∈ lw_all := lw_g (lw_at lw_m1 206 rfl) rfl
theorem q223 : (Jvm.Cond.selects "SliceTableModel" ({ cls := "SliceTableModel", name := "drop", desc := "(I)I" } : Jvm.MethodName) ({ cls := "SliceTableModel", name := "drop", desc := "(I)I" } : Jvm.MethodName)) ∈ lw_all := lw_g (lw_at lw_m1 207 rfl) rfl
theorem q224 : (Jvm.Cond.code ({ cls := "SliceTableModel", name := "drop", desc := "(I)I" } : Jvm.MethodName) prog_3_method_3_code (3 : Nat) (Option.some Jvm.ClassFile.FieldType.int)) ∈ lw_all := lw_g (lw_at lw_m1 208 rfl) rfl
theorem q226 : (Jvm.Cond.instanceMethod ({ cls := "SliceTableModel", name := "compare", desc := "(III)I" } : Jvm.MethodName)) ∈ lw_all := lw_g (lw_at lw_m1 210 rfl) rfl
theorem q227 : (Jvm.Cond.selects "SliceTableModel" ({ cls := "SliceTableModel", name := "compare", desc := "(III)I" } : Jvm.MethodName) ({ cls := "SliceTableModel", name := "compare", desc := "(III)I" } : Jvm.MethodName)) ∈ lw_all := lw_g (lw_at lw_m1 211 rfl) rfl
theorem q228 : (Jvm.Cond.code ({ cls := "SliceTableModel", name := "compare", desc := "(III)I" } : Jvm.MethodName) prog_3_method_6_code (4 : Nat) (Option.some Jvm.ClassFile.FieldType.int)) ∈ lw_all := lw_g (lw_at lw_m1 212 rfl) rfl
theorem q229 : (Jvm.Cond.methodLink "SliceTableModel" (39 : Nat) ({ cls := "SliceTableModel", name := "badColumn", desc := "(I)Z" } : Jvm.MethodName)) ∈ lw_all := lw_g (lw_at lw_m1 213 rfl) rfl
theorem q230 : (Jvm.Cond.static ({ cls := "SliceTableModel", name := "badColumn", desc := "(I)Z" } : Jvm.MethodName)) ∈ lw_all := lw_g (lw_at lw_m1 214 rfl) rfl
theorem q231 : (Jvm.Cond.code ({ cls := "SliceTableModel", name := "badColumn", desc := "(I)Z" } : Jvm.MethodName) prog_3_method_4_code (1 : Nat) (Option.some Jvm.ClassFile.FieldType.boolean)) ∈ lw_all := lw_g (lw_at lw_m1 215 rfl) rfl
theorem q232 : (Jvm.Cond.methodLink "SliceTableModel" (43 : Nat) ({ cls := "SliceTableModel", name := "make", desc := "(IIIII)I" } : Jvm.MethodName)) ∈ lw_all := lw_g (lw_at lw_m1 216 rfl) rfl
theorem q233 : (Jvm.Cond.privateMethod ({ cls := "SliceTableModel", name := "make", desc := "(IIIII)I" } : Jvm.MethodName)) ∈ lw_tbl := lw_at lw_m1 217 rfl
theorem q234 : (Jvm.Cond.instanceMethod ({ cls := "SliceTableModel", name := "make", desc := "(IIIII)I" } : Jvm.MethodName)) ∈ lw_all := lw_g (lw_at lw_m1 218 rfl) rfl
theorem q235 : (Jvm.Cond.code ({ cls := "SliceTableModel", name := "make", desc := "(IIIII)I" } : Jvm.MethodName) prog_3_method_5_code (6 : Nat) (Option.some Jvm.ClassFile.FieldType.int)) ∈ lw_all := lw_g (lw_at lw_m1 219 rfl) rfl
theorem q237 : (Jvm.Cond.instanceMethod ({ cls := "SliceTableModel", name := "columns", desc := "(III)I" } : Jvm.MethodName)) ∈ lw_all := lw_g (lw_at lw_m1 221 rfl) rfl
theorem q238 : (Jvm.Cond.selects "SliceTableModel" ({ cls := "SliceTableModel", name := "columns", desc := "(III)I" } : Jvm.MethodName) ({ cls := "SliceTableModel", name := "columns", desc := "(III)I" } : Jvm.MethodName)) ∈ lw_all := lw_g (lw_at lw_m1 222 rfl) rfl
theorem q239 : (Jvm.Cond.code ({ cls := "SliceTableModel", name := "columns", desc := "(III)I" } : Jvm.MethodName) prog_3_method_7_code (4 : Nat) (Option.some Jvm.ClassFile.FieldType.int)) ∈ lw_all := lw_g (lw_at lw_m1 223 rfl) rfl
theorem q241 : (Jvm.Cond.instanceMethod ({ cls := "SliceTableModel", name := "sums", desc := "(IIII)I" } : Jvm.MethodName)) ∈ lw_all := lw_g (lw_at lw_m1 225 rfl) rfl
theorem q242 : (Jvm.Cond.selects "SliceTableModel" ({ cls := "SliceTableModel", name := "sums", desc := "(IIII)I" } : Jvm.MethodName) ({ cls := "SliceTableModel", name := "sums", desc := "(IIII)I" } : Jvm.MethodName)) ∈ lw_all := lw_g (lw_at lw_m1 226 rfl) rfl
theorem q243 : (Jvm.Cond.code ({ cls := "SliceTableModel", name := "sums", desc := "(IIII)I" } : Jvm.MethodName) prog_3_method_8_code (5 : Nat) (Option.some Jvm.ClassFile.FieldType.int)) ∈ lw_all := lw_g (lw_at lw_m1 227 rfl) rfl
theorem q245 : (Jvm.Cond.instanceMethod ({ cls := "SliceTableModel", name := "join", desc := "(III)I" } : Jvm.MethodName)) ∈ lw_all := lw_g (lw_at lw_m1 229 rfl) rfl
theorem q246 : (Jvm.Cond.selects "SliceTableModel" ({ cls := "SliceTableModel", name := "join", desc := "(III)I" } : Jvm.MethodName) ({ cls := "SliceTableModel", name := "join", desc := "(III)I" } : Jvm.MethodName)) ∈ lw_all := lw_g (lw_at lw_m1 230 rfl) rfl
theorem q247 : (Jvm.Cond.code ({ cls := "SliceTableModel", name := "join", desc := "(III)I" } : Jvm.MethodName) prog_3_method_9_code (4 : Nat) (Option.some Jvm.ClassFile.FieldType.int)) ∈ lw_all := lw_g (lw_at lw_m1 231 rfl) rfl
theorem q249 : (Jvm.Cond.instanceMethod ({ cls := "SliceTableModel", name := "clear", desc := "()V" } : Jvm.MethodName)) ∈ lw_all := lw_g (lw_at lw_m1 233 rfl) rfl
theorem q250 : (Jvm.Cond.selects "SliceTableModel" ({ cls := "SliceTableModel", name := "clear", desc := "()V" } : Jvm.MethodName) ({ cls := "SliceTableModel", name := "clear", desc := "()V" } : Jvm.MethodName)) ∈ lw_all := lw_g (lw_at lw_m1 234 rfl) rfl
theorem q251 : (Jvm.Cond.code ({ cls := "SliceTableModel", name := "clear", desc := "()V" } : Jvm.MethodName) prog_3_method_10_code (1 : Nat) (Option.none : Option Jvm.ClassFile.FieldType)) ∈ lw_all := lw_g (lw_at lw_m1 235 rfl) rfl
theorem q253 : (Jvm.Cond.instanceMethod ({ cls := "SliceTableModel", name := "count", desc := "(I)I" } : Jvm.MethodName)) ∈ lw_all := lw_g (lw_at lw_m1 237 rfl) rfl
theorem q254 : (Jvm.Cond.selects "SliceTableModel" ({ cls := "SliceTableModel", name := "count", desc := "(I)I" } : Jvm.MethodName) ({ cls := "SliceTableModel", name := "count", desc := "(I)I" } : Jvm.MethodName)) ∈ lw_all := lw_g (lw_at lw_m1 238 rfl) rfl
theorem q255 : (Jvm.Cond.code ({ cls := "SliceTableModel", name := "count", desc := "(I)I" } : Jvm.MethodName) prog_3_method_15_code (4 : Nat) (Option.some Jvm.ClassFile.FieldType.int)) ∈ lw_all := lw_g (lw_at lw_m1 239 rfl) rfl
theorem q256 : (Jvm.Cond.methodLink "SliceTableModel" (55 : Nat) ({ cls := "SliceTableModel", name := "missing", desc := "(I)Z" } : Jvm.MethodName)) ∈ lw_all := lw_g (lw_at lw_m2 0 rfl) rfl
theorem q257 : (Jvm.Cond.privateMethod ({ cls := "SliceTableModel", name := "missing", desc := "(I)Z" } : Jvm.MethodName)) ∈ lw_tbl := lw_at lw_m2 1 rfl
theorem q258 : (Jvm.Cond.instanceMethod ({ cls := "SliceTableModel", name := "missing", desc := "(I)Z" } : Jvm.MethodName)) ∈ lw_all := lw_g (lw_at lw_m2 2 rfl) rfl
theorem q259 : (Jvm.Cond.code ({ cls := "SliceTableModel", name := "missing", desc := "(I)Z" } : Jvm.MethodName) prog_3_method_14_code (2 : Nat) (Option.some Jvm.ClassFile.FieldType.boolean)) ∈ lw_all := lw_g (lw_at lw_m2 3 rfl) rfl
theorem q260 : (Jvm.Cond.methodLink "SliceTableModel" (58 : Nat) ({ cls := "SliceTableModel", name := "meets", desc := "(II)Z" } : Jvm.MethodName)) ∈ lw_all := lw_g (lw_at lw_m2 4 rfl) rfl
theorem q261 : (Jvm.Cond.privateMethod ({ cls := "SliceTableModel", name := "meets", desc := "(II)Z" } : Jvm.MethodName)) ∈ lw_tbl := lw_at lw_m2 5 rfl
theorem q262 : (Jvm.Cond.instanceMethod ({ cls := "SliceTableModel", name := "meets", desc := "(II)Z" } : Jvm.MethodName)) ∈ lw_all := lw_g (lw_at lw_m2 6 rfl) rfl
theorem q263 : (Jvm.Cond.code ({ cls := "SliceTableModel", name := "meets", desc := "(II)Z" } : Jvm.MethodName) prog_3_method_13_code (6 : Nat) (Option.some Jvm.ClassFile.FieldType.boolean)) ∈ lw_all := lw_g (lw_at lw_m2 7 rfl) rfl
theorem q264 : (Jvm.Cond.methodLink "SliceTableModel" (47 : Nat) ({ cls := "SliceTableModel", name := "compared", desc := "(III)Z" } : Jvm.MethodName)) ∈ lw_all := lw_g (lw_at lw_m2 8 rfl) rfl
theorem q265 : (Jvm.Cond.static ({ cls := "SliceTableModel", name := "compared", desc := "(III)Z" } : Jvm.MethodName)) ∈ lw_all := lw_g (lw_at lw_m2 9 rfl) rfl
theorem q266 : (Jvm.Cond.code ({ cls := "SliceTableModel", name := "compared", desc := "(III)Z" } : Jvm.MethodName) prog_3_method_11_code (3 : Nat) (Option.some Jvm.ClassFile.FieldType.boolean)) ∈ lw_all := lw_g (lw_at lw_m2 10 rfl) rfl
theorem q267 : (Jvm.Cond.methodLink "SliceTableModel" (51 : Nat) ({ cls := "SliceTableModel", name := "joined", desc := "(ZIZ)Z" } : Jvm.MethodName)) ∈ lw_all := lw_g (lw_at lw_m2 11 rfl) rfl
theorem q268 : (Jvm.Cond.static ({ cls := "SliceTableModel", name := "joined", desc := "(ZIZ)Z" } : Jvm.MethodName)) ∈ lw_all := lw_g (lw_at lw_m2 12 rfl) rfl
theorem q269 : (Jvm.Cond.code ({ cls := "SliceTableModel", name := "joined", desc := "(ZIZ)Z" } : Jvm.MethodName) prog_3_method_12_code (3 : Nat) (Option.some Jvm.ClassFile.FieldType.boolean)) ∈ lw_all := lw_g (lw_at lw_m2 13 rfl) rfl
theorem q271 : (Jvm.Cond.instanceMethod ({ cls := "SliceTableModel", name := "row", desc := "(II)I" } : Jvm.MethodName)) ∈ lw_all := lw_g (lw_at lw_m2 15 rfl) rfl
theorem q272 : (Jvm.Cond.selects "SliceTableModel" ({ cls := "SliceTableModel", name := "row", desc := "(II)I" } : Jvm.MethodName) ({ cls := "SliceTableModel", name := "row", desc := "(II)I" } : Jvm.MethodName)) ∈ lw_all := lw_g (lw_at lw_m2 16 rfl) rfl
theorem q273 : (Jvm.Cond.code ({ cls := "SliceTableModel", name := "row", desc := "(II)I" } : Jvm.MethodName) prog_3_method_16_code (5 : Nat) (Option.some Jvm.ClassFile.FieldType.int)) ∈ lw_all := lw_g (lw_at lw_m2 17 rfl) rfl
theorem q275 : (Jvm.Cond.instanceMethod ({ cls := "SliceTableModel", name := "sum", desc := "(II)I" } : Jvm.MethodName)) ∈ lw_all := lw_g (lw_at lw_m2 19 rfl) rfl
theorem q276 : (Jvm.Cond.selects "SliceTableModel" ({ cls := "SliceTableModel", name := "sum", desc := "(II)I" } : Jvm.MethodName) ({ cls := "SliceTableModel", name := "sum", desc := "(II)I" } : Jvm.MethodName)) ∈ lw_all := lw_g (lw_at lw_m2 20 rfl) rfl
theorem q277 : (Jvm.Cond.code ({ cls := "SliceTableModel", name := "sum", desc := "(II)I" } : Jvm.MethodName) prog_3_method_17_code (5 : Nat) (Option.some Jvm.ClassFile.FieldType.int)) ∈ lw_all := lw_g (lw_at lw_m2 21 rfl) rfl
theorem q279 : (Jvm.Cond.instanceMethod ({ cls := "SliceTableModel", name := "ranked", desc := "(III)I" } : Jvm.MethodName)) ∈ lw_all := lw_g (lw_at lw_m2 23 rfl) rfl
theorem q280 : (Jvm.Cond.selects "SliceTableModel" ({ cls := "SliceTableModel", name := "ranked", desc := "(III)I" } : Jvm.MethodName) ({ cls := "SliceTableModel", name := "ranked", desc := "(III)I" } : Jvm.MethodName)) ∈ lw_all := lw_g (lw_at lw_m2 24 rfl) rfl
theorem q281 : (Jvm.Cond.code ({ cls := "SliceTableModel", name := "ranked", desc := "(III)I" } : Jvm.MethodName) prog_3_method_19_code (6 : Nat) (Option.some Jvm.ClassFile.FieldType.int)) ∈ lw_all := lw_g (lw_at lw_m2 25 rfl) rfl
theorem q282 : (Jvm.Cond.methodLink "SliceTableModel" (62 : Nat) ({ cls := "SliceTableModel", name := "having", desc := "(III)I" } : Jvm.MethodName)) ∈ lw_all := lw_g (lw_at lw_m2 26 rfl) rfl
theorem q283 : (Jvm.Cond.privateMethod ({ cls := "SliceTableModel", name := "having", desc := "(III)I" } : Jvm.MethodName)) ∈ lw_tbl := lw_at lw_m2 27 rfl
theorem q284 : (Jvm.Cond.instanceMethod ({ cls := "SliceTableModel", name := "having", desc := "(III)I" } : Jvm.MethodName)) ∈ lw_all := lw_g (lw_at lw_m2 28 rfl) rfl
theorem q285 : (Jvm.Cond.code ({ cls := "SliceTableModel", name := "having", desc := "(III)I" } : Jvm.MethodName) prog_3_method_18_code (6 : Nat) (Option.some Jvm.ClassFile.FieldType.int)) ∈ lw_all := lw_g (lw_at lw_m2 29 rfl) rfl
theorem q287 : (Jvm.Cond.instanceMethod ({ cls := "SliceTableModel", name := "different", desc := "(II)I" } : Jvm.MethodName)) ∈ lw_all := lw_g (lw_at lw_m2 31 rfl) rfl
theorem q288 : (Jvm.Cond.selects "SliceTableModel" ({ cls := "SliceTableModel", name := "different", desc := "(II)I" } : Jvm.MethodName) ({ cls := "SliceTableModel", name := "different", desc := "(II)I" } : Jvm.MethodName)) ∈ lw_all := lw_g (lw_at lw_m2 32 rfl) rfl
theorem q289 : (Jvm.Cond.code ({ cls := "SliceTableModel", name := "different", desc := "(II)I" } : Jvm.MethodName) prog_3_method_20_code (5 : Nat) (Option.some Jvm.ClassFile.FieldType.int)) ∈ lw_all := lw_g (lw_at lw_m2 33 rfl) rfl
theorem in_X1 : ∀ w ∈ wsX10, w ∈ lw_all := lw_in wsX10 [198, 200, 202, 204, 206, 208, 210, 212, 214] (by decide +kernel) (by decide +kernel)

/-! java/lang/Object -/
def RJ0 : String := "java/lang/Object"
abbrev cJ0_init : ByteArray := object_method_1_code
def yJ0_init : MethodName := ⟨RJ0, "<init>", "()V"⟩
theorem q25 : (Jvm.Cond.instanceMethod ({ cls := "java/lang/Object", name := "<init>", desc := "()V" } : Jvm.MethodName)) ∈ lw_all := lw_g (lw_at lw_m1 9 rfl) rfl
theorem q26 : (Jvm.Cond.code ({ cls := "java/lang/Object", name := "<init>", desc := "()V" } : Jvm.MethodName) object_method_1_code (1 : Nat) (Option.none : Option Jvm.ClassFile.FieldType)) ∈ lw_all := lw_g (lw_at lw_m1 10 rfl) rfl

/-! the law's own entry -/
abbrev cL_law : ByteArray := code

theorem q16 : (Jvm.Cond.initialized "SliceTableLaw") ∈ lw_all := lw_g (lw_at lw_m1 0 rfl) rfl
theorem q19 : (Jvm.Cond.classLink "SliceTableLaw" (7 : Nat) "SliceTable") ∈ lw_all := lw_g (lw_at lw_m1 3 rfl) rfl
theorem q21 : (Jvm.Cond.methodLink "SliceTableLaw" (9 : Nat) ({ cls := "SliceTable", name := "<init>", desc := "()V" } : Jvm.MethodName)) ∈ lw_all := lw_g (lw_at lw_m1 5 rfl) rfl
theorem q76 : (Jvm.Cond.methodLink "SliceTableLaw" (13 : Nat) ({ cls := "SliceTable", name := "put", desc := "(IIII)I" } : Jvm.MethodName)) ∈ lw_all := lw_g (lw_at lw_m1 60 rfl) rfl
theorem q89 : (Jvm.Cond.methodLink "SliceTableLaw" (18 : Nat) ({ cls := "SliceTable", name := "drop", desc := "(I)I" } : Jvm.MethodName)) ∈ lw_all := lw_g (lw_at lw_m1 73 rfl) rfl
theorem q93 : (Jvm.Cond.methodLink "SliceTableLaw" (23 : Nat) ({ cls := "SliceTable", name := "compare", desc := "(III)I" } : Jvm.MethodName)) ∈ lw_all := lw_g (lw_at lw_m1 77 rfl) rfl
theorem q104 : (Jvm.Cond.methodLink "SliceTableLaw" (28 : Nat) ({ cls := "SliceTable", name := "columns", desc := "(III)I" } : Jvm.MethodName)) ∈ lw_all := lw_g (lw_at lw_m1 88 rfl) rfl
theorem q108 : (Jvm.Cond.methodLink "SliceTableLaw" (32 : Nat) ({ cls := "SliceTable", name := "sums", desc := "(IIII)I" } : Jvm.MethodName)) ∈ lw_all := lw_g (lw_at lw_m1 92 rfl) rfl
theorem q112 : (Jvm.Cond.methodLink "SliceTableLaw" (36 : Nat) ({ cls := "SliceTable", name := "join", desc := "(III)I" } : Jvm.MethodName)) ∈ lw_all := lw_g (lw_at lw_m1 96 rfl) rfl
theorem q116 : (Jvm.Cond.methodLink "SliceTableLaw" (40 : Nat) ({ cls := "SliceTable", name := "clear", desc := "()V" } : Jvm.MethodName)) ∈ lw_all := lw_g (lw_at lw_m1 100 rfl) rfl
theorem q120 : (Jvm.Cond.methodLink "SliceTableLaw" (44 : Nat) ({ cls := "SliceTable", name := "count", desc := "(I)I" } : Jvm.MethodName)) ∈ lw_all := lw_g (lw_at lw_m1 104 rfl) rfl
theorem q163 : (Jvm.Cond.methodLink "SliceTableLaw" (48 : Nat) ({ cls := "SliceTable", name := "row", desc := "(II)I" } : Jvm.MethodName)) ∈ lw_all := lw_g (lw_at lw_m1 147 rfl) rfl
theorem q167 : (Jvm.Cond.methodLink "SliceTableLaw" (53 : Nat) ({ cls := "SliceTable", name := "sum", desc := "(II)I" } : Jvm.MethodName)) ∈ lw_all := lw_g (lw_at lw_m1 151 rfl) rfl
theorem q171 : (Jvm.Cond.methodLink "SliceTableLaw" (57 : Nat) ({ cls := "SliceTable", name := "ranked", desc := "(III)I" } : Jvm.MethodName)) ∈ lw_all := lw_g (lw_at lw_m1 155 rfl) rfl
theorem q175 : (Jvm.Cond.methodLink "SliceTableLaw" (61 : Nat) ({ cls := "SliceTable", name := "different", desc := "(II)I" } : Jvm.MethodName)) ∈ lw_all := lw_g (lw_at lw_m1 159 rfl) rfl
theorem q183 : (Jvm.Cond.classLink "SliceTableLaw" (10 : Nat) "SliceTableModel") ∈ lw_all := lw_g (lw_at lw_m1 167 rfl) rfl
theorem q185 : (Jvm.Cond.methodLink "SliceTableLaw" (12 : Nat) ({ cls := "SliceTableModel", name := "<init>", desc := "()V" } : Jvm.MethodName)) ∈ lw_all := lw_g (lw_at lw_m1 169 rfl) rfl
theorem q217 : (Jvm.Cond.methodLink "SliceTableLaw" (17 : Nat) ({ cls := "SliceTableModel", name := "put", desc := "(IIII)I" } : Jvm.MethodName)) ∈ lw_all := lw_g (lw_at lw_m1 201 rfl) rfl
theorem q221 : (Jvm.Cond.methodLink "SliceTableLaw" (22 : Nat) ({ cls := "SliceTableModel", name := "drop", desc := "(I)I" } : Jvm.MethodName)) ∈ lw_all := lw_g (lw_at lw_m1 205 rfl) rfl
theorem q225 : (Jvm.Cond.methodLink "SliceTableLaw" (27 : Nat) ({ cls := "SliceTableModel", name := "compare", desc := "(III)I" } : Jvm.MethodName)) ∈ lw_all := lw_g (lw_at lw_m1 209 rfl) rfl
theorem q236 : (Jvm.Cond.methodLink "SliceTableLaw" (31 : Nat) ({ cls := "SliceTableModel", name := "columns", desc := "(III)I" } : Jvm.MethodName)) ∈ lw_all := lw_g (lw_at lw_m1 220 rfl) rfl
theorem q240 : (Jvm.Cond.methodLink "SliceTableLaw" (35 : Nat) ({ cls := "SliceTableModel", name := "sums", desc := "(IIII)I" } : Jvm.MethodName)) ∈ lw_all := lw_g (lw_at lw_m1 224 rfl) rfl
theorem q244 : (Jvm.Cond.methodLink "SliceTableLaw" (39 : Nat) ({ cls := "SliceTableModel", name := "join", desc := "(III)I" } : Jvm.MethodName)) ∈ lw_all := lw_g (lw_at lw_m1 228 rfl) rfl
theorem q248 : (Jvm.Cond.methodLink "SliceTableLaw" (43 : Nat) ({ cls := "SliceTableModel", name := "clear", desc := "()V" } : Jvm.MethodName)) ∈ lw_all := lw_g (lw_at lw_m1 232 rfl) rfl
theorem q252 : (Jvm.Cond.methodLink "SliceTableLaw" (47 : Nat) ({ cls := "SliceTableModel", name := "count", desc := "(I)I" } : Jvm.MethodName)) ∈ lw_all := lw_g (lw_at lw_m1 236 rfl) rfl
theorem q270 : (Jvm.Cond.methodLink "SliceTableLaw" (52 : Nat) ({ cls := "SliceTableModel", name := "row", desc := "(II)I" } : Jvm.MethodName)) ∈ lw_all := lw_g (lw_at lw_m2 14 rfl) rfl
theorem q274 : (Jvm.Cond.methodLink "SliceTableLaw" (56 : Nat) ({ cls := "SliceTableModel", name := "sum", desc := "(II)I" } : Jvm.MethodName)) ∈ lw_all := lw_g (lw_at lw_m2 18 rfl) rfl
theorem q278 : (Jvm.Cond.methodLink "SliceTableLaw" (60 : Nat) ({ cls := "SliceTableModel", name := "ranked", desc := "(III)I" } : Jvm.MethodName)) ∈ lw_all := lw_g (lw_at lw_m2 22 rfl) rfl
theorem q286 : (Jvm.Cond.methodLink "SliceTableLaw" (64 : Nat) ({ cls := "SliceTableModel", name := "different", desc := "(II)I" } : Jvm.MethodName)) ∈ lw_all := lw_g (lw_at lw_m2 30 rfl) rfl

theorem q73 : (Jvm.Cond.arrayClass Jvm.ClassFile.FieldType.long) ∈ lw_all := lw_g (lw_at lw_m1 57 rfl) rfl
theorem q74 : (Jvm.Cond.arrayClass Jvm.ClassFile.FieldType.int) ∈ lw_all := lw_g (lw_at lw_m1 58 rfl) rfl
theorem q75 : (Jvm.Cond.arrayClass Jvm.ClassFile.FieldType.boolean) ∈ lw_all := lw_g (lw_at lw_m1 59 rfl) rfl
end
section
set_option maxRecDepth 100000
theorem dX0_init_0 : decode cX0_init 0 = .ok (.aload_n 0, 1) := by decide +kernel
theorem dX0_init_1 : decode cX0_init 1 = .ok (.invokespecial 1, 3) := by decide +kernel
theorem dX0_init_4 : decode cX0_init 4 = .ok (.aload_n 0, 1) := by decide +kernel
theorem dX0_init_5 : decode cX0_init 5 = .ok (.bipush 24, 2) := by decide +kernel
theorem dX0_init_7 : decode cX0_init 7 = .ok (.newarray .long, 2) := by decide +kernel
theorem dX0_init_9 : decode cX0_init 9 = .ok (.putfield 7, 3) := by decide +kernel
theorem dX0_init_12 : decode cX0_init 12 = .ok (.aload_n 0, 1) := by decide +kernel
theorem dX0_init_13 : decode cX0_init 13 = .ok (.bipush 16, 2) := by decide +kernel
theorem dX0_init_15 : decode cX0_init 15 = .ok (.newarray .int, 2) := by decide +kernel
theorem dX0_init_17 : decode cX0_init 17 = .ok (.putfield 13, 3) := by decide +kernel
theorem dX0_init_20 : decode cX0_init 20 = .ok (.aload_n 0, 1) := by decide +kernel
theorem dX0_init_21 : decode cX0_init 21 = .ok (.bipush 16, 2) := by decide +kernel
theorem dX0_init_23 : decode cX0_init 23 = .ok (.newarray .int, 2) := by decide +kernel
theorem dX0_init_25 : decode cX0_init 25 = .ok (.putfield 17, 3) := by decide +kernel
theorem dX0_init_28 : decode cX0_init 28 = .ok (.aload_n 0, 1) := by decide +kernel
theorem dX0_init_29 : decode cX0_init 29 = .ok (.bipush 16, 2) := by decide +kernel
theorem dX0_init_31 : decode cX0_init 31 = .ok (.newarray .int, 2) := by decide +kernel
theorem dX0_init_33 : decode cX0_init 33 = .ok (.putfield 20, 3) := by decide +kernel
theorem dX0_init_36 : decode cX0_init 36 = .ok (.aload_n 0, 1) := by decide +kernel
theorem dX0_init_37 : decode cX0_init 37 = .ok (.bipush 16, 2) := by decide +kernel
theorem dX0_init_39 : decode cX0_init 39 = .ok (.newarray .int, 2) := by decide +kernel
theorem dX0_init_41 : decode cX0_init 41 = .ok (.putfield 23, 3) := by decide +kernel
theorem dX0_init_44 : decode cX0_init 44 = .ok (.aload_n 0, 1) := by decide +kernel
theorem dX0_init_45 : decode cX0_init 45 = .ok (.bipush 16, 2) := by decide +kernel
theorem dX0_init_47 : decode cX0_init 47 = .ok (.newarray .int, 2) := by decide +kernel
theorem dX0_init_49 : decode cX0_init 49 = .ok (.putfield 26, 3) := by decide +kernel
theorem dX0_init_52 : decode cX0_init 52 = .ok (.aload_n 0, 1) := by decide +kernel
theorem dX0_init_53 : decode cX0_init 53 = .ok (.bipush 16, 2) := by decide +kernel
theorem dX0_init_55 : decode cX0_init 55 = .ok (.newarray .long, 2) := by decide +kernel
theorem dX0_init_57 : decode cX0_init 57 = .ok (.putfield 29, 3) := by decide +kernel
theorem dX0_init_60 : decode cX0_init 60 = .ok (.aload_n 0, 1) := by decide +kernel
theorem dX0_init_61 : decode cX0_init 61 = .ok (.bipush 16, 2) := by decide +kernel
theorem dX0_init_63 : decode cX0_init 63 = .ok (.newarray .boolean, 2) := by decide +kernel
theorem dX0_init_65 : decode cX0_init 65 = .ok (.putfield 32, 3) := by decide +kernel
theorem dX0_init_68 : decode cX0_init 68 = .ok (.aload_n 0, 1) := by decide +kernel
theorem dX0_init_69 : decode cX0_init 69 = .ok (.bipush 9, 2) := by decide +kernel
theorem dX0_init_71 : decode cX0_init 71 = .ok (.newarray .long, 2) := by decide +kernel
theorem dX0_init_73 : decode cX0_init 73 = .ok (.putfield 36, 3) := by decide +kernel
theorem dX0_init_76 : decode cX0_init 76 = .ok (.aload_n 0, 1) := by decide +kernel
theorem dX0_init_77 : decode cX0_init 77 = .ok (.bipush 64, 2) := by decide +kernel
theorem dX0_init_79 : decode cX0_init 79 = .ok (.newarray .long, 2) := by decide +kernel
theorem dX0_init_81 : decode cX0_init 81 = .ok (.putfield 39, 3) := by decide +kernel
theorem dX0_init_84 : decode cX0_init 84 = .ok (.aload_n 0, 1) := by decide +kernel
theorem dX0_init_85 : decode cX0_init 85 = .ok (.bipush 64, 2) := by decide +kernel
theorem dX0_init_87 : decode cX0_init 87 = .ok (.newarray .long, 2) := by decide +kernel
theorem dX0_init_89 : decode cX0_init 89 = .ok (.putfield 42, 3) := by decide +kernel
theorem dX0_init_92 : decode cX0_init 92 = .ok (.return_, 1) := by decide +kernel
theorem dX0_put_0 : decode cX0_put 0 = .ok (.iload_n 1, 1) := by decide +kernel
theorem dX0_put_1 : decode cX0_put 1 = .ok (.ifCond .lt 9, 3) := by decide +kernel
theorem dX0_put_4 : decode cX0_put 4 = .ok (.iload_n 1, 1) := by decide +kernel
theorem dX0_put_5 : decode cX0_put 5 = .ok (.bipush 63, 2) := by decide +kernel
theorem dX0_put_7 : decode cX0_put 7 = .ok (.if_icmp .le 5, 3) := by decide +kernel
theorem dX0_put_10 : decode cX0_put 10 = .ok (.iconst (-1), 1) := by decide +kernel
theorem dX0_put_11 : decode cX0_put 11 = .ok (.ireturn, 1) := by decide +kernel
theorem dX0_put_12 : decode cX0_put 12 = .ok (.aload_n 0, 1) := by decide +kernel
theorem dX0_put_13 : decode cX0_put 13 = .ok (.dup, 1) := by decide +kernel
theorem dX0_put_14 : decode cX0_put 14 = .ok (.getfield 45, 3) := by decide +kernel
theorem dX0_put_17 : decode cX0_put 17 = .ok (.lconst 1, 1) := by decide +kernel
theorem dX0_put_18 : decode cX0_put 18 = .ok (.iload_n 1, 1) := by decide +kernel
theorem dX0_put_19 : decode cX0_put 19 = .ok (.lshl, 1) := by decide +kernel
theorem dX0_put_20 : decode cX0_put 20 = .ok (.lor, 1) := by decide +kernel
theorem dX0_put_21 : decode cX0_put 21 = .ok (.putfield 45, 3) := by decide +kernel
theorem dX0_put_24 : decode cX0_put 24 = .ok (.aload_n 0, 1) := by decide +kernel
theorem dX0_put_25 : decode cX0_put 25 = .ok (.iload_n 1, 1) := by decide +kernel
theorem dX0_put_26 : decode cX0_put 26 = .ok (.iconst 0, 1) := by decide +kernel
theorem dX0_put_27 : decode cX0_put 27 = .ok (.iload_n 2, 1) := by decide +kernel
theorem dX0_put_28 : decode cX0_put 28 = .ok (.invokevirtual 49, 3) := by decide +kernel
theorem dX0_put_31 : decode cX0_put 31 = .ok (.aload_n 0, 1) := by decide +kernel
theorem dX0_put_32 : decode cX0_put 32 = .ok (.iload_n 1, 1) := by decide +kernel
theorem dX0_put_33 : decode cX0_put 33 = .ok (.iconst 1, 1) := by decide +kernel
theorem dX0_put_34 : decode cX0_put 34 = .ok (.iload_n 3, 1) := by decide +kernel
theorem dX0_put_35 : decode cX0_put 35 = .ok (.invokevirtual 49, 3) := by decide +kernel
theorem dX0_put_38 : decode cX0_put 38 = .ok (.aload_n 0, 1) := by decide +kernel
theorem dX0_put_39 : decode cX0_put 39 = .ok (.iload_n 1, 1) := by decide +kernel
theorem dX0_put_40 : decode cX0_put 40 = .ok (.iconst 2, 1) := by decide +kernel
theorem dX0_put_41 : decode cX0_put 41 = .ok (.iload 4, 2) := by decide +kernel
theorem dX0_put_43 : decode cX0_put 43 = .ok (.invokevirtual 49, 3) := by decide +kernel
theorem dX0_put_46 : decode cX0_put 46 = .ok (.aload_n 0, 1) := by decide +kernel
theorem dX0_put_47 : decode cX0_put 47 = .ok (.invokevirtual 53, 3) := by decide +kernel
theorem dX0_put_50 : decode cX0_put 50 = .ok (.iconst 0, 1) := by decide +kernel
theorem dX0_put_51 : decode cX0_put 51 = .ok (.ireturn, 1) := by decide +kernel
theorem dX0_setColumn_0 : decode cX0_setColumn 0 = .ok (.iconst 0, 1) := by decide +kernel
theorem dX0_setColumn_1 : decode cX0_setColumn 1 = .ok (.istore 4, 2) := by decide +kernel
theorem dX0_setColumn_3 : decode cX0_setColumn 3 = .ok (.iload 4, 2) := by decide +kernel
theorem dX0_setColumn_5 : decode cX0_setColumn 5 = .ok (.bipush 8, 2) := by decide +kernel
theorem dX0_setColumn_7 : decode cX0_setColumn 7 = .ok (.if_icmp .ge 50, 3) := by decide +kernel
theorem dX0_setColumn_10 : decode cX0_setColumn 10 = .ok (.bipush 8, 2) := by decide +kernel
theorem dX0_setColumn_12 : decode cX0_setColumn 12 = .ok (.iload_n 2, 1) := by decide +kernel
theorem dX0_setColumn_13 : decode cX0_setColumn 13 = .ok (.imul, 1) := by decide +kernel
theorem dX0_setColumn_14 : decode cX0_setColumn 14 = .ok (.iload 4, 2) := by decide +kernel
theorem dX0_setColumn_16 : decode cX0_setColumn 16 = .ok (.iadd, 1) := by decide +kernel
theorem dX0_setColumn_17 : decode cX0_setColumn 17 = .ok (.istore 5, 2) := by decide +kernel
theorem dX0_setColumn_19 : decode cX0_setColumn 19 = .ok (.aload_n 0, 1) := by decide +kernel
theorem dX0_setColumn_20 : decode cX0_setColumn 20 = .ok (.getfield 7, 3) := by decide +kernel
theorem dX0_setColumn_23 : decode cX0_setColumn 23 = .ok (.iload 5, 2) := by decide +kernel
theorem dX0_setColumn_25 : decode cX0_setColumn 25 = .ok (.aload_n 0, 1) := by decide +kernel
theorem dX0_setColumn_26 : decode cX0_setColumn 26 = .ok (.getfield 7, 3) := by decide +kernel
theorem dX0_setColumn_29 : decode cX0_setColumn 29 = .ok (.iload 5, 2) := by decide +kernel
theorem dX0_setColumn_31 : decode cX0_setColumn 31 = .ok (.laload, 1) := by decide +kernel
theorem dX0_setColumn_32 : decode cX0_setColumn 32 = .ok (.lconst 1, 1) := by decide +kernel
theorem dX0_setColumn_33 : decode cX0_setColumn 33 = .ok (.iload_n 1, 1) := by decide +kernel
theorem dX0_setColumn_34 : decode cX0_setColumn 34 = .ok (.lshl, 1) := by decide +kernel
theorem dX0_setColumn_35 : decode cX0_setColumn 35 = .ok (.ldc2_w 56, 3) := by decide +kernel
theorem dX0_setColumn_38 : decode cX0_setColumn 38 = .ok (.lxor, 1) := by decide +kernel
theorem dX0_setColumn_39 : decode cX0_setColumn 39 = .ok (.land, 1) := by decide +kernel
theorem dX0_setColumn_40 : decode cX0_setColumn 40 = .ok (.iload_n 3, 1) := by decide +kernel
theorem dX0_setColumn_41 : decode cX0_setColumn 41 = .ok (.iload 4, 2) := by decide +kernel
theorem dX0_setColumn_43 : decode cX0_setColumn 43 = .ok (.iushr, 1) := by decide +kernel
theorem dX0_setColumn_44 : decode cX0_setColumn 44 = .ok (.iconst 1, 1) := by decide +kernel
theorem dX0_setColumn_45 : decode cX0_setColumn 45 = .ok (.iand, 1) := by decide +kernel
theorem dX0_setColumn_46 : decode cX0_setColumn 46 = .ok (.i2l, 1) := by decide +kernel
theorem dX0_setColumn_47 : decode cX0_setColumn 47 = .ok (.iload_n 1, 1) := by decide +kernel
theorem dX0_setColumn_48 : decode cX0_setColumn 48 = .ok (.lshl, 1) := by decide +kernel
theorem dX0_setColumn_49 : decode cX0_setColumn 49 = .ok (.lor, 1) := by decide +kernel
theorem dX0_setColumn_50 : decode cX0_setColumn 50 = .ok (.lastore, 1) := by decide +kernel
theorem dX0_setColumn_51 : decode cX0_setColumn 51 = .ok (.iinc 4 1, 3) := by decide +kernel
theorem dX0_setColumn_54 : decode cX0_setColumn 54 = .ok (.goto (-51), 3) := by decide +kernel
theorem dX0_setColumn_57 : decode cX0_setColumn 57 = .ok (.return_, 1) := by decide +kernel
theorem dX0_forgetAnswers_0 : decode cX0_forgetAnswers 0 = .ok (.iconst 0, 1) := by decide +kernel
theorem dX0_forgetAnswers_1 : decode cX0_forgetAnswers 1 = .ok (.istore_n 1, 1) := by decide +kernel
theorem dX0_forgetAnswers_2 : decode cX0_forgetAnswers 2 = .ok (.iload_n 1, 1) := by decide +kernel
theorem dX0_forgetAnswers_3 : decode cX0_forgetAnswers 3 = .ok (.bipush 16, 2) := by decide +kernel
theorem dX0_forgetAnswers_5 : decode cX0_forgetAnswers 5 = .ok (.if_icmp .ge 16, 3) := by decide +kernel
theorem dX0_forgetAnswers_8 : decode cX0_forgetAnswers 8 = .ok (.aload_n 0, 1) := by decide +kernel
theorem dX0_forgetAnswers_9 : decode cX0_forgetAnswers 9 = .ok (.getfield 32, 3) := by decide +kernel
theorem dX0_forgetAnswers_12 : decode cX0_forgetAnswers 12 = .ok (.iload_n 1, 1) := by decide +kernel
theorem dX0_forgetAnswers_13 : decode cX0_forgetAnswers 13 = .ok (.iconst 0, 1) := by decide +kernel
theorem dX0_forgetAnswers_14 : decode cX0_forgetAnswers 14 = .ok (.bastore, 1) := by decide +kernel
theorem dX0_forgetAnswers_15 : decode cX0_forgetAnswers 15 = .ok (.iinc 1 1, 3) := by decide +kernel
theorem dX0_forgetAnswers_18 : decode cX0_forgetAnswers 18 = .ok (.goto (-16), 3) := by decide +kernel
theorem dX0_forgetAnswers_21 : decode cX0_forgetAnswers 21 = .ok (.return_, 1) := by decide +kernel
theorem dX0_drop_0 : decode cX0_drop 0 = .ok (.iload_n 1, 1) := by decide +kernel
theorem dX0_drop_1 : decode cX0_drop 1 = .ok (.ifCond .lt 9, 3) := by decide +kernel
theorem dX0_drop_4 : decode cX0_drop 4 = .ok (.iload_n 1, 1) := by decide +kernel
theorem dX0_drop_5 : decode cX0_drop 5 = .ok (.bipush 63, 2) := by decide +kernel
theorem dX0_drop_7 : decode cX0_drop 7 = .ok (.if_icmp .le 5, 3) := by decide +kernel
theorem dX0_drop_10 : decode cX0_drop 10 = .ok (.iconst (-1), 1) := by decide +kernel
theorem dX0_drop_11 : decode cX0_drop 11 = .ok (.ireturn, 1) := by decide +kernel
theorem dX0_drop_12 : decode cX0_drop 12 = .ok (.aload_n 0, 1) := by decide +kernel
theorem dX0_drop_13 : decode cX0_drop 13 = .ok (.getfield 45, 3) := by decide +kernel
theorem dX0_drop_16 : decode cX0_drop 16 = .ok (.iload_n 1, 1) := by decide +kernel
theorem dX0_drop_17 : decode cX0_drop 17 = .ok (.lushr, 1) := by decide +kernel
theorem dX0_drop_18 : decode cX0_drop 18 = .ok (.l2i, 1) := by decide +kernel
theorem dX0_drop_19 : decode cX0_drop 19 = .ok (.iconst 1, 1) := by decide +kernel
theorem dX0_drop_20 : decode cX0_drop 20 = .ok (.iand, 1) := by decide +kernel
theorem dX0_drop_21 : decode cX0_drop 21 = .ok (.istore_n 2, 1) := by decide +kernel
theorem dX0_drop_22 : decode cX0_drop 22 = .ok (.aload_n 0, 1) := by decide +kernel
theorem dX0_drop_23 : decode cX0_drop 23 = .ok (.dup, 1) := by decide +kernel
theorem dX0_drop_24 : decode cX0_drop 24 = .ok (.getfield 45, 3) := by decide +kernel
theorem dX0_drop_27 : decode cX0_drop 27 = .ok (.lconst 1, 1) := by decide +kernel
theorem dX0_drop_28 : decode cX0_drop 28 = .ok (.iload_n 1, 1) := by decide +kernel
theorem dX0_drop_29 : decode cX0_drop 29 = .ok (.lshl, 1) := by decide +kernel
theorem dX0_drop_30 : decode cX0_drop 30 = .ok (.ldc2_w 56, 3) := by decide +kernel
theorem dX0_drop_33 : decode cX0_drop 33 = .ok (.lxor, 1) := by decide +kernel
theorem dX0_drop_34 : decode cX0_drop 34 = .ok (.land, 1) := by decide +kernel
theorem dX0_drop_35 : decode cX0_drop 35 = .ok (.putfield 45, 3) := by decide +kernel
theorem dX0_drop_38 : decode cX0_drop 38 = .ok (.aload_n 0, 1) := by decide +kernel
theorem dX0_drop_39 : decode cX0_drop 39 = .ok (.invokevirtual 53, 3) := by decide +kernel
theorem dX0_drop_42 : decode cX0_drop 42 = .ok (.iload_n 2, 1) := by decide +kernel
theorem dX0_drop_43 : decode cX0_drop 43 = .ok (.ireturn, 1) := by decide +kernel
theorem dX0_compare_0 : decode cX0_compare 0 = .ok (.iload_n 1, 1) := by decide +kernel
theorem dX0_compare_1 : decode cX0_compare 1 = .ok (.invokestatic 58, 3) := by decide +kernel
theorem dX0_compare_4 : decode cX0_compare 4 = .ok (.ifCond .eq 12, 3) := by decide +kernel
theorem dX0_compare_7 : decode cX0_compare 7 = .ok (.iload_n 2, 1) := by decide +kernel
theorem dX0_compare_8 : decode cX0_compare 8 = .ok (.ifCond .lt 8, 3) := by decide +kernel
theorem dX0_compare_11 : decode cX0_compare 11 = .ok (.iload_n 2, 1) := by decide +kernel
theorem dX0_compare_12 : decode cX0_compare 12 = .ok (.iconst 5, 1) := by decide +kernel
theorem dX0_compare_13 : decode cX0_compare 13 = .ok (.if_icmp .le 5, 3) := by decide +kernel
theorem dX0_compare_16 : decode cX0_compare 16 = .ok (.iconst (-1), 1) := by decide +kernel
theorem dX0_compare_17 : decode cX0_compare 17 = .ok (.ireturn, 1) := by decide +kernel
theorem dX0_compare_18 : decode cX0_compare 18 = .ok (.aload_n 0, 1) := by decide +kernel
theorem dX0_compare_19 : decode cX0_compare 19 = .ok (.iconst 0, 1) := by decide +kernel
theorem dX0_compare_20 : decode cX0_compare 20 = .ok (.iload_n 1, 1) := by decide +kernel
theorem dX0_compare_21 : decode cX0_compare 21 = .ok (.iconst 0, 1) := by decide +kernel
theorem dX0_compare_22 : decode cX0_compare 22 = .ok (.iload_n 2, 1) := by decide +kernel
theorem dX0_compare_23 : decode cX0_compare 23 = .ok (.iload_n 3, 1) := by decide +kernel
theorem dX0_compare_24 : decode cX0_compare 24 = .ok (.invokevirtual 62, 3) := by decide +kernel
theorem dX0_compare_27 : decode cX0_compare 27 = .ok (.ireturn, 1) := by decide +kernel
theorem dX0_isColumn_0 : decode cX0_isColumn 0 = .ok (.iload_n 0, 1) := by decide +kernel
theorem dX0_isColumn_1 : decode cX0_isColumn 1 = .ok (.ifCond .lt 12, 3) := by decide +kernel
theorem dX0_isColumn_4 : decode cX0_isColumn 4 = .ok (.iload_n 0, 1) := by decide +kernel
theorem dX0_isColumn_5 : decode cX0_isColumn 5 = .ok (.iconst 2, 1) := by decide +kernel
theorem dX0_isColumn_6 : decode cX0_isColumn 6 = .ok (.if_icmp .gt 7, 3) := by decide +kernel
theorem dX0_isColumn_9 : decode cX0_isColumn 9 = .ok (.iconst 1, 1) := by decide +kernel
theorem dX0_isColumn_10 : decode cX0_isColumn 10 = .ok (.goto 4, 3) := by decide +kernel
theorem dX0_isColumn_13 : decode cX0_isColumn 13 = .ok (.iconst 0, 1) := by decide +kernel
theorem dX0_isColumn_14 : decode cX0_isColumn 14 = .ok (.ireturn, 1) := by decide +kernel
theorem dX0_make_0 : decode cX0_make 0 = .ok (.aload_n 0, 1) := by decide +kernel
theorem dX0_make_1 : decode cX0_make 1 = .ok (.getfield 66, 3) := by decide +kernel
theorem dX0_make_4 : decode cX0_make 4 = .ok (.bipush 16, 2) := by decide +kernel
theorem dX0_make_6 : decode cX0_make 6 = .ok (.if_icmp .lt 5, 3) := by decide +kernel
theorem dX0_make_9 : decode cX0_make 9 = .ok (.iconst (-1), 1) := by decide +kernel
theorem dX0_make_10 : decode cX0_make 10 = .ok (.ireturn, 1) := by decide +kernel
theorem dX0_make_11 : decode cX0_make 11 = .ok (.aload_n 0, 1) := by decide +kernel
theorem dX0_make_12 : decode cX0_make 12 = .ok (.getfield 66, 3) := by decide +kernel
theorem dX0_make_15 : decode cX0_make 15 = .ok (.istore 6, 2) := by decide +kernel
theorem dX0_make_17 : decode cX0_make 17 = .ok (.aload_n 0, 1) := by decide +kernel
theorem dX0_make_18 : decode cX0_make 18 = .ok (.getfield 13, 3) := by decide +kernel
theorem dX0_make_21 : decode cX0_make 21 = .ok (.iload 6, 2) := by decide +kernel
theorem dX0_make_23 : decode cX0_make 23 = .ok (.iload_n 1, 1) := by decide +kernel
theorem dX0_make_24 : decode cX0_make 24 = .ok (.iastore, 1) := by decide +kernel
theorem dX0_make_25 : decode cX0_make 25 = .ok (.aload_n 0, 1) := by decide +kernel
theorem dX0_make_26 : decode cX0_make 26 = .ok (.getfield 17, 3) := by decide +kernel
theorem dX0_make_29 : decode cX0_make 29 = .ok (.iload 6, 2) := by decide +kernel
theorem dX0_make_31 : decode cX0_make 31 = .ok (.iload_n 2, 1) := by decide +kernel
theorem dX0_make_32 : decode cX0_make 32 = .ok (.iastore, 1) := by decide +kernel
theorem dX0_make_33 : decode cX0_make 33 = .ok (.aload_n 0, 1) := by decide +kernel
theorem dX0_make_34 : decode cX0_make 34 = .ok (.getfield 20, 3) := by decide +kernel
theorem dX0_make_37 : decode cX0_make 37 = .ok (.iload 6, 2) := by decide +kernel
theorem dX0_make_39 : decode cX0_make 39 = .ok (.iload_n 3, 1) := by decide +kernel
theorem dX0_make_40 : decode cX0_make 40 = .ok (.iastore, 1) := by decide +kernel
theorem dX0_make_41 : decode cX0_make 41 = .ok (.aload_n 0, 1) := by decide +kernel
theorem dX0_make_42 : decode cX0_make 42 = .ok (.getfield 23, 3) := by decide +kernel
theorem dX0_make_45 : decode cX0_make 45 = .ok (.iload 6, 2) := by decide +kernel
theorem dX0_make_47 : decode cX0_make 47 = .ok (.iload 4, 2) := by decide +kernel
theorem dX0_make_49 : decode cX0_make 49 = .ok (.iastore, 1) := by decide +kernel
theorem dX0_make_50 : decode cX0_make 50 = .ok (.aload_n 0, 1) := by decide +kernel
theorem dX0_make_51 : decode cX0_make 51 = .ok (.getfield 26, 3) := by decide +kernel
theorem dX0_make_54 : decode cX0_make 54 = .ok (.iload 6, 2) := by decide +kernel
theorem dX0_make_56 : decode cX0_make 56 = .ok (.iload 5, 2) := by decide +kernel
theorem dX0_make_58 : decode cX0_make 58 = .ok (.iastore, 1) := by decide +kernel
theorem dX0_make_59 : decode cX0_make 59 = .ok (.aload_n 0, 1) := by decide +kernel
theorem dX0_make_60 : decode cX0_make 60 = .ok (.getfield 32, 3) := by decide +kernel
theorem dX0_make_63 : decode cX0_make 63 = .ok (.iload 6, 2) := by decide +kernel
theorem dX0_make_65 : decode cX0_make 65 = .ok (.iconst 0, 1) := by decide +kernel
theorem dX0_make_66 : decode cX0_make 66 = .ok (.bastore, 1) := by decide +kernel
theorem dX0_make_67 : decode cX0_make 67 = .ok (.aload_n 0, 1) := by decide +kernel
theorem dX0_make_68 : decode cX0_make 68 = .ok (.iload 6, 2) := by decide +kernel
theorem dX0_make_70 : decode cX0_make 70 = .ok (.iconst 1, 1) := by decide +kernel
theorem dX0_make_71 : decode cX0_make 71 = .ok (.iadd, 1) := by decide +kernel
theorem dX0_make_72 : decode cX0_make 72 = .ok (.putfield 66, 3) := by decide +kernel
theorem dX0_make_75 : decode cX0_make 75 = .ok (.iload 6, 2) := by decide +kernel
theorem dX0_make_77 : decode cX0_make 77 = .ok (.ireturn, 1) := by decide +kernel
theorem dX0_columns_0 : decode cX0_columns 0 = .ok (.iload_n 1, 1) := by decide +kernel
theorem dX0_columns_1 : decode cX0_columns 1 = .ok (.invokestatic 58, 3) := by decide +kernel
theorem dX0_columns_4 : decode cX0_columns 4 = .ok (.ifCond .eq 19, 3) := by decide +kernel
theorem dX0_columns_7 : decode cX0_columns 7 = .ok (.iload_n 3, 1) := by decide +kernel
theorem dX0_columns_8 : decode cX0_columns 8 = .ok (.invokestatic 58, 3) := by decide +kernel
theorem dX0_columns_11 : decode cX0_columns 11 = .ok (.ifCond .eq 12, 3) := by decide +kernel
theorem dX0_columns_14 : decode cX0_columns 14 = .ok (.iload_n 2, 1) := by decide +kernel
theorem dX0_columns_15 : decode cX0_columns 15 = .ok (.ifCond .lt 8, 3) := by decide +kernel
theorem dX0_columns_18 : decode cX0_columns 18 = .ok (.iload_n 2, 1) := by decide +kernel
theorem dX0_columns_19 : decode cX0_columns 19 = .ok (.iconst 5, 1) := by decide +kernel
theorem dX0_columns_20 : decode cX0_columns 20 = .ok (.if_icmp .le 5, 3) := by decide +kernel
theorem dX0_columns_23 : decode cX0_columns 23 = .ok (.iconst (-1), 1) := by decide +kernel
theorem dX0_columns_24 : decode cX0_columns 24 = .ok (.ireturn, 1) := by decide +kernel
theorem dX0_columns_25 : decode cX0_columns 25 = .ok (.aload_n 0, 1) := by decide +kernel
theorem dX0_columns_26 : decode cX0_columns 26 = .ok (.iconst 1, 1) := by decide +kernel
theorem dX0_columns_27 : decode cX0_columns 27 = .ok (.iload_n 1, 1) := by decide +kernel
theorem dX0_columns_28 : decode cX0_columns 28 = .ok (.iload_n 3, 1) := by decide +kernel
theorem dX0_columns_29 : decode cX0_columns 29 = .ok (.iload_n 2, 1) := by decide +kernel
theorem dX0_columns_30 : decode cX0_columns 30 = .ok (.iconst 0, 1) := by decide +kernel
theorem dX0_columns_31 : decode cX0_columns 31 = .ok (.invokevirtual 62, 3) := by decide +kernel
theorem dX0_columns_34 : decode cX0_columns 34 = .ok (.ireturn, 1) := by decide +kernel
theorem dX0_sums_0 : decode cX0_sums 0 = .ok (.iload_n 1, 1) := by decide +kernel
theorem dX0_sums_1 : decode cX0_sums 1 = .ok (.invokestatic 58, 3) := by decide +kernel
theorem dX0_sums_4 : decode cX0_sums 4 = .ok (.ifCond .eq 19, 3) := by decide +kernel
theorem dX0_sums_7 : decode cX0_sums 7 = .ok (.iload_n 2, 1) := by decide +kernel
theorem dX0_sums_8 : decode cX0_sums 8 = .ok (.invokestatic 58, 3) := by decide +kernel
theorem dX0_sums_11 : decode cX0_sums 11 = .ok (.ifCond .eq 12, 3) := by decide +kernel
theorem dX0_sums_14 : decode cX0_sums 14 = .ok (.iload_n 3, 1) := by decide +kernel
theorem dX0_sums_15 : decode cX0_sums 15 = .ok (.ifCond .lt 8, 3) := by decide +kernel
theorem dX0_sums_18 : decode cX0_sums 18 = .ok (.iload_n 3, 1) := by decide +kernel
theorem dX0_sums_19 : decode cX0_sums 19 = .ok (.iconst 5, 1) := by decide +kernel
theorem dX0_sums_20 : decode cX0_sums 20 = .ok (.if_icmp .le 5, 3) := by decide +kernel
theorem dX0_sums_23 : decode cX0_sums 23 = .ok (.iconst (-1), 1) := by decide +kernel
theorem dX0_sums_24 : decode cX0_sums 24 = .ok (.ireturn, 1) := by decide +kernel
theorem dX0_sums_25 : decode cX0_sums 25 = .ok (.aload_n 0, 1) := by decide +kernel
theorem dX0_sums_26 : decode cX0_sums 26 = .ok (.iconst 2, 1) := by decide +kernel
theorem dX0_sums_27 : decode cX0_sums 27 = .ok (.iload_n 1, 1) := by decide +kernel
theorem dX0_sums_28 : decode cX0_sums 28 = .ok (.iload_n 2, 1) := by decide +kernel
theorem dX0_sums_29 : decode cX0_sums 29 = .ok (.iload_n 3, 1) := by decide +kernel
theorem dX0_sums_30 : decode cX0_sums 30 = .ok (.iload 4, 2) := by decide +kernel
theorem dX0_sums_32 : decode cX0_sums 32 = .ok (.invokevirtual 62, 3) := by decide +kernel
theorem dX0_sums_35 : decode cX0_sums 35 = .ok (.ireturn, 1) := by decide +kernel
theorem dX0_join_0 : decode cX0_join 0 = .ok (.iload_n 1, 1) := by decide +kernel
theorem dX0_join_1 : decode cX0_join 1 = .ok (.ifCond .lt 32, 3) := by decide +kernel
theorem dX0_join_4 : decode cX0_join 4 = .ok (.iload_n 1, 1) := by decide +kernel
theorem dX0_join_5 : decode cX0_join 5 = .ok (.aload_n 0, 1) := by decide +kernel
theorem dX0_join_6 : decode cX0_join 6 = .ok (.getfield 66, 3) := by decide +kernel
theorem dX0_join_9 : decode cX0_join 9 = .ok (.if_icmp .ge 24, 3) := by decide +kernel
theorem dX0_join_12 : decode cX0_join 12 = .ok (.iload_n 3, 1) := by decide +kernel
theorem dX0_join_13 : decode cX0_join 13 = .ok (.ifCond .lt 20, 3) := by decide +kernel
theorem dX0_join_16 : decode cX0_join 16 = .ok (.iload_n 3, 1) := by decide +kernel
theorem dX0_join_17 : decode cX0_join 17 = .ok (.aload_n 0, 1) := by decide +kernel
theorem dX0_join_18 : decode cX0_join 18 = .ok (.getfield 66, 3) := by decide +kernel
theorem dX0_join_21 : decode cX0_join 21 = .ok (.if_icmp .ge 12, 3) := by decide +kernel
theorem dX0_join_24 : decode cX0_join 24 = .ok (.iload_n 2, 1) := by decide +kernel
theorem dX0_join_25 : decode cX0_join 25 = .ok (.ifCond .lt 8, 3) := by decide +kernel
theorem dX0_join_28 : decode cX0_join 28 = .ok (.iload_n 2, 1) := by decide +kernel
theorem dX0_join_29 : decode cX0_join 29 = .ok (.iconst 3, 1) := by decide +kernel
theorem dX0_join_30 : decode cX0_join 30 = .ok (.if_icmp .le 5, 3) := by decide +kernel
theorem dX0_join_33 : decode cX0_join 33 = .ok (.iconst (-1), 1) := by decide +kernel
theorem dX0_join_34 : decode cX0_join 34 = .ok (.ireturn, 1) := by decide +kernel
theorem dX0_join_35 : decode cX0_join 35 = .ok (.aload_n 0, 1) := by decide +kernel
theorem dX0_join_36 : decode cX0_join 36 = .ok (.iconst 3, 1) := by decide +kernel
theorem dX0_join_37 : decode cX0_join 37 = .ok (.iload_n 1, 1) := by decide +kernel
theorem dX0_join_38 : decode cX0_join 38 = .ok (.iload_n 3, 1) := by decide +kernel
theorem dX0_join_39 : decode cX0_join 39 = .ok (.iload_n 2, 1) := by decide +kernel
theorem dX0_join_40 : decode cX0_join 40 = .ok (.iconst 0, 1) := by decide +kernel
theorem dX0_join_41 : decode cX0_join 41 = .ok (.invokevirtual 62, 3) := by decide +kernel
theorem dX0_join_44 : decode cX0_join 44 = .ok (.ireturn, 1) := by decide +kernel
theorem dX0_clear_0 : decode cX0_clear 0 = .ok (.aload_n 0, 1) := by decide +kernel
theorem dX0_clear_1 : decode cX0_clear 1 = .ok (.iconst 0, 1) := by decide +kernel
theorem dX0_clear_2 : decode cX0_clear 2 = .ok (.putfield 66, 3) := by decide +kernel
theorem dX0_clear_5 : decode cX0_clear 5 = .ok (.aload_n 0, 1) := by decide +kernel
theorem dX0_clear_6 : decode cX0_clear 6 = .ok (.invokevirtual 53, 3) := by decide +kernel
theorem dX0_clear_9 : decode cX0_clear 9 = .ok (.return_, 1) := by decide +kernel
theorem dX0_count_0 : decode cX0_count 0 = .ok (.aload_n 0, 1) := by decide +kernel
theorem dX0_count_1 : decode cX0_count 1 = .ok (.iload_n 1, 1) := by decide +kernel
theorem dX0_count_2 : decode cX0_count 2 = .ok (.invokevirtual 70, 3) := by decide +kernel
theorem dX0_count_5 : decode cX0_count 5 = .ok (.ifCond .ne 5, 3) := by decide +kernel
theorem dX0_count_8 : decode cX0_count 8 = .ok (.iconst (-1), 1) := by decide +kernel
theorem dX0_count_9 : decode cX0_count 9 = .ok (.ireturn, 1) := by decide +kernel
theorem dX0_count_10 : decode cX0_count 10 = .ok (.aload_n 0, 1) := by decide +kernel
theorem dX0_count_11 : decode cX0_count 11 = .ok (.iload_n 1, 1) := by decide +kernel
theorem dX0_count_12 : decode cX0_count 12 = .ok (.invokevirtual 73, 3) := by decide +kernel
theorem dX0_count_15 : decode cX0_count 15 = .ok (.lstore_n 2, 1) := by decide +kernel
theorem dX0_count_16 : decode cX0_count 16 = .ok (.lload_n 2, 1) := by decide +kernel
theorem dX0_count_17 : decode cX0_count 17 = .ok (.invokestatic 77, 3) := by decide +kernel
theorem dX0_count_20 : decode cX0_count 20 = .ok (.ireturn, 1) := by decide +kernel
theorem dX0_isCondition_0 : decode cX0_isCondition 0 = .ok (.iload_n 1, 1) := by decide +kernel
theorem dX0_isCondition_1 : decode cX0_isCondition 1 = .ok (.iconst (-1), 1) := by decide +kernel
theorem dX0_isCondition_2 : decode cX0_isCondition 2 = .ok (.if_icmp .lt 15, 3) := by decide +kernel
theorem dX0_isCondition_5 : decode cX0_isCondition 5 = .ok (.iload_n 1, 1) := by decide +kernel
theorem dX0_isCondition_6 : decode cX0_isCondition 6 = .ok (.aload_n 0, 1) := by decide +kernel
theorem dX0_isCondition_7 : decode cX0_isCondition 7 = .ok (.getfield 66, 3) := by decide +kernel
theorem dX0_isCondition_10 : decode cX0_isCondition 10 = .ok (.if_icmp .ge 7, 3) := by decide +kernel
theorem dX0_isCondition_13 : decode cX0_isCondition 13 = .ok (.iconst 1, 1) := by decide +kernel
theorem dX0_isCondition_14 : decode cX0_isCondition 14 = .ok (.goto 4, 3) := by decide +kernel
theorem dX0_isCondition_17 : decode cX0_isCondition 17 = .ok (.iconst 0, 1) := by decide +kernel
theorem dX0_isCondition_18 : decode cX0_isCondition 18 = .ok (.ireturn, 1) := by decide +kernel
theorem dX0_rowsOf_0 : decode cX0_rowsOf 0 = .ok (.iload_n 1, 1) := by decide +kernel
theorem dX0_rowsOf_1 : decode cX0_rowsOf 1 = .ok (.ifCond .ge 8, 3) := by decide +kernel
theorem dX0_rowsOf_4 : decode cX0_rowsOf 4 = .ok (.aload_n 0, 1) := by decide +kernel
theorem dX0_rowsOf_5 : decode cX0_rowsOf 5 = .ok (.getfield 45, 3) := by decide +kernel
theorem dX0_rowsOf_8 : decode cX0_rowsOf 8 = .ok (.lreturn, 1) := by decide +kernel
theorem dX0_rowsOf_9 : decode cX0_rowsOf 9 = .ok (.iconst 0, 1) := by decide +kernel
theorem dX0_rowsOf_10 : decode cX0_rowsOf 10 = .ok (.istore_n 2, 1) := by decide +kernel
theorem dX0_rowsOf_11 : decode cX0_rowsOf 11 = .ok (.iload_n 2, 1) := by decide +kernel
theorem dX0_rowsOf_12 : decode cX0_rowsOf 12 = .ok (.iload_n 1, 1) := by decide +kernel
theorem dX0_rowsOf_13 : decode cX0_rowsOf 13 = .ok (.if_icmp .gt 41, 3) := by decide +kernel
theorem dX0_rowsOf_16 : decode cX0_rowsOf 16 = .ok (.aload_n 0, 1) := by decide +kernel
theorem dX0_rowsOf_17 : decode cX0_rowsOf 17 = .ok (.getfield 32, 3) := by decide +kernel
theorem dX0_rowsOf_20 : decode cX0_rowsOf 20 = .ok (.iload_n 2, 1) := by decide +kernel
theorem dX0_rowsOf_21 : decode cX0_rowsOf 21 = .ok (.baload, 1) := by decide +kernel
theorem dX0_rowsOf_22 : decode cX0_rowsOf 22 = .ok (.ifCond .ne 26, 3) := by decide +kernel
theorem dX0_rowsOf_25 : decode cX0_rowsOf 25 = .ok (.aload_n 0, 1) := by decide +kernel
theorem dX0_rowsOf_26 : decode cX0_rowsOf 26 = .ok (.getfield 29, 3) := by decide +kernel
theorem dX0_rowsOf_29 : decode cX0_rowsOf 29 = .ok (.iload_n 2, 1) := by decide +kernel
theorem dX0_rowsOf_30 : decode cX0_rowsOf 30 = .ok (.aload_n 0, 1) := by decide +kernel
theorem dX0_rowsOf_31 : decode cX0_rowsOf 31 = .ok (.iload_n 2, 1) := by decide +kernel
theorem dX0_rowsOf_32 : decode cX0_rowsOf 32 = .ok (.invokevirtual 93, 3) := by decide +kernel
theorem dX0_rowsOf_35 : decode cX0_rowsOf 35 = .ok (.aload_n 0, 1) := by decide +kernel
theorem dX0_rowsOf_36 : decode cX0_rowsOf 36 = .ok (.getfield 45, 3) := by decide +kernel
theorem dX0_rowsOf_39 : decode cX0_rowsOf 39 = .ok (.land, 1) := by decide +kernel
theorem dX0_rowsOf_40 : decode cX0_rowsOf 40 = .ok (.lastore, 1) := by decide +kernel
theorem dX0_rowsOf_41 : decode cX0_rowsOf 41 = .ok (.aload_n 0, 1) := by decide +kernel
theorem dX0_rowsOf_42 : decode cX0_rowsOf 42 = .ok (.getfield 32, 3) := by decide +kernel
theorem dX0_rowsOf_45 : decode cX0_rowsOf 45 = .ok (.iload_n 2, 1) := by decide +kernel
theorem dX0_rowsOf_46 : decode cX0_rowsOf 46 = .ok (.iconst 1, 1) := by decide +kernel
theorem dX0_rowsOf_47 : decode cX0_rowsOf 47 = .ok (.bastore, 1) := by decide +kernel
theorem dX0_rowsOf_48 : decode cX0_rowsOf 48 = .ok (.iinc 2 1, 3) := by decide +kernel
theorem dX0_rowsOf_51 : decode cX0_rowsOf 51 = .ok (.goto (-40), 3) := by decide +kernel
theorem dX0_rowsOf_54 : decode cX0_rowsOf 54 = .ok (.aload_n 0, 1) := by decide +kernel
theorem dX0_rowsOf_55 : decode cX0_rowsOf 55 = .ok (.getfield 29, 3) := by decide +kernel
theorem dX0_rowsOf_58 : decode cX0_rowsOf 58 = .ok (.iload_n 1, 1) := by decide +kernel
theorem dX0_rowsOf_59 : decode cX0_rowsOf 59 = .ok (.laload, 1) := by decide +kernel
theorem dX0_rowsOf_60 : decode cX0_rowsOf 60 = .ok (.lreturn, 1) := by decide +kernel
theorem dX0_workOut_0 : decode cX0_workOut 0 = .ok (.aload_n 0, 1) := by decide +kernel
theorem dX0_workOut_1 : decode cX0_workOut 1 = .ok (.getfield 13, 3) := by decide +kernel
theorem dX0_workOut_4 : decode cX0_workOut 4 = .ok (.iload_n 1, 1) := by decide +kernel
theorem dX0_workOut_5 : decode cX0_workOut 5 = .ok (.iaload, 1) := by decide +kernel
theorem dX0_workOut_6 : decode cX0_workOut 6 = .ok (.iconst 3, 1) := by decide +kernel
theorem dX0_workOut_7 : decode cX0_workOut 7 = .ok (.if_icmp .ne 87, 3) := by decide +kernel
theorem dX0_workOut_10 : decode cX0_workOut 10 = .ok (.aload_n 0, 1) := by decide +kernel
theorem dX0_workOut_11 : decode cX0_workOut 11 = .ok (.getfield 29, 3) := by decide +kernel
theorem dX0_workOut_14 : decode cX0_workOut 14 = .ok (.aload_n 0, 1) := by decide +kernel
theorem dX0_workOut_15 : decode cX0_workOut 15 = .ok (.getfield 17, 3) := by decide +kernel
theorem dX0_workOut_18 : decode cX0_workOut 18 = .ok (.iload_n 1, 1) := by decide +kernel
theorem dX0_workOut_19 : decode cX0_workOut 19 = .ok (.iaload, 1) := by decide +kernel
theorem dX0_workOut_20 : decode cX0_workOut 20 = .ok (.laload, 1) := by decide +kernel
theorem dX0_workOut_21 : decode cX0_workOut 21 = .ok (.lstore_n 2, 1) := by decide +kernel
theorem dX0_workOut_22 : decode cX0_workOut 22 = .ok (.aload_n 0, 1) := by decide +kernel
theorem dX0_workOut_23 : decode cX0_workOut 23 = .ok (.getfield 29, 3) := by decide +kernel
theorem dX0_workOut_26 : decode cX0_workOut 26 = .ok (.aload_n 0, 1) := by decide +kernel
theorem dX0_workOut_27 : decode cX0_workOut 27 = .ok (.getfield 20, 3) := by decide +kernel
theorem dX0_workOut_30 : decode cX0_workOut 30 = .ok (.iload_n 1, 1) := by decide +kernel
theorem dX0_workOut_31 : decode cX0_workOut 31 = .ok (.iaload, 1) := by decide +kernel
theorem dX0_workOut_32 : decode cX0_workOut 32 = .ok (.laload, 1) := by decide +kernel
theorem dX0_workOut_33 : decode cX0_workOut 33 = .ok (.lstore 4, 2) := by decide +kernel
theorem dX0_workOut_35 : decode cX0_workOut 35 = .ok (.aload_n 0, 1) := by decide +kernel
theorem dX0_workOut_36 : decode cX0_workOut 36 = .ok (.getfield 23, 3) := by decide +kernel
theorem dX0_workOut_39 : decode cX0_workOut 39 = .ok (.iload_n 1, 1) := by decide +kernel
theorem dX0_workOut_40 : decode cX0_workOut 40 = .ok (.iaload, 1) := by decide +kernel
theorem dX0_workOut_41 : decode cX0_workOut 41 = .ok (.ifCond .ne 10, 3) := by decide +kernel
theorem dX0_workOut_44 : decode cX0_workOut 44 = .ok (.lload_n 2, 1) := by decide +kernel
theorem dX0_workOut_45 : decode cX0_workOut 45 = .ok (.lload 4, 2) := by decide +kernel
theorem dX0_workOut_47 : decode cX0_workOut 47 = .ok (.land, 1) := by decide +kernel
theorem dX0_workOut_48 : decode cX0_workOut 48 = .ok (.goto 45, 3) := by decide +kernel
theorem dX0_workOut_51 : decode cX0_workOut 51 = .ok (.aload_n 0, 1) := by decide +kernel
theorem dX0_workOut_52 : decode cX0_workOut 52 = .ok (.getfield 23, 3) := by decide +kernel
theorem dX0_workOut_55 : decode cX0_workOut 55 = .ok (.iload_n 1, 1) := by decide +kernel
theorem dX0_workOut_56 : decode cX0_workOut 56 = .ok (.iaload, 1) := by decide +kernel
theorem dX0_workOut_57 : decode cX0_workOut 57 = .ok (.iconst 1, 1) := by decide +kernel
theorem dX0_workOut_58 : decode cX0_workOut 58 = .ok (.if_icmp .ne 10, 3) := by decide +kernel
theorem dX0_workOut_61 : decode cX0_workOut 61 = .ok (.lload_n 2, 1) := by decide +kernel
theorem dX0_workOut_62 : decode cX0_workOut 62 = .ok (.lload 4, 2) := by decide +kernel
theorem dX0_workOut_64 : decode cX0_workOut 64 = .ok (.lor, 1) := by decide +kernel
theorem dX0_workOut_65 : decode cX0_workOut 65 = .ok (.goto 28, 3) := by decide +kernel
theorem dX0_workOut_68 : decode cX0_workOut 68 = .ok (.aload_n 0, 1) := by decide +kernel
theorem dX0_workOut_69 : decode cX0_workOut 69 = .ok (.getfield 23, 3) := by decide +kernel
theorem dX0_workOut_72 : decode cX0_workOut 72 = .ok (.iload_n 1, 1) := by decide +kernel
theorem dX0_workOut_73 : decode cX0_workOut 73 = .ok (.iaload, 1) := by decide +kernel
theorem dX0_workOut_74 : decode cX0_workOut 74 = .ok (.iconst 2, 1) := by decide +kernel
theorem dX0_workOut_75 : decode cX0_workOut 75 = .ok (.if_icmp .ne 10, 3) := by decide +kernel
theorem dX0_workOut_78 : decode cX0_workOut 78 = .ok (.lload_n 2, 1) := by decide +kernel
theorem dX0_workOut_79 : decode cX0_workOut 79 = .ok (.lload 4, 2) := by decide +kernel
theorem dX0_workOut_81 : decode cX0_workOut 81 = .ok (.lxor, 1) := by decide +kernel
theorem dX0_workOut_82 : decode cX0_workOut 82 = .ok (.goto 11, 3) := by decide +kernel
theorem dX0_workOut_85 : decode cX0_workOut 85 = .ok (.lload_n 2, 1) := by decide +kernel
theorem dX0_workOut_86 : decode cX0_workOut 86 = .ok (.lload 4, 2) := by decide +kernel
theorem dX0_workOut_88 : decode cX0_workOut 88 = .ok (.ldc2_w 56, 3) := by decide +kernel
theorem dX0_workOut_91 : decode cX0_workOut 91 = .ok (.lxor, 1) := by decide +kernel
theorem dX0_workOut_92 : decode cX0_workOut 92 = .ok (.land, 1) := by decide +kernel
theorem dX0_workOut_93 : decode cX0_workOut 93 = .ok (.lreturn, 1) := by decide +kernel
theorem dX0_workOut_94 : decode cX0_workOut 94 = .ok (.aload_n 0, 1) := by decide +kernel
theorem dX0_workOut_95 : decode cX0_workOut 95 = .ok (.getfield 13, 3) := by decide +kernel
theorem dX0_workOut_98 : decode cX0_workOut 98 = .ok (.iload_n 1, 1) := by decide +kernel
theorem dX0_workOut_99 : decode cX0_workOut 99 = .ok (.iaload, 1) := by decide +kernel
theorem dX0_workOut_100 : decode cX0_workOut 100 = .ok (.ifCond .ne 26, 3) := by decide +kernel
theorem dX0_workOut_103 : decode cX0_workOut 103 = .ok (.aload_n 0, 1) := by decide +kernel
theorem dX0_workOut_104 : decode cX0_workOut 104 = .ok (.aload_n 0, 1) := by decide +kernel
theorem dX0_workOut_105 : decode cX0_workOut 105 = .ok (.getfield 17, 3) := by decide +kernel
theorem dX0_workOut_108 : decode cX0_workOut 108 = .ok (.iload_n 1, 1) := by decide +kernel
theorem dX0_workOut_109 : decode cX0_workOut 109 = .ok (.iaload, 1) := by decide +kernel
theorem dX0_workOut_110 : decode cX0_workOut 110 = .ok (.invokevirtual 96, 3) := by decide +kernel
theorem dX0_workOut_113 : decode cX0_workOut 113 = .ok (.aload_n 0, 1) := by decide +kernel
theorem dX0_workOut_114 : decode cX0_workOut 114 = .ok (.aload_n 0, 1) := by decide +kernel
theorem dX0_workOut_115 : decode cX0_workOut 115 = .ok (.getfield 26, 3) := by decide +kernel
theorem dX0_workOut_118 : decode cX0_workOut 118 = .ok (.iload_n 1, 1) := by decide +kernel
theorem dX0_workOut_119 : decode cX0_workOut 119 = .ok (.iaload, 1) := by decide +kernel
theorem dX0_workOut_120 : decode cX0_workOut 120 = .ok (.invokevirtual 100, 3) := by decide +kernel
theorem dX0_workOut_123 : decode cX0_workOut 123 = .ok (.goto 58, 3) := by decide +kernel
theorem dX0_workOut_126 : decode cX0_workOut 126 = .ok (.aload_n 0, 1) := by decide +kernel
theorem dX0_workOut_127 : decode cX0_workOut 127 = .ok (.getfield 13, 3) := by decide +kernel
theorem dX0_workOut_130 : decode cX0_workOut 130 = .ok (.iload_n 1, 1) := by decide +kernel
theorem dX0_workOut_131 : decode cX0_workOut 131 = .ok (.iaload, 1) := by decide +kernel
theorem dX0_workOut_132 : decode cX0_workOut 132 = .ok (.iconst 1, 1) := by decide +kernel
theorem dX0_workOut_133 : decode cX0_workOut 133 = .ok (.if_icmp .ne 22, 3) := by decide +kernel
theorem dX0_workOut_136 : decode cX0_workOut 136 = .ok (.aload_n 0, 1) := by decide +kernel
theorem dX0_workOut_137 : decode cX0_workOut 137 = .ok (.aload_n 0, 1) := by decide +kernel
theorem dX0_workOut_138 : decode cX0_workOut 138 = .ok (.getfield 17, 3) := by decide +kernel
theorem dX0_workOut_141 : decode cX0_workOut 141 = .ok (.iload_n 1, 1) := by decide +kernel
theorem dX0_workOut_142 : decode cX0_workOut 142 = .ok (.iaload, 1) := by decide +kernel
theorem dX0_workOut_143 : decode cX0_workOut 143 = .ok (.aload_n 0, 1) := by decide +kernel
theorem dX0_workOut_144 : decode cX0_workOut 144 = .ok (.getfield 20, 3) := by decide +kernel
theorem dX0_workOut_147 : decode cX0_workOut 147 = .ok (.iload_n 1, 1) := by decide +kernel
theorem dX0_workOut_148 : decode cX0_workOut 148 = .ok (.iaload, 1) := by decide +kernel
theorem dX0_workOut_149 : decode cX0_workOut 149 = .ok (.invokevirtual 103, 3) := by decide +kernel
theorem dX0_workOut_152 : decode cX0_workOut 152 = .ok (.goto 29, 3) := by decide +kernel
theorem dX0_workOut_155 : decode cX0_workOut 155 = .ok (.aload_n 0, 1) := by decide +kernel
theorem dX0_workOut_156 : decode cX0_workOut 156 = .ok (.aload_n 0, 1) := by decide +kernel
theorem dX0_workOut_157 : decode cX0_workOut 157 = .ok (.getfield 17, 3) := by decide +kernel
theorem dX0_workOut_160 : decode cX0_workOut 160 = .ok (.iload_n 1, 1) := by decide +kernel
theorem dX0_workOut_161 : decode cX0_workOut 161 = .ok (.iaload, 1) := by decide +kernel
theorem dX0_workOut_162 : decode cX0_workOut 162 = .ok (.aload_n 0, 1) := by decide +kernel
theorem dX0_workOut_163 : decode cX0_workOut 163 = .ok (.getfield 20, 3) := by decide +kernel
theorem dX0_workOut_166 : decode cX0_workOut 166 = .ok (.iload_n 1, 1) := by decide +kernel
theorem dX0_workOut_167 : decode cX0_workOut 167 = .ok (.iaload, 1) := by decide +kernel
theorem dX0_workOut_168 : decode cX0_workOut 168 = .ok (.invokevirtual 107, 3) := by decide +kernel
theorem dX0_workOut_171 : decode cX0_workOut 171 = .ok (.aload_n 0, 1) := by decide +kernel
theorem dX0_workOut_172 : decode cX0_workOut 172 = .ok (.aload_n 0, 1) := by decide +kernel
theorem dX0_workOut_173 : decode cX0_workOut 173 = .ok (.getfield 26, 3) := by decide +kernel
theorem dX0_workOut_176 : decode cX0_workOut 176 = .ok (.iload_n 1, 1) := by decide +kernel
theorem dX0_workOut_177 : decode cX0_workOut 177 = .ok (.iaload, 1) := by decide +kernel
theorem dX0_workOut_178 : decode cX0_workOut 178 = .ok (.invokevirtual 100, 3) := by decide +kernel
theorem dX0_workOut_181 : decode cX0_workOut 181 = .ok (.aload_n 0, 1) := by decide +kernel
theorem dX0_workOut_182 : decode cX0_workOut 182 = .ok (.aload_n 0, 1) := by decide +kernel
theorem dX0_workOut_183 : decode cX0_workOut 183 = .ok (.getfield 23, 3) := by decide +kernel
theorem dX0_workOut_186 : decode cX0_workOut 186 = .ok (.iload_n 1, 1) := by decide +kernel
theorem dX0_workOut_187 : decode cX0_workOut 187 = .ok (.iaload, 1) := by decide +kernel
theorem dX0_workOut_188 : decode cX0_workOut 188 = .ok (.invokevirtual 110, 3) := by decide +kernel
theorem dX0_workOut_191 : decode cX0_workOut 191 = .ok (.lreturn, 1) := by decide +kernel
theorem dX0_takeColumn_0 : decode cX0_takeColumn 0 = .ok (.iconst 0, 1) := by decide +kernel
theorem dX0_takeColumn_1 : decode cX0_takeColumn 1 = .ok (.istore_n 2, 1) := by decide +kernel
theorem dX0_takeColumn_2 : decode cX0_takeColumn 2 = .ok (.iload_n 2, 1) := by decide +kernel
theorem dX0_takeColumn_3 : decode cX0_takeColumn 3 = .ok (.bipush 8, 2) := by decide +kernel
theorem dX0_takeColumn_5 : decode cX0_takeColumn 5 = .ok (.if_icmp .ge 26, 3) := by decide +kernel
theorem dX0_takeColumn_8 : decode cX0_takeColumn 8 = .ok (.aload_n 0, 1) := by decide +kernel
theorem dX0_takeColumn_9 : decode cX0_takeColumn 9 = .ok (.getfield 36, 3) := by decide +kernel
theorem dX0_takeColumn_12 : decode cX0_takeColumn 12 = .ok (.iload_n 2, 1) := by decide +kernel
theorem dX0_takeColumn_13 : decode cX0_takeColumn 13 = .ok (.aload_n 0, 1) := by decide +kernel
theorem dX0_takeColumn_14 : decode cX0_takeColumn 14 = .ok (.getfield 7, 3) := by decide +kernel
theorem dX0_takeColumn_17 : decode cX0_takeColumn 17 = .ok (.bipush 8, 2) := by decide +kernel
theorem dX0_takeColumn_19 : decode cX0_takeColumn 19 = .ok (.iload_n 1, 1) := by decide +kernel
theorem dX0_takeColumn_20 : decode cX0_takeColumn 20 = .ok (.imul, 1) := by decide +kernel
theorem dX0_takeColumn_21 : decode cX0_takeColumn 21 = .ok (.iload_n 2, 1) := by decide +kernel
theorem dX0_takeColumn_22 : decode cX0_takeColumn 22 = .ok (.iadd, 1) := by decide +kernel
theorem dX0_takeColumn_23 : decode cX0_takeColumn 23 = .ok (.laload, 1) := by decide +kernel
theorem dX0_takeColumn_24 : decode cX0_takeColumn 24 = .ok (.lastore, 1) := by decide +kernel
theorem dX0_takeColumn_25 : decode cX0_takeColumn 25 = .ok (.iinc 2 1, 3) := by decide +kernel
theorem dX0_takeColumn_28 : decode cX0_takeColumn 28 = .ok (.goto (-26), 3) := by decide +kernel
theorem dX0_takeColumn_31 : decode cX0_takeColumn 31 = .ok (.aload_n 0, 1) := by decide +kernel
theorem dX0_takeColumn_32 : decode cX0_takeColumn 32 = .ok (.getfield 36, 3) := by decide +kernel
theorem dX0_takeColumn_35 : decode cX0_takeColumn 35 = .ok (.bipush 8, 2) := by decide +kernel
theorem dX0_takeColumn_37 : decode cX0_takeColumn 37 = .ok (.lconst 0, 1) := by decide +kernel
theorem dX0_takeColumn_38 : decode cX0_takeColumn 38 = .ok (.lastore, 1) := by decide +kernel
theorem dX0_takeColumn_39 : decode cX0_takeColumn 39 = .ok (.return_, 1) := by decide +kernel
theorem dX0_compareWithConstant_0 : decode cX0_compareWithConstant 0 = .ok (.aload_n 0, 1) := by decide +kernel
theorem dX0_compareWithConstant_1 : decode cX0_compareWithConstant 1 = .ok (.lconst 0, 1) := by decide +kernel
theorem dX0_compareWithConstant_2 : decode cX0_compareWithConstant 2 = .ok (.putfield 116, 3) := by decide +kernel
theorem dX0_compareWithConstant_5 : decode cX0_compareWithConstant 5 = .ok (.aload_n 0, 1) := by decide +kernel
theorem dX0_compareWithConstant_6 : decode cX0_compareWithConstant 6 = .ok (.ldc2_w 56, 3) := by decide +kernel
theorem dX0_compareWithConstant_9 : decode cX0_compareWithConstant 9 = .ok (.putfield 113, 3) := by decide +kernel
theorem dX0_compareWithConstant_12 : decode cX0_compareWithConstant 12 = .ok (.iload_n 1, 1) := by decide +kernel
theorem dX0_compareWithConstant_13 : decode cX0_compareWithConstant 13 = .ok (.ifCond .ge 9, 3) := by decide +kernel
theorem dX0_compareWithConstant_16 : decode cX0_compareWithConstant 16 = .ok (.aload_n 0, 1) := by decide +kernel
theorem dX0_compareWithConstant_17 : decode cX0_compareWithConstant 17 = .ok (.lconst 0, 1) := by decide +kernel
theorem dX0_compareWithConstant_18 : decode cX0_compareWithConstant 18 = .ok (.putfield 113, 3) := by decide +kernel
theorem dX0_compareWithConstant_21 : decode cX0_compareWithConstant 21 = .ok (.return_, 1) := by decide +kernel
theorem dX0_compareWithConstant_22 : decode cX0_compareWithConstant 22 = .ok (.iload_n 1, 1) := by decide +kernel
theorem dX0_compareWithConstant_23 : decode cX0_compareWithConstant 23 = .ok (.sipush 511, 3) := by decide +kernel
end
section
set_option maxRecDepth 100000
theorem dX0_compareWithConstant_26 : decode cX0_compareWithConstant 26 = .ok (.if_icmp .le 16, 3) := by decide +kernel
theorem dX0_compareWithConstant_29 : decode cX0_compareWithConstant 29 = .ok (.aload_n 0, 1) := by decide +kernel
theorem dX0_compareWithConstant_30 : decode cX0_compareWithConstant 30 = .ok (.ldc2_w 56, 3) := by decide +kernel
theorem dX0_compareWithConstant_33 : decode cX0_compareWithConstant 33 = .ok (.putfield 116, 3) := by decide +kernel
theorem dX0_compareWithConstant_36 : decode cX0_compareWithConstant 36 = .ok (.aload_n 0, 1) := by decide +kernel
theorem dX0_compareWithConstant_37 : decode cX0_compareWithConstant 37 = .ok (.lconst 0, 1) := by decide +kernel
theorem dX0_compareWithConstant_38 : decode cX0_compareWithConstant 38 = .ok (.putfield 113, 3) := by decide +kernel
theorem dX0_compareWithConstant_41 : decode cX0_compareWithConstant 41 = .ok (.return_, 1) := by decide +kernel
theorem dX0_compareWithConstant_42 : decode cX0_compareWithConstant 42 = .ok (.bipush 8, 2) := by decide +kernel
theorem dX0_compareWithConstant_44 : decode cX0_compareWithConstant 44 = .ok (.istore_n 2, 1) := by decide +kernel
theorem dX0_compareWithConstant_45 : decode cX0_compareWithConstant 45 = .ok (.iload_n 2, 1) := by decide +kernel
theorem dX0_compareWithConstant_46 : decode cX0_compareWithConstant 46 = .ok (.ifCond .lt 78, 3) := by decide +kernel
theorem dX0_compareWithConstant_49 : decode cX0_compareWithConstant 49 = .ok (.iload_n 1, 1) := by decide +kernel
theorem dX0_compareWithConstant_50 : decode cX0_compareWithConstant 50 = .ok (.iload_n 2, 1) := by decide +kernel
theorem dX0_compareWithConstant_51 : decode cX0_compareWithConstant 51 = .ok (.iushr, 1) := by decide +kernel
theorem dX0_compareWithConstant_52 : decode cX0_compareWithConstant 52 = .ok (.iconst 1, 1) := by decide +kernel
theorem dX0_compareWithConstant_53 : decode cX0_compareWithConstant 53 = .ok (.iand, 1) := by decide +kernel
theorem dX0_compareWithConstant_54 : decode cX0_compareWithConstant 54 = .ok (.ifCond .eq 45, 3) := by decide +kernel
theorem dX0_compareWithConstant_57 : decode cX0_compareWithConstant 57 = .ok (.aload_n 0, 1) := by decide +kernel
theorem dX0_compareWithConstant_58 : decode cX0_compareWithConstant 58 = .ok (.dup, 1) := by decide +kernel
theorem dX0_compareWithConstant_59 : decode cX0_compareWithConstant 59 = .ok (.getfield 116, 3) := by decide +kernel
theorem dX0_compareWithConstant_62 : decode cX0_compareWithConstant 62 = .ok (.aload_n 0, 1) := by decide +kernel
theorem dX0_compareWithConstant_63 : decode cX0_compareWithConstant 63 = .ok (.getfield 113, 3) := by decide +kernel
theorem dX0_compareWithConstant_66 : decode cX0_compareWithConstant 66 = .ok (.aload_n 0, 1) := by decide +kernel
theorem dX0_compareWithConstant_67 : decode cX0_compareWithConstant 67 = .ok (.getfield 36, 3) := by decide +kernel
theorem dX0_compareWithConstant_70 : decode cX0_compareWithConstant 70 = .ok (.iload_n 2, 1) := by decide +kernel
theorem dX0_compareWithConstant_71 : decode cX0_compareWithConstant 71 = .ok (.laload, 1) := by decide +kernel
theorem dX0_compareWithConstant_72 : decode cX0_compareWithConstant 72 = .ok (.ldc2_w 56, 3) := by decide +kernel
theorem dX0_compareWithConstant_75 : decode cX0_compareWithConstant 75 = .ok (.lxor, 1) := by decide +kernel
theorem dX0_compareWithConstant_76 : decode cX0_compareWithConstant 76 = .ok (.land, 1) := by decide +kernel
theorem dX0_compareWithConstant_77 : decode cX0_compareWithConstant 77 = .ok (.lor, 1) := by decide +kernel
theorem dX0_compareWithConstant_78 : decode cX0_compareWithConstant 78 = .ok (.putfield 116, 3) := by decide +kernel
theorem dX0_compareWithConstant_81 : decode cX0_compareWithConstant 81 = .ok (.aload_n 0, 1) := by decide +kernel
theorem dX0_compareWithConstant_82 : decode cX0_compareWithConstant 82 = .ok (.dup, 1) := by decide +kernel
theorem dX0_compareWithConstant_83 : decode cX0_compareWithConstant 83 = .ok (.getfield 113, 3) := by decide +kernel
theorem dX0_compareWithConstant_86 : decode cX0_compareWithConstant 86 = .ok (.aload_n 0, 1) := by decide +kernel
theorem dX0_compareWithConstant_87 : decode cX0_compareWithConstant 87 = .ok (.getfield 36, 3) := by decide +kernel
theorem dX0_compareWithConstant_90 : decode cX0_compareWithConstant 90 = .ok (.iload_n 2, 1) := by decide +kernel
theorem dX0_compareWithConstant_91 : decode cX0_compareWithConstant 91 = .ok (.laload, 1) := by decide +kernel
theorem dX0_compareWithConstant_92 : decode cX0_compareWithConstant 92 = .ok (.land, 1) := by decide +kernel
theorem dX0_compareWithConstant_93 : decode cX0_compareWithConstant 93 = .ok (.putfield 113, 3) := by decide +kernel
theorem dX0_compareWithConstant_96 : decode cX0_compareWithConstant 96 = .ok (.goto 22, 3) := by decide +kernel
theorem dX0_compareWithConstant_99 : decode cX0_compareWithConstant 99 = .ok (.aload_n 0, 1) := by decide +kernel
theorem dX0_compareWithConstant_100 : decode cX0_compareWithConstant 100 = .ok (.dup, 1) := by decide +kernel
theorem dX0_compareWithConstant_101 : decode cX0_compareWithConstant 101 = .ok (.getfield 113, 3) := by decide +kernel
theorem dX0_compareWithConstant_104 : decode cX0_compareWithConstant 104 = .ok (.aload_n 0, 1) := by decide +kernel
theorem dX0_compareWithConstant_105 : decode cX0_compareWithConstant 105 = .ok (.getfield 36, 3) := by decide +kernel
theorem dX0_compareWithConstant_108 : decode cX0_compareWithConstant 108 = .ok (.iload_n 2, 1) := by decide +kernel
theorem dX0_compareWithConstant_109 : decode cX0_compareWithConstant 109 = .ok (.laload, 1) := by decide +kernel
theorem dX0_compareWithConstant_110 : decode cX0_compareWithConstant 110 = .ok (.ldc2_w 56, 3) := by decide +kernel
theorem dX0_compareWithConstant_113 : decode cX0_compareWithConstant 113 = .ok (.lxor, 1) := by decide +kernel
theorem dX0_compareWithConstant_114 : decode cX0_compareWithConstant 114 = .ok (.land, 1) := by decide +kernel
theorem dX0_compareWithConstant_115 : decode cX0_compareWithConstant 115 = .ok (.putfield 113, 3) := by decide +kernel
theorem dX0_compareWithConstant_118 : decode cX0_compareWithConstant 118 = .ok (.iinc 2 (-1), 3) := by decide +kernel
theorem dX0_compareWithConstant_121 : decode cX0_compareWithConstant 121 = .ok (.goto (-76), 3) := by decide +kernel
theorem dX0_compareWithConstant_124 : decode cX0_compareWithConstant 124 = .ok (.return_, 1) := by decide +kernel
theorem dX0_compareColumns_0 : decode cX0_compareColumns 0 = .ok (.aload_n 0, 1) := by decide +kernel
theorem dX0_compareColumns_1 : decode cX0_compareColumns 1 = .ok (.lconst 0, 1) := by decide +kernel
theorem dX0_compareColumns_2 : decode cX0_compareColumns 2 = .ok (.putfield 116, 3) := by decide +kernel
theorem dX0_compareColumns_5 : decode cX0_compareColumns 5 = .ok (.aload_n 0, 1) := by decide +kernel
theorem dX0_compareColumns_6 : decode cX0_compareColumns 6 = .ok (.ldc2_w 56, 3) := by decide +kernel
theorem dX0_compareColumns_9 : decode cX0_compareColumns 9 = .ok (.putfield 113, 3) := by decide +kernel
theorem dX0_compareColumns_12 : decode cX0_compareColumns 12 = .ok (.bipush 7, 2) := by decide +kernel
theorem dX0_compareColumns_14 : decode cX0_compareColumns 14 = .ok (.istore_n 3, 1) := by decide +kernel
theorem dX0_compareColumns_15 : decode cX0_compareColumns 15 = .ok (.iload_n 3, 1) := by decide +kernel
theorem dX0_compareColumns_16 : decode cX0_compareColumns 16 = .ok (.ifCond .lt 76, 3) := by decide +kernel
theorem dX0_compareColumns_19 : decode cX0_compareColumns 19 = .ok (.aload_n 0, 1) := by decide +kernel
theorem dX0_compareColumns_20 : decode cX0_compareColumns 20 = .ok (.getfield 7, 3) := by decide +kernel
theorem dX0_compareColumns_23 : decode cX0_compareColumns 23 = .ok (.bipush 8, 2) := by decide +kernel
theorem dX0_compareColumns_25 : decode cX0_compareColumns 25 = .ok (.iload_n 1, 1) := by decide +kernel
theorem dX0_compareColumns_26 : decode cX0_compareColumns 26 = .ok (.imul, 1) := by decide +kernel
theorem dX0_compareColumns_27 : decode cX0_compareColumns 27 = .ok (.iload_n 3, 1) := by decide +kernel
theorem dX0_compareColumns_28 : decode cX0_compareColumns 28 = .ok (.iadd, 1) := by decide +kernel
theorem dX0_compareColumns_29 : decode cX0_compareColumns 29 = .ok (.laload, 1) := by decide +kernel
theorem dX0_compareColumns_30 : decode cX0_compareColumns 30 = .ok (.lstore 4, 2) := by decide +kernel
theorem dX0_compareColumns_32 : decode cX0_compareColumns 32 = .ok (.aload_n 0, 1) := by decide +kernel
theorem dX0_compareColumns_33 : decode cX0_compareColumns 33 = .ok (.getfield 7, 3) := by decide +kernel
theorem dX0_compareColumns_36 : decode cX0_compareColumns 36 = .ok (.bipush 8, 2) := by decide +kernel
theorem dX0_compareColumns_38 : decode cX0_compareColumns 38 = .ok (.iload_n 2, 1) := by decide +kernel
theorem dX0_compareColumns_39 : decode cX0_compareColumns 39 = .ok (.imul, 1) := by decide +kernel
theorem dX0_compareColumns_40 : decode cX0_compareColumns 40 = .ok (.iload_n 3, 1) := by decide +kernel
theorem dX0_compareColumns_41 : decode cX0_compareColumns 41 = .ok (.iadd, 1) := by decide +kernel
theorem dX0_compareColumns_42 : decode cX0_compareColumns 42 = .ok (.laload, 1) := by decide +kernel
theorem dX0_compareColumns_43 : decode cX0_compareColumns 43 = .ok (.lstore 6, 2) := by decide +kernel
theorem dX0_compareColumns_45 : decode cX0_compareColumns 45 = .ok (.aload_n 0, 1) := by decide +kernel
theorem dX0_compareColumns_46 : decode cX0_compareColumns 46 = .ok (.dup, 1) := by decide +kernel
theorem dX0_compareColumns_47 : decode cX0_compareColumns 47 = .ok (.getfield 116, 3) := by decide +kernel
theorem dX0_compareColumns_50 : decode cX0_compareColumns 50 = .ok (.aload_n 0, 1) := by decide +kernel
theorem dX0_compareColumns_51 : decode cX0_compareColumns 51 = .ok (.getfield 113, 3) := by decide +kernel
theorem dX0_compareColumns_54 : decode cX0_compareColumns 54 = .ok (.lload 4, 2) := by decide +kernel
theorem dX0_compareColumns_56 : decode cX0_compareColumns 56 = .ok (.ldc2_w 56, 3) := by decide +kernel
theorem dX0_compareColumns_59 : decode cX0_compareColumns 59 = .ok (.lxor, 1) := by decide +kernel
theorem dX0_compareColumns_60 : decode cX0_compareColumns 60 = .ok (.land, 1) := by decide +kernel
theorem dX0_compareColumns_61 : decode cX0_compareColumns 61 = .ok (.lload 6, 2) := by decide +kernel
theorem dX0_compareColumns_63 : decode cX0_compareColumns 63 = .ok (.land, 1) := by decide +kernel
theorem dX0_compareColumns_64 : decode cX0_compareColumns 64 = .ok (.lor, 1) := by decide +kernel
theorem dX0_compareColumns_65 : decode cX0_compareColumns 65 = .ok (.putfield 116, 3) := by decide +kernel
theorem dX0_compareColumns_68 : decode cX0_compareColumns 68 = .ok (.aload_n 0, 1) := by decide +kernel
theorem dX0_compareColumns_69 : decode cX0_compareColumns 69 = .ok (.dup, 1) := by decide +kernel
theorem dX0_compareColumns_70 : decode cX0_compareColumns 70 = .ok (.getfield 113, 3) := by decide +kernel
theorem dX0_compareColumns_73 : decode cX0_compareColumns 73 = .ok (.lload 4, 2) := by decide +kernel
theorem dX0_compareColumns_75 : decode cX0_compareColumns 75 = .ok (.lload 6, 2) := by decide +kernel
theorem dX0_compareColumns_77 : decode cX0_compareColumns 77 = .ok (.lxor, 1) := by decide +kernel
theorem dX0_compareColumns_78 : decode cX0_compareColumns 78 = .ok (.ldc2_w 56, 3) := by decide +kernel
theorem dX0_compareColumns_81 : decode cX0_compareColumns 81 = .ok (.lxor, 1) := by decide +kernel
theorem dX0_compareColumns_82 : decode cX0_compareColumns 82 = .ok (.land, 1) := by decide +kernel
theorem dX0_compareColumns_83 : decode cX0_compareColumns 83 = .ok (.putfield 113, 3) := by decide +kernel
theorem dX0_compareColumns_86 : decode cX0_compareColumns 86 = .ok (.iinc 3 (-1), 3) := by decide +kernel
theorem dX0_compareColumns_89 : decode cX0_compareColumns 89 = .ok (.goto (-74), 3) := by decide +kernel
theorem dX0_compareColumns_92 : decode cX0_compareColumns 92 = .ok (.return_, 1) := by decide +kernel
theorem dX0_addColumns_0 : decode cX0_addColumns 0 = .ok (.lconst 0, 1) := by decide +kernel
theorem dX0_addColumns_1 : decode cX0_addColumns 1 = .ok (.lstore_n 3, 1) := by decide +kernel
theorem dX0_addColumns_2 : decode cX0_addColumns 2 = .ok (.iconst 0, 1) := by decide +kernel
theorem dX0_addColumns_3 : decode cX0_addColumns 3 = .ok (.istore 5, 2) := by decide +kernel
theorem dX0_addColumns_5 : decode cX0_addColumns 5 = .ok (.iload 5, 2) := by decide +kernel
theorem dX0_addColumns_7 : decode cX0_addColumns 7 = .ok (.bipush 8, 2) := by decide +kernel
theorem dX0_addColumns_9 : decode cX0_addColumns 9 = .ok (.if_icmp .ge 65, 3) := by decide +kernel
theorem dX0_addColumns_12 : decode cX0_addColumns 12 = .ok (.aload_n 0, 1) := by decide +kernel
theorem dX0_addColumns_13 : decode cX0_addColumns 13 = .ok (.getfield 7, 3) := by decide +kernel
theorem dX0_addColumns_16 : decode cX0_addColumns 16 = .ok (.bipush 8, 2) := by decide +kernel
theorem dX0_addColumns_18 : decode cX0_addColumns 18 = .ok (.iload_n 1, 1) := by decide +kernel
theorem dX0_addColumns_19 : decode cX0_addColumns 19 = .ok (.imul, 1) := by decide +kernel
theorem dX0_addColumns_20 : decode cX0_addColumns 20 = .ok (.iload 5, 2) := by decide +kernel
theorem dX0_addColumns_22 : decode cX0_addColumns 22 = .ok (.iadd, 1) := by decide +kernel
theorem dX0_addColumns_23 : decode cX0_addColumns 23 = .ok (.laload, 1) := by decide +kernel
theorem dX0_addColumns_24 : decode cX0_addColumns 24 = .ok (.lstore 6, 2) := by decide +kernel
theorem dX0_addColumns_26 : decode cX0_addColumns 26 = .ok (.aload_n 0, 1) := by decide +kernel
theorem dX0_addColumns_27 : decode cX0_addColumns 27 = .ok (.getfield 7, 3) := by decide +kernel
theorem dX0_addColumns_30 : decode cX0_addColumns 30 = .ok (.bipush 8, 2) := by decide +kernel
theorem dX0_addColumns_32 : decode cX0_addColumns 32 = .ok (.iload_n 2, 1) := by decide +kernel
theorem dX0_addColumns_33 : decode cX0_addColumns 33 = .ok (.imul, 1) := by decide +kernel
theorem dX0_addColumns_34 : decode cX0_addColumns 34 = .ok (.iload 5, 2) := by decide +kernel
theorem dX0_addColumns_36 : decode cX0_addColumns 36 = .ok (.iadd, 1) := by decide +kernel
theorem dX0_addColumns_37 : decode cX0_addColumns 37 = .ok (.laload, 1) := by decide +kernel
theorem dX0_addColumns_38 : decode cX0_addColumns 38 = .ok (.lstore 8, 2) := by decide +kernel
theorem dX0_addColumns_40 : decode cX0_addColumns 40 = .ok (.aload_n 0, 1) := by decide +kernel
theorem dX0_addColumns_41 : decode cX0_addColumns 41 = .ok (.getfield 36, 3) := by decide +kernel
theorem dX0_addColumns_44 : decode cX0_addColumns 44 = .ok (.iload 5, 2) := by decide +kernel
theorem dX0_addColumns_46 : decode cX0_addColumns 46 = .ok (.lload 6, 2) := by decide +kernel
theorem dX0_addColumns_48 : decode cX0_addColumns 48 = .ok (.lload 8, 2) := by decide +kernel
theorem dX0_addColumns_50 : decode cX0_addColumns 50 = .ok (.lxor, 1) := by decide +kernel
theorem dX0_addColumns_51 : decode cX0_addColumns 51 = .ok (.lload_n 3, 1) := by decide +kernel
theorem dX0_addColumns_52 : decode cX0_addColumns 52 = .ok (.lxor, 1) := by decide +kernel
theorem dX0_addColumns_53 : decode cX0_addColumns 53 = .ok (.lastore, 1) := by decide +kernel
theorem dX0_addColumns_54 : decode cX0_addColumns 54 = .ok (.lload 6, 2) := by decide +kernel
theorem dX0_addColumns_56 : decode cX0_addColumns 56 = .ok (.lload 8, 2) := by decide +kernel
theorem dX0_addColumns_58 : decode cX0_addColumns 58 = .ok (.land, 1) := by decide +kernel
theorem dX0_addColumns_59 : decode cX0_addColumns 59 = .ok (.lload 6, 2) := by decide +kernel
theorem dX0_addColumns_61 : decode cX0_addColumns 61 = .ok (.lload 8, 2) := by decide +kernel
theorem dX0_addColumns_63 : decode cX0_addColumns 63 = .ok (.lxor, 1) := by decide +kernel
theorem dX0_addColumns_64 : decode cX0_addColumns 64 = .ok (.lload_n 3, 1) := by decide +kernel
theorem dX0_addColumns_65 : decode cX0_addColumns 65 = .ok (.land, 1) := by decide +kernel
theorem dX0_addColumns_66 : decode cX0_addColumns 66 = .ok (.lor, 1) := by decide +kernel
theorem dX0_addColumns_67 : decode cX0_addColumns 67 = .ok (.lstore_n 3, 1) := by decide +kernel
theorem dX0_addColumns_68 : decode cX0_addColumns 68 = .ok (.iinc 5 1, 3) := by decide +kernel
theorem dX0_addColumns_71 : decode cX0_addColumns 71 = .ok (.goto (-66), 3) := by decide +kernel
theorem dX0_addColumns_74 : decode cX0_addColumns 74 = .ok (.aload_n 0, 1) := by decide +kernel
theorem dX0_addColumns_75 : decode cX0_addColumns 75 = .ok (.getfield 36, 3) := by decide +kernel
theorem dX0_addColumns_78 : decode cX0_addColumns 78 = .ok (.bipush 8, 2) := by decide +kernel
theorem dX0_addColumns_80 : decode cX0_addColumns 80 = .ok (.lload_n 3, 1) := by decide +kernel
theorem dX0_addColumns_81 : decode cX0_addColumns 81 = .ok (.lastore, 1) := by decide +kernel
theorem dX0_addColumns_82 : decode cX0_addColumns 82 = .ok (.return_, 1) := by decide +kernel
theorem dX0_chosen_0 : decode cX0_chosen 0 = .ok (.iload_n 1, 1) := by decide +kernel
theorem dX0_chosen_1 : decode cX0_chosen 1 = .ok (.ifCond .ne 8, 3) := by decide +kernel
theorem dX0_chosen_4 : decode cX0_chosen 4 = .ok (.aload_n 0, 1) := by decide +kernel
theorem dX0_chosen_5 : decode cX0_chosen 5 = .ok (.getfield 113, 3) := by decide +kernel
theorem dX0_chosen_8 : decode cX0_chosen 8 = .ok (.lreturn, 1) := by decide +kernel
theorem dX0_chosen_9 : decode cX0_chosen 9 = .ok (.iload_n 1, 1) := by decide +kernel
theorem dX0_chosen_10 : decode cX0_chosen 10 = .ok (.iconst 1, 1) := by decide +kernel
theorem dX0_chosen_11 : decode cX0_chosen 11 = .ok (.if_icmp .ne 8, 3) := by decide +kernel
theorem dX0_chosen_14 : decode cX0_chosen 14 = .ok (.aload_n 0, 1) := by decide +kernel
theorem dX0_chosen_15 : decode cX0_chosen 15 = .ok (.getfield 116, 3) := by decide +kernel
theorem dX0_chosen_18 : decode cX0_chosen 18 = .ok (.lreturn, 1) := by decide +kernel
theorem dX0_chosen_19 : decode cX0_chosen 19 = .ok (.iload_n 1, 1) := by decide +kernel
theorem dX0_chosen_20 : decode cX0_chosen 20 = .ok (.iconst 2, 1) := by decide +kernel
theorem dX0_chosen_21 : decode cX0_chosen 21 = .ok (.if_icmp .ne 13, 3) := by decide +kernel
theorem dX0_chosen_24 : decode cX0_chosen 24 = .ok (.aload_n 0, 1) := by decide +kernel
theorem dX0_chosen_25 : decode cX0_chosen 25 = .ok (.getfield 116, 3) := by decide +kernel
theorem dX0_chosen_28 : decode cX0_chosen 28 = .ok (.aload_n 0, 1) := by decide +kernel
theorem dX0_chosen_29 : decode cX0_chosen 29 = .ok (.getfield 113, 3) := by decide +kernel
theorem dX0_chosen_32 : decode cX0_chosen 32 = .ok (.lor, 1) := by decide +kernel
theorem dX0_chosen_33 : decode cX0_chosen 33 = .ok (.lreturn, 1) := by decide +kernel
theorem dX0_chosen_34 : decode cX0_chosen 34 = .ok (.iload_n 1, 1) := by decide +kernel
theorem dX0_chosen_35 : decode cX0_chosen 35 = .ok (.iconst 3, 1) := by decide +kernel
theorem dX0_chosen_36 : decode cX0_chosen 36 = .ok (.if_icmp .ne 12, 3) := by decide +kernel
theorem dX0_chosen_39 : decode cX0_chosen 39 = .ok (.aload_n 0, 1) := by decide +kernel
theorem dX0_chosen_40 : decode cX0_chosen 40 = .ok (.getfield 113, 3) := by decide +kernel
theorem dX0_chosen_43 : decode cX0_chosen 43 = .ok (.ldc2_w 56, 3) := by decide +kernel
theorem dX0_chosen_46 : decode cX0_chosen 46 = .ok (.lxor, 1) := by decide +kernel
theorem dX0_chosen_47 : decode cX0_chosen 47 = .ok (.lreturn, 1) := by decide +kernel
theorem dX0_chosen_48 : decode cX0_chosen 48 = .ok (.iload_n 1, 1) := by decide +kernel
theorem dX0_chosen_49 : decode cX0_chosen 49 = .ok (.iconst 4, 1) := by decide +kernel
theorem dX0_chosen_50 : decode cX0_chosen 50 = .ok (.if_icmp .ne 14, 3) := by decide +kernel
theorem dX0_chosen_53 : decode cX0_chosen 53 = .ok (.aload_n 0, 1) := by decide +kernel
theorem dX0_chosen_54 : decode cX0_chosen 54 = .ok (.getfield 116, 3) := by decide +kernel
theorem dX0_chosen_57 : decode cX0_chosen 57 = .ok (.ldc2_w 56, 3) := by decide +kernel
theorem dX0_chosen_60 : decode cX0_chosen 60 = .ok (.lxor, 1) := by decide +kernel
theorem dX0_chosen_61 : decode cX0_chosen 61 = .ok (.goto 16, 3) := by decide +kernel
theorem dX0_chosen_64 : decode cX0_chosen 64 = .ok (.aload_n 0, 1) := by decide +kernel
theorem dX0_chosen_65 : decode cX0_chosen 65 = .ok (.getfield 116, 3) := by decide +kernel
theorem dX0_chosen_68 : decode cX0_chosen 68 = .ok (.aload_n 0, 1) := by decide +kernel
theorem dX0_chosen_69 : decode cX0_chosen 69 = .ok (.getfield 113, 3) := by decide +kernel
theorem dX0_chosen_72 : decode cX0_chosen 72 = .ok (.lor, 1) := by decide +kernel
theorem dX0_chosen_73 : decode cX0_chosen 73 = .ok (.ldc2_w 56, 3) := by decide +kernel
theorem dX0_chosen_76 : decode cX0_chosen 76 = .ok (.lxor, 1) := by decide +kernel
theorem dX0_chosen_77 : decode cX0_chosen 77 = .ok (.lreturn, 1) := by decide +kernel
theorem dX0_ones_0 : decode cX0_ones 0 = .ok (.lload_n 0, 1) := by decide +kernel
theorem dX0_ones_1 : decode cX0_ones 1 = .ok (.lload_n 0, 1) := by decide +kernel
theorem dX0_ones_2 : decode cX0_ones 2 = .ok (.iconst 1, 1) := by decide +kernel
theorem dX0_ones_3 : decode cX0_ones 3 = .ok (.lushr, 1) := by decide +kernel
theorem dX0_ones_4 : decode cX0_ones 4 = .ok (.ldc2_w 85, 3) := by decide +kernel
theorem dX0_ones_7 : decode cX0_ones 7 = .ok (.land, 1) := by decide +kernel
theorem dX0_ones_8 : decode cX0_ones 8 = .ok (.lsub, 1) := by decide +kernel
theorem dX0_ones_9 : decode cX0_ones 9 = .ok (.lstore_n 2, 1) := by decide +kernel
theorem dX0_ones_10 : decode cX0_ones 10 = .ok (.lload_n 2, 1) := by decide +kernel
theorem dX0_ones_11 : decode cX0_ones 11 = .ok (.ldc2_w 87, 3) := by decide +kernel
theorem dX0_ones_14 : decode cX0_ones 14 = .ok (.land, 1) := by decide +kernel
theorem dX0_ones_15 : decode cX0_ones 15 = .ok (.lload_n 2, 1) := by decide +kernel
theorem dX0_ones_16 : decode cX0_ones 16 = .ok (.iconst 2, 1) := by decide +kernel
theorem dX0_ones_17 : decode cX0_ones 17 = .ok (.lushr, 1) := by decide +kernel
theorem dX0_ones_18 : decode cX0_ones 18 = .ok (.ldc2_w 87, 3) := by decide +kernel
theorem dX0_ones_21 : decode cX0_ones 21 = .ok (.land, 1) := by decide +kernel
theorem dX0_ones_22 : decode cX0_ones 22 = .ok (.ladd, 1) := by decide +kernel
theorem dX0_ones_23 : decode cX0_ones 23 = .ok (.lstore_n 2, 1) := by decide +kernel
theorem dX0_ones_24 : decode cX0_ones 24 = .ok (.lload_n 2, 1) := by decide +kernel
theorem dX0_ones_25 : decode cX0_ones 25 = .ok (.lload_n 2, 1) := by decide +kernel
theorem dX0_ones_26 : decode cX0_ones 26 = .ok (.iconst 4, 1) := by decide +kernel
theorem dX0_ones_27 : decode cX0_ones 27 = .ok (.lushr, 1) := by decide +kernel
theorem dX0_ones_28 : decode cX0_ones 28 = .ok (.ladd, 1) := by decide +kernel
theorem dX0_ones_29 : decode cX0_ones 29 = .ok (.ldc2_w 89, 3) := by decide +kernel
theorem dX0_ones_32 : decode cX0_ones 32 = .ok (.land, 1) := by decide +kernel
theorem dX0_ones_33 : decode cX0_ones 33 = .ok (.lstore_n 2, 1) := by decide +kernel
theorem dX0_ones_34 : decode cX0_ones 34 = .ok (.lload_n 2, 1) := by decide +kernel
theorem dX0_ones_35 : decode cX0_ones 35 = .ok (.ldc2_w 91, 3) := by decide +kernel
theorem dX0_ones_38 : decode cX0_ones 38 = .ok (.lmul, 1) := by decide +kernel
theorem dX0_ones_39 : decode cX0_ones 39 = .ok (.bipush 56, 2) := by decide +kernel
theorem dX0_ones_41 : decode cX0_ones 41 = .ok (.lushr, 1) := by decide +kernel
theorem dX0_ones_42 : decode cX0_ones 42 = .ok (.l2i, 1) := by decide +kernel
theorem dX0_ones_43 : decode cX0_ones 43 = .ok (.ireturn, 1) := by decide +kernel
theorem dX0_row_0 : decode cX0_row 0 = .ok (.aload_n 0, 1) := by decide +kernel
theorem dX0_row_1 : decode cX0_row 1 = .ok (.iload_n 1, 1) := by decide +kernel
theorem dX0_row_2 : decode cX0_row 2 = .ok (.invokevirtual 70, 3) := by decide +kernel
theorem dX0_row_5 : decode cX0_row 5 = .ok (.ifCond .eq 7, 3) := by decide +kernel
theorem dX0_row_8 : decode cX0_row 8 = .ok (.iload_n 2, 1) := by decide +kernel
theorem dX0_row_9 : decode cX0_row 9 = .ok (.ifCond .ge 5, 3) := by decide +kernel
theorem dX0_row_12 : decode cX0_row 12 = .ok (.iconst (-1), 1) := by decide +kernel
theorem dX0_row_13 : decode cX0_row 13 = .ok (.ireturn, 1) := by decide +kernel
theorem dX0_row_14 : decode cX0_row 14 = .ok (.aload_n 0, 1) := by decide +kernel
theorem dX0_row_15 : decode cX0_row 15 = .ok (.iload_n 1, 1) := by decide +kernel
theorem dX0_row_16 : decode cX0_row 16 = .ok (.invokevirtual 73, 3) := by decide +kernel
theorem dX0_row_19 : decode cX0_row 19 = .ok (.lstore_n 3, 1) := by decide +kernel
theorem dX0_row_20 : decode cX0_row 20 = .ok (.iload_n 2, 1) := by decide +kernel
theorem dX0_row_21 : decode cX0_row 21 = .ok (.lload_n 3, 1) := by decide +kernel
theorem dX0_row_22 : decode cX0_row 22 = .ok (.invokestatic 77, 3) := by decide +kernel
theorem dX0_row_25 : decode cX0_row 25 = .ok (.if_icmp .lt 5, 3) := by decide +kernel
theorem dX0_row_28 : decode cX0_row 28 = .ok (.iconst (-1), 1) := by decide +kernel
theorem dX0_row_29 : decode cX0_row 29 = .ok (.ireturn, 1) := by decide +kernel
theorem dX0_row_30 : decode cX0_row 30 = .ok (.iconst 0, 1) := by decide +kernel
theorem dX0_row_31 : decode cX0_row 31 = .ok (.istore 5, 2) := by decide +kernel
theorem dX0_row_33 : decode cX0_row 33 = .ok (.iload_n 2, 1) := by decide +kernel
theorem dX0_row_34 : decode cX0_row 34 = .ok (.istore 6, 2) := by decide +kernel
theorem dX0_row_36 : decode cX0_row 36 = .ok (.bipush 32, 2) := by decide +kernel
theorem dX0_row_38 : decode cX0_row 38 = .ok (.istore 7, 2) := by decide +kernel
theorem dX0_row_40 : decode cX0_row 40 = .ok (.iload 7, 2) := by decide +kernel
theorem dX0_row_42 : decode cX0_row 42 = .ok (.ifCond .le 53, 3) := by decide +kernel
theorem dX0_row_45 : decode cX0_row 45 = .ok (.lload_n 3, 1) := by decide +kernel
theorem dX0_row_46 : decode cX0_row 46 = .ok (.iload 5, 2) := by decide +kernel
theorem dX0_row_48 : decode cX0_row 48 = .ok (.lushr, 1) := by decide +kernel
theorem dX0_row_49 : decode cX0_row 49 = .ok (.lconst 1, 1) := by decide +kernel
theorem dX0_row_50 : decode cX0_row 50 = .ok (.iload 7, 2) := by decide +kernel
theorem dX0_row_52 : decode cX0_row 52 = .ok (.lshl, 1) := by decide +kernel
theorem dX0_row_53 : decode cX0_row 53 = .ok (.lconst 1, 1) := by decide +kernel
theorem dX0_row_54 : decode cX0_row 54 = .ok (.lsub, 1) := by decide +kernel
theorem dX0_row_55 : decode cX0_row 55 = .ok (.land, 1) := by decide +kernel
theorem dX0_row_56 : decode cX0_row 56 = .ok (.lstore 8, 2) := by decide +kernel
theorem dX0_row_58 : decode cX0_row 58 = .ok (.lload 8, 2) := by decide +kernel
theorem dX0_row_60 : decode cX0_row 60 = .ok (.invokestatic 77, 3) := by decide +kernel
theorem dX0_row_63 : decode cX0_row 63 = .ok (.istore 10, 2) := by decide +kernel
theorem dX0_row_65 : decode cX0_row 65 = .ok (.iload 6, 2) := by decide +kernel
theorem dX0_row_67 : decode cX0_row 67 = .ok (.iload 10, 2) := by decide +kernel
theorem dX0_row_69 : decode cX0_row 69 = .ok (.if_icmp .lt 17, 3) := by decide +kernel
theorem dX0_row_72 : decode cX0_row 72 = .ok (.iload 6, 2) := by decide +kernel
theorem dX0_row_74 : decode cX0_row 74 = .ok (.iload 10, 2) := by decide +kernel
theorem dX0_row_76 : decode cX0_row 76 = .ok (.isub, 1) := by decide +kernel
theorem dX0_row_77 : decode cX0_row 77 = .ok (.istore 6, 2) := by decide +kernel
theorem dX0_row_79 : decode cX0_row 79 = .ok (.iload 5, 2) := by decide +kernel
theorem dX0_row_81 : decode cX0_row 81 = .ok (.iload 7, 2) := by decide +kernel
theorem dX0_row_83 : decode cX0_row 83 = .ok (.iadd, 1) := by decide +kernel
theorem dX0_row_84 : decode cX0_row 84 = .ok (.istore 5, 2) := by decide +kernel
theorem dX0_row_86 : decode cX0_row 86 = .ok (.iload 7, 2) := by decide +kernel
theorem dX0_row_88 : decode cX0_row 88 = .ok (.iconst 2, 1) := by decide +kernel
theorem dX0_row_89 : decode cX0_row 89 = .ok (.idiv, 1) := by decide +kernel
theorem dX0_row_90 : decode cX0_row 90 = .ok (.istore 7, 2) := by decide +kernel
theorem dX0_row_92 : decode cX0_row 92 = .ok (.goto (-52), 3) := by decide +kernel
theorem dX0_row_95 : decode cX0_row 95 = .ok (.iload 5, 2) := by decide +kernel
theorem dX0_row_97 : decode cX0_row 97 = .ok (.ireturn, 1) := by decide +kernel
theorem dX0_sum_0 : decode cX0_sum 0 = .ok (.iload_n 2, 1) := by decide +kernel
theorem dX0_sum_1 : decode cX0_sum 1 = .ok (.invokestatic 58, 3) := by decide +kernel
theorem dX0_sum_4 : decode cX0_sum 4 = .ok (.ifCond .eq 11, 3) := by decide +kernel
theorem dX0_sum_7 : decode cX0_sum 7 = .ok (.aload_n 0, 1) := by decide +kernel
theorem dX0_sum_8 : decode cX0_sum 8 = .ok (.iload_n 1, 1) := by decide +kernel
theorem dX0_sum_9 : decode cX0_sum 9 = .ok (.invokevirtual 70, 3) := by decide +kernel
theorem dX0_sum_12 : decode cX0_sum 12 = .ok (.ifCond .ne 5, 3) := by decide +kernel
theorem dX0_sum_15 : decode cX0_sum 15 = .ok (.iconst (-1), 1) := by decide +kernel
theorem dX0_sum_16 : decode cX0_sum 16 = .ok (.ireturn, 1) := by decide +kernel
theorem dX0_sum_17 : decode cX0_sum 17 = .ok (.aload_n 0, 1) := by decide +kernel
theorem dX0_sum_18 : decode cX0_sum 18 = .ok (.iload_n 1, 1) := by decide +kernel
theorem dX0_sum_19 : decode cX0_sum 19 = .ok (.invokevirtual 73, 3) := by decide +kernel
theorem dX0_sum_22 : decode cX0_sum 22 = .ok (.lstore_n 3, 1) := by decide +kernel
theorem dX0_sum_23 : decode cX0_sum 23 = .ok (.iconst 0, 1) := by decide +kernel
theorem dX0_sum_24 : decode cX0_sum 24 = .ok (.istore 5, 2) := by decide +kernel
theorem dX0_sum_26 : decode cX0_sum 26 = .ok (.bipush 7, 2) := by decide +kernel
theorem dX0_sum_28 : decode cX0_sum 28 = .ok (.istore 6, 2) := by decide +kernel
theorem dX0_sum_30 : decode cX0_sum 30 = .ok (.iload 6, 2) := by decide +kernel
theorem dX0_sum_32 : decode cX0_sum 32 = .ok (.ifCond .lt 37, 3) := by decide +kernel
theorem dX0_sum_35 : decode cX0_sum 35 = .ok (.lload_n 3, 1) := by decide +kernel
theorem dX0_sum_36 : decode cX0_sum 36 = .ok (.aload_n 0, 1) := by decide +kernel
theorem dX0_sum_37 : decode cX0_sum 37 = .ok (.getfield 7, 3) := by decide +kernel
theorem dX0_sum_40 : decode cX0_sum 40 = .ok (.bipush 8, 2) := by decide +kernel
theorem dX0_sum_42 : decode cX0_sum 42 = .ok (.iload_n 2, 1) := by decide +kernel
theorem dX0_sum_43 : decode cX0_sum 43 = .ok (.imul, 1) := by decide +kernel
theorem dX0_sum_44 : decode cX0_sum 44 = .ok (.iload 6, 2) := by decide +kernel
theorem dX0_sum_46 : decode cX0_sum 46 = .ok (.iadd, 1) := by decide +kernel
theorem dX0_sum_47 : decode cX0_sum 47 = .ok (.laload, 1) := by decide +kernel
theorem dX0_sum_48 : decode cX0_sum 48 = .ok (.land, 1) := by decide +kernel
theorem dX0_sum_49 : decode cX0_sum 49 = .ok (.invokestatic 77, 3) := by decide +kernel
theorem dX0_sum_52 : decode cX0_sum 52 = .ok (.istore 7, 2) := by decide +kernel
theorem dX0_sum_54 : decode cX0_sum 54 = .ok (.iconst 2, 1) := by decide +kernel
theorem dX0_sum_55 : decode cX0_sum 55 = .ok (.iload 5, 2) := by decide +kernel
theorem dX0_sum_57 : decode cX0_sum 57 = .ok (.imul, 1) := by decide +kernel
theorem dX0_sum_58 : decode cX0_sum 58 = .ok (.iload 7, 2) := by decide +kernel
theorem dX0_sum_60 : decode cX0_sum 60 = .ok (.iadd, 1) := by decide +kernel
theorem dX0_sum_61 : decode cX0_sum 61 = .ok (.istore 5, 2) := by decide +kernel
theorem dX0_sum_63 : decode cX0_sum 63 = .ok (.iinc 6 (-1), 3) := by decide +kernel
theorem dX0_sum_66 : decode cX0_sum 66 = .ok (.goto (-36), 3) := by decide +kernel
theorem dX0_sum_69 : decode cX0_sum 69 = .ok (.iload 5, 2) := by decide +kernel
theorem dX0_sum_71 : decode cX0_sum 71 = .ok (.ireturn, 1) := by decide +kernel
theorem dX0_ranked_0 : decode cX0_ranked 0 = .ok (.iload_n 2, 1) := by decide +kernel
theorem dX0_ranked_1 : decode cX0_ranked 1 = .ok (.invokestatic 58, 3) := by decide +kernel
theorem dX0_ranked_4 : decode cX0_ranked 4 = .ok (.ifCond .eq 15, 3) := by decide +kernel
theorem dX0_ranked_7 : decode cX0_ranked 7 = .ok (.aload_n 0, 1) := by decide +kernel
theorem dX0_ranked_8 : decode cX0_ranked 8 = .ok (.iload_n 1, 1) := by decide +kernel
theorem dX0_ranked_9 : decode cX0_ranked 9 = .ok (.invokevirtual 70, 3) := by decide +kernel
theorem dX0_ranked_12 : decode cX0_ranked 12 = .ok (.ifCond .eq 7, 3) := by decide +kernel
theorem dX0_ranked_15 : decode cX0_ranked 15 = .ok (.iload_n 3, 1) := by decide +kernel
theorem dX0_ranked_16 : decode cX0_ranked 16 = .ok (.ifCond .ge 5, 3) := by decide +kernel
theorem dX0_ranked_19 : decode cX0_ranked 19 = .ok (.iconst (-1), 1) := by decide +kernel
theorem dX0_ranked_20 : decode cX0_ranked 20 = .ok (.ireturn, 1) := by decide +kernel
theorem dX0_ranked_21 : decode cX0_ranked 21 = .ok (.aload_n 0, 1) := by decide +kernel
theorem dX0_ranked_22 : decode cX0_ranked 22 = .ok (.iload_n 1, 1) := by decide +kernel
theorem dX0_ranked_23 : decode cX0_ranked 23 = .ok (.invokevirtual 73, 3) := by decide +kernel
theorem dX0_ranked_26 : decode cX0_ranked 26 = .ok (.lstore 4, 2) := by decide +kernel
theorem dX0_ranked_28 : decode cX0_ranked 28 = .ok (.iload_n 3, 1) := by decide +kernel
theorem dX0_ranked_29 : decode cX0_ranked 29 = .ok (.lload 4, 2) := by decide +kernel
theorem dX0_ranked_31 : decode cX0_ranked 31 = .ok (.invokestatic 77, 3) := by decide +kernel
theorem dX0_ranked_34 : decode cX0_ranked 34 = .ok (.if_icmp .lt 5, 3) := by decide +kernel
theorem dX0_ranked_37 : decode cX0_ranked 37 = .ok (.iconst (-1), 1) := by decide +kernel
theorem dX0_ranked_38 : decode cX0_ranked 38 = .ok (.ireturn, 1) := by decide +kernel
theorem dX0_ranked_39 : decode cX0_ranked 39 = .ok (.iload_n 3, 1) := by decide +kernel
theorem dX0_ranked_40 : decode cX0_ranked 40 = .ok (.istore 6, 2) := by decide +kernel
theorem dX0_ranked_42 : decode cX0_ranked 42 = .ok (.iconst 0, 1) := by decide +kernel
theorem dX0_ranked_43 : decode cX0_ranked 43 = .ok (.istore 7, 2) := by decide +kernel
theorem dX0_ranked_45 : decode cX0_ranked 45 = .ok (.bipush 7, 2) := by decide +kernel
theorem dX0_ranked_47 : decode cX0_ranked 47 = .ok (.istore 8, 2) := by decide +kernel
theorem dX0_ranked_49 : decode cX0_ranked 49 = .ok (.iload 8, 2) := by decide +kernel
theorem dX0_ranked_51 : decode cX0_ranked 51 = .ok (.ifCond .lt 84, 3) := by decide +kernel
theorem dX0_ranked_54 : decode cX0_ranked 54 = .ok (.lload 4, 2) := by decide +kernel
theorem dX0_ranked_56 : decode cX0_ranked 56 = .ok (.aload_n 0, 1) := by decide +kernel
theorem dX0_ranked_57 : decode cX0_ranked 57 = .ok (.getfield 7, 3) := by decide +kernel
theorem dX0_ranked_60 : decode cX0_ranked 60 = .ok (.bipush 8, 2) := by decide +kernel
theorem dX0_ranked_62 : decode cX0_ranked 62 = .ok (.iload_n 2, 1) := by decide +kernel
theorem dX0_ranked_63 : decode cX0_ranked 63 = .ok (.imul, 1) := by decide +kernel
theorem dX0_ranked_64 : decode cX0_ranked 64 = .ok (.iload 8, 2) := by decide +kernel
theorem dX0_ranked_66 : decode cX0_ranked 66 = .ok (.iadd, 1) := by decide +kernel
theorem dX0_ranked_67 : decode cX0_ranked 67 = .ok (.laload, 1) := by decide +kernel
theorem dX0_ranked_68 : decode cX0_ranked 68 = .ok (.ldc2_w 56, 3) := by decide +kernel
theorem dX0_ranked_71 : decode cX0_ranked 71 = .ok (.lxor, 1) := by decide +kernel
theorem dX0_ranked_72 : decode cX0_ranked 72 = .ok (.land, 1) := by decide +kernel
theorem dX0_ranked_73 : decode cX0_ranked 73 = .ok (.lstore 9, 2) := by decide +kernel
theorem dX0_ranked_75 : decode cX0_ranked 75 = .ok (.lload 9, 2) := by decide +kernel
theorem dX0_ranked_77 : decode cX0_ranked 77 = .ok (.invokestatic 77, 3) := by decide +kernel
theorem dX0_ranked_80 : decode cX0_ranked 80 = .ok (.istore 11, 2) := by decide +kernel
theorem dX0_ranked_82 : decode cX0_ranked 82 = .ok (.iload 6, 2) := by decide +kernel
theorem dX0_ranked_84 : decode cX0_ranked 84 = .ok (.iload 11, 2) := by decide +kernel
theorem dX0_ranked_86 : decode cX0_ranked 86 = .ok (.if_icmp .ge 10, 3) := by decide +kernel
theorem dX0_ranked_89 : decode cX0_ranked 89 = .ok (.lload 9, 2) := by decide +kernel
theorem dX0_ranked_91 : decode cX0_ranked 91 = .ok (.lstore 4, 2) := by decide +kernel
theorem dX0_ranked_93 : decode cX0_ranked 93 = .ok (.goto 36, 3) := by decide +kernel
theorem dX0_ranked_96 : decode cX0_ranked 96 = .ok (.iload 6, 2) := by decide +kernel
theorem dX0_ranked_98 : decode cX0_ranked 98 = .ok (.iload 11, 2) := by decide +kernel
theorem dX0_ranked_100 : decode cX0_ranked 100 = .ok (.isub, 1) := by decide +kernel
theorem dX0_ranked_101 : decode cX0_ranked 101 = .ok (.istore 6, 2) := by decide +kernel
theorem dX0_ranked_103 : decode cX0_ranked 103 = .ok (.lload 4, 2) := by decide +kernel
theorem dX0_ranked_105 : decode cX0_ranked 105 = .ok (.aload_n 0, 1) := by decide +kernel
theorem dX0_ranked_106 : decode cX0_ranked 106 = .ok (.getfield 7, 3) := by decide +kernel
theorem dX0_ranked_109 : decode cX0_ranked 109 = .ok (.bipush 8, 2) := by decide +kernel
theorem dX0_ranked_111 : decode cX0_ranked 111 = .ok (.iload_n 2, 1) := by decide +kernel
theorem dX0_ranked_112 : decode cX0_ranked 112 = .ok (.imul, 1) := by decide +kernel
theorem dX0_ranked_113 : decode cX0_ranked 113 = .ok (.iload 8, 2) := by decide +kernel
theorem dX0_ranked_115 : decode cX0_ranked 115 = .ok (.iadd, 1) := by decide +kernel
theorem dX0_ranked_116 : decode cX0_ranked 116 = .ok (.laload, 1) := by decide +kernel
theorem dX0_ranked_117 : decode cX0_ranked 117 = .ok (.land, 1) := by decide +kernel
theorem dX0_ranked_118 : decode cX0_ranked 118 = .ok (.lstore 4, 2) := by decide +kernel
theorem dX0_ranked_120 : decode cX0_ranked 120 = .ok (.iload 7, 2) := by decide +kernel
theorem dX0_ranked_122 : decode cX0_ranked 122 = .ok (.iconst 1, 1) := by decide +kernel
theorem dX0_ranked_123 : decode cX0_ranked 123 = .ok (.iload 8, 2) := by decide +kernel
theorem dX0_ranked_125 : decode cX0_ranked 125 = .ok (.ishl, 1) := by decide +kernel
theorem dX0_ranked_126 : decode cX0_ranked 126 = .ok (.ior, 1) := by decide +kernel
theorem dX0_ranked_127 : decode cX0_ranked 127 = .ok (.istore 7, 2) := by decide +kernel
theorem dX0_ranked_129 : decode cX0_ranked 129 = .ok (.iinc 8 (-1), 3) := by decide +kernel
theorem dX0_ranked_132 : decode cX0_ranked 132 = .ok (.goto (-83), 3) := by decide +kernel
theorem dX0_ranked_135 : decode cX0_ranked 135 = .ok (.iload 7, 2) := by decide +kernel
theorem dX0_ranked_137 : decode cX0_ranked 137 = .ok (.ireturn, 1) := by decide +kernel
theorem dX0_different_0 : decode cX0_different 0 = .ok (.iload_n 2, 1) := by decide +kernel
theorem dX0_different_1 : decode cX0_different 1 = .ok (.invokestatic 58, 3) := by decide +kernel
theorem dX0_different_4 : decode cX0_different 4 = .ok (.ifCond .eq 11, 3) := by decide +kernel
theorem dX0_different_7 : decode cX0_different 7 = .ok (.aload_n 0, 1) := by decide +kernel
theorem dX0_different_8 : decode cX0_different 8 = .ok (.iload_n 1, 1) := by decide +kernel
theorem dX0_different_9 : decode cX0_different 9 = .ok (.invokevirtual 70, 3) := by decide +kernel
theorem dX0_different_12 : decode cX0_different 12 = .ok (.ifCond .ne 5, 3) := by decide +kernel
theorem dX0_different_15 : decode cX0_different 15 = .ok (.iconst (-1), 1) := by decide +kernel
theorem dX0_different_16 : decode cX0_different 16 = .ok (.ireturn, 1) := by decide +kernel
theorem dX0_different_17 : decode cX0_different 17 = .ok (.aload_n 0, 1) := by decide +kernel
theorem dX0_different_18 : decode cX0_different 18 = .ok (.getfield 39, 3) := by decide +kernel
theorem dX0_different_21 : decode cX0_different 21 = .ok (.iconst 0, 1) := by decide +kernel
theorem dX0_different_22 : decode cX0_different 22 = .ok (.aload_n 0, 1) := by decide +kernel
theorem dX0_different_23 : decode cX0_different 23 = .ok (.iload_n 1, 1) := by decide +kernel
theorem dX0_different_24 : decode cX0_different 24 = .ok (.invokevirtual 73, 3) := by decide +kernel
theorem dX0_different_27 : decode cX0_different 27 = .ok (.lastore, 1) := by decide +kernel
theorem dX0_different_28 : decode cX0_different 28 = .ok (.aload_n 0, 1) := by decide +kernel
theorem dX0_different_29 : decode cX0_different 29 = .ok (.getfield 39, 3) := by decide +kernel
theorem dX0_different_32 : decode cX0_different 32 = .ok (.iconst 0, 1) := by decide +kernel
theorem dX0_different_33 : decode cX0_different 33 = .ok (.laload, 1) := by decide +kernel
theorem dX0_different_34 : decode cX0_different 34 = .ok (.lconst 0, 1) := by decide +kernel
theorem dX0_different_35 : decode cX0_different 35 = .ok (.lcmp, 1) := by decide +kernel
theorem dX0_different_36 : decode cX0_different 36 = .ok (.ifCond .ne 7, 3) := by decide +kernel
theorem dX0_different_39 : decode cX0_different 39 = .ok (.iconst 0, 1) := by decide +kernel
theorem dX0_different_40 : decode cX0_different 40 = .ok (.goto 4, 3) := by decide +kernel
theorem dX0_different_43 : decode cX0_different 43 = .ok (.iconst 1, 1) := by decide +kernel
theorem dX0_different_44 : decode cX0_different 44 = .ok (.istore_n 3, 1) := by decide +kernel
theorem dX0_different_45 : decode cX0_different 45 = .ok (.iconst 0, 1) := by decide +kernel
theorem dX0_different_46 : decode cX0_different 46 = .ok (.istore 4, 2) := by decide +kernel
theorem dX0_different_48 : decode cX0_different 48 = .ok (.iload 4, 2) := by decide +kernel
theorem dX0_different_50 : decode cX0_different 50 = .ok (.bipush 8, 2) := by decide +kernel
theorem dX0_different_52 : decode cX0_different 52 = .ok (.if_icmp .ge 27, 3) := by decide +kernel
theorem dX0_different_55 : decode cX0_different 55 = .ok (.aload_n 0, 1) := by decide +kernel
theorem dX0_different_56 : decode cX0_different 56 = .ok (.iload_n 3, 1) := by decide +kernel
theorem dX0_different_57 : decode cX0_different 57 = .ok (.aload_n 0, 1) := by decide +kernel
theorem dX0_different_58 : decode cX0_different 58 = .ok (.getfield 7, 3) := by decide +kernel
theorem dX0_different_61 : decode cX0_different 61 = .ok (.bipush 8, 2) := by decide +kernel
theorem dX0_different_63 : decode cX0_different 63 = .ok (.iload_n 2, 1) := by decide +kernel
theorem dX0_different_64 : decode cX0_different 64 = .ok (.imul, 1) := by decide +kernel
theorem dX0_different_65 : decode cX0_different 65 = .ok (.iload 4, 2) := by decide +kernel
theorem dX0_different_67 : decode cX0_different 67 = .ok (.iadd, 1) := by decide +kernel
theorem dX0_different_68 : decode cX0_different 68 = .ok (.laload, 1) := by decide +kernel
theorem dX0_different_69 : decode cX0_different 69 = .ok (.invokevirtual 81, 3) := by decide +kernel
theorem dX0_different_72 : decode cX0_different 72 = .ok (.istore_n 3, 1) := by decide +kernel
theorem dX0_different_73 : decode cX0_different 73 = .ok (.iinc 4 1, 3) := by decide +kernel
theorem dX0_different_76 : decode cX0_different 76 = .ok (.goto (-28), 3) := by decide +kernel
theorem dX0_different_79 : decode cX0_different 79 = .ok (.iload_n 3, 1) := by decide +kernel
theorem dX0_different_80 : decode cX0_different 80 = .ok (.ireturn, 1) := by decide +kernel
theorem dX0_splitSets_0 : decode cX0_splitSets 0 = .ok (.iconst 0, 1) := by decide +kernel
theorem dX0_splitSets_1 : decode cX0_splitSets 1 = .ok (.istore 4, 2) := by decide +kernel
theorem dX0_splitSets_3 : decode cX0_splitSets 3 = .ok (.iconst 0, 1) := by decide +kernel
theorem dX0_splitSets_4 : decode cX0_splitSets 4 = .ok (.istore 5, 2) := by decide +kernel
theorem dX0_splitSets_6 : decode cX0_splitSets 6 = .ok (.iload 5, 2) := by decide +kernel
theorem dX0_splitSets_8 : decode cX0_splitSets 8 = .ok (.iload_n 1, 1) := by decide +kernel
theorem dX0_splitSets_9 : decode cX0_splitSets 9 = .ok (.if_icmp .ge 73, 3) := by decide +kernel
theorem dX0_splitSets_12 : decode cX0_splitSets 12 = .ok (.aload_n 0, 1) := by decide +kernel
theorem dX0_splitSets_13 : decode cX0_splitSets 13 = .ok (.getfield 39, 3) := by decide +kernel
theorem dX0_splitSets_16 : decode cX0_splitSets 16 = .ok (.iload 5, 2) := by decide +kernel
theorem dX0_splitSets_18 : decode cX0_splitSets 18 = .ok (.laload, 1) := by decide +kernel
theorem dX0_splitSets_19 : decode cX0_splitSets 19 = .ok (.lload_n 2, 1) := by decide +kernel
theorem dX0_splitSets_20 : decode cX0_splitSets 20 = .ok (.land, 1) := by decide +kernel
theorem dX0_splitSets_21 : decode cX0_splitSets 21 = .ok (.lstore 6, 2) := by decide +kernel
theorem dX0_splitSets_23 : decode cX0_splitSets 23 = .ok (.aload_n 0, 1) := by decide +kernel
theorem dX0_splitSets_24 : decode cX0_splitSets 24 = .ok (.getfield 39, 3) := by decide +kernel
theorem dX0_splitSets_27 : decode cX0_splitSets 27 = .ok (.iload 5, 2) := by decide +kernel
theorem dX0_splitSets_29 : decode cX0_splitSets 29 = .ok (.laload, 1) := by decide +kernel
theorem dX0_splitSets_30 : decode cX0_splitSets 30 = .ok (.lload_n 2, 1) := by decide +kernel
theorem dX0_splitSets_31 : decode cX0_splitSets 31 = .ok (.ldc2_w 56, 3) := by decide +kernel
theorem dX0_splitSets_34 : decode cX0_splitSets 34 = .ok (.lxor, 1) := by decide +kernel
theorem dX0_splitSets_35 : decode cX0_splitSets 35 = .ok (.land, 1) := by decide +kernel
theorem dX0_splitSets_36 : decode cX0_splitSets 36 = .ok (.lstore 8, 2) := by decide +kernel
theorem dX0_splitSets_38 : decode cX0_splitSets 38 = .ok (.lload 6, 2) := by decide +kernel
theorem dX0_splitSets_40 : decode cX0_splitSets 40 = .ok (.lconst 0, 1) := by decide +kernel
theorem dX0_splitSets_41 : decode cX0_splitSets 41 = .ok (.lcmp, 1) := by decide +kernel
theorem dX0_splitSets_42 : decode cX0_splitSets 42 = .ok (.ifCond .eq 15, 3) := by decide +kernel
theorem dX0_splitSets_45 : decode cX0_splitSets 45 = .ok (.aload_n 0, 1) := by decide +kernel
theorem dX0_splitSets_46 : decode cX0_splitSets 46 = .ok (.getfield 42, 3) := by decide +kernel
theorem dX0_splitSets_49 : decode cX0_splitSets 49 = .ok (.iload 4, 2) := by decide +kernel
theorem dX0_splitSets_51 : decode cX0_splitSets 51 = .ok (.lload 6, 2) := by decide +kernel
theorem dX0_splitSets_53 : decode cX0_splitSets 53 = .ok (.lastore, 1) := by decide +kernel
theorem dX0_splitSets_54 : decode cX0_splitSets 54 = .ok (.iinc 4 1, 3) := by decide +kernel
theorem dX0_splitSets_57 : decode cX0_splitSets 57 = .ok (.lload 8, 2) := by decide +kernel
theorem dX0_splitSets_59 : decode cX0_splitSets 59 = .ok (.lconst 0, 1) := by decide +kernel
theorem dX0_splitSets_60 : decode cX0_splitSets 60 = .ok (.lcmp, 1) := by decide +kernel
theorem dX0_splitSets_61 : decode cX0_splitSets 61 = .ok (.ifCond .eq 15, 3) := by decide +kernel
theorem dX0_splitSets_64 : decode cX0_splitSets 64 = .ok (.aload_n 0, 1) := by decide +kernel
theorem dX0_splitSets_65 : decode cX0_splitSets 65 = .ok (.getfield 42, 3) := by decide +kernel
theorem dX0_splitSets_68 : decode cX0_splitSets 68 = .ok (.iload 4, 2) := by decide +kernel
theorem dX0_splitSets_70 : decode cX0_splitSets 70 = .ok (.lload 8, 2) := by decide +kernel
theorem dX0_splitSets_72 : decode cX0_splitSets 72 = .ok (.lastore, 1) := by decide +kernel
theorem dX0_splitSets_73 : decode cX0_splitSets 73 = .ok (.iinc 4 1, 3) := by decide +kernel
theorem dX0_splitSets_76 : decode cX0_splitSets 76 = .ok (.iinc 5 1, 3) := by decide +kernel
theorem dX0_splitSets_79 : decode cX0_splitSets 79 = .ok (.goto (-73), 3) := by decide +kernel
theorem dX0_splitSets_82 : decode cX0_splitSets 82 = .ok (.iconst 0, 1) := by decide +kernel
theorem dX0_splitSets_83 : decode cX0_splitSets 83 = .ok (.istore 5, 2) := by decide +kernel
theorem dX0_splitSets_85 : decode cX0_splitSets 85 = .ok (.iload 5, 2) := by decide +kernel
theorem dX0_splitSets_87 : decode cX0_splitSets 87 = .ok (.iload 4, 2) := by decide +kernel
theorem dX0_splitSets_89 : decode cX0_splitSets 89 = .ok (.if_icmp .ge 23, 3) := by decide +kernel
theorem dX0_splitSets_92 : decode cX0_splitSets 92 = .ok (.aload_n 0, 1) := by decide +kernel
theorem dX0_splitSets_93 : decode cX0_splitSets 93 = .ok (.getfield 39, 3) := by decide +kernel
theorem dX0_splitSets_96 : decode cX0_splitSets 96 = .ok (.iload 5, 2) := by decide +kernel
theorem dX0_splitSets_98 : decode cX0_splitSets 98 = .ok (.aload_n 0, 1) := by decide +kernel
theorem dX0_splitSets_99 : decode cX0_splitSets 99 = .ok (.getfield 42, 3) := by decide +kernel
theorem dX0_splitSets_102 : decode cX0_splitSets 102 = .ok (.iload 5, 2) := by decide +kernel
theorem dX0_splitSets_104 : decode cX0_splitSets 104 = .ok (.laload, 1) := by decide +kernel
theorem dX0_splitSets_105 : decode cX0_splitSets 105 = .ok (.lastore, 1) := by decide +kernel
theorem dX0_splitSets_106 : decode cX0_splitSets 106 = .ok (.iinc 5 1, 3) := by decide +kernel
theorem dX0_splitSets_109 : decode cX0_splitSets 109 = .ok (.goto (-24), 3) := by decide +kernel
theorem dX0_splitSets_112 : decode cX0_splitSets 112 = .ok (.iload 4, 2) := by decide +kernel
theorem dX0_splitSets_114 : decode cX0_splitSets 114 = .ok (.ireturn, 1) := by decide +kernel
end
section
set_option maxRecDepth 100000
theorem dX1_init_0 : decode cX1_init 0 = .ok (.aload_n 0, 1) := by decide +kernel
theorem dX1_init_1 : decode cX1_init 1 = .ok (.invokespecial 1, 3) := by decide +kernel
theorem dX1_init_4 : decode cX1_init 4 = .ok (.aload_n 0, 1) := by decide +kernel
theorem dX1_init_5 : decode cX1_init 5 = .ok (.bipush 64, 2) := by decide +kernel
theorem dX1_init_7 : decode cX1_init 7 = .ok (.newarray .boolean, 2) := by decide +kernel
theorem dX1_init_9 : decode cX1_init 9 = .ok (.putfield 7, 3) := by decide +kernel
theorem dX1_init_12 : decode cX1_init 12 = .ok (.aload_n 0, 1) := by decide +kernel
theorem dX1_init_13 : decode cX1_init 13 = .ok (.sipush 192, 3) := by decide +kernel
theorem dX1_init_16 : decode cX1_init 16 = .ok (.newarray .int, 2) := by decide +kernel
theorem dX1_init_18 : decode cX1_init 18 = .ok (.putfield 13, 3) := by decide +kernel
theorem dX1_init_21 : decode cX1_init 21 = .ok (.aload_n 0, 1) := by decide +kernel
theorem dX1_init_22 : decode cX1_init 22 = .ok (.bipush 16, 2) := by decide +kernel
theorem dX1_init_24 : decode cX1_init 24 = .ok (.newarray .int, 2) := by decide +kernel
theorem dX1_init_26 : decode cX1_init 26 = .ok (.putfield 17, 3) := by decide +kernel
theorem dX1_init_29 : decode cX1_init 29 = .ok (.aload_n 0, 1) := by decide +kernel
theorem dX1_init_30 : decode cX1_init 30 = .ok (.bipush 16, 2) := by decide +kernel
theorem dX1_init_32 : decode cX1_init 32 = .ok (.newarray .int, 2) := by decide +kernel
theorem dX1_init_34 : decode cX1_init 34 = .ok (.putfield 20, 3) := by decide +kernel
theorem dX1_init_37 : decode cX1_init 37 = .ok (.aload_n 0, 1) := by decide +kernel
theorem dX1_init_38 : decode cX1_init 38 = .ok (.bipush 16, 2) := by decide +kernel
theorem dX1_init_40 : decode cX1_init 40 = .ok (.newarray .int, 2) := by decide +kernel
theorem dX1_init_42 : decode cX1_init 42 = .ok (.putfield 23, 3) := by decide +kernel
theorem dX1_init_45 : decode cX1_init 45 = .ok (.aload_n 0, 1) := by decide +kernel
theorem dX1_init_46 : decode cX1_init 46 = .ok (.bipush 16, 2) := by decide +kernel
theorem dX1_init_48 : decode cX1_init 48 = .ok (.newarray .int, 2) := by decide +kernel
theorem dX1_init_50 : decode cX1_init 50 = .ok (.putfield 26, 3) := by decide +kernel
theorem dX1_init_53 : decode cX1_init 53 = .ok (.aload_n 0, 1) := by decide +kernel
theorem dX1_init_54 : decode cX1_init 54 = .ok (.bipush 16, 2) := by decide +kernel
theorem dX1_init_56 : decode cX1_init 56 = .ok (.newarray .int, 2) := by decide +kernel
theorem dX1_init_58 : decode cX1_init 58 = .ok (.putfield 29, 3) := by decide +kernel
theorem dX1_init_61 : decode cX1_init 61 = .ok (.aload_n 0, 1) := by decide +kernel
theorem dX1_init_62 : decode cX1_init 62 = .ok (.bipush 16, 2) := by decide +kernel
theorem dX1_init_64 : decode cX1_init 64 = .ok (.newarray .boolean, 2) := by decide +kernel
theorem dX1_init_66 : decode cX1_init 66 = .ok (.putfield 32, 3) := by decide +kernel
theorem dX1_init_69 : decode cX1_init 69 = .ok (.return_, 1) := by decide +kernel
theorem dX1_put_0 : decode cX1_put 0 = .ok (.iload_n 1, 1) := by decide +kernel
theorem dX1_put_1 : decode cX1_put 1 = .ok (.ifCond .lt 9, 3) := by decide +kernel
theorem dX1_put_4 : decode cX1_put 4 = .ok (.iload_n 1, 1) := by decide +kernel
theorem dX1_put_5 : decode cX1_put 5 = .ok (.bipush 63, 2) := by decide +kernel
theorem dX1_put_7 : decode cX1_put 7 = .ok (.if_icmp .le 5, 3) := by decide +kernel
theorem dX1_put_10 : decode cX1_put 10 = .ok (.iconst (-1), 1) := by decide +kernel
theorem dX1_put_11 : decode cX1_put 11 = .ok (.ireturn, 1) := by decide +kernel
theorem dX1_put_12 : decode cX1_put 12 = .ok (.aload_n 0, 1) := by decide +kernel
theorem dX1_put_13 : decode cX1_put 13 = .ok (.getfield 7, 3) := by decide +kernel
theorem dX1_put_16 : decode cX1_put 16 = .ok (.iload_n 1, 1) := by decide +kernel
theorem dX1_put_17 : decode cX1_put 17 = .ok (.iconst 1, 1) := by decide +kernel
theorem dX1_put_18 : decode cX1_put 18 = .ok (.bastore, 1) := by decide +kernel
theorem dX1_put_19 : decode cX1_put 19 = .ok (.aload_n 0, 1) := by decide +kernel
theorem dX1_put_20 : decode cX1_put 20 = .ok (.getfield 13, 3) := by decide +kernel
theorem dX1_put_23 : decode cX1_put 23 = .ok (.iconst 3, 1) := by decide +kernel
theorem dX1_put_24 : decode cX1_put 24 = .ok (.iload_n 1, 1) := by decide +kernel
theorem dX1_put_25 : decode cX1_put 25 = .ok (.imul, 1) := by decide +kernel
theorem dX1_put_26 : decode cX1_put 26 = .ok (.iload_n 2, 1) := by decide +kernel
theorem dX1_put_27 : decode cX1_put 27 = .ok (.sipush 255, 3) := by decide +kernel
theorem dX1_put_30 : decode cX1_put 30 = .ok (.iand, 1) := by decide +kernel
theorem dX1_put_31 : decode cX1_put 31 = .ok (.iastore, 1) := by decide +kernel
theorem dX1_put_32 : decode cX1_put 32 = .ok (.aload_n 0, 1) := by decide +kernel
theorem dX1_put_33 : decode cX1_put 33 = .ok (.getfield 13, 3) := by decide +kernel
theorem dX1_put_36 : decode cX1_put 36 = .ok (.iconst 3, 1) := by decide +kernel
theorem dX1_put_37 : decode cX1_put 37 = .ok (.iload_n 1, 1) := by decide +kernel
theorem dX1_put_38 : decode cX1_put 38 = .ok (.imul, 1) := by decide +kernel
theorem dX1_put_39 : decode cX1_put 39 = .ok (.iconst 1, 1) := by decide +kernel
theorem dX1_put_40 : decode cX1_put 40 = .ok (.iadd, 1) := by decide +kernel
theorem dX1_put_41 : decode cX1_put 41 = .ok (.iload_n 3, 1) := by decide +kernel
theorem dX1_put_42 : decode cX1_put 42 = .ok (.sipush 255, 3) := by decide +kernel
theorem dX1_put_45 : decode cX1_put 45 = .ok (.iand, 1) := by decide +kernel
theorem dX1_put_46 : decode cX1_put 46 = .ok (.iastore, 1) := by decide +kernel
theorem dX1_put_47 : decode cX1_put 47 = .ok (.aload_n 0, 1) := by decide +kernel
theorem dX1_put_48 : decode cX1_put 48 = .ok (.getfield 13, 3) := by decide +kernel
theorem dX1_put_51 : decode cX1_put 51 = .ok (.iconst 3, 1) := by decide +kernel
theorem dX1_put_52 : decode cX1_put 52 = .ok (.iload_n 1, 1) := by decide +kernel
theorem dX1_put_53 : decode cX1_put 53 = .ok (.imul, 1) := by decide +kernel
theorem dX1_put_54 : decode cX1_put 54 = .ok (.iconst 2, 1) := by decide +kernel
theorem dX1_put_55 : decode cX1_put 55 = .ok (.iadd, 1) := by decide +kernel
theorem dX1_put_56 : decode cX1_put 56 = .ok (.iload 4, 2) := by decide +kernel
theorem dX1_put_58 : decode cX1_put 58 = .ok (.sipush 255, 3) := by decide +kernel
theorem dX1_put_61 : decode cX1_put 61 = .ok (.iand, 1) := by decide +kernel
theorem dX1_put_62 : decode cX1_put 62 = .ok (.iastore, 1) := by decide +kernel
theorem dX1_put_63 : decode cX1_put 63 = .ok (.iconst 0, 1) := by decide +kernel
theorem dX1_put_64 : decode cX1_put 64 = .ok (.ireturn, 1) := by decide +kernel
theorem dX1_drop_0 : decode cX1_drop 0 = .ok (.iload_n 1, 1) := by decide +kernel
theorem dX1_drop_1 : decode cX1_drop 1 = .ok (.ifCond .lt 9, 3) := by decide +kernel
theorem dX1_drop_4 : decode cX1_drop 4 = .ok (.iload_n 1, 1) := by decide +kernel
theorem dX1_drop_5 : decode cX1_drop 5 = .ok (.bipush 63, 2) := by decide +kernel
theorem dX1_drop_7 : decode cX1_drop 7 = .ok (.if_icmp .le 5, 3) := by decide +kernel
theorem dX1_drop_10 : decode cX1_drop 10 = .ok (.iconst (-1), 1) := by decide +kernel
theorem dX1_drop_11 : decode cX1_drop 11 = .ok (.ireturn, 1) := by decide +kernel
theorem dX1_drop_12 : decode cX1_drop 12 = .ok (.aload_n 0, 1) := by decide +kernel
theorem dX1_drop_13 : decode cX1_drop 13 = .ok (.getfield 7, 3) := by decide +kernel
theorem dX1_drop_16 : decode cX1_drop 16 = .ok (.iload_n 1, 1) := by decide +kernel
theorem dX1_drop_17 : decode cX1_drop 17 = .ok (.baload, 1) := by decide +kernel
theorem dX1_drop_18 : decode cX1_drop 18 = .ok (.ifCond .eq 7, 3) := by decide +kernel
theorem dX1_drop_21 : decode cX1_drop 21 = .ok (.iconst 1, 1) := by decide +kernel
theorem dX1_drop_22 : decode cX1_drop 22 = .ok (.goto 4, 3) := by decide +kernel
theorem dX1_drop_25 : decode cX1_drop 25 = .ok (.iconst 0, 1) := by decide +kernel
theorem dX1_drop_26 : decode cX1_drop 26 = .ok (.istore_n 2, 1) := by decide +kernel
theorem dX1_drop_27 : decode cX1_drop 27 = .ok (.aload_n 0, 1) := by decide +kernel
theorem dX1_drop_28 : decode cX1_drop 28 = .ok (.getfield 7, 3) := by decide +kernel
theorem dX1_drop_31 : decode cX1_drop 31 = .ok (.iload_n 1, 1) := by decide +kernel
theorem dX1_drop_32 : decode cX1_drop 32 = .ok (.iconst 0, 1) := by decide +kernel
theorem dX1_drop_33 : decode cX1_drop 33 = .ok (.bastore, 1) := by decide +kernel
theorem dX1_drop_34 : decode cX1_drop 34 = .ok (.iload_n 2, 1) := by decide +kernel
theorem dX1_drop_35 : decode cX1_drop 35 = .ok (.ireturn, 1) := by decide +kernel
theorem dX1_compare_0 : decode cX1_compare 0 = .ok (.iload_n 1, 1) := by decide +kernel
theorem dX1_compare_1 : decode cX1_compare 1 = .ok (.invokestatic 39, 3) := by decide +kernel
theorem dX1_compare_4 : decode cX1_compare 4 = .ok (.ifCond .ne 12, 3) := by decide +kernel
theorem dX1_compare_7 : decode cX1_compare 7 = .ok (.iload_n 2, 1) := by decide +kernel
theorem dX1_compare_8 : decode cX1_compare 8 = .ok (.ifCond .lt 8, 3) := by decide +kernel
theorem dX1_compare_11 : decode cX1_compare 11 = .ok (.iload_n 2, 1) := by decide +kernel
theorem dX1_compare_12 : decode cX1_compare 12 = .ok (.iconst 5, 1) := by decide +kernel
theorem dX1_compare_13 : decode cX1_compare 13 = .ok (.if_icmp .le 5, 3) := by decide +kernel
theorem dX1_compare_16 : decode cX1_compare 16 = .ok (.iconst (-1), 1) := by decide +kernel
theorem dX1_compare_17 : decode cX1_compare 17 = .ok (.ireturn, 1) := by decide +kernel
theorem dX1_compare_18 : decode cX1_compare 18 = .ok (.aload_n 0, 1) := by decide +kernel
theorem dX1_compare_19 : decode cX1_compare 19 = .ok (.iconst 0, 1) := by decide +kernel
theorem dX1_compare_20 : decode cX1_compare 20 = .ok (.iload_n 1, 1) := by decide +kernel
theorem dX1_compare_21 : decode cX1_compare 21 = .ok (.iload_n 2, 1) := by decide +kernel
theorem dX1_compare_22 : decode cX1_compare 22 = .ok (.iconst 0, 1) := by decide +kernel
theorem dX1_compare_23 : decode cX1_compare 23 = .ok (.iload_n 3, 1) := by decide +kernel
theorem dX1_compare_24 : decode cX1_compare 24 = .ok (.invokevirtual 43, 3) := by decide +kernel
theorem dX1_compare_27 : decode cX1_compare 27 = .ok (.ireturn, 1) := by decide +kernel
theorem dX1_badColumn_0 : decode cX1_badColumn 0 = .ok (.iload_n 0, 1) := by decide +kernel
theorem dX1_badColumn_1 : decode cX1_badColumn 1 = .ok (.ifCond .lt 8, 3) := by decide +kernel
theorem dX1_badColumn_4 : decode cX1_badColumn 4 = .ok (.iload_n 0, 1) := by decide +kernel
theorem dX1_badColumn_5 : decode cX1_badColumn 5 = .ok (.iconst 2, 1) := by decide +kernel
theorem dX1_badColumn_6 : decode cX1_badColumn 6 = .ok (.if_icmp .le 7, 3) := by decide +kernel
theorem dX1_badColumn_9 : decode cX1_badColumn 9 = .ok (.iconst 1, 1) := by decide +kernel
theorem dX1_badColumn_10 : decode cX1_badColumn 10 = .ok (.goto 4, 3) := by decide +kernel
theorem dX1_badColumn_13 : decode cX1_badColumn 13 = .ok (.iconst 0, 1) := by decide +kernel
theorem dX1_badColumn_14 : decode cX1_badColumn 14 = .ok (.ireturn, 1) := by decide +kernel
theorem dX1_make_0 : decode cX1_make 0 = .ok (.aload_n 0, 1) := by decide +kernel
theorem dX1_make_1 : decode cX1_make 1 = .ok (.getfield 35, 3) := by decide +kernel
theorem dX1_make_4 : decode cX1_make 4 = .ok (.bipush 16, 2) := by decide +kernel
theorem dX1_make_6 : decode cX1_make 6 = .ok (.if_icmp .ne 5, 3) := by decide +kernel
theorem dX1_make_9 : decode cX1_make 9 = .ok (.iconst (-1), 1) := by decide +kernel
theorem dX1_make_10 : decode cX1_make 10 = .ok (.ireturn, 1) := by decide +kernel
theorem dX1_make_11 : decode cX1_make 11 = .ok (.aload_n 0, 1) := by decide +kernel
theorem dX1_make_12 : decode cX1_make 12 = .ok (.getfield 17, 3) := by decide +kernel
theorem dX1_make_15 : decode cX1_make 15 = .ok (.aload_n 0, 1) := by decide +kernel
theorem dX1_make_16 : decode cX1_make 16 = .ok (.getfield 35, 3) := by decide +kernel
theorem dX1_make_19 : decode cX1_make 19 = .ok (.iload_n 1, 1) := by decide +kernel
theorem dX1_make_20 : decode cX1_make 20 = .ok (.iastore, 1) := by decide +kernel
theorem dX1_make_21 : decode cX1_make 21 = .ok (.aload_n 0, 1) := by decide +kernel
theorem dX1_make_22 : decode cX1_make 22 = .ok (.getfield 20, 3) := by decide +kernel
theorem dX1_make_25 : decode cX1_make 25 = .ok (.aload_n 0, 1) := by decide +kernel
theorem dX1_make_26 : decode cX1_make 26 = .ok (.getfield 35, 3) := by decide +kernel
theorem dX1_make_29 : decode cX1_make 29 = .ok (.iload_n 2, 1) := by decide +kernel
theorem dX1_make_30 : decode cX1_make 30 = .ok (.iastore, 1) := by decide +kernel
theorem dX1_make_31 : decode cX1_make 31 = .ok (.aload_n 0, 1) := by decide +kernel
theorem dX1_make_32 : decode cX1_make 32 = .ok (.getfield 26, 3) := by decide +kernel
theorem dX1_make_35 : decode cX1_make 35 = .ok (.aload_n 0, 1) := by decide +kernel
theorem dX1_make_36 : decode cX1_make 36 = .ok (.getfield 35, 3) := by decide +kernel
theorem dX1_make_39 : decode cX1_make 39 = .ok (.iload_n 3, 1) := by decide +kernel
theorem dX1_make_40 : decode cX1_make 40 = .ok (.iastore, 1) := by decide +kernel
theorem dX1_make_41 : decode cX1_make 41 = .ok (.aload_n 0, 1) := by decide +kernel
theorem dX1_make_42 : decode cX1_make 42 = .ok (.getfield 23, 3) := by decide +kernel
theorem dX1_make_45 : decode cX1_make 45 = .ok (.aload_n 0, 1) := by decide +kernel
theorem dX1_make_46 : decode cX1_make 46 = .ok (.getfield 35, 3) := by decide +kernel
theorem dX1_make_49 : decode cX1_make 49 = .ok (.iload 4, 2) := by decide +kernel
theorem dX1_make_51 : decode cX1_make 51 = .ok (.iastore, 1) := by decide +kernel
theorem dX1_make_52 : decode cX1_make 52 = .ok (.aload_n 0, 1) := by decide +kernel
theorem dX1_make_53 : decode cX1_make 53 = .ok (.getfield 29, 3) := by decide +kernel
theorem dX1_make_56 : decode cX1_make 56 = .ok (.aload_n 0, 1) := by decide +kernel
theorem dX1_make_57 : decode cX1_make 57 = .ok (.getfield 35, 3) := by decide +kernel
theorem dX1_make_60 : decode cX1_make 60 = .ok (.iload 5, 2) := by decide +kernel
theorem dX1_make_62 : decode cX1_make 62 = .ok (.iastore, 1) := by decide +kernel
theorem dX1_make_63 : decode cX1_make 63 = .ok (.aload_n 0, 1) := by decide +kernel
theorem dX1_make_64 : decode cX1_make 64 = .ok (.dup, 1) := by decide +kernel
theorem dX1_make_65 : decode cX1_make 65 = .ok (.getfield 35, 3) := by decide +kernel
theorem dX1_make_68 : decode cX1_make 68 = .ok (.iconst 1, 1) := by decide +kernel
theorem dX1_make_69 : decode cX1_make 69 = .ok (.iadd, 1) := by decide +kernel
theorem dX1_make_70 : decode cX1_make 70 = .ok (.putfield 35, 3) := by decide +kernel
theorem dX1_make_73 : decode cX1_make 73 = .ok (.aload_n 0, 1) := by decide +kernel
theorem dX1_make_74 : decode cX1_make 74 = .ok (.getfield 35, 3) := by decide +kernel
theorem dX1_make_77 : decode cX1_make 77 = .ok (.iconst 1, 1) := by decide +kernel
theorem dX1_make_78 : decode cX1_make 78 = .ok (.isub, 1) := by decide +kernel
theorem dX1_make_79 : decode cX1_make 79 = .ok (.ireturn, 1) := by decide +kernel
theorem dX1_columns_0 : decode cX1_columns 0 = .ok (.iload_n 1, 1) := by decide +kernel
theorem dX1_columns_1 : decode cX1_columns 1 = .ok (.invokestatic 39, 3) := by decide +kernel
theorem dX1_columns_4 : decode cX1_columns 4 = .ok (.ifCond .ne 19, 3) := by decide +kernel
theorem dX1_columns_7 : decode cX1_columns 7 = .ok (.iload_n 3, 1) := by decide +kernel
theorem dX1_columns_8 : decode cX1_columns 8 = .ok (.invokestatic 39, 3) := by decide +kernel
theorem dX1_columns_11 : decode cX1_columns 11 = .ok (.ifCond .ne 12, 3) := by decide +kernel
theorem dX1_columns_14 : decode cX1_columns 14 = .ok (.iload_n 2, 1) := by decide +kernel
theorem dX1_columns_15 : decode cX1_columns 15 = .ok (.ifCond .lt 8, 3) := by decide +kernel
theorem dX1_columns_18 : decode cX1_columns 18 = .ok (.iload_n 2, 1) := by decide +kernel
theorem dX1_columns_19 : decode cX1_columns 19 = .ok (.iconst 5, 1) := by decide +kernel
theorem dX1_columns_20 : decode cX1_columns 20 = .ok (.if_icmp .le 5, 3) := by decide +kernel
theorem dX1_columns_23 : decode cX1_columns 23 = .ok (.iconst (-1), 1) := by decide +kernel
theorem dX1_columns_24 : decode cX1_columns 24 = .ok (.ireturn, 1) := by decide +kernel
theorem dX1_columns_25 : decode cX1_columns 25 = .ok (.aload_n 0, 1) := by decide +kernel
theorem dX1_columns_26 : decode cX1_columns 26 = .ok (.iconst 1, 1) := by decide +kernel
theorem dX1_columns_27 : decode cX1_columns 27 = .ok (.iload_n 1, 1) := by decide +kernel
theorem dX1_columns_28 : decode cX1_columns 28 = .ok (.iload_n 2, 1) := by decide +kernel
theorem dX1_columns_29 : decode cX1_columns 29 = .ok (.iload_n 3, 1) := by decide +kernel
theorem dX1_columns_30 : decode cX1_columns 30 = .ok (.iconst 0, 1) := by decide +kernel
theorem dX1_columns_31 : decode cX1_columns 31 = .ok (.invokevirtual 43, 3) := by decide +kernel
theorem dX1_columns_34 : decode cX1_columns 34 = .ok (.ireturn, 1) := by decide +kernel
theorem dX1_sums_0 : decode cX1_sums 0 = .ok (.iload_n 1, 1) := by decide +kernel
theorem dX1_sums_1 : decode cX1_sums 1 = .ok (.invokestatic 39, 3) := by decide +kernel
theorem dX1_sums_4 : decode cX1_sums 4 = .ok (.ifCond .ne 19, 3) := by decide +kernel
theorem dX1_sums_7 : decode cX1_sums 7 = .ok (.iload_n 2, 1) := by decide +kernel
theorem dX1_sums_8 : decode cX1_sums 8 = .ok (.invokestatic 39, 3) := by decide +kernel
theorem dX1_sums_11 : decode cX1_sums 11 = .ok (.ifCond .ne 12, 3) := by decide +kernel
theorem dX1_sums_14 : decode cX1_sums 14 = .ok (.iload_n 3, 1) := by decide +kernel
theorem dX1_sums_15 : decode cX1_sums 15 = .ok (.ifCond .lt 8, 3) := by decide +kernel
theorem dX1_sums_18 : decode cX1_sums 18 = .ok (.iload_n 3, 1) := by decide +kernel
theorem dX1_sums_19 : decode cX1_sums 19 = .ok (.iconst 5, 1) := by decide +kernel
theorem dX1_sums_20 : decode cX1_sums 20 = .ok (.if_icmp .le 5, 3) := by decide +kernel
theorem dX1_sums_23 : decode cX1_sums 23 = .ok (.iconst (-1), 1) := by decide +kernel
theorem dX1_sums_24 : decode cX1_sums 24 = .ok (.ireturn, 1) := by decide +kernel
theorem dX1_sums_25 : decode cX1_sums 25 = .ok (.aload_n 0, 1) := by decide +kernel
theorem dX1_sums_26 : decode cX1_sums 26 = .ok (.iconst 2, 1) := by decide +kernel
theorem dX1_sums_27 : decode cX1_sums 27 = .ok (.iload_n 1, 1) := by decide +kernel
theorem dX1_sums_28 : decode cX1_sums 28 = .ok (.iload_n 3, 1) := by decide +kernel
theorem dX1_sums_29 : decode cX1_sums 29 = .ok (.iload_n 2, 1) := by decide +kernel
theorem dX1_sums_30 : decode cX1_sums 30 = .ok (.iload 4, 2) := by decide +kernel
theorem dX1_sums_32 : decode cX1_sums 32 = .ok (.invokevirtual 43, 3) := by decide +kernel
theorem dX1_sums_35 : decode cX1_sums 35 = .ok (.ireturn, 1) := by decide +kernel
theorem dX1_join_0 : decode cX1_join 0 = .ok (.iload_n 1, 1) := by decide +kernel
theorem dX1_join_1 : decode cX1_join 1 = .ok (.ifCond .lt 32, 3) := by decide +kernel
theorem dX1_join_4 : decode cX1_join 4 = .ok (.iload_n 1, 1) := by decide +kernel
theorem dX1_join_5 : decode cX1_join 5 = .ok (.aload_n 0, 1) := by decide +kernel
theorem dX1_join_6 : decode cX1_join 6 = .ok (.getfield 35, 3) := by decide +kernel
theorem dX1_join_9 : decode cX1_join 9 = .ok (.if_icmp .ge 24, 3) := by decide +kernel
theorem dX1_join_12 : decode cX1_join 12 = .ok (.iload_n 3, 1) := by decide +kernel
theorem dX1_join_13 : decode cX1_join 13 = .ok (.ifCond .lt 20, 3) := by decide +kernel
theorem dX1_join_16 : decode cX1_join 16 = .ok (.iload_n 3, 1) := by decide +kernel
theorem dX1_join_17 : decode cX1_join 17 = .ok (.aload_n 0, 1) := by decide +kernel
theorem dX1_join_18 : decode cX1_join 18 = .ok (.getfield 35, 3) := by decide +kernel
theorem dX1_join_21 : decode cX1_join 21 = .ok (.if_icmp .ge 12, 3) := by decide +kernel
theorem dX1_join_24 : decode cX1_join 24 = .ok (.iload_n 2, 1) := by decide +kernel
theorem dX1_join_25 : decode cX1_join 25 = .ok (.ifCond .lt 8, 3) := by decide +kernel
theorem dX1_join_28 : decode cX1_join 28 = .ok (.iload_n 2, 1) := by decide +kernel
theorem dX1_join_29 : decode cX1_join 29 = .ok (.iconst 3, 1) := by decide +kernel
theorem dX1_join_30 : decode cX1_join 30 = .ok (.if_icmp .le 5, 3) := by decide +kernel
theorem dX1_join_33 : decode cX1_join 33 = .ok (.iconst (-1), 1) := by decide +kernel
theorem dX1_join_34 : decode cX1_join 34 = .ok (.ireturn, 1) := by decide +kernel
theorem dX1_join_35 : decode cX1_join 35 = .ok (.aload_n 0, 1) := by decide +kernel
theorem dX1_join_36 : decode cX1_join 36 = .ok (.iconst 3, 1) := by decide +kernel
theorem dX1_join_37 : decode cX1_join 37 = .ok (.iload_n 1, 1) := by decide +kernel
theorem dX1_join_38 : decode cX1_join 38 = .ok (.iload_n 2, 1) := by decide +kernel
theorem dX1_join_39 : decode cX1_join 39 = .ok (.iload_n 3, 1) := by decide +kernel
theorem dX1_join_40 : decode cX1_join 40 = .ok (.iconst 0, 1) := by decide +kernel
theorem dX1_join_41 : decode cX1_join 41 = .ok (.invokevirtual 43, 3) := by decide +kernel
theorem dX1_join_44 : decode cX1_join 44 = .ok (.ireturn, 1) := by decide +kernel
theorem dX1_clear_0 : decode cX1_clear 0 = .ok (.aload_n 0, 1) := by decide +kernel
theorem dX1_clear_1 : decode cX1_clear 1 = .ok (.iconst 0, 1) := by decide +kernel
theorem dX1_clear_2 : decode cX1_clear 2 = .ok (.putfield 35, 3) := by decide +kernel
theorem dX1_clear_5 : decode cX1_clear 5 = .ok (.return_, 1) := by decide +kernel
theorem dX1_count_0 : decode cX1_count 0 = .ok (.aload_n 0, 1) := by decide +kernel
theorem dX1_count_1 : decode cX1_count 1 = .ok (.iload_n 1, 1) := by decide +kernel
theorem dX1_count_2 : decode cX1_count 2 = .ok (.invokevirtual 55, 3) := by decide +kernel
theorem dX1_count_5 : decode cX1_count 5 = .ok (.ifCond .eq 5, 3) := by decide +kernel
theorem dX1_count_8 : decode cX1_count 8 = .ok (.iconst (-1), 1) := by decide +kernel
theorem dX1_count_9 : decode cX1_count 9 = .ok (.ireturn, 1) := by decide +kernel
theorem dX1_count_10 : decode cX1_count 10 = .ok (.iconst 0, 1) := by decide +kernel
theorem dX1_count_11 : decode cX1_count 11 = .ok (.istore_n 2, 1) := by decide +kernel
theorem dX1_count_12 : decode cX1_count 12 = .ok (.iconst 0, 1) := by decide +kernel
theorem dX1_count_13 : decode cX1_count 13 = .ok (.istore_n 3, 1) := by decide +kernel
theorem dX1_count_14 : decode cX1_count 14 = .ok (.iload_n 3, 1) := by decide +kernel
theorem dX1_count_15 : decode cX1_count 15 = .ok (.bipush 64, 2) := by decide +kernel
theorem dX1_count_17 : decode cX1_count 17 = .ok (.if_icmp .ge 21, 3) := by decide +kernel
theorem dX1_count_20 : decode cX1_count 20 = .ok (.aload_n 0, 1) := by decide +kernel
theorem dX1_count_21 : decode cX1_count 21 = .ok (.iload_n 3, 1) := by decide +kernel
theorem dX1_count_22 : decode cX1_count 22 = .ok (.iload_n 1, 1) := by decide +kernel
theorem dX1_count_23 : decode cX1_count 23 = .ok (.invokevirtual 58, 3) := by decide +kernel
theorem dX1_count_26 : decode cX1_count 26 = .ok (.ifCond .eq 6, 3) := by decide +kernel
theorem dX1_count_29 : decode cX1_count 29 = .ok (.iinc 2 1, 3) := by decide +kernel
theorem dX1_count_32 : decode cX1_count 32 = .ok (.iinc 3 1, 3) := by decide +kernel
theorem dX1_count_35 : decode cX1_count 35 = .ok (.goto (-21), 3) := by decide +kernel
theorem dX1_count_38 : decode cX1_count 38 = .ok (.iload_n 2, 1) := by decide +kernel
theorem dX1_count_39 : decode cX1_count 39 = .ok (.ireturn, 1) := by decide +kernel
theorem dX1_missing_0 : decode cX1_missing 0 = .ok (.iload_n 1, 1) := by decide +kernel
theorem dX1_missing_1 : decode cX1_missing 1 = .ok (.iconst (-1), 1) := by decide +kernel
theorem dX1_missing_2 : decode cX1_missing 2 = .ok (.if_icmp .lt 11, 3) := by decide +kernel
theorem dX1_missing_5 : decode cX1_missing 5 = .ok (.iload_n 1, 1) := by decide +kernel
theorem dX1_missing_6 : decode cX1_missing 6 = .ok (.aload_n 0, 1) := by decide +kernel
theorem dX1_missing_7 : decode cX1_missing 7 = .ok (.getfield 35, 3) := by decide +kernel
theorem dX1_missing_10 : decode cX1_missing 10 = .ok (.if_icmp .lt 7, 3) := by decide +kernel
theorem dX1_missing_13 : decode cX1_missing 13 = .ok (.iconst 1, 1) := by decide +kernel
theorem dX1_missing_14 : decode cX1_missing 14 = .ok (.goto 4, 3) := by decide +kernel
theorem dX1_missing_17 : decode cX1_missing 17 = .ok (.iconst 0, 1) := by decide +kernel
theorem dX1_missing_18 : decode cX1_missing 18 = .ok (.ireturn, 1) := by decide +kernel
theorem dX1_meets_0 : decode cX1_meets 0 = .ok (.aload_n 0, 1) := by decide +kernel
theorem dX1_meets_1 : decode cX1_meets 1 = .ok (.getfield 7, 3) := by decide +kernel
theorem dX1_meets_4 : decode cX1_meets 4 = .ok (.iload_n 1, 1) := by decide +kernel
theorem dX1_meets_5 : decode cX1_meets 5 = .ok (.baload, 1) := by decide +kernel
theorem dX1_meets_6 : decode cX1_meets 6 = .ok (.ifCond .ne 5, 3) := by decide +kernel
theorem dX1_meets_9 : decode cX1_meets 9 = .ok (.iconst 0, 1) := by decide +kernel
theorem dX1_meets_10 : decode cX1_meets 10 = .ok (.ireturn, 1) := by decide +kernel
theorem dX1_meets_11 : decode cX1_meets 11 = .ok (.iconst 0, 1) := by decide +kernel
theorem dX1_meets_12 : decode cX1_meets 12 = .ok (.istore_n 3, 1) := by decide +kernel
theorem dX1_meets_13 : decode cX1_meets 13 = .ok (.iload_n 3, 1) := by decide +kernel
theorem dX1_meets_14 : decode cX1_meets 14 = .ok (.iload_n 2, 1) := by decide +kernel
theorem dX1_meets_15 : decode cX1_meets 15 = .ok (.if_icmp .gt 191, 3) := by decide +kernel
theorem dX1_meets_18 : decode cX1_meets 18 = .ok (.aload_n 0, 1) := by decide +kernel
theorem dX1_meets_19 : decode cX1_meets 19 = .ok (.getfield 13, 3) := by decide +kernel
theorem dX1_meets_22 : decode cX1_meets 22 = .ok (.iconst 3, 1) := by decide +kernel
theorem dX1_meets_23 : decode cX1_meets 23 = .ok (.iload_n 1, 1) := by decide +kernel
theorem dX1_meets_24 : decode cX1_meets 24 = .ok (.imul, 1) := by decide +kernel
theorem dX1_meets_25 : decode cX1_meets 25 = .ok (.aload_n 0, 1) := by decide +kernel
theorem dX1_meets_26 : decode cX1_meets 26 = .ok (.getfield 20, 3) := by decide +kernel
theorem dX1_meets_29 : decode cX1_meets 29 = .ok (.iload_n 3, 1) := by decide +kernel
theorem dX1_meets_30 : decode cX1_meets 30 = .ok (.iaload, 1) := by decide +kernel
theorem dX1_meets_31 : decode cX1_meets 31 = .ok (.iconst 3, 1) := by decide +kernel
theorem dX1_meets_32 : decode cX1_meets 32 = .ok (.irem, 1) := by decide +kernel
theorem dX1_meets_33 : decode cX1_meets 33 = .ok (.iadd, 1) := by decide +kernel
theorem dX1_meets_34 : decode cX1_meets 34 = .ok (.iaload, 1) := by decide +kernel
theorem dX1_meets_35 : decode cX1_meets 35 = .ok (.istore 4, 2) := by decide +kernel
theorem dX1_meets_37 : decode cX1_meets 37 = .ok (.aload_n 0, 1) := by decide +kernel
theorem dX1_meets_38 : decode cX1_meets 38 = .ok (.getfield 13, 3) := by decide +kernel
theorem dX1_meets_41 : decode cX1_meets 41 = .ok (.iconst 3, 1) := by decide +kernel
theorem dX1_meets_42 : decode cX1_meets 42 = .ok (.iload_n 1, 1) := by decide +kernel
theorem dX1_meets_43 : decode cX1_meets 43 = .ok (.imul, 1) := by decide +kernel
theorem dX1_meets_44 : decode cX1_meets 44 = .ok (.aload_n 0, 1) := by decide +kernel
theorem dX1_meets_45 : decode cX1_meets 45 = .ok (.getfield 23, 3) := by decide +kernel
theorem dX1_meets_48 : decode cX1_meets 48 = .ok (.iload_n 3, 1) := by decide +kernel
theorem dX1_meets_49 : decode cX1_meets 49 = .ok (.iaload, 1) := by decide +kernel
theorem dX1_meets_50 : decode cX1_meets 50 = .ok (.iconst 3, 1) := by decide +kernel
theorem dX1_meets_51 : decode cX1_meets 51 = .ok (.irem, 1) := by decide +kernel
theorem dX1_meets_52 : decode cX1_meets 52 = .ok (.iadd, 1) := by decide +kernel
theorem dX1_meets_53 : decode cX1_meets 53 = .ok (.iaload, 1) := by decide +kernel
theorem dX1_meets_54 : decode cX1_meets 54 = .ok (.istore 5, 2) := by decide +kernel
theorem dX1_meets_56 : decode cX1_meets 56 = .ok (.aload_n 0, 1) := by decide +kernel
theorem dX1_meets_57 : decode cX1_meets 57 = .ok (.getfield 17, 3) := by decide +kernel
theorem dX1_meets_60 : decode cX1_meets 60 = .ok (.iload_n 3, 1) := by decide +kernel
theorem dX1_meets_61 : decode cX1_meets 61 = .ok (.iaload, 1) := by decide +kernel
theorem dX1_meets_62 : decode cX1_meets 62 = .ok (.ifCond .ne 26, 3) := by decide +kernel
theorem dX1_meets_65 : decode cX1_meets 65 = .ok (.aload_n 0, 1) := by decide +kernel
theorem dX1_meets_66 : decode cX1_meets 66 = .ok (.getfield 32, 3) := by decide +kernel
theorem dX1_meets_69 : decode cX1_meets 69 = .ok (.iload_n 3, 1) := by decide +kernel
theorem dX1_meets_70 : decode cX1_meets 70 = .ok (.iload 4, 2) := by decide +kernel
theorem dX1_meets_72 : decode cX1_meets 72 = .ok (.aload_n 0, 1) := by decide +kernel
theorem dX1_meets_73 : decode cX1_meets 73 = .ok (.getfield 26, 3) := by decide +kernel
theorem dX1_meets_76 : decode cX1_meets 76 = .ok (.iload_n 3, 1) := by decide +kernel
theorem dX1_meets_77 : decode cX1_meets 77 = .ok (.iaload, 1) := by decide +kernel
theorem dX1_meets_78 : decode cX1_meets 78 = .ok (.aload_n 0, 1) := by decide +kernel
theorem dX1_meets_79 : decode cX1_meets 79 = .ok (.getfield 29, 3) := by decide +kernel
theorem dX1_meets_82 : decode cX1_meets 82 = .ok (.iload_n 3, 1) := by decide +kernel
theorem dX1_meets_83 : decode cX1_meets 83 = .ok (.iaload, 1) := by decide +kernel
theorem dX1_meets_84 : decode cX1_meets 84 = .ok (.invokestatic 47, 3) := by decide +kernel
theorem dX1_meets_87 : decode cX1_meets 87 = .ok (.bastore, 1) := by decide +kernel
theorem dX1_meets_88 : decode cX1_meets 88 = .ok (.aload_n 0, 1) := by decide +kernel
theorem dX1_meets_89 : decode cX1_meets 89 = .ok (.getfield 17, 3) := by decide +kernel
theorem dX1_meets_92 : decode cX1_meets 92 = .ok (.iload_n 3, 1) := by decide +kernel
theorem dX1_meets_93 : decode cX1_meets 93 = .ok (.iaload, 1) := by decide +kernel
theorem dX1_meets_94 : decode cX1_meets 94 = .ok (.iconst 1, 1) := by decide +kernel
theorem dX1_meets_95 : decode cX1_meets 95 = .ok (.if_icmp .ne 22, 3) := by decide +kernel
theorem dX1_meets_98 : decode cX1_meets 98 = .ok (.aload_n 0, 1) := by decide +kernel
theorem dX1_meets_99 : decode cX1_meets 99 = .ok (.getfield 32, 3) := by decide +kernel
theorem dX1_meets_102 : decode cX1_meets 102 = .ok (.iload_n 3, 1) := by decide +kernel
theorem dX1_meets_103 : decode cX1_meets 103 = .ok (.iload 4, 2) := by decide +kernel
theorem dX1_meets_105 : decode cX1_meets 105 = .ok (.aload_n 0, 1) := by decide +kernel
theorem dX1_meets_106 : decode cX1_meets 106 = .ok (.getfield 26, 3) := by decide +kernel
theorem dX1_meets_109 : decode cX1_meets 109 = .ok (.iload_n 3, 1) := by decide +kernel
theorem dX1_meets_110 : decode cX1_meets 110 = .ok (.iaload, 1) := by decide +kernel
theorem dX1_meets_111 : decode cX1_meets 111 = .ok (.iload 5, 2) := by decide +kernel
theorem dX1_meets_113 : decode cX1_meets 113 = .ok (.invokestatic 47, 3) := by decide +kernel
theorem dX1_meets_116 : decode cX1_meets 116 = .ok (.bastore, 1) := by decide +kernel
theorem dX1_meets_117 : decode cX1_meets 117 = .ok (.aload_n 0, 1) := by decide +kernel
theorem dX1_meets_118 : decode cX1_meets 118 = .ok (.getfield 17, 3) := by decide +kernel
theorem dX1_meets_121 : decode cX1_meets 121 = .ok (.iload_n 3, 1) := by decide +kernel
theorem dX1_meets_122 : decode cX1_meets 122 = .ok (.iaload, 1) := by decide +kernel
theorem dX1_meets_123 : decode cX1_meets 123 = .ok (.iconst 2, 1) := by decide +kernel
theorem dX1_meets_124 : decode cX1_meets 124 = .ok (.if_icmp .ne 29, 3) := by decide +kernel
theorem dX1_meets_127 : decode cX1_meets 127 = .ok (.aload_n 0, 1) := by decide +kernel
theorem dX1_meets_128 : decode cX1_meets 128 = .ok (.getfield 32, 3) := by decide +kernel
theorem dX1_meets_131 : decode cX1_meets 131 = .ok (.iload_n 3, 1) := by decide +kernel
theorem dX1_meets_132 : decode cX1_meets 132 = .ok (.iload 4, 2) := by decide +kernel
theorem dX1_meets_134 : decode cX1_meets 134 = .ok (.iload 5, 2) := by decide +kernel
theorem dX1_meets_136 : decode cX1_meets 136 = .ok (.iadd, 1) := by decide +kernel
theorem dX1_meets_137 : decode cX1_meets 137 = .ok (.aload_n 0, 1) := by decide +kernel
theorem dX1_meets_138 : decode cX1_meets 138 = .ok (.getfield 26, 3) := by decide +kernel
theorem dX1_meets_141 : decode cX1_meets 141 = .ok (.iload_n 3, 1) := by decide +kernel
theorem dX1_meets_142 : decode cX1_meets 142 = .ok (.iaload, 1) := by decide +kernel
theorem dX1_meets_143 : decode cX1_meets 143 = .ok (.aload_n 0, 1) := by decide +kernel
theorem dX1_meets_144 : decode cX1_meets 144 = .ok (.getfield 29, 3) := by decide +kernel
theorem dX1_meets_147 : decode cX1_meets 147 = .ok (.iload_n 3, 1) := by decide +kernel
theorem dX1_meets_148 : decode cX1_meets 148 = .ok (.iaload, 1) := by decide +kernel
theorem dX1_meets_149 : decode cX1_meets 149 = .ok (.invokestatic 47, 3) := by decide +kernel
theorem dX1_meets_152 : decode cX1_meets 152 = .ok (.bastore, 1) := by decide +kernel
theorem dX1_meets_153 : decode cX1_meets 153 = .ok (.aload_n 0, 1) := by decide +kernel
theorem dX1_meets_154 : decode cX1_meets 154 = .ok (.getfield 17, 3) := by decide +kernel
theorem dX1_meets_157 : decode cX1_meets 157 = .ok (.iload_n 3, 1) := by decide +kernel
theorem dX1_meets_158 : decode cX1_meets 158 = .ok (.iaload, 1) := by decide +kernel
theorem dX1_meets_159 : decode cX1_meets 159 = .ok (.iconst 3, 1) := by decide +kernel
theorem dX1_meets_160 : decode cX1_meets 160 = .ok (.if_icmp .ne 40, 3) := by decide +kernel
theorem dX1_meets_163 : decode cX1_meets 163 = .ok (.aload_n 0, 1) := by decide +kernel
theorem dX1_meets_164 : decode cX1_meets 164 = .ok (.getfield 32, 3) := by decide +kernel
theorem dX1_meets_167 : decode cX1_meets 167 = .ok (.iload_n 3, 1) := by decide +kernel
theorem dX1_meets_168 : decode cX1_meets 168 = .ok (.aload_n 0, 1) := by decide +kernel
theorem dX1_meets_169 : decode cX1_meets 169 = .ok (.getfield 32, 3) := by decide +kernel
theorem dX1_meets_172 : decode cX1_meets 172 = .ok (.aload_n 0, 1) := by decide +kernel
theorem dX1_meets_173 : decode cX1_meets 173 = .ok (.getfield 20, 3) := by decide +kernel
theorem dX1_meets_176 : decode cX1_meets 176 = .ok (.iload_n 3, 1) := by decide +kernel
theorem dX1_meets_177 : decode cX1_meets 177 = .ok (.iaload, 1) := by decide +kernel
theorem dX1_meets_178 : decode cX1_meets 178 = .ok (.baload, 1) := by decide +kernel
theorem dX1_meets_179 : decode cX1_meets 179 = .ok (.aload_n 0, 1) := by decide +kernel
theorem dX1_meets_180 : decode cX1_meets 180 = .ok (.getfield 26, 3) := by decide +kernel
theorem dX1_meets_183 : decode cX1_meets 183 = .ok (.iload_n 3, 1) := by decide +kernel
theorem dX1_meets_184 : decode cX1_meets 184 = .ok (.iaload, 1) := by decide +kernel
theorem dX1_meets_185 : decode cX1_meets 185 = .ok (.aload_n 0, 1) := by decide +kernel
theorem dX1_meets_186 : decode cX1_meets 186 = .ok (.getfield 32, 3) := by decide +kernel
theorem dX1_meets_189 : decode cX1_meets 189 = .ok (.aload_n 0, 1) := by decide +kernel
theorem dX1_meets_190 : decode cX1_meets 190 = .ok (.getfield 23, 3) := by decide +kernel
theorem dX1_meets_193 : decode cX1_meets 193 = .ok (.iload_n 3, 1) := by decide +kernel
theorem dX1_meets_194 : decode cX1_meets 194 = .ok (.iaload, 1) := by decide +kernel
theorem dX1_meets_195 : decode cX1_meets 195 = .ok (.baload, 1) := by decide +kernel
theorem dX1_meets_196 : decode cX1_meets 196 = .ok (.invokestatic 51, 3) := by decide +kernel
theorem dX1_meets_199 : decode cX1_meets 199 = .ok (.bastore, 1) := by decide +kernel
theorem dX1_meets_200 : decode cX1_meets 200 = .ok (.iinc 3 1, 3) := by decide +kernel
theorem dX1_meets_203 : decode cX1_meets 203 = .ok (.goto (-190), 3) := by decide +kernel
theorem dX1_meets_206 : decode cX1_meets 206 = .ok (.iload_n 2, 1) := by decide +kernel
theorem dX1_meets_207 : decode cX1_meets 207 = .ok (.ifCond .lt 12, 3) := by decide +kernel
theorem dX1_meets_210 : decode cX1_meets 210 = .ok (.aload_n 0, 1) := by decide +kernel
theorem dX1_meets_211 : decode cX1_meets 211 = .ok (.getfield 32, 3) := by decide +kernel
theorem dX1_meets_214 : decode cX1_meets 214 = .ok (.iload_n 2, 1) := by decide +kernel
theorem dX1_meets_215 : decode cX1_meets 215 = .ok (.baload, 1) := by decide +kernel
theorem dX1_meets_216 : decode cX1_meets 216 = .ok (.ifCond .eq 7, 3) := by decide +kernel
theorem dX1_meets_219 : decode cX1_meets 219 = .ok (.iconst 1, 1) := by decide +kernel
theorem dX1_meets_220 : decode cX1_meets 220 = .ok (.goto 4, 3) := by decide +kernel
theorem dX1_meets_223 : decode cX1_meets 223 = .ok (.iconst 0, 1) := by decide +kernel
theorem dX1_meets_224 : decode cX1_meets 224 = .ok (.ireturn, 1) := by decide +kernel
theorem dX1_compared_0 : decode cX1_compared 0 = .ok (.iload_n 1, 1) := by decide +kernel
theorem dX1_compared_1 : decode cX1_compared 1 = .ok (.ifCond .ne 14, 3) := by decide +kernel
theorem dX1_compared_4 : decode cX1_compared 4 = .ok (.iload_n 0, 1) := by decide +kernel
theorem dX1_compared_5 : decode cX1_compared 5 = .ok (.iload_n 2, 1) := by decide +kernel
theorem dX1_compared_6 : decode cX1_compared 6 = .ok (.if_icmp .ne 7, 3) := by decide +kernel
theorem dX1_compared_9 : decode cX1_compared 9 = .ok (.iconst 1, 1) := by decide +kernel
theorem dX1_compared_10 : decode cX1_compared 10 = .ok (.goto 4, 3) := by decide +kernel
theorem dX1_compared_13 : decode cX1_compared 13 = .ok (.iconst 0, 1) := by decide +kernel
theorem dX1_compared_14 : decode cX1_compared 14 = .ok (.ireturn, 1) := by decide +kernel
theorem dX1_compared_15 : decode cX1_compared 15 = .ok (.iload_n 1, 1) := by decide +kernel
theorem dX1_compared_16 : decode cX1_compared 16 = .ok (.iconst 1, 1) := by decide +kernel
theorem dX1_compared_17 : decode cX1_compared 17 = .ok (.if_icmp .ne 14, 3) := by decide +kernel
theorem dX1_compared_20 : decode cX1_compared 20 = .ok (.iload_n 0, 1) := by decide +kernel
theorem dX1_compared_21 : decode cX1_compared 21 = .ok (.iload_n 2, 1) := by decide +kernel
theorem dX1_compared_22 : decode cX1_compared 22 = .ok (.if_icmp .ge 7, 3) := by decide +kernel
theorem dX1_compared_25 : decode cX1_compared 25 = .ok (.iconst 1, 1) := by decide +kernel
theorem dX1_compared_26 : decode cX1_compared 26 = .ok (.goto 4, 3) := by decide +kernel
theorem dX1_compared_29 : decode cX1_compared 29 = .ok (.iconst 0, 1) := by decide +kernel
theorem dX1_compared_30 : decode cX1_compared 30 = .ok (.ireturn, 1) := by decide +kernel
theorem dX1_compared_31 : decode cX1_compared 31 = .ok (.iload_n 1, 1) := by decide +kernel
theorem dX1_compared_32 : decode cX1_compared 32 = .ok (.iconst 2, 1) := by decide +kernel
theorem dX1_compared_33 : decode cX1_compared 33 = .ok (.if_icmp .ne 14, 3) := by decide +kernel
theorem dX1_compared_36 : decode cX1_compared 36 = .ok (.iload_n 0, 1) := by decide +kernel
theorem dX1_compared_37 : decode cX1_compared 37 = .ok (.iload_n 2, 1) := by decide +kernel
theorem dX1_compared_38 : decode cX1_compared 38 = .ok (.if_icmp .gt 7, 3) := by decide +kernel
theorem dX1_compared_41 : decode cX1_compared 41 = .ok (.iconst 1, 1) := by decide +kernel
theorem dX1_compared_42 : decode cX1_compared 42 = .ok (.goto 4, 3) := by decide +kernel
theorem dX1_compared_45 : decode cX1_compared 45 = .ok (.iconst 0, 1) := by decide +kernel
theorem dX1_compared_46 : decode cX1_compared 46 = .ok (.ireturn, 1) := by decide +kernel
theorem dX1_compared_47 : decode cX1_compared 47 = .ok (.iload_n 1, 1) := by decide +kernel
theorem dX1_compared_48 : decode cX1_compared 48 = .ok (.iconst 3, 1) := by decide +kernel
theorem dX1_compared_49 : decode cX1_compared 49 = .ok (.if_icmp .ne 14, 3) := by decide +kernel
theorem dX1_compared_52 : decode cX1_compared 52 = .ok (.iload_n 0, 1) := by decide +kernel
theorem dX1_compared_53 : decode cX1_compared 53 = .ok (.iload_n 2, 1) := by decide +kernel
theorem dX1_compared_54 : decode cX1_compared 54 = .ok (.if_icmp .eq 7, 3) := by decide +kernel
theorem dX1_compared_57 : decode cX1_compared 57 = .ok (.iconst 1, 1) := by decide +kernel
theorem dX1_compared_58 : decode cX1_compared 58 = .ok (.goto 4, 3) := by decide +kernel
theorem dX1_compared_61 : decode cX1_compared 61 = .ok (.iconst 0, 1) := by decide +kernel
theorem dX1_compared_62 : decode cX1_compared 62 = .ok (.ireturn, 1) := by decide +kernel
theorem dX1_compared_63 : decode cX1_compared 63 = .ok (.iload_n 1, 1) := by decide +kernel
theorem dX1_compared_64 : decode cX1_compared 64 = .ok (.iconst 4, 1) := by decide +kernel
theorem dX1_compared_65 : decode cX1_compared 65 = .ok (.if_icmp .ne 14, 3) := by decide +kernel
theorem dX1_compared_68 : decode cX1_compared 68 = .ok (.iload_n 0, 1) := by decide +kernel
theorem dX1_compared_69 : decode cX1_compared 69 = .ok (.iload_n 2, 1) := by decide +kernel
theorem dX1_compared_70 : decode cX1_compared 70 = .ok (.if_icmp .lt 7, 3) := by decide +kernel
theorem dX1_compared_73 : decode cX1_compared 73 = .ok (.iconst 1, 1) := by decide +kernel
theorem dX1_compared_74 : decode cX1_compared 74 = .ok (.goto 4, 3) := by decide +kernel
theorem dX1_compared_77 : decode cX1_compared 77 = .ok (.iconst 0, 1) := by decide +kernel
theorem dX1_compared_78 : decode cX1_compared 78 = .ok (.ireturn, 1) := by decide +kernel
theorem dX1_compared_79 : decode cX1_compared 79 = .ok (.iload_n 0, 1) := by decide +kernel
theorem dX1_compared_80 : decode cX1_compared 80 = .ok (.iload_n 2, 1) := by decide +kernel
theorem dX1_compared_81 : decode cX1_compared 81 = .ok (.if_icmp .le 7, 3) := by decide +kernel
theorem dX1_compared_84 : decode cX1_compared 84 = .ok (.iconst 1, 1) := by decide +kernel
theorem dX1_compared_85 : decode cX1_compared 85 = .ok (.goto 4, 3) := by decide +kernel
theorem dX1_compared_88 : decode cX1_compared 88 = .ok (.iconst 0, 1) := by decide +kernel
theorem dX1_compared_89 : decode cX1_compared 89 = .ok (.ireturn, 1) := by decide +kernel
theorem dX1_joined_0 : decode cX1_joined 0 = .ok (.iload_n 1, 1) := by decide +kernel
theorem dX1_joined_1 : decode cX1_joined 1 = .ok (.ifCond .ne 17, 3) := by decide +kernel
theorem dX1_joined_4 : decode cX1_joined 4 = .ok (.iload_n 0, 1) := by decide +kernel
theorem dX1_joined_5 : decode cX1_joined 5 = .ok (.ifCond .eq 11, 3) := by decide +kernel
theorem dX1_joined_8 : decode cX1_joined 8 = .ok (.iload_n 2, 1) := by decide +kernel
theorem dX1_joined_9 : decode cX1_joined 9 = .ok (.ifCond .eq 7, 3) := by decide +kernel
theorem dX1_joined_12 : decode cX1_joined 12 = .ok (.iconst 1, 1) := by decide +kernel
theorem dX1_joined_13 : decode cX1_joined 13 = .ok (.goto 4, 3) := by decide +kernel
theorem dX1_joined_16 : decode cX1_joined 16 = .ok (.iconst 0, 1) := by decide +kernel
theorem dX1_joined_17 : decode cX1_joined 17 = .ok (.ireturn, 1) := by decide +kernel
theorem dX1_joined_18 : decode cX1_joined 18 = .ok (.iload_n 1, 1) := by decide +kernel
theorem dX1_joined_19 : decode cX1_joined 19 = .ok (.iconst 1, 1) := by decide +kernel
theorem dX1_joined_20 : decode cX1_joined 20 = .ok (.if_icmp .ne 17, 3) := by decide +kernel
theorem dX1_joined_23 : decode cX1_joined 23 = .ok (.iload_n 0, 1) := by decide +kernel
theorem dX1_joined_24 : decode cX1_joined 24 = .ok (.ifCond .ne 7, 3) := by decide +kernel
theorem dX1_joined_27 : decode cX1_joined 27 = .ok (.iload_n 2, 1) := by decide +kernel
theorem dX1_joined_28 : decode cX1_joined 28 = .ok (.ifCond .eq 7, 3) := by decide +kernel
theorem dX1_joined_31 : decode cX1_joined 31 = .ok (.iconst 1, 1) := by decide +kernel
theorem dX1_joined_32 : decode cX1_joined 32 = .ok (.goto 4, 3) := by decide +kernel
theorem dX1_joined_35 : decode cX1_joined 35 = .ok (.iconst 0, 1) := by decide +kernel
theorem dX1_joined_36 : decode cX1_joined 36 = .ok (.ireturn, 1) := by decide +kernel
theorem dX1_joined_37 : decode cX1_joined 37 = .ok (.iload_n 1, 1) := by decide +kernel
theorem dX1_joined_38 : decode cX1_joined 38 = .ok (.iconst 2, 1) := by decide +kernel
theorem dX1_joined_39 : decode cX1_joined 39 = .ok (.if_icmp .ne 14, 3) := by decide +kernel
theorem dX1_joined_42 : decode cX1_joined 42 = .ok (.iload_n 0, 1) := by decide +kernel
theorem dX1_joined_43 : decode cX1_joined 43 = .ok (.iload_n 2, 1) := by decide +kernel
theorem dX1_joined_44 : decode cX1_joined 44 = .ok (.if_icmp .eq 7, 3) := by decide +kernel
theorem dX1_joined_47 : decode cX1_joined 47 = .ok (.iconst 1, 1) := by decide +kernel
theorem dX1_joined_48 : decode cX1_joined 48 = .ok (.goto 4, 3) := by decide +kernel
theorem dX1_joined_51 : decode cX1_joined 51 = .ok (.iconst 0, 1) := by decide +kernel
theorem dX1_joined_52 : decode cX1_joined 52 = .ok (.ireturn, 1) := by decide +kernel
theorem dX1_joined_53 : decode cX1_joined 53 = .ok (.iload_n 0, 1) := by decide +kernel
theorem dX1_joined_54 : decode cX1_joined 54 = .ok (.ifCond .eq 11, 3) := by decide +kernel
theorem dX1_joined_57 : decode cX1_joined 57 = .ok (.iload_n 2, 1) := by decide +kernel
theorem dX1_joined_58 : decode cX1_joined 58 = .ok (.ifCond .ne 7, 3) := by decide +kernel
theorem dX1_joined_61 : decode cX1_joined 61 = .ok (.iconst 1, 1) := by decide +kernel
theorem dX1_joined_62 : decode cX1_joined 62 = .ok (.goto 4, 3) := by decide +kernel
theorem dX1_joined_65 : decode cX1_joined 65 = .ok (.iconst 0, 1) := by decide +kernel
theorem dX1_joined_66 : decode cX1_joined 66 = .ok (.ireturn, 1) := by decide +kernel
theorem dX1_row_0 : decode cX1_row 0 = .ok (.aload_n 0, 1) := by decide +kernel
theorem dX1_row_1 : decode cX1_row 1 = .ok (.iload_n 1, 1) := by decide +kernel
theorem dX1_row_2 : decode cX1_row 2 = .ok (.invokevirtual 55, 3) := by decide +kernel
theorem dX1_row_5 : decode cX1_row 5 = .ok (.ifCond .eq 5, 3) := by decide +kernel
theorem dX1_row_8 : decode cX1_row 8 = .ok (.iconst (-1), 1) := by decide +kernel
theorem dX1_row_9 : decode cX1_row 9 = .ok (.ireturn, 1) := by decide +kernel
theorem dX1_row_10 : decode cX1_row 10 = .ok (.iconst 0, 1) := by decide +kernel
theorem dX1_row_11 : decode cX1_row 11 = .ok (.istore_n 3, 1) := by decide +kernel
theorem dX1_row_12 : decode cX1_row 12 = .ok (.iconst 0, 1) := by decide +kernel
theorem dX1_row_13 : decode cX1_row 13 = .ok (.istore 4, 2) := by decide +kernel
theorem dX1_row_15 : decode cX1_row 15 = .ok (.iload 4, 2) := by decide +kernel
theorem dX1_row_17 : decode cX1_row 17 = .ok (.bipush 64, 2) := by decide +kernel
theorem dX1_row_19 : decode cX1_row 19 = .ok (.if_icmp .ge 30, 3) := by decide +kernel
theorem dX1_row_22 : decode cX1_row 22 = .ok (.aload_n 0, 1) := by decide +kernel
theorem dX1_row_23 : decode cX1_row 23 = .ok (.iload 4, 2) := by decide +kernel
theorem dX1_row_25 : decode cX1_row 25 = .ok (.iload_n 1, 1) := by decide +kernel
theorem dX1_row_26 : decode cX1_row 26 = .ok (.invokevirtual 58, 3) := by decide +kernel
theorem dX1_row_29 : decode cX1_row 29 = .ok (.ifCond .eq 14, 3) := by decide +kernel
theorem dX1_row_32 : decode cX1_row 32 = .ok (.iload_n 3, 1) := by decide +kernel
theorem dX1_row_33 : decode cX1_row 33 = .ok (.iload_n 2, 1) := by decide +kernel
theorem dX1_row_34 : decode cX1_row 34 = .ok (.if_icmp .ne 6, 3) := by decide +kernel
theorem dX1_row_37 : decode cX1_row 37 = .ok (.iload 4, 2) := by decide +kernel
theorem dX1_row_39 : decode cX1_row 39 = .ok (.ireturn, 1) := by decide +kernel
theorem dX1_row_40 : decode cX1_row 40 = .ok (.iinc 3 1, 3) := by decide +kernel
theorem dX1_row_43 : decode cX1_row 43 = .ok (.iinc 4 1, 3) := by decide +kernel
theorem dX1_row_46 : decode cX1_row 46 = .ok (.goto (-31), 3) := by decide +kernel
theorem dX1_row_49 : decode cX1_row 49 = .ok (.iconst (-1), 1) := by decide +kernel
theorem dX1_row_50 : decode cX1_row 50 = .ok (.ireturn, 1) := by decide +kernel
theorem dX1_sum_0 : decode cX1_sum 0 = .ok (.aload_n 0, 1) := by decide +kernel
theorem dX1_sum_1 : decode cX1_sum 1 = .ok (.iload_n 1, 1) := by decide +kernel
theorem dX1_sum_2 : decode cX1_sum 2 = .ok (.invokevirtual 55, 3) := by decide +kernel
theorem dX1_sum_5 : decode cX1_sum 5 = .ok (.ifCond .ne 10, 3) := by decide +kernel
theorem dX1_sum_8 : decode cX1_sum 8 = .ok (.iload_n 2, 1) := by decide +kernel
theorem dX1_sum_9 : decode cX1_sum 9 = .ok (.invokestatic 39, 3) := by decide +kernel
theorem dX1_sum_12 : decode cX1_sum 12 = .ok (.ifCond .eq 5, 3) := by decide +kernel
theorem dX1_sum_15 : decode cX1_sum 15 = .ok (.iconst (-1), 1) := by decide +kernel
theorem dX1_sum_16 : decode cX1_sum 16 = .ok (.ireturn, 1) := by decide +kernel
theorem dX1_sum_17 : decode cX1_sum 17 = .ok (.iconst 0, 1) := by decide +kernel
theorem dX1_sum_18 : decode cX1_sum 18 = .ok (.istore_n 3, 1) := by decide +kernel
theorem dX1_sum_19 : decode cX1_sum 19 = .ok (.iconst 0, 1) := by decide +kernel
theorem dX1_sum_20 : decode cX1_sum 20 = .ok (.istore 4, 2) := by decide +kernel
theorem dX1_sum_22 : decode cX1_sum 22 = .ok (.iload 4, 2) := by decide +kernel
theorem dX1_sum_24 : decode cX1_sum 24 = .ok (.bipush 64, 2) := by decide +kernel
theorem dX1_sum_26 : decode cX1_sum 26 = .ok (.if_icmp .ge 33, 3) := by decide +kernel
theorem dX1_sum_29 : decode cX1_sum 29 = .ok (.aload_n 0, 1) := by decide +kernel
theorem dX1_sum_30 : decode cX1_sum 30 = .ok (.iload 4, 2) := by decide +kernel
theorem dX1_sum_32 : decode cX1_sum 32 = .ok (.iload_n 1, 1) := by decide +kernel
theorem dX1_sum_33 : decode cX1_sum 33 = .ok (.invokevirtual 58, 3) := by decide +kernel
theorem dX1_sum_36 : decode cX1_sum 36 = .ok (.ifCond .eq 17, 3) := by decide +kernel
theorem dX1_sum_39 : decode cX1_sum 39 = .ok (.iload_n 3, 1) := by decide +kernel
theorem dX1_sum_40 : decode cX1_sum 40 = .ok (.aload_n 0, 1) := by decide +kernel
theorem dX1_sum_41 : decode cX1_sum 41 = .ok (.getfield 13, 3) := by decide +kernel
theorem dX1_sum_44 : decode cX1_sum 44 = .ok (.iconst 3, 1) := by decide +kernel
theorem dX1_sum_45 : decode cX1_sum 45 = .ok (.iload 4, 2) := by decide +kernel
theorem dX1_sum_47 : decode cX1_sum 47 = .ok (.imul, 1) := by decide +kernel
theorem dX1_sum_48 : decode cX1_sum 48 = .ok (.iload_n 2, 1) := by decide +kernel
theorem dX1_sum_49 : decode cX1_sum 49 = .ok (.iadd, 1) := by decide +kernel
theorem dX1_sum_50 : decode cX1_sum 50 = .ok (.iaload, 1) := by decide +kernel
theorem dX1_sum_51 : decode cX1_sum 51 = .ok (.iadd, 1) := by decide +kernel
theorem dX1_sum_52 : decode cX1_sum 52 = .ok (.istore_n 3, 1) := by decide +kernel
theorem dX1_sum_53 : decode cX1_sum 53 = .ok (.iinc 4 1, 3) := by decide +kernel
theorem dX1_sum_56 : decode cX1_sum 56 = .ok (.goto (-34), 3) := by decide +kernel
theorem dX1_sum_59 : decode cX1_sum 59 = .ok (.iload_n 3, 1) := by decide +kernel
theorem dX1_sum_60 : decode cX1_sum 60 = .ok (.ireturn, 1) := by decide +kernel
theorem dX1_ranked_0 : decode cX1_ranked 0 = .ok (.aload_n 0, 1) := by decide +kernel
theorem dX1_ranked_1 : decode cX1_ranked 1 = .ok (.iload_n 1, 1) := by decide +kernel
theorem dX1_ranked_2 : decode cX1_ranked 2 = .ok (.invokevirtual 55, 3) := by decide +kernel
theorem dX1_ranked_5 : decode cX1_ranked 5 = .ok (.ifCond .ne 14, 3) := by decide +kernel
theorem dX1_ranked_8 : decode cX1_ranked 8 = .ok (.iload_n 2, 1) := by decide +kernel
theorem dX1_ranked_9 : decode cX1_ranked 9 = .ok (.invokestatic 39, 3) := by decide +kernel
theorem dX1_ranked_12 : decode cX1_ranked 12 = .ok (.ifCond .ne 7, 3) := by decide +kernel
theorem dX1_ranked_15 : decode cX1_ranked 15 = .ok (.iload_n 3, 1) := by decide +kernel
theorem dX1_ranked_16 : decode cX1_ranked 16 = .ok (.ifCond .ge 5, 3) := by decide +kernel
theorem dX1_ranked_19 : decode cX1_ranked 19 = .ok (.iconst (-1), 1) := by decide +kernel
theorem dX1_ranked_20 : decode cX1_ranked 20 = .ok (.ireturn, 1) := by decide +kernel
theorem dX1_ranked_21 : decode cX1_ranked 21 = .ok (.iconst 0, 1) := by decide +kernel
theorem dX1_ranked_22 : decode cX1_ranked 22 = .ok (.istore 4, 2) := by decide +kernel
theorem dX1_ranked_24 : decode cX1_ranked 24 = .ok (.iconst 0, 1) := by decide +kernel
theorem dX1_ranked_25 : decode cX1_ranked 25 = .ok (.istore 5, 2) := by decide +kernel
theorem dX1_ranked_27 : decode cX1_ranked 27 = .ok (.iload 5, 2) := by decide +kernel
theorem dX1_ranked_29 : decode cX1_ranked 29 = .ok (.sipush 256, 3) := by decide +kernel
theorem dX1_ranked_32 : decode cX1_ranked 32 = .ok (.if_icmp .ge 31, 3) := by decide +kernel
theorem dX1_ranked_35 : decode cX1_ranked 35 = .ok (.iload 4, 2) := by decide +kernel
theorem dX1_ranked_37 : decode cX1_ranked 37 = .ok (.aload_n 0, 1) := by decide +kernel
theorem dX1_ranked_38 : decode cX1_ranked 38 = .ok (.iload_n 1, 1) := by decide +kernel
theorem dX1_ranked_39 : decode cX1_ranked 39 = .ok (.iload_n 2, 1) := by decide +kernel
theorem dX1_ranked_40 : decode cX1_ranked 40 = .ok (.iload 5, 2) := by decide +kernel
theorem dX1_ranked_42 : decode cX1_ranked 42 = .ok (.invokevirtual 62, 3) := by decide +kernel
theorem dX1_ranked_45 : decode cX1_ranked 45 = .ok (.iadd, 1) := by decide +kernel
theorem dX1_ranked_46 : decode cX1_ranked 46 = .ok (.istore 4, 2) := by decide +kernel
theorem dX1_ranked_48 : decode cX1_ranked 48 = .ok (.iload_n 3, 1) := by decide +kernel
theorem dX1_ranked_49 : decode cX1_ranked 49 = .ok (.iload 4, 2) := by decide +kernel
theorem dX1_ranked_51 : decode cX1_ranked 51 = .ok (.if_icmp .ge 6, 3) := by decide +kernel
theorem dX1_ranked_54 : decode cX1_ranked 54 = .ok (.iload 5, 2) := by decide +kernel
theorem dX1_ranked_56 : decode cX1_ranked 56 = .ok (.ireturn, 1) := by decide +kernel
theorem dX1_ranked_57 : decode cX1_ranked 57 = .ok (.iinc 5 1, 3) := by decide +kernel
theorem dX1_ranked_60 : decode cX1_ranked 60 = .ok (.goto (-33), 3) := by decide +kernel
theorem dX1_ranked_63 : decode cX1_ranked 63 = .ok (.iconst (-1), 1) := by decide +kernel
theorem dX1_ranked_64 : decode cX1_ranked 64 = .ok (.ireturn, 1) := by decide +kernel
theorem dX1_having_0 : decode cX1_having 0 = .ok (.iconst 0, 1) := by decide +kernel
theorem dX1_having_1 : decode cX1_having 1 = .ok (.istore 4, 2) := by decide +kernel
theorem dX1_having_3 : decode cX1_having 3 = .ok (.iconst 0, 1) := by decide +kernel
theorem dX1_having_4 : decode cX1_having 4 = .ok (.istore 5, 2) := by decide +kernel
theorem dX1_having_6 : decode cX1_having 6 = .ok (.iload 5, 2) := by decide +kernel
theorem dX1_having_8 : decode cX1_having 8 = .ok (.bipush 64, 2) := by decide +kernel
theorem dX1_having_10 : decode cX1_having 10 = .ok (.if_icmp .ge 37, 3) := by decide +kernel
theorem dX1_having_13 : decode cX1_having 13 = .ok (.aload_n 0, 1) := by decide +kernel
theorem dX1_having_14 : decode cX1_having 14 = .ok (.getfield 13, 3) := by decide +kernel
theorem dX1_having_17 : decode cX1_having 17 = .ok (.iconst 3, 1) := by decide +kernel
theorem dX1_having_18 : decode cX1_having 18 = .ok (.iload 5, 2) := by decide +kernel
theorem dX1_having_20 : decode cX1_having 20 = .ok (.imul, 1) := by decide +kernel
theorem dX1_having_21 : decode cX1_having 21 = .ok (.iload_n 2, 1) := by decide +kernel
theorem dX1_having_22 : decode cX1_having 22 = .ok (.iadd, 1) := by decide +kernel
theorem dX1_having_23 : decode cX1_having 23 = .ok (.iaload, 1) := by decide +kernel
theorem dX1_having_24 : decode cX1_having 24 = .ok (.iload_n 3, 1) := by decide +kernel
theorem dX1_having_25 : decode cX1_having 25 = .ok (.if_icmp .ne 16, 3) := by decide +kernel
theorem dX1_having_28 : decode cX1_having 28 = .ok (.aload_n 0, 1) := by decide +kernel
theorem dX1_having_29 : decode cX1_having 29 = .ok (.iload 5, 2) := by decide +kernel
theorem dX1_having_31 : decode cX1_having 31 = .ok (.iload_n 1, 1) := by decide +kernel
theorem dX1_having_32 : decode cX1_having 32 = .ok (.invokevirtual 58, 3) := by decide +kernel
theorem dX1_having_35 : decode cX1_having 35 = .ok (.ifCond .eq 6, 3) := by decide +kernel
theorem dX1_having_38 : decode cX1_having 38 = .ok (.iinc 4 1, 3) := by decide +kernel
theorem dX1_having_41 : decode cX1_having 41 = .ok (.iinc 5 1, 3) := by decide +kernel
theorem dX1_having_44 : decode cX1_having 44 = .ok (.goto (-38), 3) := by decide +kernel
theorem dX1_having_47 : decode cX1_having 47 = .ok (.iload 4, 2) := by decide +kernel
theorem dX1_having_49 : decode cX1_having 49 = .ok (.ireturn, 1) := by decide +kernel
theorem dX1_different_0 : decode cX1_different 0 = .ok (.aload_n 0, 1) := by decide +kernel
theorem dX1_different_1 : decode cX1_different 1 = .ok (.iload_n 1, 1) := by decide +kernel
theorem dX1_different_2 : decode cX1_different 2 = .ok (.invokevirtual 55, 3) := by decide +kernel
theorem dX1_different_5 : decode cX1_different 5 = .ok (.ifCond .ne 10, 3) := by decide +kernel
theorem dX1_different_8 : decode cX1_different 8 = .ok (.iload_n 2, 1) := by decide +kernel
theorem dX1_different_9 : decode cX1_different 9 = .ok (.invokestatic 39, 3) := by decide +kernel
theorem dX1_different_12 : decode cX1_different 12 = .ok (.ifCond .eq 5, 3) := by decide +kernel
theorem dX1_different_15 : decode cX1_different 15 = .ok (.iconst (-1), 1) := by decide +kernel
theorem dX1_different_16 : decode cX1_different 16 = .ok (.ireturn, 1) := by decide +kernel
theorem dX1_different_17 : decode cX1_different 17 = .ok (.iconst 0, 1) := by decide +kernel
theorem dX1_different_18 : decode cX1_different 18 = .ok (.istore_n 3, 1) := by decide +kernel
theorem dX1_different_19 : decode cX1_different 19 = .ok (.iconst 0, 1) := by decide +kernel
theorem dX1_different_20 : decode cX1_different 20 = .ok (.istore 4, 2) := by decide +kernel
theorem dX1_different_22 : decode cX1_different 22 = .ok (.iload 4, 2) := by decide +kernel
theorem dX1_different_24 : decode cX1_different 24 = .ok (.sipush 256, 3) := by decide +kernel
theorem dX1_different_27 : decode cX1_different 27 = .ok (.if_icmp .ge 23, 3) := by decide +kernel
theorem dX1_different_30 : decode cX1_different 30 = .ok (.aload_n 0, 1) := by decide +kernel
theorem dX1_different_31 : decode cX1_different 31 = .ok (.iload_n 1, 1) := by decide +kernel
theorem dX1_different_32 : decode cX1_different 32 = .ok (.iload_n 2, 1) := by decide +kernel
theorem dX1_different_33 : decode cX1_different 33 = .ok (.iload 4, 2) := by decide +kernel
theorem dX1_different_35 : decode cX1_different 35 = .ok (.invokevirtual 62, 3) := by decide +kernel
theorem dX1_different_38 : decode cX1_different 38 = .ok (.ifCond .le 6, 3) := by decide +kernel
theorem dX1_different_41 : decode cX1_different 41 = .ok (.iinc 3 1, 3) := by decide +kernel
theorem dX1_different_44 : decode cX1_different 44 = .ok (.iinc 4 1, 3) := by decide +kernel
theorem dX1_different_47 : decode cX1_different 47 = .ok (.goto (-25), 3) := by decide +kernel
theorem dX1_different_50 : decode cX1_different 50 = .ok (.iload_n 3, 1) := by decide +kernel
theorem dX1_different_51 : decode cX1_different 51 = .ok (.ireturn, 1) := by decide +kernel
theorem dJ0_init_0 : decode cJ0_init 0 = .ok (.return_, 1) := by decide +kernel
end
section
set_option maxRecDepth 100000
theorem dL_law_0 : decode cL_law 0 = .ok (.new 7, 3) := by decide +kernel
theorem dL_law_3 : decode cL_law 3 = .ok (.dup, 1) := by decide +kernel
theorem dL_law_4 : decode cL_law 4 = .ok (.invokespecial 9, 3) := by decide +kernel
theorem dL_law_7 : decode cL_law 7 = .ok (.astore_n 1, 1) := by decide +kernel
theorem dL_law_8 : decode cL_law 8 = .ok (.new 10, 3) := by decide +kernel
theorem dL_law_11 : decode cL_law 11 = .ok (.dup, 1) := by decide +kernel
theorem dL_law_12 : decode cL_law 12 = .ok (.invokespecial 12, 3) := by decide +kernel
theorem dL_law_15 : decode cL_law 15 = .ok (.astore_n 2, 1) := by decide +kernel
theorem dL_law_16 : decode cL_law 16 = .ok (.iconst 0, 1) := by decide +kernel
theorem dL_law_17 : decode cL_law 17 = .ok (.istore_n 3, 1) := by decide +kernel
theorem dL_law_18 : decode cL_law 18 = .ok (.iload_n 3, 1) := by decide +kernel
theorem dL_law_19 : decode cL_law 19 = .ok (.aload_n 0, 1) := by decide +kernel
theorem dL_law_20 : decode cL_law 20 = .ok (.arraylength, 1) := by decide +kernel
theorem dL_law_21 : decode cL_law 21 = .ok (.iconst 5, 1) := by decide +kernel
theorem dL_law_22 : decode cL_law 22 = .ok (.isub, 1) := by decide +kernel
theorem dL_law_23 : decode cL_law 23 = .ok (.if_icmp .gt 513, 3) := by decide +kernel
theorem dL_law_26 : decode cL_law 26 = .ok (.aload_n 0, 1) := by decide +kernel
theorem dL_law_27 : decode cL_law 27 = .ok (.iload_n 3, 1) := by decide +kernel
theorem dL_law_28 : decode cL_law 28 = .ok (.iaload, 1) := by decide +kernel
theorem dL_law_29 : decode cL_law 29 = .ok (.bipush 15, 2) := by decide +kernel
theorem dL_law_31 : decode cL_law 31 = .ok (.iand, 1) := by decide +kernel
theorem dL_law_32 : decode cL_law 32 = .ok (.tableswitch 498 0 11 #[64, 117, 140, 183, 226, 279, 322, 333, 356, 389, 422, 465], 64) := by decide +kernel
theorem dL_law_96 : decode cL_law 96 = .ok (.aload_n 1, 1) := by decide +kernel
theorem dL_law_97 : decode cL_law 97 = .ok (.aload_n 0, 1) := by decide +kernel
theorem dL_law_98 : decode cL_law 98 = .ok (.iload_n 3, 1) := by decide +kernel
theorem dL_law_99 : decode cL_law 99 = .ok (.iconst 1, 1) := by decide +kernel
theorem dL_law_100 : decode cL_law 100 = .ok (.iadd, 1) := by decide +kernel
theorem dL_law_101 : decode cL_law 101 = .ok (.iaload, 1) := by decide +kernel
theorem dL_law_102 : decode cL_law 102 = .ok (.aload_n 0, 1) := by decide +kernel
theorem dL_law_103 : decode cL_law 103 = .ok (.iload_n 3, 1) := by decide +kernel
theorem dL_law_104 : decode cL_law 104 = .ok (.iconst 2, 1) := by decide +kernel
theorem dL_law_105 : decode cL_law 105 = .ok (.iadd, 1) := by decide +kernel
theorem dL_law_106 : decode cL_law 106 = .ok (.iaload, 1) := by decide +kernel
theorem dL_law_107 : decode cL_law 107 = .ok (.aload_n 0, 1) := by decide +kernel
theorem dL_law_108 : decode cL_law 108 = .ok (.iload_n 3, 1) := by decide +kernel
theorem dL_law_109 : decode cL_law 109 = .ok (.iconst 3, 1) := by decide +kernel
theorem dL_law_110 : decode cL_law 110 = .ok (.iadd, 1) := by decide +kernel
theorem dL_law_111 : decode cL_law 111 = .ok (.iaload, 1) := by decide +kernel
theorem dL_law_112 : decode cL_law 112 = .ok (.aload_n 0, 1) := by decide +kernel
theorem dL_law_113 : decode cL_law 113 = .ok (.iload_n 3, 1) := by decide +kernel
theorem dL_law_114 : decode cL_law 114 = .ok (.iconst 4, 1) := by decide +kernel
theorem dL_law_115 : decode cL_law 115 = .ok (.iadd, 1) := by decide +kernel
theorem dL_law_116 : decode cL_law 116 = .ok (.iaload, 1) := by decide +kernel
theorem dL_law_117 : decode cL_law 117 = .ok (.invokevirtual 13, 3) := by decide +kernel
theorem dL_law_120 : decode cL_law 120 = .ok (.aload_n 2, 1) := by decide +kernel
theorem dL_law_121 : decode cL_law 121 = .ok (.aload_n 0, 1) := by decide +kernel
theorem dL_law_122 : decode cL_law 122 = .ok (.iload_n 3, 1) := by decide +kernel
theorem dL_law_123 : decode cL_law 123 = .ok (.iconst 1, 1) := by decide +kernel
theorem dL_law_124 : decode cL_law 124 = .ok (.iadd, 1) := by decide +kernel
theorem dL_law_125 : decode cL_law 125 = .ok (.iaload, 1) := by decide +kernel
theorem dL_law_126 : decode cL_law 126 = .ok (.aload_n 0, 1) := by decide +kernel
theorem dL_law_127 : decode cL_law 127 = .ok (.iload_n 3, 1) := by decide +kernel
theorem dL_law_128 : decode cL_law 128 = .ok (.iconst 2, 1) := by decide +kernel
theorem dL_law_129 : decode cL_law 129 = .ok (.iadd, 1) := by decide +kernel
theorem dL_law_130 : decode cL_law 130 = .ok (.iaload, 1) := by decide +kernel
theorem dL_law_131 : decode cL_law 131 = .ok (.aload_n 0, 1) := by decide +kernel
theorem dL_law_132 : decode cL_law 132 = .ok (.iload_n 3, 1) := by decide +kernel
theorem dL_law_133 : decode cL_law 133 = .ok (.iconst 3, 1) := by decide +kernel
theorem dL_law_134 : decode cL_law 134 = .ok (.iadd, 1) := by decide +kernel
theorem dL_law_135 : decode cL_law 135 = .ok (.iaload, 1) := by decide +kernel
theorem dL_law_136 : decode cL_law 136 = .ok (.aload_n 0, 1) := by decide +kernel
theorem dL_law_137 : decode cL_law 137 = .ok (.iload_n 3, 1) := by decide +kernel
theorem dL_law_138 : decode cL_law 138 = .ok (.iconst 4, 1) := by decide +kernel
theorem dL_law_139 : decode cL_law 139 = .ok (.iadd, 1) := by decide +kernel
theorem dL_law_140 : decode cL_law 140 = .ok (.iaload, 1) := by decide +kernel
theorem dL_law_141 : decode cL_law 141 = .ok (.invokevirtual 17, 3) := by decide +kernel
theorem dL_law_144 : decode cL_law 144 = .ok (.if_icmp .eq 386, 3) := by decide +kernel
theorem dL_law_147 : decode cL_law 147 = .ok (.iconst 0, 1) := by decide +kernel
theorem dL_law_148 : decode cL_law 148 = .ok (.ireturn, 1) := by decide +kernel
theorem dL_law_149 : decode cL_law 149 = .ok (.aload_n 1, 1) := by decide +kernel
theorem dL_law_150 : decode cL_law 150 = .ok (.aload_n 0, 1) := by decide +kernel
theorem dL_law_151 : decode cL_law 151 = .ok (.iload_n 3, 1) := by decide +kernel
theorem dL_law_152 : decode cL_law 152 = .ok (.iconst 1, 1) := by decide +kernel
theorem dL_law_153 : decode cL_law 153 = .ok (.iadd, 1) := by decide +kernel
theorem dL_law_154 : decode cL_law 154 = .ok (.iaload, 1) := by decide +kernel
theorem dL_law_155 : decode cL_law 155 = .ok (.invokevirtual 18, 3) := by decide +kernel
theorem dL_law_158 : decode cL_law 158 = .ok (.aload_n 2, 1) := by decide +kernel
theorem dL_law_159 : decode cL_law 159 = .ok (.aload_n 0, 1) := by decide +kernel
theorem dL_law_160 : decode cL_law 160 = .ok (.iload_n 3, 1) := by decide +kernel
theorem dL_law_161 : decode cL_law 161 = .ok (.iconst 1, 1) := by decide +kernel
theorem dL_law_162 : decode cL_law 162 = .ok (.iadd, 1) := by decide +kernel
theorem dL_law_163 : decode cL_law 163 = .ok (.iaload, 1) := by decide +kernel
theorem dL_law_164 : decode cL_law 164 = .ok (.invokevirtual 22, 3) := by decide +kernel
theorem dL_law_167 : decode cL_law 167 = .ok (.if_icmp .eq 363, 3) := by decide +kernel
theorem dL_law_170 : decode cL_law 170 = .ok (.iconst 0, 1) := by decide +kernel
theorem dL_law_171 : decode cL_law 171 = .ok (.ireturn, 1) := by decide +kernel
theorem dL_law_172 : decode cL_law 172 = .ok (.aload_n 1, 1) := by decide +kernel
theorem dL_law_173 : decode cL_law 173 = .ok (.aload_n 0, 1) := by decide +kernel
theorem dL_law_174 : decode cL_law 174 = .ok (.iload_n 3, 1) := by decide +kernel
theorem dL_law_175 : decode cL_law 175 = .ok (.iconst 1, 1) := by decide +kernel
theorem dL_law_176 : decode cL_law 176 = .ok (.iadd, 1) := by decide +kernel
theorem dL_law_177 : decode cL_law 177 = .ok (.iaload, 1) := by decide +kernel
theorem dL_law_178 : decode cL_law 178 = .ok (.aload_n 0, 1) := by decide +kernel
theorem dL_law_179 : decode cL_law 179 = .ok (.iload_n 3, 1) := by decide +kernel
theorem dL_law_180 : decode cL_law 180 = .ok (.iconst 2, 1) := by decide +kernel
theorem dL_law_181 : decode cL_law 181 = .ok (.iadd, 1) := by decide +kernel
theorem dL_law_182 : decode cL_law 182 = .ok (.iaload, 1) := by decide +kernel
theorem dL_law_183 : decode cL_law 183 = .ok (.aload_n 0, 1) := by decide +kernel
theorem dL_law_184 : decode cL_law 184 = .ok (.iload_n 3, 1) := by decide +kernel
theorem dL_law_185 : decode cL_law 185 = .ok (.iconst 3, 1) := by decide +kernel
theorem dL_law_186 : decode cL_law 186 = .ok (.iadd, 1) := by decide +kernel
theorem dL_law_187 : decode cL_law 187 = .ok (.iaload, 1) := by decide +kernel
theorem dL_law_188 : decode cL_law 188 = .ok (.invokevirtual 23, 3) := by decide +kernel
theorem dL_law_191 : decode cL_law 191 = .ok (.aload_n 2, 1) := by decide +kernel
theorem dL_law_192 : decode cL_law 192 = .ok (.aload_n 0, 1) := by decide +kernel
theorem dL_law_193 : decode cL_law 193 = .ok (.iload_n 3, 1) := by decide +kernel
theorem dL_law_194 : decode cL_law 194 = .ok (.iconst 1, 1) := by decide +kernel
theorem dL_law_195 : decode cL_law 195 = .ok (.iadd, 1) := by decide +kernel
theorem dL_law_196 : decode cL_law 196 = .ok (.iaload, 1) := by decide +kernel
theorem dL_law_197 : decode cL_law 197 = .ok (.aload_n 0, 1) := by decide +kernel
theorem dL_law_198 : decode cL_law 198 = .ok (.iload_n 3, 1) := by decide +kernel
theorem dL_law_199 : decode cL_law 199 = .ok (.iconst 2, 1) := by decide +kernel
theorem dL_law_200 : decode cL_law 200 = .ok (.iadd, 1) := by decide +kernel
theorem dL_law_201 : decode cL_law 201 = .ok (.iaload, 1) := by decide +kernel
theorem dL_law_202 : decode cL_law 202 = .ok (.aload_n 0, 1) := by decide +kernel
theorem dL_law_203 : decode cL_law 203 = .ok (.iload_n 3, 1) := by decide +kernel
theorem dL_law_204 : decode cL_law 204 = .ok (.iconst 3, 1) := by decide +kernel
theorem dL_law_205 : decode cL_law 205 = .ok (.iadd, 1) := by decide +kernel
theorem dL_law_206 : decode cL_law 206 = .ok (.iaload, 1) := by decide +kernel
theorem dL_law_207 : decode cL_law 207 = .ok (.invokevirtual 27, 3) := by decide +kernel
theorem dL_law_210 : decode cL_law 210 = .ok (.if_icmp .eq 320, 3) := by decide +kernel
theorem dL_law_213 : decode cL_law 213 = .ok (.iconst 0, 1) := by decide +kernel
theorem dL_law_214 : decode cL_law 214 = .ok (.ireturn, 1) := by decide +kernel
theorem dL_law_215 : decode cL_law 215 = .ok (.aload_n 1, 1) := by decide +kernel
theorem dL_law_216 : decode cL_law 216 = .ok (.aload_n 0, 1) := by decide +kernel
theorem dL_law_217 : decode cL_law 217 = .ok (.iload_n 3, 1) := by decide +kernel
theorem dL_law_218 : decode cL_law 218 = .ok (.iconst 1, 1) := by decide +kernel
theorem dL_law_219 : decode cL_law 219 = .ok (.iadd, 1) := by decide +kernel
theorem dL_law_220 : decode cL_law 220 = .ok (.iaload, 1) := by decide +kernel
theorem dL_law_221 : decode cL_law 221 = .ok (.aload_n 0, 1) := by decide +kernel
theorem dL_law_222 : decode cL_law 222 = .ok (.iload_n 3, 1) := by decide +kernel
theorem dL_law_223 : decode cL_law 223 = .ok (.iconst 2, 1) := by decide +kernel
theorem dL_law_224 : decode cL_law 224 = .ok (.iadd, 1) := by decide +kernel
theorem dL_law_225 : decode cL_law 225 = .ok (.iaload, 1) := by decide +kernel
theorem dL_law_226 : decode cL_law 226 = .ok (.aload_n 0, 1) := by decide +kernel
theorem dL_law_227 : decode cL_law 227 = .ok (.iload_n 3, 1) := by decide +kernel
theorem dL_law_228 : decode cL_law 228 = .ok (.iconst 3, 1) := by decide +kernel
theorem dL_law_229 : decode cL_law 229 = .ok (.iadd, 1) := by decide +kernel
theorem dL_law_230 : decode cL_law 230 = .ok (.iaload, 1) := by decide +kernel
theorem dL_law_231 : decode cL_law 231 = .ok (.invokevirtual 28, 3) := by decide +kernel
theorem dL_law_234 : decode cL_law 234 = .ok (.aload_n 2, 1) := by decide +kernel
theorem dL_law_235 : decode cL_law 235 = .ok (.aload_n 0, 1) := by decide +kernel
theorem dL_law_236 : decode cL_law 236 = .ok (.iload_n 3, 1) := by decide +kernel
theorem dL_law_237 : decode cL_law 237 = .ok (.iconst 1, 1) := by decide +kernel
theorem dL_law_238 : decode cL_law 238 = .ok (.iadd, 1) := by decide +kernel
theorem dL_law_239 : decode cL_law 239 = .ok (.iaload, 1) := by decide +kernel
theorem dL_law_240 : decode cL_law 240 = .ok (.aload_n 0, 1) := by decide +kernel
theorem dL_law_241 : decode cL_law 241 = .ok (.iload_n 3, 1) := by decide +kernel
theorem dL_law_242 : decode cL_law 242 = .ok (.iconst 2, 1) := by decide +kernel
theorem dL_law_243 : decode cL_law 243 = .ok (.iadd, 1) := by decide +kernel
theorem dL_law_244 : decode cL_law 244 = .ok (.iaload, 1) := by decide +kernel
theorem dL_law_245 : decode cL_law 245 = .ok (.aload_n 0, 1) := by decide +kernel
theorem dL_law_246 : decode cL_law 246 = .ok (.iload_n 3, 1) := by decide +kernel
theorem dL_law_247 : decode cL_law 247 = .ok (.iconst 3, 1) := by decide +kernel
theorem dL_law_248 : decode cL_law 248 = .ok (.iadd, 1) := by decide +kernel
theorem dL_law_249 : decode cL_law 249 = .ok (.iaload, 1) := by decide +kernel
theorem dL_law_250 : decode cL_law 250 = .ok (.invokevirtual 31, 3) := by decide +kernel
theorem dL_law_253 : decode cL_law 253 = .ok (.if_icmp .eq 277, 3) := by decide +kernel
theorem dL_law_256 : decode cL_law 256 = .ok (.iconst 0, 1) := by decide +kernel
theorem dL_law_257 : decode cL_law 257 = .ok (.ireturn, 1) := by decide +kernel
theorem dL_law_258 : decode cL_law 258 = .ok (.aload_n 1, 1) := by decide +kernel
theorem dL_law_259 : decode cL_law 259 = .ok (.aload_n 0, 1) := by decide +kernel
theorem dL_law_260 : decode cL_law 260 = .ok (.iload_n 3, 1) := by decide +kernel
theorem dL_law_261 : decode cL_law 261 = .ok (.iconst 1, 1) := by decide +kernel
theorem dL_law_262 : decode cL_law 262 = .ok (.iadd, 1) := by decide +kernel
theorem dL_law_263 : decode cL_law 263 = .ok (.iaload, 1) := by decide +kernel
theorem dL_law_264 : decode cL_law 264 = .ok (.aload_n 0, 1) := by decide +kernel
theorem dL_law_265 : decode cL_law 265 = .ok (.iload_n 3, 1) := by decide +kernel
theorem dL_law_266 : decode cL_law 266 = .ok (.iconst 2, 1) := by decide +kernel
theorem dL_law_267 : decode cL_law 267 = .ok (.iadd, 1) := by decide +kernel
theorem dL_law_268 : decode cL_law 268 = .ok (.iaload, 1) := by decide +kernel
theorem dL_law_269 : decode cL_law 269 = .ok (.aload_n 0, 1) := by decide +kernel
theorem dL_law_270 : decode cL_law 270 = .ok (.iload_n 3, 1) := by decide +kernel
theorem dL_law_271 : decode cL_law 271 = .ok (.iconst 3, 1) := by decide +kernel
theorem dL_law_272 : decode cL_law 272 = .ok (.iadd, 1) := by decide +kernel
theorem dL_law_273 : decode cL_law 273 = .ok (.iaload, 1) := by decide +kernel
theorem dL_law_274 : decode cL_law 274 = .ok (.aload_n 0, 1) := by decide +kernel
theorem dL_law_275 : decode cL_law 275 = .ok (.iload_n 3, 1) := by decide +kernel
theorem dL_law_276 : decode cL_law 276 = .ok (.iconst 4, 1) := by decide +kernel
theorem dL_law_277 : decode cL_law 277 = .ok (.iadd, 1) := by decide +kernel
theorem dL_law_278 : decode cL_law 278 = .ok (.iaload, 1) := by decide +kernel
theorem dL_law_279 : decode cL_law 279 = .ok (.invokevirtual 32, 3) := by decide +kernel
theorem dL_law_282 : decode cL_law 282 = .ok (.aload_n 2, 1) := by decide +kernel
theorem dL_law_283 : decode cL_law 283 = .ok (.aload_n 0, 1) := by decide +kernel
theorem dL_law_284 : decode cL_law 284 = .ok (.iload_n 3, 1) := by decide +kernel
theorem dL_law_285 : decode cL_law 285 = .ok (.iconst 1, 1) := by decide +kernel
theorem dL_law_286 : decode cL_law 286 = .ok (.iadd, 1) := by decide +kernel
theorem dL_law_287 : decode cL_law 287 = .ok (.iaload, 1) := by decide +kernel
theorem dL_law_288 : decode cL_law 288 = .ok (.aload_n 0, 1) := by decide +kernel
theorem dL_law_289 : decode cL_law 289 = .ok (.iload_n 3, 1) := by decide +kernel
theorem dL_law_290 : decode cL_law 290 = .ok (.iconst 2, 1) := by decide +kernel
theorem dL_law_291 : decode cL_law 291 = .ok (.iadd, 1) := by decide +kernel
theorem dL_law_292 : decode cL_law 292 = .ok (.iaload, 1) := by decide +kernel
theorem dL_law_293 : decode cL_law 293 = .ok (.aload_n 0, 1) := by decide +kernel
theorem dL_law_294 : decode cL_law 294 = .ok (.iload_n 3, 1) := by decide +kernel
theorem dL_law_295 : decode cL_law 295 = .ok (.iconst 3, 1) := by decide +kernel
theorem dL_law_296 : decode cL_law 296 = .ok (.iadd, 1) := by decide +kernel
theorem dL_law_297 : decode cL_law 297 = .ok (.iaload, 1) := by decide +kernel
theorem dL_law_298 : decode cL_law 298 = .ok (.aload_n 0, 1) := by decide +kernel
theorem dL_law_299 : decode cL_law 299 = .ok (.iload_n 3, 1) := by decide +kernel
theorem dL_law_300 : decode cL_law 300 = .ok (.iconst 4, 1) := by decide +kernel
theorem dL_law_301 : decode cL_law 301 = .ok (.iadd, 1) := by decide +kernel
theorem dL_law_302 : decode cL_law 302 = .ok (.iaload, 1) := by decide +kernel
theorem dL_law_303 : decode cL_law 303 = .ok (.invokevirtual 35, 3) := by decide +kernel
theorem dL_law_306 : decode cL_law 306 = .ok (.if_icmp .eq 224, 3) := by decide +kernel
theorem dL_law_309 : decode cL_law 309 = .ok (.iconst 0, 1) := by decide +kernel
theorem dL_law_310 : decode cL_law 310 = .ok (.ireturn, 1) := by decide +kernel
theorem dL_law_311 : decode cL_law 311 = .ok (.aload_n 1, 1) := by decide +kernel
theorem dL_law_312 : decode cL_law 312 = .ok (.aload_n 0, 1) := by decide +kernel
theorem dL_law_313 : decode cL_law 313 = .ok (.iload_n 3, 1) := by decide +kernel
theorem dL_law_314 : decode cL_law 314 = .ok (.iconst 1, 1) := by decide +kernel
theorem dL_law_315 : decode cL_law 315 = .ok (.iadd, 1) := by decide +kernel
theorem dL_law_316 : decode cL_law 316 = .ok (.iaload, 1) := by decide +kernel
theorem dL_law_317 : decode cL_law 317 = .ok (.aload_n 0, 1) := by decide +kernel
theorem dL_law_318 : decode cL_law 318 = .ok (.iload_n 3, 1) := by decide +kernel
theorem dL_law_319 : decode cL_law 319 = .ok (.iconst 2, 1) := by decide +kernel
theorem dL_law_320 : decode cL_law 320 = .ok (.iadd, 1) := by decide +kernel
theorem dL_law_321 : decode cL_law 321 = .ok (.iaload, 1) := by decide +kernel
theorem dL_law_322 : decode cL_law 322 = .ok (.aload_n 0, 1) := by decide +kernel
theorem dL_law_323 : decode cL_law 323 = .ok (.iload_n 3, 1) := by decide +kernel
theorem dL_law_324 : decode cL_law 324 = .ok (.iconst 3, 1) := by decide +kernel
theorem dL_law_325 : decode cL_law 325 = .ok (.iadd, 1) := by decide +kernel
theorem dL_law_326 : decode cL_law 326 = .ok (.iaload, 1) := by decide +kernel
theorem dL_law_327 : decode cL_law 327 = .ok (.invokevirtual 36, 3) := by decide +kernel
theorem dL_law_330 : decode cL_law 330 = .ok (.aload_n 2, 1) := by decide +kernel
theorem dL_law_331 : decode cL_law 331 = .ok (.aload_n 0, 1) := by decide +kernel
theorem dL_law_332 : decode cL_law 332 = .ok (.iload_n 3, 1) := by decide +kernel
theorem dL_law_333 : decode cL_law 333 = .ok (.iconst 1, 1) := by decide +kernel
theorem dL_law_334 : decode cL_law 334 = .ok (.iadd, 1) := by decide +kernel
theorem dL_law_335 : decode cL_law 335 = .ok (.iaload, 1) := by decide +kernel
theorem dL_law_336 : decode cL_law 336 = .ok (.aload_n 0, 1) := by decide +kernel
theorem dL_law_337 : decode cL_law 337 = .ok (.iload_n 3, 1) := by decide +kernel
theorem dL_law_338 : decode cL_law 338 = .ok (.iconst 2, 1) := by decide +kernel
theorem dL_law_339 : decode cL_law 339 = .ok (.iadd, 1) := by decide +kernel
theorem dL_law_340 : decode cL_law 340 = .ok (.iaload, 1) := by decide +kernel
theorem dL_law_341 : decode cL_law 341 = .ok (.aload_n 0, 1) := by decide +kernel
theorem dL_law_342 : decode cL_law 342 = .ok (.iload_n 3, 1) := by decide +kernel
theorem dL_law_343 : decode cL_law 343 = .ok (.iconst 3, 1) := by decide +kernel
theorem dL_law_344 : decode cL_law 344 = .ok (.iadd, 1) := by decide +kernel
theorem dL_law_345 : decode cL_law 345 = .ok (.iaload, 1) := by decide +kernel
theorem dL_law_346 : decode cL_law 346 = .ok (.invokevirtual 39, 3) := by decide +kernel
theorem dL_law_349 : decode cL_law 349 = .ok (.if_icmp .eq 181, 3) := by decide +kernel
theorem dL_law_352 : decode cL_law 352 = .ok (.iconst 0, 1) := by decide +kernel
theorem dL_law_353 : decode cL_law 353 = .ok (.ireturn, 1) := by decide +kernel
theorem dL_law_354 : decode cL_law 354 = .ok (.aload_n 1, 1) := by decide +kernel
theorem dL_law_355 : decode cL_law 355 = .ok (.invokevirtual 40, 3) := by decide +kernel
theorem dL_law_358 : decode cL_law 358 = .ok (.aload_n 2, 1) := by decide +kernel
theorem dL_law_359 : decode cL_law 359 = .ok (.invokevirtual 43, 3) := by decide +kernel
theorem dL_law_362 : decode cL_law 362 = .ok (.goto 168, 3) := by decide +kernel
theorem dL_law_365 : decode cL_law 365 = .ok (.aload_n 1, 1) := by decide +kernel
theorem dL_law_366 : decode cL_law 366 = .ok (.aload_n 0, 1) := by decide +kernel
theorem dL_law_367 : decode cL_law 367 = .ok (.iload_n 3, 1) := by decide +kernel
theorem dL_law_368 : decode cL_law 368 = .ok (.iconst 1, 1) := by decide +kernel
theorem dL_law_369 : decode cL_law 369 = .ok (.iadd, 1) := by decide +kernel
theorem dL_law_370 : decode cL_law 370 = .ok (.iaload, 1) := by decide +kernel
theorem dL_law_371 : decode cL_law 371 = .ok (.invokevirtual 44, 3) := by decide +kernel
theorem dL_law_374 : decode cL_law 374 = .ok (.aload_n 2, 1) := by decide +kernel
theorem dL_law_375 : decode cL_law 375 = .ok (.aload_n 0, 1) := by decide +kernel
theorem dL_law_376 : decode cL_law 376 = .ok (.iload_n 3, 1) := by decide +kernel
theorem dL_law_377 : decode cL_law 377 = .ok (.iconst 1, 1) := by decide +kernel
theorem dL_law_378 : decode cL_law 378 = .ok (.iadd, 1) := by decide +kernel
theorem dL_law_379 : decode cL_law 379 = .ok (.iaload, 1) := by decide +kernel
theorem dL_law_380 : decode cL_law 380 = .ok (.invokevirtual 47, 3) := by decide +kernel
theorem dL_law_383 : decode cL_law 383 = .ok (.if_icmp .eq 147, 3) := by decide +kernel
theorem dL_law_386 : decode cL_law 386 = .ok (.iconst 0, 1) := by decide +kernel
theorem dL_law_387 : decode cL_law 387 = .ok (.ireturn, 1) := by decide +kernel
theorem dL_law_388 : decode cL_law 388 = .ok (.aload_n 1, 1) := by decide +kernel
theorem dL_law_389 : decode cL_law 389 = .ok (.aload_n 0, 1) := by decide +kernel
theorem dL_law_390 : decode cL_law 390 = .ok (.iload_n 3, 1) := by decide +kernel
theorem dL_law_391 : decode cL_law 391 = .ok (.iconst 1, 1) := by decide +kernel
theorem dL_law_392 : decode cL_law 392 = .ok (.iadd, 1) := by decide +kernel
theorem dL_law_393 : decode cL_law 393 = .ok (.iaload, 1) := by decide +kernel
theorem dL_law_394 : decode cL_law 394 = .ok (.aload_n 0, 1) := by decide +kernel
theorem dL_law_395 : decode cL_law 395 = .ok (.iload_n 3, 1) := by decide +kernel
theorem dL_law_396 : decode cL_law 396 = .ok (.iconst 2, 1) := by decide +kernel
theorem dL_law_397 : decode cL_law 397 = .ok (.iadd, 1) := by decide +kernel
theorem dL_law_398 : decode cL_law 398 = .ok (.iaload, 1) := by decide +kernel
theorem dL_law_399 : decode cL_law 399 = .ok (.invokevirtual 48, 3) := by decide +kernel
theorem dL_law_402 : decode cL_law 402 = .ok (.aload_n 2, 1) := by decide +kernel
theorem dL_law_403 : decode cL_law 403 = .ok (.aload_n 0, 1) := by decide +kernel
theorem dL_law_404 : decode cL_law 404 = .ok (.iload_n 3, 1) := by decide +kernel
theorem dL_law_405 : decode cL_law 405 = .ok (.iconst 1, 1) := by decide +kernel
theorem dL_law_406 : decode cL_law 406 = .ok (.iadd, 1) := by decide +kernel
theorem dL_law_407 : decode cL_law 407 = .ok (.iaload, 1) := by decide +kernel
theorem dL_law_408 : decode cL_law 408 = .ok (.aload_n 0, 1) := by decide +kernel
theorem dL_law_409 : decode cL_law 409 = .ok (.iload_n 3, 1) := by decide +kernel
theorem dL_law_410 : decode cL_law 410 = .ok (.iconst 2, 1) := by decide +kernel
theorem dL_law_411 : decode cL_law 411 = .ok (.iadd, 1) := by decide +kernel
theorem dL_law_412 : decode cL_law 412 = .ok (.iaload, 1) := by decide +kernel
theorem dL_law_413 : decode cL_law 413 = .ok (.invokevirtual 52, 3) := by decide +kernel
theorem dL_law_416 : decode cL_law 416 = .ok (.if_icmp .eq 114, 3) := by decide +kernel
theorem dL_law_419 : decode cL_law 419 = .ok (.iconst 0, 1) := by decide +kernel
theorem dL_law_420 : decode cL_law 420 = .ok (.ireturn, 1) := by decide +kernel
theorem dL_law_421 : decode cL_law 421 = .ok (.aload_n 1, 1) := by decide +kernel
theorem dL_law_422 : decode cL_law 422 = .ok (.aload_n 0, 1) := by decide +kernel
theorem dL_law_423 : decode cL_law 423 = .ok (.iload_n 3, 1) := by decide +kernel
theorem dL_law_424 : decode cL_law 424 = .ok (.iconst 1, 1) := by decide +kernel
theorem dL_law_425 : decode cL_law 425 = .ok (.iadd, 1) := by decide +kernel
theorem dL_law_426 : decode cL_law 426 = .ok (.iaload, 1) := by decide +kernel
theorem dL_law_427 : decode cL_law 427 = .ok (.aload_n 0, 1) := by decide +kernel
theorem dL_law_428 : decode cL_law 428 = .ok (.iload_n 3, 1) := by decide +kernel
theorem dL_law_429 : decode cL_law 429 = .ok (.iconst 2, 1) := by decide +kernel
theorem dL_law_430 : decode cL_law 430 = .ok (.iadd, 1) := by decide +kernel
theorem dL_law_431 : decode cL_law 431 = .ok (.iaload, 1) := by decide +kernel
theorem dL_law_432 : decode cL_law 432 = .ok (.invokevirtual 53, 3) := by decide +kernel
theorem dL_law_435 : decode cL_law 435 = .ok (.aload_n 2, 1) := by decide +kernel
theorem dL_law_436 : decode cL_law 436 = .ok (.aload_n 0, 1) := by decide +kernel
theorem dL_law_437 : decode cL_law 437 = .ok (.iload_n 3, 1) := by decide +kernel
theorem dL_law_438 : decode cL_law 438 = .ok (.iconst 1, 1) := by decide +kernel
theorem dL_law_439 : decode cL_law 439 = .ok (.iadd, 1) := by decide +kernel
theorem dL_law_440 : decode cL_law 440 = .ok (.iaload, 1) := by decide +kernel
theorem dL_law_441 : decode cL_law 441 = .ok (.aload_n 0, 1) := by decide +kernel
theorem dL_law_442 : decode cL_law 442 = .ok (.iload_n 3, 1) := by decide +kernel
theorem dL_law_443 : decode cL_law 443 = .ok (.iconst 2, 1) := by decide +kernel
theorem dL_law_444 : decode cL_law 444 = .ok (.iadd, 1) := by decide +kernel
theorem dL_law_445 : decode cL_law 445 = .ok (.iaload, 1) := by decide +kernel
theorem dL_law_446 : decode cL_law 446 = .ok (.invokevirtual 56, 3) := by decide +kernel
theorem dL_law_449 : decode cL_law 449 = .ok (.if_icmp .eq 81, 3) := by decide +kernel
theorem dL_law_452 : decode cL_law 452 = .ok (.iconst 0, 1) := by decide +kernel
theorem dL_law_453 : decode cL_law 453 = .ok (.ireturn, 1) := by decide +kernel
theorem dL_law_454 : decode cL_law 454 = .ok (.aload_n 1, 1) := by decide +kernel
theorem dL_law_455 : decode cL_law 455 = .ok (.aload_n 0, 1) := by decide +kernel
theorem dL_law_456 : decode cL_law 456 = .ok (.iload_n 3, 1) := by decide +kernel
theorem dL_law_457 : decode cL_law 457 = .ok (.iconst 1, 1) := by decide +kernel
theorem dL_law_458 : decode cL_law 458 = .ok (.iadd, 1) := by decide +kernel
theorem dL_law_459 : decode cL_law 459 = .ok (.iaload, 1) := by decide +kernel
theorem dL_law_460 : decode cL_law 460 = .ok (.aload_n 0, 1) := by decide +kernel
theorem dL_law_461 : decode cL_law 461 = .ok (.iload_n 3, 1) := by decide +kernel
theorem dL_law_462 : decode cL_law 462 = .ok (.iconst 2, 1) := by decide +kernel
theorem dL_law_463 : decode cL_law 463 = .ok (.iadd, 1) := by decide +kernel
theorem dL_law_464 : decode cL_law 464 = .ok (.iaload, 1) := by decide +kernel
theorem dL_law_465 : decode cL_law 465 = .ok (.aload_n 0, 1) := by decide +kernel
theorem dL_law_466 : decode cL_law 466 = .ok (.iload_n 3, 1) := by decide +kernel
theorem dL_law_467 : decode cL_law 467 = .ok (.iconst 3, 1) := by decide +kernel
theorem dL_law_468 : decode cL_law 468 = .ok (.iadd, 1) := by decide +kernel
theorem dL_law_469 : decode cL_law 469 = .ok (.iaload, 1) := by decide +kernel
theorem dL_law_470 : decode cL_law 470 = .ok (.invokevirtual 57, 3) := by decide +kernel
theorem dL_law_473 : decode cL_law 473 = .ok (.aload_n 2, 1) := by decide +kernel
theorem dL_law_474 : decode cL_law 474 = .ok (.aload_n 0, 1) := by decide +kernel
theorem dL_law_475 : decode cL_law 475 = .ok (.iload_n 3, 1) := by decide +kernel
theorem dL_law_476 : decode cL_law 476 = .ok (.iconst 1, 1) := by decide +kernel
theorem dL_law_477 : decode cL_law 477 = .ok (.iadd, 1) := by decide +kernel
theorem dL_law_478 : decode cL_law 478 = .ok (.iaload, 1) := by decide +kernel
theorem dL_law_479 : decode cL_law 479 = .ok (.aload_n 0, 1) := by decide +kernel
theorem dL_law_480 : decode cL_law 480 = .ok (.iload_n 3, 1) := by decide +kernel
theorem dL_law_481 : decode cL_law 481 = .ok (.iconst 2, 1) := by decide +kernel
theorem dL_law_482 : decode cL_law 482 = .ok (.iadd, 1) := by decide +kernel
theorem dL_law_483 : decode cL_law 483 = .ok (.iaload, 1) := by decide +kernel
theorem dL_law_484 : decode cL_law 484 = .ok (.aload_n 0, 1) := by decide +kernel
theorem dL_law_485 : decode cL_law 485 = .ok (.iload_n 3, 1) := by decide +kernel
theorem dL_law_486 : decode cL_law 486 = .ok (.iconst 3, 1) := by decide +kernel
theorem dL_law_487 : decode cL_law 487 = .ok (.iadd, 1) := by decide +kernel
theorem dL_law_488 : decode cL_law 488 = .ok (.iaload, 1) := by decide +kernel
theorem dL_law_489 : decode cL_law 489 = .ok (.invokevirtual 60, 3) := by decide +kernel
theorem dL_law_492 : decode cL_law 492 = .ok (.if_icmp .eq 38, 3) := by decide +kernel
theorem dL_law_495 : decode cL_law 495 = .ok (.iconst 0, 1) := by decide +kernel
theorem dL_law_496 : decode cL_law 496 = .ok (.ireturn, 1) := by decide +kernel
theorem dL_law_497 : decode cL_law 497 = .ok (.aload_n 1, 1) := by decide +kernel
theorem dL_law_498 : decode cL_law 498 = .ok (.aload_n 0, 1) := by decide +kernel
theorem dL_law_499 : decode cL_law 499 = .ok (.iload_n 3, 1) := by decide +kernel
theorem dL_law_500 : decode cL_law 500 = .ok (.iconst 1, 1) := by decide +kernel
theorem dL_law_501 : decode cL_law 501 = .ok (.iadd, 1) := by decide +kernel
theorem dL_law_502 : decode cL_law 502 = .ok (.iaload, 1) := by decide +kernel
theorem dL_law_503 : decode cL_law 503 = .ok (.aload_n 0, 1) := by decide +kernel
theorem dL_law_504 : decode cL_law 504 = .ok (.iload_n 3, 1) := by decide +kernel
theorem dL_law_505 : decode cL_law 505 = .ok (.iconst 2, 1) := by decide +kernel
theorem dL_law_506 : decode cL_law 506 = .ok (.iadd, 1) := by decide +kernel
theorem dL_law_507 : decode cL_law 507 = .ok (.iaload, 1) := by decide +kernel
theorem dL_law_508 : decode cL_law 508 = .ok (.invokevirtual 61, 3) := by decide +kernel
theorem dL_law_511 : decode cL_law 511 = .ok (.aload_n 2, 1) := by decide +kernel
theorem dL_law_512 : decode cL_law 512 = .ok (.aload_n 0, 1) := by decide +kernel
theorem dL_law_513 : decode cL_law 513 = .ok (.iload_n 3, 1) := by decide +kernel
theorem dL_law_514 : decode cL_law 514 = .ok (.iconst 1, 1) := by decide +kernel
theorem dL_law_515 : decode cL_law 515 = .ok (.iadd, 1) := by decide +kernel
theorem dL_law_516 : decode cL_law 516 = .ok (.iaload, 1) := by decide +kernel
theorem dL_law_517 : decode cL_law 517 = .ok (.aload_n 0, 1) := by decide +kernel
theorem dL_law_518 : decode cL_law 518 = .ok (.iload_n 3, 1) := by decide +kernel
theorem dL_law_519 : decode cL_law 519 = .ok (.iconst 2, 1) := by decide +kernel
theorem dL_law_520 : decode cL_law 520 = .ok (.iadd, 1) := by decide +kernel
theorem dL_law_521 : decode cL_law 521 = .ok (.iaload, 1) := by decide +kernel
theorem dL_law_522 : decode cL_law 522 = .ok (.invokevirtual 64, 3) := by decide +kernel
theorem dL_law_525 : decode cL_law 525 = .ok (.if_icmp .eq 5, 3) := by decide +kernel
theorem dL_law_528 : decode cL_law 528 = .ok (.iconst 0, 1) := by decide +kernel
theorem dL_law_529 : decode cL_law 529 = .ok (.ireturn, 1) := by decide +kernel
theorem dL_law_530 : decode cL_law 530 = .ok (.iinc 3 5, 3) := by decide +kernel
theorem dL_law_533 : decode cL_law 533 = .ok (.goto (-515), 3) := by decide +kernel
theorem dL_law_536 : decode cL_law 536 = .ok (.iconst 1, 1) := by decide +kernel
theorem dL_law_537 : decode cL_law 537 = .ok (.ireturn, 1) := by decide +kernel
end
section
/-! base: the worlds of the two objects, a body's entry, calls, rows with natural indices -/
abbrev vwCl : List vw_C := [(RX0, TX0, 15), (RX1, TX1, 9)]
abbrev rmK (k : Nat) : Room := { frames := k, cells := 0, slots := 0, locals := 30 * k }
def CtxB (p : Program) (s : State) (m : MethodId) (args : Array Value) (meth : Method) (c : Code) (own : String) (cc : ByteArray) (nL : Nat) (ret : Option FieldType) : Prop :=
  p.tables.exec = Jvm.exec ∧ c.code = cc ∧ c.maxLocals = nL ∧ s.vm.findClass own = some m.cls ∧ (∀ w ∈ lw_all, w.before args s = true) ∧ meth.sig.returnType = ret ∧ meth.locks = false
abbrev PcW (D : va_G) (tys : List (ClassId × FieldType)) (w : va_W) (av : List Value) : Array Value → State → Prop := va_Pc av (fun U => va_K D vwCl tys U ∧ va_P D vwCl w U.heap)
theorem PcW_blind {D : va_G} {tys : List (ClassId × FieldType)} {w : va_W} {av : List Value} : FrameBlind (PcW D tys w av) :=
  fun a U g mk q => by
    obtain ⟨q0, qK, qP⟩ := q
    exact ⟨q0, va_K.moved (u := U) (U := U.calling g mk a) (Vm.Alike.refl U.vm) qK, qP⟩
/-- cells at the addresses ad 0 .. ad (n-1) -/
abbrev AdX (n : Nat) (ad : Nat → Nat) : Nat → Prop := fun q => ∃ k, k < n ∧ q = ad k
def apt (n : Nat) (ad : Nat → Nat) : Prop := ∀ i j, i < n → j < n → ad i = ad j → i = j
theorem dAd {n : Nat} {ad : Nat → Nat} {ws : va_W} (h : apt n ad) (e : ws.map (fun q => q.1) = (List.range n).map ad) : va_D (AdX n ad) ws := by
  have key : ∀ (i : Nat) (q : Nat × va_E), ws[i]? = some q → i < n ∧ q.1 = ad i := by
    intro i q hq
    have h1 : (ws.map (fun q => q.1))[i]? = some q.1 := by rw [List.getElem?_map, hq]; rfl
    rw [e, List.getElem?_map] at h1
    by_cases hi : i < n
    · rw [List.getElem?_range hi] at h1
      exact ⟨hi, (Option.some.inj h1).symm⟩
    · rw [List.getElem?_eq_none (by simpa using Nat.le_of_not_lt hi)] at h1
      cases h1
  refine ⟨fun i j p q hi hj hpq => ?_, fun k q hk => ?_⟩
  · obtain ⟨a1, a2⟩ := key i p hi
    obtain ⟨b1, b2⟩ := key j q hj
    exact h i j a1 b1 (by rw [← a2, ← b2]; exact hpq)
  · obtain ⟨a1, a2⟩ := key k q hk
    exact ⟨k, a1, a2⟩
section EN
variable {S : Type} {l : Launch} {y : MethodName} {cc : ByteArray} {nL : Nat} {rm : Room} {D : va_G} {tys : List (ClassId × FieldType)} {w : va_W} {av : List Value} {B : S → va_W} {A : Nat → Prop} {own : String}
set_option maxHeartbeats 1000000 in
theorem en_i {post : Int32 → S → Prop} (hy : plainName y.cls = true) (ho : y.cls = own) (hn : (lg_sl av).length ≤ nL)
    (body : ∀ (p : Program) (e : Env) (s : State) (m : MethodId) (below : List Frame) (meth : Method) (c : Code) (R : Room) (Q : State → Prop) (ls : Array Slot), R = rm → CtxB p s m av.toArray meth c own cc nL (some .int) → va_K D vwCl tys s → va_P D vwCl w s.heap → lv_has ls nL (lv_args 0 av) →
      (∀ (v : Int32) (u : S) (H : Heap) (locs : List Loc) (pc : Nat) (ls : Array Slot), decode cc pc = .ok (.ireturn, 1) → va_P D vwCl (B u) H → va_S A s.heap H locs → post v u → W p l e R s m av.toArray below meth c H locs 0 0 Q (F0 m pc ls [.int v])) →
      W p l e R s m av.toArray below meth c s.heap [] 0 0 Q (F0 m 0 ls [])) :
    Met l y (ws_ y cc nL (some .int)) rm (PcW D tys w av) (va_Qi post (fun u t => va_P D vwCl (B u) t.heap) A) 0 0 A := by
  refine Met.ofW (cc := cc) (maxL := nL) (ret := some .int) hy rfl ?_
  intro p e s m args below meth c s₁ Bd hml hv
  obtain ⟨rfl, hK, hP⟩ := hv
  have hts0 := atoms_spec (ws := ws_ y cc nL (some .int)) Bd.pre
  have hts : ∀ w ∈ lw_all, w.before av.toArray s = true := fun w h => hts0 w (List.mem_cons_of_mem _ h)
  have hown : s.vm.findClass own = some m.cls := by rw [← ho]; exact findClass_of_methodNamed Bd.named
  have hl := lv_entry av (n := nL) hn
  rw [lg_entry_eq]
  refine body p e s m below meth c _ _ _ rfl ⟨Bd.exec, Bd.bytes, hml, hown, hts, Bd.returns, Bd.notSynchronized⟩ hK hP hl ?_
  intro v u H locs pc ls hd hP hS hp
  exact W.iret Bd.exec Bd.bytes Bd.returns (fun t ht hW => ⟨⟨v, u, rfl, hp, by show va_P D vwCl (B u) t.heap; rw [ht]; exact hP⟩, hS.F ht⟩) hS.2.2 hd Bd.notSynchronized
set_option maxHeartbeats 1000000 in
theorem en_z {post : Int32 → S → Prop} (hy : plainName y.cls = true) (ho : y.cls = own) (hn : (lg_sl av).length ≤ nL)
    (body : ∀ (p : Program) (e : Env) (s : State) (m : MethodId) (below : List Frame) (meth : Method) (c : Code) (R : Room) (Q : State → Prop) (ls : Array Slot), R = rm → CtxB p s m av.toArray meth c own cc nL (some .boolean) → va_K D vwCl tys s → va_P D vwCl w s.heap → lv_has ls nL (lv_args 0 av) →
      (∀ (v : Int32) (u : S) (H : Heap) (locs : List Loc) (pc : Nat) (ls : Array Slot), decode cc pc = .ok (.ireturn, 1) → narrow .boolean (.int v) = .int v → va_P D vwCl (B u) H → va_S A s.heap H locs → post v u → W p l e R s m av.toArray below meth c H locs 0 0 Q (F0 m pc ls [.int v])) →
      W p l e R s m av.toArray below meth c s.heap [] 0 0 Q (F0 m 0 ls [])) :
    Met l y (ws_ y cc nL (some .boolean)) rm (PcW D tys w av) (va_Qi post (fun u t => va_P D vwCl (B u) t.heap) A) 0 0 A := by
  refine Met.ofW (cc := cc) (maxL := nL) (ret := some .boolean) hy rfl ?_
  intro p e s m args below meth c s₁ Bd hml hv
  obtain ⟨rfl, hK, hP⟩ := hv
  have hts0 := atoms_spec (ws := ws_ y cc nL (some .boolean)) Bd.pre
  have hts : ∀ w ∈ lw_all, w.before av.toArray s = true := fun w h => hts0 w (List.mem_cons_of_mem _ h)
  have hown : s.vm.findClass own = some m.cls := by rw [← ho]; exact findClass_of_methodNamed Bd.named
  have hl := lv_entry av (n := nL) hn
  rw [lg_entry_eq]
  refine body p e s m below meth c _ _ _ rfl ⟨Bd.exec, Bd.bytes, hml, hown, hts, Bd.returns, Bd.notSynchronized⟩ hK hP hl ?_
  intro v u H locs pc ls hd hnw hP hS hp
  exact W.zret Bd.exec Bd.bytes Bd.returns hnw (fun t ht hW => ⟨⟨v, u, rfl, hp, by show va_P D vwCl (B u) t.heap; rw [ht]; exact hP⟩, hS.F ht⟩) hS.2.2 hd Bd.notSynchronized
set_option maxHeartbeats 1000000 in
theorem en_l {post : Int64 → S → Prop} (hy : plainName y.cls = true) (ho : y.cls = own) (hn : (lg_sl av).length ≤ nL)
    (body : ∀ (p : Program) (e : Env) (s : State) (m : MethodId) (below : List Frame) (meth : Method) (c : Code) (R : Room) (Q : State → Prop) (ls : Array Slot), R = rm → CtxB p s m av.toArray meth c own cc nL (some .long) → va_K D vwCl tys s → va_P D vwCl w s.heap → lv_has ls nL (lv_args 0 av) →
      (∀ (v : Int64) (u : S) (H : Heap) (locs : List Loc) (pc : Nat) (ls : Array Slot), decode cc pc = .ok (.lreturn, 1) → va_P D vwCl (B u) H → va_S A s.heap H locs → post v u → W p l e R s m av.toArray below meth c H locs 0 0 Q (F0 m pc ls [.long v])) →
      W p l e R s m av.toArray below meth c s.heap [] 0 0 Q (F0 m 0 ls [])) :
    Met l y (ws_ y cc nL (some .long)) rm (PcW D tys w av) (va_Ql post (fun u t => va_P D vwCl (B u) t.heap) A) 0 0 A := by
  refine Met.ofW (cc := cc) (maxL := nL) (ret := some .long) hy rfl ?_
  intro p e s m args below meth c s₁ Bd hml hv
  obtain ⟨rfl, hK, hP⟩ := hv
  have hts0 := atoms_spec (ws := ws_ y cc nL (some .long)) Bd.pre
  have hts : ∀ w ∈ lw_all, w.before av.toArray s = true := fun w h => hts0 w (List.mem_cons_of_mem _ h)
  have hown : s.vm.findClass own = some m.cls := by rw [← ho]; exact findClass_of_methodNamed Bd.named
  have hl := lv_entry av (n := nL) hn
  rw [lg_entry_eq]
  refine body p e s m below meth c _ _ _ rfl ⟨Bd.exec, Bd.bytes, hml, hown, hts, Bd.returns, Bd.notSynchronized⟩ hK hP hl ?_
  intro v u H locs pc ls hd hP hS hp
  exact W.lret Bd.exec Bd.bytes Bd.returns (fun t ht hW => ⟨⟨v, u, rfl, hp, by show va_P D vwCl (B u) t.heap; rw [ht]; exact hP⟩, hS.F ht⟩) hS.2.2 hd Bd.notSynchronized
set_option maxHeartbeats 1000000 in
theorem en_v {post : S → Prop} (hy : plainName y.cls = true) (ho : y.cls = own) (hn : (lg_sl av).length ≤ nL)
    (body : ∀ (p : Program) (e : Env) (s : State) (m : MethodId) (below : List Frame) (meth : Method) (c : Code) (R : Room) (Q : State → Prop) (ls : Array Slot), R = rm → CtxB p s m av.toArray meth c own cc nL none → va_K D vwCl tys s → va_P D vwCl w s.heap → lv_has ls nL (lv_args 0 av) →
      (∀ (u : S) (H : Heap) (locs : List Loc) (pc : Nat) (ls : Array Slot), decode cc pc = .ok (.return_, 1) → va_P D vwCl (B u) H → va_S A s.heap H locs → post u → W p l e R s m av.toArray below meth c H locs 0 0 Q (F0 m pc ls [])) →
      W p l e R s m av.toArray below meth c s.heap [] 0 0 Q (F0 m 0 ls [])) :
    Met l y (ws_ y cc nL none) rm (PcW D tys w av) (va_Qv post (fun u t => va_P D vwCl (B u) t.heap) A) 0 0 A := by
  refine Met.ofW (cc := cc) (maxL := nL) (ret := none) hy rfl ?_
  intro p e s m args below meth c s₁ Bd hml hv
  obtain ⟨rfl, hK, hP⟩ := hv
  have hts0 := atoms_spec (ws := ws_ y cc nL none) Bd.pre
  have hts : ∀ w ∈ lw_all, w.before av.toArray s = true := fun w h => hts0 w (List.mem_cons_of_mem _ h)
  have hown : s.vm.findClass own = some m.cls := by rw [← ho]; exact findClass_of_methodNamed Bd.named
  have hl := lv_entry av (n := nL) hn
  rw [lg_entry_eq]
  refine body p e s m below meth c _ _ _ rfl ⟨Bd.exec, Bd.bytes, hml, hown, hts, Bd.returns, Bd.notSynchronized⟩ hK hP hl ?_
  intro u H locs pc ls hd hP hS hp
  exact W.vret Bd.exec Bd.bytes Bd.returns (fun t ht hW => ⟨⟨u, rfl, hp, by show va_P D vwCl (B u) t.heap; rw [ht]; exact hP⟩, hS.F ht⟩) hS.2.2 hd Bd.notSynchronized
end EN
section CA
variable {S : Type} {p : Program} {l : Launch} {e : Env} {R : Room} {s : State} {m : MethodId} {args : Array Value} {below : List Frame} {meth : Method} {c : Code} {H : Heap} {locs : List Loc} {cells slots : Nat} {Q : State → Prop} {cc cb : ByteArray} {pc nL mL n index : Nat} {ls : Array Slot} {rest st As : List Value} {D : va_G} {tys : List (ClassId × FieldType)} {w : va_W} {b : Nat} {B : S → va_W} {A0 A1 : Nat → Prop} {own Cn : String} {ret r0 : Option FieldType} {y : MethodName} {rm : Room}
set_option maxHeartbeats 1000000 in
/-- a call through an object, answer an int or a boolean -/
theorem ca_i {post : Int32 → S → Prop} (hC : CtxB p s m args meth c own cc nL ret)
    (hM : Met l y (ws_ y cb mL r0) rm (PcW D tys w (.ref b :: As)) (va_Qi post (fun u t => va_P D vwCl (B u) t.heap) A1) 0 0 A1)
    (cw : CallW R s args own Cn index y cb mL r0 (ws_ y cb mL r0) rm 0 0 n) (hK : va_K D vwCl tys s) (hP : va_P D vwCl w H)
    (hrec : ∃ cell : Cell, H[b]? = some cell ∧ cell.vm.isStatics = false ∧ s.vm.findClass Cn = some cell.cls)
    (hn : As.length = n) (hsz : ls.size = nL) (hst : st = As.reverse ++ .ref b :: rest) (hW : (rest.map fun v => v.category).sum ≤ 8)
    (hd : decode cc pc = .ok (.invokevirtual index, 3)) (hf : cells ≤ R.cells ∧ slots ≤ R.slots) (hS : va_S A0 s.heap H locs) (hA : ∀ q, A1 q → A0 q)
    (kk : ∀ (r : Int32) (u : S) (H1 : Heap) (locs1 : List Loc), post r u → va_P D vwCl (B u) H1 → (∀ q : Nat, q < H.size → ¬ A1 q → H1[q]? = H[q]?) → va_S A0 s.heap H1 locs1 → W p l e R s m args below meth c H1 locs1 cells slots Q (F0 m (pc + 3) ls (.int r :: rest))) :
    W p l e R s m args below meth c H locs cells slots Q (F0 m pc ls st) := by
  refine va_calli (va_runV (As := As) (rest := rest) ⟨hC.1, hC.2.1, hC.2.2.1, hC.2.2.2.1, hC.2.2.2.2.1⟩ hM cw ⟨PcW_blind, hrec, fun U hU hW => ⟨rfl, va_K.moved hW.alike hK, by rw [hU]; exact hP⟩⟩ rfl hn hsz hst (lv_room hW) hd hf) hS (fun q _ h => hA q h) hA ?_
  intro r u t H1 locs1 ht hvm hp hB hz hk hS1
  exact kk r u H1 locs1 hp (by rw [← ht]; exact hB) hk hS1
set_option maxHeartbeats 1000000 in
theorem ca_l {post : Int64 → S → Prop} (hC : CtxB p s m args meth c own cc nL ret)
    (hM : Met l y (ws_ y cb mL r0) rm (PcW D tys w (.ref b :: As)) (va_Ql post (fun u t => va_P D vwCl (B u) t.heap) A1) 0 0 A1)
    (cw : CallW R s args own Cn index y cb mL r0 (ws_ y cb mL r0) rm 0 0 n) (hK : va_K D vwCl tys s) (hP : va_P D vwCl w H)
    (hrec : ∃ cell : Cell, H[b]? = some cell ∧ cell.vm.isStatics = false ∧ s.vm.findClass Cn = some cell.cls)
    (hn : As.length = n) (hsz : ls.size = nL) (hst : st = As.reverse ++ .ref b :: rest) (hW : (rest.map fun v => v.category).sum ≤ 8)
    (hd : decode cc pc = .ok (.invokevirtual index, 3)) (hf : cells ≤ R.cells ∧ slots ≤ R.slots) (hS : va_S A0 s.heap H locs) (hA : ∀ q, A1 q → A0 q)
    (kk : ∀ (r : Int64) (u : S) (H1 : Heap) (locs1 : List Loc), post r u → va_P D vwCl (B u) H1 → (∀ q : Nat, q < H.size → ¬ A1 q → H1[q]? = H[q]?) → va_S A0 s.heap H1 locs1 → W p l e R s m args below meth c H1 locs1 cells slots Q (F0 m (pc + 3) ls (.long r :: rest))) :
    W p l e R s m args below meth c H locs cells slots Q (F0 m pc ls st) := by
  refine va_calll (va_runV (As := As) (rest := rest) ⟨hC.1, hC.2.1, hC.2.2.1, hC.2.2.2.1, hC.2.2.2.2.1⟩ hM cw ⟨PcW_blind, hrec, fun U hU hW => ⟨rfl, va_K.moved hW.alike hK, by rw [hU]; exact hP⟩⟩ rfl hn hsz hst (lv_room hW) hd hf) hS (fun q _ h => hA q h) hA ?_
  intro r u t H1 locs1 ht hvm hp hB hz hk hS1
  exact kk r u H1 locs1 hp (by rw [← ht]; exact hB) hk hS1
set_option maxHeartbeats 1000000 in
theorem ca_v {post : S → Prop} (hC : CtxB p s m args meth c own cc nL ret)
    (hM : Met l y (ws_ y cb mL r0) rm (PcW D tys w (.ref b :: As)) (va_Qv post (fun u t => va_P D vwCl (B u) t.heap) A1) 0 0 A1)
    (cw : CallW R s args own Cn index y cb mL r0 (ws_ y cb mL r0) rm 0 0 n) (hK : va_K D vwCl tys s) (hP : va_P D vwCl w H)
    (hrec : ∃ cell : Cell, H[b]? = some cell ∧ cell.vm.isStatics = false ∧ s.vm.findClass Cn = some cell.cls)
    (hn : As.length = n) (hsz : ls.size = nL) (hst : st = As.reverse ++ .ref b :: rest) (hW : (rest.map fun v => v.category).sum ≤ 8)
    (hd : decode cc pc = .ok (.invokevirtual index, 3)) (hf : cells ≤ R.cells ∧ slots ≤ R.slots) (hS : va_S A0 s.heap H locs) (hA : ∀ q, A1 q → A0 q)
    (kk : ∀ (u : S) (H1 : Heap) (locs1 : List Loc), post u → va_P D vwCl (B u) H1 → (∀ q : Nat, q < H.size → ¬ A1 q → H1[q]? = H[q]?) → va_S A0 s.heap H1 locs1 → W p l e R s m args below meth c H1 locs1 cells slots Q (F0 m (pc + 3) ls rest)) :
    W p l e R s m args below meth c H locs cells slots Q (F0 m pc ls st) := by
  refine va_callv (va_runV (As := As) (rest := rest) ⟨hC.1, hC.2.1, hC.2.2.1, hC.2.2.2.1, hC.2.2.2.2.1⟩ hM cw ⟨PcW_blind, hrec, fun U hU hW => ⟨rfl, va_K.moved hW.alike hK, by rw [hU]; exact hP⟩⟩ rfl hn hsz hst (lv_room hW) hd hf) hS (fun q _ h => hA q h) hA ?_
  intro u t H1 locs1 ht hvm hp hB hz hk hS1
  exact kk u H1 locs1 hp (by rw [← ht]; exact hB) hk hS1
set_option maxHeartbeats 1000000 in
/-- a static call that touches no cell -/
theorem cs_i {post : Int32 → Unit → Prop} (hC : CtxB p s m args meth c own cc nL ret)
    (hM : Met l y (ws_ y cb mL r0) rm (PcW D [] [] As) (va_Qi post (fun _ t => va_P D vwCl [] t.heap) (fun _ => False)) 0 0 (fun _ => False))
    (cw : CallB R s args own index y cb mL r0 (ws_ y cb mL r0) rm 0 0 n ∧ (Cond.static y).before args s = true) (hK : va_K D vwCl tys s)
    (hn : As.length = n) (hsz : ls.size = nL) (hst : st = As.reverse ++ rest) (hW : (rest.map fun v => v.category).sum ≤ 8)
    (hd : decode cc pc = .ok (.invokestatic index, 3)) (hf : cells ≤ R.cells ∧ slots ≤ R.slots) (hS : va_S A0 s.heap H locs) (hP : va_P D vwCl w H)
    (kk : ∀ (r : Int32) (H1 : Heap) (locs1 : List Loc), post r () → va_P D vwCl w H1 → va_S A0 s.heap H1 locs1 → W p l e R s m args below meth c H1 locs1 cells slots Q (F0 m (pc + 3) ls (.int r :: rest))) :
    W p l e R s m args below meth c H locs cells slots Q (F0 m pc ls st) := by
  refine va_calli (va_runS (As := As) (rest := rest) ⟨hC.1, hC.2.1, hC.2.2.1, hC.2.2.2.1, hC.2.2.2.2.1⟩ hM cw ⟨PcW_blind, fun U hU hW => ⟨rfl, va_K.moved hW.alike (hK.sub [] rfl), fun k q h => by cases h⟩⟩ rfl hn hsz hst (lv_room hW) hd hf) hS (fun q _ h => False.elim h) (fun q h => False.elim h) ?_
  intro r u t H1 locs1 ht hvm hp hB hz hk hS1
  exact kk r H1 locs1 hp (hP.kept (fun k q hq => hk q.1 (hP k q hq).lt (fun h => h))) hS1
end CA
section RA
variable {p : Program} {l : Launch} {e : Env} {R : Room} {s : State} {m : MethodId} {args : Array Value} {below : List Frame} {meth : Method} {c : Code} {H H0 : Heap} {locs : List Loc} {cells slots : Nat} {Q : State → Prop} {cc : ByteArray} {pc : Nat} {ls : Array Slot} {rest : List Value} {D : va_G} {cl : List vw_C} {tys : List (ClassId × FieldType)} {ws : va_W} {a : Nat} {A : Nat → Prop}
theorem ra_iald (hx : p.tables.exec = Jvm.exec) (hb : c.code = cc) (hK : va_K D cl tys s) (hP : va_P D cl ws H) (q0 t0 : Nat) {cA : ClassId} {n : Nat} {f : Nat → Int32} (ha : ws[q0]? = some (a, .inl (cA, n, .inl f))) (ht : tys[t0]? = some (cA, .int)) {k : Nat} (hk : k < n) (hn : n < 2 ^ 31) (hdg : decode cc pc = .ok (.iaload, 1))
    (kk : W p l e R s m args below meth c H locs cells slots Q (F0 m (pc + 1) ls (.int (f k) :: rest))) : W p l e R s m args below meth c H locs cells slots Q (F0 m pc ls (.int (nI k) :: .ref a :: rest)) := by
  refine va_iald hx hb hK hP q0 t0 ha ht (vp_in_nI hk hn) hdg ?_
  rw [nI_clamp (Nat.lt_trans hk hn)]
  exact kk
theorem ra_zald (hx : p.tables.exec = Jvm.exec) (hb : c.code = cc) (hK : va_K D cl tys s) (hP : va_P D cl ws H) (q0 t0 : Nat) {cA : ClassId} {n : Nat} {f : Nat → Int32} (ha : ws[q0]? = some (a, .inl (cA, n, .inl f))) (ht : tys[t0]? = some (cA, .boolean)) {k : Nat} (hk : k < n) (hn : n < 2 ^ 31) (hdg : decode cc pc = .ok (.baload, 1))
    (kk : W p l e R s m args below meth c H locs cells slots Q (F0 m (pc + 1) ls (.int (f k) :: rest))) : W p l e R s m args below meth c H locs cells slots Q (F0 m pc ls (.int (nI k) :: .ref a :: rest)) := by
  refine va_zald hx hb hK hP q0 t0 ha ht (vp_in_nI hk hn) hdg ?_
  rw [nI_clamp (Nat.lt_trans hk hn)]
  exact kk
theorem ra_lald (hx : p.tables.exec = Jvm.exec) (hb : c.code = cc) (hK : va_K D cl tys s) (hP : va_P D cl ws H) (q0 t0 : Nat) {cA : ClassId} {n : Nat} {f : Nat → Int64} (ha : ws[q0]? = some (a, .inl (cA, n, .inr (.inl f)))) (ht : tys[t0]? = some (cA, .long)) {k : Nat} (hk : k < n) (hn : n < 2 ^ 31) (hdg : decode cc pc = .ok (.laload, 1))
    (kk : W p l e R s m args below meth c H locs cells slots Q (F0 m (pc + 1) ls (.long (f k) :: rest))) : W p l e R s m args below meth c H locs cells slots Q (F0 m pc ls (.int (nI k) :: .ref a :: rest)) := by
  refine va_lald hx hb hK hP q0 t0 ha ht (vp_in_nI hk hn) hdg ?_
  rw [nI_clamp (Nat.lt_trans hk hn)]
  exact kk
theorem ra_iast (hx : p.tables.exec = Jvm.exec) (hb : c.code = cc) (hK : va_K D cl tys s) (hP : va_P D cl ws H) (hD : va_D A ws) (hS : va_S A H0 H locs) (q0 t0 : Nat) {cA : ClassId} {n : Nat} {f : Nat → Int32} (ha : ws[q0]? = some (a, .inl (cA, n, .inl f))) (ht : tys[t0]? = some (cA, .int)) {k : Nat} {x : Int32} (hk : k < n) (hn : n < 2 ^ 31) (hdg : decode cc pc = .ok (.iastore, 1))
    (kk : ∀ (H1 : Heap) (locs1 : List Loc), va_P D cl (ws.set q0 (a, .inl (cA, n, .inl (upd f k x)))) H1 → va_S A H0 H1 locs1 → W p l e R s m args below meth c H1 locs1 cells slots Q (F0 m (pc + 1) ls rest)) : W p l e R s m args below meth c H locs cells slots Q (F0 m pc ls (.int x :: .int (nI k) :: .ref a :: rest)) := by
  refine va_iast hx hb hK hP hD hS q0 t0 ha ht (vp_in_nI hk hn) hdg ?_
  rw [nI_clamp (Nat.lt_trans hk hn)]
  exact fun H1 locs1 hP _ hS => kk H1 locs1 hP hS
theorem ra_zast (hx : p.tables.exec = Jvm.exec) (hb : c.code = cc) (hK : va_K D cl tys s) (hP : va_P D cl ws H) (hD : va_D A ws) (hS : va_S A H0 H locs) (q0 t0 : Nat) {cA : ClassId} {n : Nat} {f : Nat → Int32} (ha : ws[q0]? = some (a, .inl (cA, n, .inl f))) (ht : tys[t0]? = some (cA, .boolean)) {k : Nat} {x : Int32} (hk : k < n) (hn : n < 2 ^ 31) (hz : vp_nar .boolean x = x) (hdg : decode cc pc = .ok (.bastore, 1))
    (kk : ∀ (H1 : Heap) (locs1 : List Loc), va_P D cl (ws.set q0 (a, .inl (cA, n, .inl (upd f k x)))) H1 → va_S A H0 H1 locs1 → W p l e R s m args below meth c H1 locs1 cells slots Q (F0 m (pc + 1) ls rest)) : W p l e R s m args below meth c H locs cells slots Q (F0 m pc ls (.int x :: .int (nI k) :: .ref a :: rest)) := by
  refine va_zast hx hb hK hP hD hS q0 t0 ha ht (vp_in_nI hk hn) hdg ?_
  rw [nI_clamp (Nat.lt_trans hk hn), hz]
  exact fun H1 locs1 hP _ hS => kk H1 locs1 hP hS
theorem ra_last (hx : p.tables.exec = Jvm.exec) (hb : c.code = cc) (hK : va_K D cl tys s) (hP : va_P D cl ws H) (hD : va_D A ws) (hS : va_S A H0 H locs) (q0 t0 : Nat) {cA : ClassId} {n : Nat} {f : Nat → Int64} (ha : ws[q0]? = some (a, .inl (cA, n, .inr (.inl f)))) (ht : tys[t0]? = some (cA, .long)) {k : Nat} {x : Int64} (hk : k < n) (hn : n < 2 ^ 31) (hdg : decode cc pc = .ok (.lastore, 1))
    (kk : ∀ (H1 : Heap) (locs1 : List Loc), va_P D cl (ws.set q0 (a, .inl (cA, n, .inr (.inl (vp_updL f k x))))) H1 → va_S A H0 H1 locs1 → W p l e R s m args below meth c H1 locs1 cells slots Q (F0 m (pc + 1) ls rest)) : W p l e R s m args below meth c H locs cells slots Q (F0 m pc ls (.long x :: .int (nI k) :: .ref a :: rest)) := by
  refine va_last hx hb hK hP hD hS q0 t0 ha ht (vp_in_nI hk hn) hdg ?_
  rw [nI_clamp (Nat.lt_trans hk hn)]
  exact fun H1 locs1 hP _ hS => kk H1 locs1 hP hS
theorem ra_iadd (hx : p.tables.exec = Jvm.exec) (hb : c.code = cc) {x y : Nat} (hdg : decode cc pc = .ok (.iadd, 1)) (kk : W p l e R s m args below meth c H locs cells slots Q (F0 m (pc + 1) ls (.int (nI (x + y)) :: rest))) : W p l e R s m args below meth c H locs cells slots Q (F0 m pc ls (.int (nI y) :: .int (nI x) :: rest)) := by
  refine lv_iadd hx hb hdg ?_
  rw [nI_add]
  exact kk
theorem ra_imul (hx : p.tables.exec = Jvm.exec) (hb : c.code = cc) {x y : Nat} (hdg : decode cc pc = .ok (.imul, 1)) (kk : W p l e R s m args below meth c H locs cells slots Q (F0 m (pc + 1) ls (.int (nI (x * y)) :: rest))) : W p l e R s m args below meth c H locs cells slots Q (F0 m pc ls (.int (nI y) :: .int (nI x) :: rest)) := by
  refine lv_imul hx hb hdg ?_
  rw [pk_mul]
  exact kk
theorem ra_isub (hx : p.tables.exec = Jvm.exec) (hb : c.code = cc) {x y : Nat} (h : y ≤ x) (hdg : decode cc pc = .ok (.isub, 1)) (kk : W p l e R s m args below meth c H locs cells slots Q (F0 m (pc + 1) ls (.int (nI (x - y)) :: rest))) : W p l e R s m args below meth c H locs cells slots Q (F0 m pc ls (.int (nI y) :: .int (nI x) :: rest)) := by
  refine lv_isub hx hb hdg ?_
  rw [pk_sub h]
  exact kk
theorem ra_idiv (hx : p.tables.exec = Jvm.exec) (hb : c.code = cc) {x y : Nat} (hxx : x < 2 ^ 31) (h0 : 0 < y) (hyy : y < 2 ^ 31) (hdg : decode cc pc = .ok (.idiv, 1)) (kk : W p l e R s m args below meth c H locs cells slots Q (F0 m (pc + 1) ls (.int (nI (x / y)) :: rest))) : W p l e R s m args below meth c H locs cells slots Q (F0 m pc ls (.int (nI y) :: .int (nI x) :: rest)) := by
  refine lv_idiv hx hb hdg (nI_ne0 h0 hyy) ?_
  rw [pk_div hxx h0 hyy]
  exact kk
theorem ra_irem (hx : p.tables.exec = Jvm.exec) (hb : c.code = cc) {x y : Nat} (hxx : x < 2 ^ 31) (h0 : 0 < y) (hyy : y < 2 ^ 31) (hdg : decode cc pc = .ok (.irem, 1)) (kk : W p l e R s m args below meth c H locs cells slots Q (F0 m (pc + 1) ls (.int (nI (x % y)) :: rest))) : W p l e R s m args below meth c H locs cells slots Q (F0 m pc ls (.int (nI y) :: .int (nI x) :: rest)) := by
  refine lv_irem hx hb hdg (nI_ne0 h0 hyy) ?_
  rw [pk_rem hxx h0 hyy]
  exact kk
theorem ra_icmp_ge (hx : p.tables.exec = Jvm.exec) (hb : c.code = cc) {x y : Nat} {off : Int} {tgt : Nat} (hxx : x < 2 ^ 31) (hyy : y < 2 ^ 31) (hdg : decode cc pc = .ok (.if_icmp .ge off, 3)) (ht : (pc : Int) + off = (tgt : Int))
    (kt : y ≤ x → W p l e R s m args below meth c H locs cells slots Q (F0 m tgt ls rest)) (kf : x < y → W p l e R s m args below meth c H locs cells slots Q (F0 m (pc + 3) ls rest)) : W p l e R s m args below meth c H locs cells slots Q (F0 m pc ls (.int (nI y) :: .int (nI x) :: rest)) :=
  lv_icmp_ge hx hb hdg ht (fun h => kt ((nI_leI hyy hxx).mp h)) (fun h => kf (Nat.lt_of_not_le fun q => h ((nI_leI hyy hxx).mpr q)))
theorem ra_icmp_gt (hx : p.tables.exec = Jvm.exec) (hb : c.code = cc) {x y : Nat} {off : Int} {tgt : Nat} (hxx : x < 2 ^ 31) (hyy : y < 2 ^ 31) (hdg : decode cc pc = .ok (.if_icmp .gt off, 3)) (ht : (pc : Int) + off = (tgt : Int))
    (kt : y < x → W p l e R s m args below meth c H locs cells slots Q (F0 m tgt ls rest)) (kf : x ≤ y → W p l e R s m args below meth c H locs cells slots Q (F0 m (pc + 3) ls rest)) : W p l e R s m args below meth c H locs cells slots Q (F0 m pc ls (.int (nI y) :: .int (nI x) :: rest)) :=
  lv_icmp_gt hx hb hdg ht (fun h => kt ((nI_ltI hyy hxx).mp h)) (fun h => kf (Nat.le_of_not_lt fun q => h ((nI_ltI hyy hxx).mpr q)))
theorem ra_icmp_lt (hx : p.tables.exec = Jvm.exec) (hb : c.code = cc) {x y : Nat} {off : Int} {tgt : Nat} (hxx : x < 2 ^ 31) (hyy : y < 2 ^ 31) (hdg : decode cc pc = .ok (.if_icmp .lt off, 3)) (ht : (pc : Int) + off = (tgt : Int))
    (kt : x < y → W p l e R s m args below meth c H locs cells slots Q (F0 m tgt ls rest)) (kf : y ≤ x → W p l e R s m args below meth c H locs cells slots Q (F0 m (pc + 3) ls rest)) : W p l e R s m args below meth c H locs cells slots Q (F0 m pc ls (.int (nI y) :: .int (nI x) :: rest)) :=
  lv_icmp_lt hx hb hdg ht (fun h => kt ((nI_ltI hxx hyy).mp h)) (fun h => kf (Nat.le_of_not_lt fun q => h ((nI_ltI hxx hyy).mpr q)))
theorem ra_icmp_le (hx : p.tables.exec = Jvm.exec) (hb : c.code = cc) {x y : Nat} {off : Int} {tgt : Nat} (hxx : x < 2 ^ 31) (hyy : y < 2 ^ 31) (hdg : decode cc pc = .ok (.if_icmp .le off, 3)) (ht : (pc : Int) + off = (tgt : Int))
    (kt : x ≤ y → W p l e R s m args below meth c H locs cells slots Q (F0 m tgt ls rest)) (kf : y < x → W p l e R s m args below meth c H locs cells slots Q (F0 m (pc + 3) ls rest)) : W p l e R s m args below meth c H locs cells slots Q (F0 m pc ls (.int (nI y) :: .int (nI x) :: rest)) :=
  lv_icmp_le hx hb hdg ht (fun h => kt ((nI_leI hxx hyy).mp h)) (fun h => kf (Nat.lt_of_not_le fun q => h ((nI_leI hxx hyy).mpr q)))
theorem ra_icmp_eq (hx : p.tables.exec = Jvm.exec) (hb : c.code = cc) {x y : Nat} {off : Int} {tgt : Nat} (hxx : x < 2 ^ 31) (hyy : y < 2 ^ 31) (hdg : decode cc pc = .ok (.if_icmp .eq off, 3)) (ht : (pc : Int) + off = (tgt : Int))
    (kt : x = y → W p l e R s m args below meth c H locs cells slots Q (F0 m tgt ls rest)) (kf : x ≠ y → W p l e R s m args below meth c H locs cells slots Q (F0 m (pc + 3) ls rest)) : W p l e R s m args below meth c H locs cells slots Q (F0 m pc ls (.int (nI y) :: .int (nI x) :: rest)) :=
  lv_icmp_eq hx hb hdg ht (fun h => kt ((nI_eq hxx hyy).mp h)) (fun h => kf (fun q => h ((nI_eq hxx hyy).mpr q)))
theorem ra_icmp_ne (hx : p.tables.exec = Jvm.exec) (hb : c.code = cc) {x y : Nat} {off : Int} {tgt : Nat} (hxx : x < 2 ^ 31) (hyy : y < 2 ^ 31) (hdg : decode cc pc = .ok (.if_icmp .ne off, 3)) (ht : (pc : Int) + off = (tgt : Int))
    (kt : x ≠ y → W p l e R s m args below meth c H locs cells slots Q (F0 m tgt ls rest)) (kf : x = y → W p l e R s m args below meth c H locs cells slots Q (F0 m (pc + 3) ls rest)) : W p l e R s m args below meth c H locs cells slots Q (F0 m pc ls (.int (nI y) :: .int (nI x) :: rest)) :=
  lv_icmp_ne hx hb hdg ht (fun h => kt (fun q => h ((nI_eq hxx hyy).mpr q))) (fun h => kf ((nI_eq hxx hyy).mp h))
theorem ra_if_eq (hx : p.tables.exec = Jvm.exec) (hb : c.code = cc) {x : Nat} {off : Int} {tgt : Nat} (hxx : x < 2 ^ 31) (hdg : decode cc pc = .ok (.ifCond .eq off, 3)) (ht : (pc : Int) + off = (tgt : Int))
    (kt : x = 0 → W p l e R s m args below meth c H locs cells slots Q (F0 m tgt ls rest)) (kf : x ≠ 0 → W p l e R s m args below meth c H locs cells slots Q (F0 m (pc + 3) ls rest)) : W p l e R s m args below meth c H locs cells slots Q (F0 m pc ls (.int (nI x) :: rest)) :=
  lv_if_eq hx hb hdg ht (fun h => kt ((nI_eq hxx (by decide : 0 < 2 ^ 31)).mp h)) (fun h => kf (fun q => h ((nI_eq hxx (by decide : 0 < 2 ^ 31)).mpr q)))
theorem ra_if_ne (hx : p.tables.exec = Jvm.exec) (hb : c.code = cc) {x : Nat} {off : Int} {tgt : Nat} (hxx : x < 2 ^ 31) (hdg : decode cc pc = .ok (.ifCond .ne off, 3)) (ht : (pc : Int) + off = (tgt : Int))
    (kt : x ≠ 0 → W p l e R s m args below meth c H locs cells slots Q (F0 m tgt ls rest)) (kf : x = 0 → W p l e R s m args below meth c H locs cells slots Q (F0 m (pc + 3) ls rest)) : W p l e R s m args below meth c H locs cells slots Q (F0 m pc ls (.int (nI x) :: rest)) :=
  lv_if_ne hx hb hdg ht (fun h => kt (fun q => h ((nI_eq hxx (by decide : 0 < 2 ^ 31)).mpr q))) (fun h => kf ((nI_eq hxx (by decide : 0 < 2 ^ 31)).mp h))
theorem ra_if_le (hx : p.tables.exec = Jvm.exec) (hb : c.code = cc) {x : Nat} {off : Int} {tgt : Nat} (hxx : x < 2 ^ 31) (hdg : decode cc pc = .ok (.ifCond .le off, 3)) (ht : (pc : Int) + off = (tgt : Int))
    (kt : x = 0 → W p l e R s m args below meth c H locs cells slots Q (F0 m tgt ls rest)) (kf : 0 < x → W p l e R s m args below meth c H locs cells slots Q (F0 m (pc + 3) ls rest)) : W p l e R s m args below meth c H locs cells slots Q (F0 m pc ls (.int (nI x) :: rest)) :=
  lv_if_le hx hb hdg ht (fun h => kt (Nat.le_zero.mp ((nI_leI hxx (by decide : 0 < 2 ^ 31)).mp h))) (fun h => kf (Nat.pos_of_ne_zero fun q => h ((nI_leI hxx (by decide : 0 < 2 ^ 31)).mpr (Nat.le_of_eq q))))
/-- a count down: n digits left, the counter at n - 1 -/
theorem ra_down (hx : p.tables.exec = Jvm.exec) (hb : c.code = cc) {n : Nat} {off : Int} {tgt : Nat} (hn : n < 2 ^ 31) (hdg : decode cc pc = .ok (.ifCond .lt off, 3)) (ht : (pc : Int) + off = (tgt : Int))
    (kt : n = 0 → W p l e R s m args below meth c H locs cells slots Q (F0 m tgt ls rest)) (kf : ∀ k, n = k + 1 → W p l e R s m args below meth c H locs cells slots Q (F0 m (pc + 3) ls rest)) : W p l e R s m args below meth c H locs cells slots Q (F0 m pc ls (.int (nI n + (-1)) :: rest)) := by
  cases n with
  | zero => exact lv_if_lt hx hb hdg ht (fun _ => kt rfl) (fun h => absurd (by decide) h)
  | succ k => exact lv_if_lt hx hb hdg ht (fun h => absurd h (by rw [pk_m1]; exact nI_pos (by omega))) (fun _ => kf k rfl)
end RA
/-! ===== the two worlds ===== -/
abbrev wX (ad : Nat → Nat) (cA : Nat → ClassId) (pr : Int64) (sl : Nat → Int64) (cn : Int32) (so fi se ho co : Nat → Int32) (mt : Nat → Int64) (fr : Nat → Int32) (tl : Nat → Int64) (le ee : Int64) (ss hv : Nat → Int64) : va_W :=
  [(ad 0, .inr (0, [.long pr, .ref (ad 1), .int cn, .ref (ad 2), .ref (ad 3), .ref (ad 4), .ref (ad 5), .ref (ad 6), .ref (ad 7), .ref (ad 8), .ref (ad 9), .long le, .long ee, .ref (ad 10), .ref (ad 11)])),
   (ad 1, .inl (cA 1, 24, .inr (.inl sl))), (ad 2, .inl (cA 2, 16, .inl so)), (ad 3, .inl (cA 3, 16, .inl fi)), (ad 4, .inl (cA 4, 16, .inl se)), (ad 5, .inl (cA 5, 16, .inl ho)), (ad 6, .inl (cA 6, 16, .inl co)), (ad 7, .inl (cA 7, 16, .inr (.inl mt))), (ad 8, .inl (cA 8, 16, .inl fr)), (ad 9, .inl (cA 9, 9, .inr (.inl tl))), (ad 10, .inl (cA 10, 64, .inr (.inl ss))), (ad 11, .inl (cA 11, 64, .inr (.inl hv)))]
abbrev tX (cA : Nat → ClassId) : List (ClassId × FieldType) := [(cA 1, .long), (cA 2, .int), (cA 3, .int), (cA 4, .int), (cA 5, .int), (cA 6, .int), (cA 7, .long), (cA 8, .boolean), (cA 9, .long), (cA 10, .long), (cA 11, .long)]
theorem dX {ad : Nat → Nat} {cA : Nat → ClassId} {pr : Int64} {sl : Nat → Int64} {cn : Int32} {so fi se ho co : Nat → Int32} {mt : Nat → Int64} {fr : Nat → Int32} {tl : Nat → Int64} {le ee : Int64} {ss hv : Nat → Int64} (h : apt 12 ad) : va_D (AdX 12 ad) (wX ad cA pr sl cn so fi se ho co mt fr tl le ee ss hv) := dAd h rfl
abbrev wM (ad : Nat → Nat) (cA : Nat → ClassId) (th va : Nat → Int32) (cn : Int32) (kd lf rt ho co mt : Nat → Int32) : va_W :=
  [(ad 0, .inr (1, [.ref (ad 1), .ref (ad 2), .int cn, .ref (ad 3), .ref (ad 4), .ref (ad 5), .ref (ad 6), .ref (ad 7), .ref (ad 8)])),
   (ad 1, .inl (cA 1, 64, .inl th)), (ad 2, .inl (cA 2, 192, .inl va)), (ad 3, .inl (cA 3, 16, .inl kd)), (ad 4, .inl (cA 4, 16, .inl lf)), (ad 5, .inl (cA 5, 16, .inl rt)), (ad 6, .inl (cA 6, 16, .inl ho)), (ad 7, .inl (cA 7, 16, .inl co)), (ad 8, .inl (cA 8, 16, .inl mt))]
abbrev tM (cA : Nat → ClassId) : List (ClassId × FieldType) := [(cA 1, .boolean), (cA 2, .int), (cA 3, .int), (cA 4, .int), (cA 5, .int), (cA 6, .int), (cA 7, .int), (cA 8, .boolean)]
theorem dM {ad : Nat → Nat} {cA : Nat → ClassId} {th va : Nat → Int32} {cn : Int32} {kd lf rt ho co mt : Nat → Int32} (h : apt 9 ad) : va_D (AdX 9 ad) (wM ad cA th va cn kd lf rt ho co mt) := dAd h rfl
end
section
/-! plain facts to paste, each family by itself; over the kit's nI, lN and upd -/
/-! ===== drawers: more things than places ===== -/
theorem fb_holes : ∀ (m n : Nat) (f : Nat → Nat), (∀ i, i < n → f i < m) → (∀ i j, i < j → j < n → f i ≠ f j) → n ≤ m := by
  intro m
  induction m with
  | zero =>
    intro n f h1 _
    rcases Nat.eq_zero_or_pos n with h | h
    · omega
    · exact absurd (h1 0 h) (Nat.not_lt_zero _)
  | succ m ih =>
    intro n f h1 h2
    by_cases hx : ∃ i, i < n ∧ f i = m
    · obtain ⟨a, ha, hfa⟩ := hx
      have hg := ih (n - 1) (fun i => if i < a then f i else f (i + 1)) (by
        intro i hi
        by_cases q : i < a
        · simp only [if_pos q]
          have b1 := h1 i (by omega)
          have b2 := h2 i a q ha
          omega
        · simp only [if_neg q]
          have b1 := h1 (i + 1) (by omega)
          have b2 := h2 a (i + 1) (by omega) (by omega)
          omega) (by
        intro i j hij hj
        by_cases q : i < a
        · by_cases r : j < a
          · simp only [if_pos q, if_pos r]
            exact h2 i j hij (by omega)
          · simp only [if_pos q, if_neg r]
            exact h2 i (j + 1) (by omega) (by omega)
        · have r : ¬ j < a := by omega
          simp only [if_neg q, if_neg r]
          exact h2 (i + 1) (j + 1) (by omega) (by omega))
      omega
    · have hg := ih n f (fun i hi => by
        have b1 := h1 i hi
        have b2 : f i ≠ m := fun e => hx ⟨i, hi, e⟩
        omega) h2
      omega
/-- two of them in one place -/
theorem fb_twice {m n : Nat} {f : Nat → Nat} (h : ∀ i, i < n → f i < m) (hm : m < n) : ∃ i j, i < j ∧ j < n ∧ f i = f j := by
  refine Classical.byContradiction fun hx => ?_
  have := fb_holes m n f h (fun i j hij hj e => hx ⟨i, j, hij, hj, e⟩)
  omega
/-- as many as places, none twice: each place is taken -/
theorem fb_onto {n : Nat} {f : Nat → Nat} (h : ∀ i, i < n → f i < n) (h2 : ∀ i j, i < j → j < n → f i ≠ f j) {y : Nat} (hy : y < n) : ∃ i, i < n ∧ f i = y := by
  refine Classical.byContradiction fun hx => ?_
  have hne : ∀ i, i < n → f i ≠ y := fun i hi e => hx ⟨i, hi, e⟩
  have := fb_holes (n - 1) n (fun i => if f i < y then f i else f i - 1) (by
    intro i hi
    have b1 := h i hi
    have b2 := hne i hi
    by_cases q : f i < y
    · simp only [if_pos q]; omega
    · simp only [if_neg q]; omega) (by
    intro i j hij hj
    have b1 := hne i (by omega)
    have b2 := hne j hj
    have b3 := h2 i j hij hj
    by_cases q : f i < y
    · by_cases r : f j < y
      · simp only [if_pos q, if_pos r]; exact b3
      · simp only [if_pos q, if_neg r]; omega
    · by_cases r : f j < y
      · simp only [if_neg q, if_pos r]; omega
      · simp only [if_neg q, if_neg r]; omega)
  omega
/-! ===== how many places have a property ===== -/
def fb_ct (p : Nat → Bool) : Nat → Nat
  | 0 => 0
  | n + 1 => fb_ct p n + (if p n then 1 else 0)
theorem fb_ct_succ (p : Nat → Bool) (n : Nat) : fb_ct p (n + 1) = fb_ct p n + (if p n then 1 else 0) := rfl
theorem fb_ct_le (p : Nat → Bool) : ∀ n, fb_ct p n ≤ n
  | 0 => Nat.le_refl _
  | n + 1 => by
    have h := fb_ct_le p n
    rw [fb_ct_succ]
    split <;> omega
theorem fb_ct_step (p : Nat → Bool) (m : Nat) : ∀ n, fb_ct p m ≤ fb_ct p (m + n)
  | 0 => Nat.le_refl _
  | n + 1 => by
    have h := fb_ct_step p m n
    show fb_ct p m ≤ fb_ct p (m + n + 1)
    rw [fb_ct_succ]
    omega
theorem fb_ct_mono (p : Nat → Bool) {m n : Nat} (h : m ≤ n) : fb_ct p m ≤ fb_ct p n := by
  have := fb_ct_step p m (n - m)
  rwa [Nat.add_sub_cancel' h] at this
theorem fb_ct_cong {p q : Nat → Bool} : ∀ {n : Nat}, (∀ k, k < n → p k = q k) → fb_ct p n = fb_ct q n
  | 0, _ => rfl
  | n + 1, h => by
    rw [fb_ct_succ, fb_ct_succ, fb_ct_cong (fun k hk => h k (by omega)), h n (by omega)]
/-- one place changed -/
theorem fb_ct_out (p : Nat → Bool) (b : Bool) {i n : Nat} (h : n ≤ i) : fb_ct (fun k => if k = i then b else p k) n = fb_ct p n :=
  fb_ct_cong fun k hk => if_neg (by omega)
theorem fb_ct_upd (p : Nat → Bool) (b : Bool) {i : Nat} : ∀ {n : Nat}, i < n → fb_ct (fun k => if k = i then b else p k) n + (if p i then 1 else 0) = fb_ct p n + (if b then 1 else 0)
  | 0, h => absurd h (Nat.not_lt_zero i)
  | n + 1, h => by
    rw [fb_ct_succ, fb_ct_succ]
    rcases Nat.lt_or_ge i n with q | q
    · have := fb_ct_upd p b q
      have e : (if n = i then b else p n) = p n := if_neg (by omega)
      rw [e]
      omega
    · have e : i = n := by omega
      subst e
      rw [fb_ct_out p b (Nat.le_refl _)]
      simp only [if_true]
      omega
theorem fb_ct_sub {p q : Nat → Bool} : ∀ {n : Nat}, (∀ k, k < n → p k = true → q k = true) → fb_ct p n ≤ fb_ct q n
  | 0, _ => Nat.le_refl _
  | n + 1, h => by
    have h1 := fb_ct_sub (n := n) (p := p) (q := q) (fun k hk => h k (by omega))
    have h2 := h n (by omega)
    rw [fb_ct_succ, fb_ct_succ]
    cases hp : p n <;> cases hq : q n <;> simp_all <;> omega
theorem fb_ct_or {p q : Nat → Bool} : ∀ {n : Nat}, (∀ k, k < n → ¬ (p k = true ∧ q k = true)) → fb_ct (fun k => p k || q k) n = fb_ct p n + fb_ct q n
  | 0, _ => rfl
  | n + 1, h => by
    have h1 := fb_ct_or (n := n) (p := p) (q := q) (fun k hk => h k (by omega))
    have h2 := h n (by omega)
    rw [fb_ct_succ, fb_ct_succ, fb_ct_succ, h1]
    cases hp : p n <;> cases hq : q n <;> simp_all <;> omega
theorem fb_ct_not (p : Nat → Bool) : ∀ n, fb_ct p n + fb_ct (fun k => !p k) n = n
  | 0 => rfl
  | n + 1 => by
    have h := fb_ct_not p n
    rw [fb_ct_succ, fb_ct_succ]
    cases p n <;> simp <;> omega
theorem fb_ct_split (p : Nat → Bool) (m : Nat) : ∀ n, fb_ct p (m + n) = fb_ct p m + fb_ct (fun k => p (m + k)) n
  | 0 => rfl
  | n + 1 => by
    have h := fb_ct_split p m n
    show fb_ct p (m + n + 1) = _
    rw [fb_ct_succ, fb_ct_succ, h, Nat.add_assoc]
theorem fb_ct_zero {p : Nat → Bool} : ∀ {n : Nat}, fb_ct p n = 0 ↔ ∀ k, k < n → p k = false
  | 0 => ⟨fun _ k hk => absurd hk (Nat.not_lt_zero k), fun _ => rfl⟩
  | n + 1 => by
    have h := fb_ct_zero (p := p) (n := n)
    rw [fb_ct_succ]
    constructor
    · intro e k hk
      have e1 : fb_ct p n = 0 := by omega
      rcases Nat.lt_or_ge k n with q | q
      · exact h.mp e1 k q
      · have ek : k = n := by omega
        subst ek
        cases hp : p k
        · rfl
        · simp [hp] at e
    · intro a
      rw [h.mpr (fun k hk => a k (by omega)), a n (by omega)]
      rfl
theorem fb_ct_pos {p : Nat → Bool} {n : Nat} : 0 < fb_ct p n ↔ ∃ k, k < n ∧ p k = true := by
  constructor
  · intro h
    refine Classical.byContradiction fun hx => ?_
    have := fb_ct_zero.mpr (fun k hk => by
      cases hp : p k
      · rfl
      · exact absurd ⟨k, hk, hp⟩ hx : ∀ k, k < n → p k = false)
    omega
  · rintro ⟨k, hk, hp⟩
    rcases Nat.eq_zero_or_pos (fb_ct p n) with e | e
    · have := fb_ct_zero.mp e k hk
      rw [this] at hp
      cases hp
    · exact e
theorem fb_ct_all {p : Nat → Bool} {n : Nat} : fb_ct p n = n ↔ ∀ k, k < n → p k = true := by
  have h := fb_ct_not p n
  constructor
  · intro e k hk
    have z : fb_ct (fun k => !p k) n = 0 := by omega
    have := fb_ct_zero.mp z k hk
    cases hp : p k
    · simp [hp] at this
    · rfl
  · intro a
    have z : fb_ct (fun k => !p k) n = 0 := fb_ct_zero.mpr (fun k hk => by simp [a k hk])
    omega
/-- the k-th place with the property -/
theorem fb_ct_kth {p : Nat → Bool} {k : Nat} : ∀ {n : Nat}, k < fb_ct p n → ∃ i, i < n ∧ p i = true ∧ fb_ct p i = k
  | 0, h => absurd h (Nat.not_lt_zero k)
  | n + 1, h => by
    rcases Nat.lt_or_ge k (fb_ct p n) with q | q
    · obtain ⟨i, h1, h2⟩ := fb_ct_kth q
      exact ⟨i, by omega, h2⟩
    · rw [fb_ct_succ] at h
      cases hp : p n
      · simp [hp] at h; omega
      · simp [hp] at h
        exact ⟨n, by omega, hp, by omega⟩
theorem fb_ct_kth_one {p : Nat → Bool} {i j : Nat} (hi : p i = true) (hj : p j = true) (e : fb_ct p i = fb_ct p j) : i = j := by
  have key : ∀ a b : Nat, a < b → p a = true → fb_ct p a < fb_ct p b := by
    intro a b hab ha
    have h := fb_ct_mono p (show a + 1 ≤ b from hab)
    rw [fb_ct_succ, ha] at h
    simp at h
    omega
  rcases Nat.lt_trichotomy i j with q | q | q
  · have := key i j q hi; omega
  · exact q
  · have := key j i q hj; omega
/-! ===== sums over a range: one place changed, parts, bounds ===== -/
def fb_sm (f : Nat → Nat) : Nat → Nat
  | 0 => 0
  | n + 1 => fb_sm f n + f n
theorem fb_sm_succ (f : Nat → Nat) (n : Nat) : fb_sm f (n + 1) = fb_sm f n + f n := rfl
theorem fb_sm_cong {f g : Nat → Nat} : ∀ {n : Nat}, (∀ k, k < n → f k = g k) → fb_sm f n = fb_sm g n
  | 0, _ => rfl
  | n + 1, h => by rw [fb_sm_succ, fb_sm_succ, fb_sm_cong (fun k hk => h k (by omega)), h n (by omega)]
theorem fb_sm_out (f : Nat → Nat) (v : Nat) {i n : Nat} (h : n ≤ i) : fb_sm (fun k => if k = i then v else f k) n = fb_sm f n :=
  fb_sm_cong fun k hk => if_neg (by omega)
theorem fb_sm_upd (f : Nat → Nat) (v : Nat) {i : Nat} : ∀ {n : Nat}, i < n → fb_sm (fun k => if k = i then v else f k) n + f i = fb_sm f n + v
  | 0, h => absurd h (Nat.not_lt_zero i)
  | n + 1, h => by
    rw [fb_sm_succ, fb_sm_succ]
    rcases Nat.lt_or_ge i n with q | q
    · have := fb_sm_upd f v q
      have e : (if n = i then v else f n) = f n := if_neg (by omega)
      rw [e]
      omega
    · have e : i = n := by omega
      subst e
      rw [fb_sm_out f v (Nat.le_refl _)]
      simp only [if_true]
      omega
theorem fb_sm_add (f g : Nat → Nat) : ∀ n, fb_sm (fun k => f k + g k) n = fb_sm f n + fb_sm g n
  | 0 => rfl
  | n + 1 => by
    have h := fb_sm_add f g n
    rw [fb_sm_succ, fb_sm_succ, fb_sm_succ, h]
    omega
theorem fb_sm_le {f g : Nat → Nat} : ∀ {n : Nat}, (∀ k, k < n → f k ≤ g k) → fb_sm f n ≤ fb_sm g n
  | 0, _ => Nat.le_refl _
  | n + 1, h => by
    have h1 := fb_sm_le (n := n) (f := f) (g := g) (fun k hk => h k (by omega))
    have h2 := h n (by omega)
    rw [fb_sm_succ, fb_sm_succ]
    omega
theorem fb_sm_const (c : Nat) : ∀ n, fb_sm (fun _ => c) n = n * c
  | 0 => by rw [Nat.zero_mul]; rfl
  | n + 1 => by rw [fb_sm_succ, fb_sm_const c n, Nat.succ_mul]
theorem fb_sm_bound {f : Nat → Nat} {c n : Nat} (h : ∀ k, k < n → f k ≤ c) : fb_sm f n ≤ n * c := by
  rw [← fb_sm_const c n]
  exact fb_sm_le h
theorem fb_sm_mono (f : Nat → Nat) (m : Nat) : ∀ n, fb_sm f m ≤ fb_sm f (m + n)
  | 0 => Nat.le_refl _
  | n + 1 => by
    have h := fb_sm_mono f m n
    show fb_sm f m ≤ fb_sm f (m + n + 1)
    rw [fb_sm_succ]
    omega
theorem fb_sm_part (f : Nat → Nat) {i n : Nat} (h : i < n) : fb_sm f i + f i ≤ fb_sm f n := by
  have := fb_sm_mono f (i + 1) (n - (i + 1))
  rw [fb_sm_succ, show i + 1 + (n - (i + 1)) = n by omega] at this
  exact this
theorem fb_sm_split (f : Nat → Nat) (m : Nat) : ∀ n, fb_sm f (m + n) = fb_sm f m + fb_sm (fun k => f (m + k)) n
  | 0 => rfl
  | n + 1 => by
    have h := fb_sm_split f m n
    show fb_sm f (m + n + 1) = _
    rw [fb_sm_succ, fb_sm_succ, h, Nat.add_assoc]
theorem fb_sm_zero {f : Nat → Nat} {n : Nat} (h : fb_sm f n = 0) : ∀ k, k < n → f k = 0 := fun k hk => by
  have := fb_sm_part f hk
  omega
/-! ===== Int64 as an unsigned number: uN x ===== -/
def uN (x : Int64) : Nat := x.toUInt64.toNat
theorem uN_lt (x : Int64) : uN x < 18446744073709551616 := x.toUInt64.toNat_lt
theorem uN_inj {x y : Int64} (h : uN x = uN y) : x = y := congrArg UInt64.toInt64 (UInt64.toNat_inj.mp h)
theorem uN_add (x y : Int64) : uN (x + y) = (uN x + uN y) % 18446744073709551616 := by
  show (x.toUInt64 + y.toUInt64).toNat = _
  exact UInt64.toNat_add _ _
theorem uN_mul (x y : Int64) : uN (x * y) = (uN x * uN y) % 18446744073709551616 := by
  show (x.toUInt64 * y.toUInt64).toNat = _
  exact UInt64.toNat_mul _ _
theorem uN_shl (x : Int64) : uN (x <<< ((1 : Int32).toInt64 &&& 63)) = (2 * uN x) % 18446744073709551616 := by
  have h : (((1 : Int32).toInt64 &&& 63).toBitVec.smod 64).toNat = 1 := by decide
  show (x.toBitVec <<< (((1 : Int32).toInt64 &&& 63).toBitVec.smod 64).toNat).toNat = _
  rw [h, BitVec.toNat_shiftLeft, Nat.shiftLeft_eq, Nat.mul_comm]
  rfl
theorem uN_shr (x : Int64) (s : UInt64) : uN (x.toUInt64 >>> s).toInt64 = uN x / 2 ^ (s.toNat % 64) := by
  show (x.toUInt64 >>> s).toNat = _
  rw [UInt64.toNat_shiftRight, Nat.shiftRight_eq_div_pow]
  rfl
theorem uN_s32 (x : Int64) : uN (x.toUInt64 >>> ((32 : Int32).toInt64.toUInt64 &&& Int64.toUInt64 63)).toInt64 = uN x / 4294967296 := by
  have h : ((32 : Int32).toInt64.toUInt64 &&& Int64.toUInt64 63).toNat % 64 = 32 := by decide
  rw [uN_shr, h]
theorem uN_s63 (x : Int64) : uN (x.toUInt64 >>> ((63 : Int32).toInt64.toUInt64 &&& Int64.toUInt64 63)).toInt64 = uN x / 9223372036854775808 := by
  have h : ((63 : Int32).toInt64.toUInt64 &&& Int64.toUInt64 63).toNat % 64 = 63 := by decide
  rw [uN_shr, h]
theorem uN_lo (x : Int64) : uN (x &&& 4294967295) = uN x % 4294967296 := by
  show (x.toUInt64 &&& Int64.toUInt64 4294967295).toNat = _
  rw [UInt64.toNat_and]
  exact Nat.and_two_pow_sub_one_eq_mod _ 32
theorem uN_bit (x : Int64) : (x &&& 1) = 0 ↔ uN x % 2 = 0 := by
  have h : uN (x &&& 1) = uN x % 2 := by
    show (x.toUInt64 &&& Int64.toUInt64 1).toNat = _
    rw [UInt64.toNat_and]
    exact Nat.and_two_pow_sub_one_eq_mod _ 1
  rw [← h]
  exact ⟨fun z => by rw [z]; rfl, fun z => uN_inj (z.trans rfl)⟩
theorem uN_or {x y : Int64} (hy : uN y < 2) : uN ((x <<< ((1 : Int32).toInt64 &&& 63)) ||| y) = (2 * uN x) % 18446744073709551616 + uN y := by
  have h1 : uN ((x <<< ((1 : Int32).toInt64 &&& 63)) ||| y) = uN (x <<< ((1 : Int32).toInt64 &&& 63)) ||| uN y := UInt64.toNat_or _ _
  have h2 : (2 * uN x) % 18446744073709551616 = 2 ^ 1 * (uN x % 9223372036854775808) := by omega
  rw [h1, uN_shl, h2]
  exact (Nat.two_pow_add_eq_or_of_lt (i := 1) hy _).symm
theorem nat_xor {a : Nat} (h : a < 18446744073709551616) : a ^^^ 2 ^ 63 = (a + 9223372036854775808) % 18446744073709551616 := by
  have h1 : (a ^^^ 2 ^ 63) % 2 ^ 63 = a % 2 ^ 63 := by rw [Nat.xor_mod_two_pow, Nat.mod_self, Nat.xor_zero]
  have h2 : (a ^^^ 2 ^ 63) / 2 ^ 63 = (a / 2 ^ 63) ^^^ 1 := by rw [Nat.xor_div_two_pow, Nat.div_self (Nat.two_pow_pos 63)]
  have h3 : a / 2 ^ 63 = 0 ∨ a / 2 ^ 63 = 1 := by omega
  generalize a ^^^ 2 ^ 63 = t at h1 h2
  rcases h3 with h3 | h3
  · rw [h3] at h2
    have h2 : t / 2 ^ 63 = 1 := h2
    omega
  · rw [h3] at h2
    have h2 : t / 2 ^ 63 = 0 := h2
    omega
theorem uN_xor (x : Int64) : uN (x ^^^ (-9223372036854775808)) = (uN x + 9223372036854775808) % 18446744073709551616 := by
  rw [← nat_xor (uN_lt x)]
  exact UInt64.toNat_xor _ _
theorem uN_int (x : Int64) : x.toInt = if 2 * uN x < 18446744073709551616 then (uN x : Int) else (uN x : Int) - 18446744073709551616 := BitVec.toInt_eq_toNat_cond _
theorem uN_le (x y : Int64) : (x ^^^ (-9223372036854775808)) ≤ (y ^^^ (-9223372036854775808)) ↔ uN x ≤ uN y := by
  have hx := uN_lt x
  have hy := uN_lt y
  rw [Int64.le_iff_toInt_le, uN_int, uN_int, uN_xor, uN_xor]
  omega
theorem uN_sk (x : Int64) {k : Nat} (hk : k < 64) : uN (x.toUInt64 >>> ((nI k).toInt64.toUInt64 &&& Int64.toUInt64 63)).toInt64 = uN x / 2 ^ k := by
  have h : ((nI k).toInt64.toUInt64 &&& Int64.toUInt64 63).toNat % 64 = k := by
    rw [nI_l (by omega), UInt64.toNat_and]
    have e : (lN k).toUInt64.toNat = k % 2 ^ 64 := rfl
    have e2 : (Int64.toUInt64 63).toNat = 2 ^ 6 - 1 := by decide
    rw [e, e2, Nat.and_two_pow_sub_one_eq_mod]
    omega
  rw [uN_shr, h]
/-! ===== Int32 by its bits: bt x i ===== -/
def bt (x : Int32) (i : Nat) : Bool := x.toBitVec.getLsbD i
theorem b_ext {x y : Int32} (h : ∀ i, i < 32 → bt x i = bt y i) : x = y := Int32.toBitVec_inj.mp (BitVec.eq_of_getLsbD_eq (fun i hi => h i hi))
theorem b_or (x y : Int32) (i : Nat) : bt (x ||| y) i = (bt x i || bt y i) := by unfold bt; rw [Int32.toBitVec_or, BitVec.getLsbD_or]
theorem b_and (x y : Int32) (i : Nat) : bt (x &&& y) i = (bt x i && bt y i) := by unfold bt; rw [Int32.toBitVec_and, BitVec.getLsbD_and]
theorem b_xor (x y : Int32) (i : Nat) : bt (x ^^^ y) i = (bt x i ^^ bt y i) := by unfold bt; rw [Int32.toBitVec_xor, BitVec.getLsbD_xor]
theorem b_big {x : Int32} {i : Nat} (h : 32 ≤ i) : bt x i = false := BitVec.getLsbD_of_ge _ _ h
theorem b_255 (i : Nat) : bt 255 i = decide (i < 8) := by
  rcases Nat.lt_or_ge i 32 with h | h
  · exact (by decide +kernel : ∀ i, i < 32 → bt 255 i = decide (i < 8)) i h
  · rw [b_big h, decide_eq_false (by omega)]
theorem b_65535 (i : Nat) : bt 65535 i = decide (i < 16) := by
  rcases Nat.lt_or_ge i 32 with h | h
  · exact (by decide +kernel : ∀ i, i < 32 → bt 65535 i = decide (i < 16)) i h
  · rw [b_big h, decide_eq_false (by omega)]
theorem b_m1 : ∀ i, i < 32 → bt (-1) i = true := by decide +kernel
theorem b_0 (i : Nat) : bt 0 i = false := BitVec.getLsbD_zero
theorem s_l : ∀ n, n < 32 → ((nI n &&& 31).toBitVec.smod 32).toNat = n := by decide +kernel
theorem s_u : ∀ n, n < 32 → (((nI n).toUInt32 &&& Int32.toUInt32 31).toBitVec % 32).toNat = n := by decide +kernel
theorem b_shl (n : Nat) (hn : n < 32) (x : Int32) {i : Nat} (hi : i < 32) : bt (x <<< (nI n &&& 31)) i = (decide (n ≤ i) && bt x (i - n)) := by
  unfold bt
  rw [Int32.toBitVec_shiftLeft]
  show (x.toBitVec <<< ((nI n &&& 31).toBitVec.smod 32).toNat).getLsbD i = _
  rw [s_l n hn, BitVec.getLsbD_shiftLeft]
  rcases Nat.lt_or_ge i n with h | h
  · simp [h, Nat.not_le.mpr h]
  · simp [hi, h, Nat.not_lt.mpr h]
theorem b_ushr (n : Nat) (hn : n < 32) (x : Int32) (i : Nat) : bt ((x.toUInt32 >>> ((nI n).toUInt32 &&& Int32.toUInt32 31)).toInt32) i = bt x (n + i) := by
  show (x.toUInt32 >>> ((nI n).toUInt32 &&& Int32.toUInt32 31)).toBitVec.getLsbD i = x.toUInt32.toBitVec.getLsbD (n + i)
  rw [UInt32.toBitVec_shiftRight]
  show (x.toUInt32.toBitVec >>> (((nI n).toUInt32 &&& Int32.toUInt32 31).toBitVec % 32).toNat).getLsbD i = _
  rw [s_u n hn, BitVec.getLsbD_ushiftRight]
theorem b_sshr (n : Nat) (hn : n < 32) (x : Int32) {i : Nat} (hi : i < 32) : bt (x >>> (nI n &&& 31)) i = if n + i < 32 then bt x (n + i) else bt x 31 := by
  unfold bt
  rw [Int32.toBitVec_shiftRight]
  show (x.toBitVec.sshiftRight ((nI n &&& 31).toBitVec.smod 32).toNat).getLsbD i = _
  rw [s_l n hn, BitVec.getLsbD_sshiftRight, BitVec.msb_eq_getLsbD_last]
  simp [hi]
theorem b_shl8 (x : Int32) {i : Nat} (hi : i < 32) : bt (x <<< ((8 : Int32) &&& 31)) i = (decide (8 ≤ i) && bt x (i - 8)) := b_shl 8 (by omega) x hi
theorem b_shl16 (x : Int32) {i : Nat} (hi : i < 32) : bt (x <<< ((16 : Int32) &&& 31)) i = (decide (16 ≤ i) && bt x (i - 16)) := b_shl 16 (by omega) x hi
theorem b_shl24 (x : Int32) {i : Nat} (hi : i < 32) : bt (x <<< ((24 : Int32) &&& 31)) i = (decide (24 ≤ i) && bt x (i - 24)) := b_shl 24 (by omega) x hi
theorem b_sshr8 (x : Int32) {i : Nat} (hi : i < 32) : bt (x >>> ((8 : Int32) &&& 31)) i = if 8 + i < 32 then bt x (8 + i) else bt x 31 := b_sshr 8 (by omega) x hi
end
section
/-! plain facts: bits of a long, digits, popcount -/
def lb (x : Int64) (i : Nat) : Bool := x.toBitVec.getLsbD i
theorem lb_uN (x : Int64) (i : Nat) : lb x i = (uN x).testBit i := rfl
theorem lb_ext {x y : Int64} (h : ∀ i, i < 64 → lb x i = lb y i) : x = y := Int64.toBitVec_inj.mp (BitVec.eq_of_getLsbD_eq (fun i hi => h i hi))
theorem lb_and (x y : Int64) (i : Nat) : lb (x &&& y) i = (lb x i && lb y i) := by unfold lb; rw [Int64.toBitVec_and, BitVec.getLsbD_and]
theorem lb_or (x y : Int64) (i : Nat) : lb (x ||| y) i = (lb x i || lb y i) := by unfold lb; rw [Int64.toBitVec_or, BitVec.getLsbD_or]
theorem lb_xor (x y : Int64) (i : Nat) : lb (x ^^^ y) i = (lb x i ^^ lb y i) := by unfold lb; rw [Int64.toBitVec_xor, BitVec.getLsbD_xor]
theorem lb_m1 : ∀ i, i < 64 → lb (-1) i = true := by decide +kernel
theorem lb_0 (i : Nat) : lb 0 i = false := BitVec.getLsbD_zero
theorem lb_not (x : Int64) {i : Nat} (hi : i < 64) : lb (x ^^^ (-1)) i = !lb x i := by
  rw [lb_xor, lb_m1 i hi]
  cases lb x i <;> rfl
theorem lb_s : ∀ k, k < 64 → (((nI k).toInt64 &&& 63).toBitVec.smod 64).toNat = k := by decide +kernel
theorem lb_shl {k : Nat} (hk : k < 64) (x : Int64) {i : Nat} (hi : i < 64) : lb (x <<< ((nI k).toInt64 &&& 63)) i = (decide (k ≤ i) && lb x (i - k)) := by
  unfold lb
  rw [Int64.toBitVec_shiftLeft]
  show (x.toBitVec <<< (((nI k).toInt64 &&& 63).toBitVec.smod 64).toNat).getLsbD i = _
  rw [lb_s k hk, BitVec.getLsbD_shiftLeft]
  rcases Nat.lt_or_ge i k with h | h
  · simp [h, Nat.not_le.mpr h]
  · simp [hi, h, Nat.not_lt.mpr h]
theorem lb_ushr {k : Nat} (hk : k < 64) (x : Int64) (i : Nat) : lb ((x.toUInt64 >>> ((nI k).toInt64.toUInt64 &&& Int64.toUInt64 63)).toInt64) i = lb x (k + i) := by
  rw [lb_uN, lb_uN, uN_sk x hk, Nat.testBit_div_two_pow, Nat.add_comm]
theorem tb_eq (x i : Nat) : x.testBit i = decide (x / 2 ^ i % 2 = 1) := by
  first
  | exact Nat.testBit_eq_decide_div_mod_eq
  | exact Nat.testBit_to_div_mod
theorem dg_eq (t k : Nat) : t / 2 ^ k = 2 * (t / 2 ^ (k + 1)) + t / 2 ^ k % 2 := by
  rw [Nat.pow_succ, ← Nat.div_div_eq_div_mul]
  omega
theorem uN_lN {n : Nat} (h : n < 18446744073709551616) : uN (lN n) = n := by
  show (BitVec.ofNat 64 n).toNat = n
  rw [BitVec.toNat_ofNat]
  exact Nat.mod_eq_of_lt h
theorem lN_uN (x : Int64) : lN (uN x) = x := uN_inj (uN_lN (uN_lt x))
theorem uN_sub (x y : Int64) (h : uN y ≤ uN x) : uN (x - y) = uN x - uN y := by
  have e : uN (x - y) = (2 ^ 64 - uN y + uN x) % 2 ^ 64 := by
    show (x.toBitVec - y.toBitVec).toNat = _
    rw [BitVec.toNat_sub]
    rfl
  have h1 := uN_lt x
  rw [e]
  omega
theorem uN_and (x y : Int64) : uN (x &&& y) = uN x &&& uN y := UInt64.toNat_and _ _
/-! sums of blocks -/
def sB (d : Nat → Nat) : Nat → Nat
  | 0 => 0
  | n + 1 => sB d n + 256 ^ n * d n
theorem and_blk {a b A B W : Nat} (ha : a < 2 ^ W) (hb : b < 2 ^ W) : (a + 2 ^ W * A) &&& (b + 2 ^ W * B) = (a &&& b) + 2 ^ W * (A &&& B) := by
  have hm : ((a + 2 ^ W * A) &&& (b + 2 ^ W * B)) % 2 ^ W = a &&& b := by
    rw [Nat.and_mod_two_pow, Nat.add_mul_mod_self_left, Nat.add_mul_mod_self_left, Nat.mod_eq_of_lt ha, Nat.mod_eq_of_lt hb]
  have hd : ((a + 2 ^ W * A) &&& (b + 2 ^ W * B)) / 2 ^ W = A &&& B := by
    rw [Nat.and_div_two_pow, Nat.add_mul_div_left _ _ (Nat.two_pow_pos W), Nat.add_mul_div_left _ _ (Nat.two_pow_pos W), Nat.div_eq_of_lt ha, Nat.div_eq_of_lt hb, Nat.zero_add, Nat.zero_add]
  have h := Nat.mod_add_div ((a + 2 ^ W * A) &&& (b + 2 ^ W * B)) (2 ^ W)
  rw [hm, hd] at h
  exact h.symm
/-- eight bytes -/
def by8 (a0 a1 a2 a3 a4 a5 a6 a7 : Nat) : Nat := a0 + 256 * (a1 + 256 * (a2 + 256 * (a3 + 256 * (a4 + 256 * (a5 + 256 * (a6 + 256 * a7))))))
theorem by8_and {a0 a1 a2 a3 a4 a5 a6 a7 b0 b1 b2 b3 b4 b5 b6 b7 : Nat} (h0 : a0 < 256) (h1 : a1 < 256) (h2 : a2 < 256) (h3 : a3 < 256) (h4 : a4 < 256) (h5 : a5 < 256) (h6 : a6 < 256) (g0 : b0 < 256) (g1 : b1 < 256) (g2 : b2 < 256) (g3 : b3 < 256) (g4 : b4 < 256) (g5 : b5 < 256) (g6 : b6 < 256) :
    by8 a0 a1 a2 a3 a4 a5 a6 a7 &&& by8 b0 b1 b2 b3 b4 b5 b6 b7 = by8 (a0 &&& b0) (a1 &&& b1) (a2 &&& b2) (a3 &&& b3) (a4 &&& b4) (a5 &&& b5) (a6 &&& b6) (a7 &&& b7) := by
  have k : ∀ {a b A B : Nat}, a < 256 → b < 256 → (a + 256 * A) &&& (b + 256 * B) = (a &&& b) + 256 * (A &&& B) := fun ha hb => and_blk (W := 8) ha hb
  unfold by8
  rw [k h0 g0, k h1 g1, k h2 g2, k h3 g3, k h4 g4, k h5 g5, k h6 g6]
theorem by8_of {x : Nat} (h : x < 18446744073709551616) : ∃ a0 a1 a2 a3 a4 a5 a6 a7 : Nat, a0 < 256 ∧ a1 < 256 ∧ a2 < 256 ∧ a3 < 256 ∧ a4 < 256 ∧ a5 < 256 ∧ a6 < 256 ∧ a7 < 256 ∧ x = by8 a0 a1 a2 a3 a4 a5 a6 a7 := by
  refine ⟨x % 256, x / 256 % 256, x / 65536 % 256, x / 16777216 % 256, x / 4294967296 % 256, x / 1099511627776 % 256, x / 281474976710656 % 256, x / 72057594037927936, ?_⟩
  unfold by8
  omega
/-- the shape of a byte behind each step -/
def pc1 (a : Nat) : Nat := a - (a / 2 &&& 85)
def pc2 (a : Nat) : Nat := (a &&& 51) + (a / 4 &&& 51)
def pcB (a : Nat) : Nat := fb_ct (fun i => a.testBit i) 8
theorem pc_1a : ∀ a, a < 256 → ∀ t, t < 2 → (a / 2 + 128 * t) &&& 85 = a / 2 &&& 85 := by decide +kernel
theorem pc_1b : ∀ a, a < 256 → (a / 2 &&& 85) ≤ a ∧ pc1 a < 256 := by decide +kernel
theorem pc_2a : ∀ a, a < 256 → ∀ t, t < 4 → (a / 4 + 64 * t) &&& 51 = a / 4 &&& 51 := by decide +kernel
theorem pc_2b : ∀ a, a < 256 → pc2 (pc1 a) % 16 ≤ 4 ∧ pc2 (pc1 a) / 16 ≤ 4 ∧ (pc2 (pc1 a) + pc2 (pc1 a) / 16) % 16 = pcB a ∧ pcB a ≤ 8 := by decide +kernel
theorem pc_15 : ∀ a, a < 256 → a &&& 15 = a % 16 := by decide +kernel
theorem pc_sh1 {a0 a1 a2 a3 a4 a5 a6 a7 : Nat} : by8 a0 a1 a2 a3 a4 a5 a6 a7 / 2 = by8 (a0 / 2 + 128 * (a1 % 2)) (a1 / 2 + 128 * (a2 % 2)) (a2 / 2 + 128 * (a3 % 2)) (a3 / 2 + 128 * (a4 % 2)) (a4 / 2 + 128 * (a5 % 2)) (a5 / 2 + 128 * (a6 % 2)) (a6 / 2 + 128 * (a7 % 2)) (a7 / 2 + 128 * (0 % 2)) := by
  unfold by8
  omega
theorem pc_sh2 {a0 a1 a2 a3 a4 a5 a6 a7 : Nat} : by8 a0 a1 a2 a3 a4 a5 a6 a7 / 4 = by8 (a0 / 4 + 64 * (a1 % 4)) (a1 / 4 + 64 * (a2 % 4)) (a2 / 4 + 64 * (a3 % 4)) (a3 / 4 + 64 * (a4 % 4)) (a4 / 4 + 64 * (a5 % 4)) (a5 / 4 + 64 * (a6 % 4)) (a6 / 4 + 64 * (a7 % 4)) (a7 / 4 + 64 * (0 % 4)) := by
  unfold by8
  omega
theorem pc_sh4 {a0 a1 a2 a3 a4 a5 a6 a7 : Nat} : by8 a0 a1 a2 a3 a4 a5 a6 a7 / 16 = by8 (a0 / 16 + 16 * (a1 % 16)) (a1 / 16 + 16 * (a2 % 16)) (a2 / 16 + 16 * (a3 % 16)) (a3 / 16 + 16 * (a4 % 16)) (a4 / 16 + 16 * (a5 % 16)) (a5 / 16 + 16 * (a6 % 16)) (a6 / 16 + 16 * (a7 % 16)) (a7 / 16 + 16 * (0 % 16)) := by
  unfold by8
  omega
/-- the first step, on eight bytes -/
theorem pc_s1 {a0 a1 a2 a3 a4 a5 a6 a7 : Nat} (h0 : a0 < 256) (h1 : a1 < 256) (h2 : a2 < 256) (h3 : a3 < 256) (h4 : a4 < 256) (h5 : a5 < 256) (h6 : a6 < 256) (h7 : a7 < 256) :
    (by8 a0 a1 a2 a3 a4 a5 a6 a7 / 2 &&& 6148914691236517205) ≤ by8 a0 a1 a2 a3 a4 a5 a6 a7 ∧ by8 a0 a1 a2 a3 a4 a5 a6 a7 - (by8 a0 a1 a2 a3 a4 a5 a6 a7 / 2 &&& 6148914691236517205) = by8 (pc1 a0) (pc1 a1) (pc1 a2) (pc1 a3) (pc1 a4) (pc1 a5) (pc1 a6) (pc1 a7) := by
  have hm : (6148914691236517205 : Nat) = by8 85 85 85 85 85 85 85 85 := by decide
  have m2 : ∀ x : Nat, x % 2 < 2 := fun x => by omega
  rw [pc_sh1, hm, by8_and (by omega) (by omega) (by omega) (by omega) (by omega) (by omega) (by omega) (by decide) (by decide) (by decide) (by decide) (by decide) (by decide) (by decide),
    pc_1a a0 h0 _ (m2 _), pc_1a a1 h1 _ (m2 _), pc_1a a2 h2 _ (m2 _), pc_1a a3 h3 _ (m2 _), pc_1a a4 h4 _ (m2 _), pc_1a a5 h5 _ (m2 _), pc_1a a6 h6 _ (m2 _), pc_1a a7 h7 _ (m2 _)]
  have b0 := pc_1b a0 h0
  have b1 := pc_1b a1 h1
  have b2 := pc_1b a2 h2
  have b3 := pc_1b a3 h3
  have b4 := pc_1b a4 h4
  have b5 := pc_1b a5 h5
  have b6 := pc_1b a6 h6
  have b7 := pc_1b a7 h7
  unfold by8
  unfold pc1 at *
  omega
theorem pc_s2 {a0 a1 a2 a3 a4 a5 a6 a7 : Nat} (h0 : a0 < 256) (h1 : a1 < 256) (h2 : a2 < 256) (h3 : a3 < 256) (h4 : a4 < 256) (h5 : a5 < 256) (h6 : a6 < 256) (h7 : a7 < 256) :
    (by8 a0 a1 a2 a3 a4 a5 a6 a7 &&& 3689348814741910323) + (by8 a0 a1 a2 a3 a4 a5 a6 a7 / 4 &&& 3689348814741910323) = by8 (pc2 a0) (pc2 a1) (pc2 a2) (pc2 a3) (pc2 a4) (pc2 a5) (pc2 a6) (pc2 a7) := by
  have hm : (3689348814741910323 : Nat) = by8 51 51 51 51 51 51 51 51 := by decide
  have m4 : ∀ x : Nat, x % 4 < 4 := fun x => by omega
  rw [pc_sh2, hm, by8_and h0 h1 h2 h3 h4 h5 h6 (by decide) (by decide) (by decide) (by decide) (by decide) (by decide) (by decide),
    by8_and (by omega) (by omega) (by omega) (by omega) (by omega) (by omega) (by omega) (by decide) (by decide) (by decide) (by decide) (by decide) (by decide) (by decide),
    pc_2a a0 h0 _ (m4 _), pc_2a a1 h1 _ (m4 _), pc_2a a2 h2 _ (m4 _), pc_2a a3 h3 _ (m4 _), pc_2a a4 h4 _ (m4 _), pc_2a a5 h5 _ (m4 _), pc_2a a6 h6 _ (m4 _), pc_2a a7 h7 _ (m4 _)]
  unfold by8 pc2
  omega
theorem pc_s3 {a0 a1 a2 a3 a4 a5 a6 a7 : Nat} (h0 : a0 % 16 ≤ 4 ∧ a0 / 16 ≤ 4) (h1 : a1 % 16 ≤ 4 ∧ a1 / 16 ≤ 4) (h2 : a2 % 16 ≤ 4 ∧ a2 / 16 ≤ 4) (h3 : a3 % 16 ≤ 4 ∧ a3 / 16 ≤ 4) (h4 : a4 % 16 ≤ 4 ∧ a4 / 16 ≤ 4) (h5 : a5 % 16 ≤ 4 ∧ a5 / 16 ≤ 4) (h6 : a6 % 16 ≤ 4 ∧ a6 / 16 ≤ 4) (h7 : a7 % 16 ≤ 4 ∧ a7 / 16 ≤ 4) :
    (by8 a0 a1 a2 a3 a4 a5 a6 a7 + by8 a0 a1 a2 a3 a4 a5 a6 a7 / 16 &&& 1085102592571150095) = by8 ((a0 + a0 / 16) % 16) ((a1 + a1 / 16) % 16) ((a2 + a2 / 16) % 16) ((a3 + a3 / 16) % 16) ((a4 + a4 / 16) % 16) ((a5 + a5 / 16) % 16) ((a6 + a6 / 16) % 16) ((a7 + a7 / 16) % 16) := by
  have hm : (1085102592571150095 : Nat) = by8 15 15 15 15 15 15 15 15 := by decide
  have e : by8 a0 a1 a2 a3 a4 a5 a6 a7 + by8 a0 a1 a2 a3 a4 a5 a6 a7 / 16 = by8 (a0 + a0 / 16 + 16 * (a1 % 16)) (a1 + a1 / 16 + 16 * (a2 % 16)) (a2 + a2 / 16 + 16 * (a3 % 16)) (a3 + a3 / 16 + 16 * (a4 % 16)) (a4 + a4 / 16 + 16 * (a5 % 16)) (a5 + a5 / 16 + 16 * (a6 % 16)) (a6 + a6 / 16 + 16 * (a7 % 16)) (a7 + a7 / 16) := by
    rw [pc_sh4]
    unfold by8
    omega
  have k : ∀ x t : Nat, x % 16 ≤ 4 ∧ x / 16 ≤ 4 → t % 16 ≤ 4 → (x + x / 16 + 16 * (t % 16) < 256 ∧ (x + x / 16 + 16 * (t % 16) &&& 15) = (x + x / 16) % 16) := by
    intro x t h1 h2
    have hl : x + x / 16 + 16 * (t % 16) < 256 := by omega
    exact ⟨hl, by rw [pc_15 _ hl]; omega⟩
  have k7 : (a7 + a7 / 16 &&& 15) = (a7 + a7 / 16) % 16 := pc_15 _ (by omega)
  have c0 := k a0 a1 h0 h1.1
  have c1 := k a1 a2 h1 h2.1
  have c2 := k a2 a3 h2 h3.1
  have c3 := k a3 a4 h3 h4.1
  have c4 := k a4 a5 h4 h5.1
  have c5 := k a5 a6 h5 h6.1
  have c6 := k a6 a7 h6 h7.1
  rw [e, hm, by8_and c0.1 c1.1 c2.1 c3.1 c4.1 c5.1 c6.1 (by decide) (by decide) (by decide) (by decide) (by decide) (by decide) (by decide), c0.2, c1.2, c2.2, c3.2, c4.2, c5.2, c6.2, k7]
theorem pc_s4 {a0 a1 a2 a3 a4 a5 a6 a7 : Nat} (h0 : a0 ≤ 8) (h1 : a1 ≤ 8) (h2 : a2 ≤ 8) (h3 : a3 ≤ 8) (h4 : a4 ≤ 8) (h5 : a5 ≤ 8) (h6 : a6 ≤ 8) (h7 : a7 ≤ 8) :
    by8 a0 a1 a2 a3 a4 a5 a6 a7 * 72340172838076673 % 18446744073709551616 / 72057594037927936 = a0 + a1 + a2 + a3 + a4 + a5 + a6 + a7 := by
  have e : by8 a0 a1 a2 a3 a4 a5 a6 a7 * 72340172838076673 = by8 a0 (a0 + a1) (a0 + a1 + a2) (a0 + a1 + a2 + a3) (a0 + a1 + a2 + a3 + a4) (a0 + a1 + a2 + a3 + a4 + a5) (a0 + a1 + a2 + a3 + a4 + a5 + a6) (a0 + a1 + a2 + a3 + a4 + a5 + a6 + a7) + 18446744073709551616 * by8 (a1 + a2 + a3 + a4 + a5 + a6 + a7) (a2 + a3 + a4 + a5 + a6 + a7) (a3 + a4 + a5 + a6 + a7) (a4 + a5 + a6 + a7) (a5 + a6 + a7) (a6 + a7) a7 0 := by
    unfold by8
    omega
  have hl : by8 a0 (a0 + a1) (a0 + a1 + a2) (a0 + a1 + a2 + a3) (a0 + a1 + a2 + a3 + a4) (a0 + a1 + a2 + a3 + a4 + a5) (a0 + a1 + a2 + a3 + a4 + a5 + a6) (a0 + a1 + a2 + a3 + a4 + a5 + a6 + a7) < 18446744073709551616 := by
    unfold by8
    omega
  rw [e, Nat.add_mul_mod_self_left, Nat.mod_eq_of_lt hl]
  unfold by8
  omega
theorem pc_bit {a A i : Nat} (ha : a < 256) (hi : i < 8) : (a + 256 * A).testBit i = a.testBit i := by
  have h : (a + 256 * A) % 2 ^ 8 = a := by omega
  have h2 := Nat.testBit_mod_two_pow (a + 256 * A) 8 i
  rw [h] at h2
  rw [h2]
  simp [hi]
theorem pc_bit2 {a A i : Nat} (ha : a < 256) : (a + 256 * A).testBit (8 + i) = A.testBit i := by
  have h : (a + 256 * A) / 2 ^ 8 = A := by omega
  have t : ((a + 256 * A) / 2 ^ 8).testBit i = A.testBit i := congrArg (fun x => Nat.testBit x i) h
  rw [Nat.testBit_div_two_pow, Nat.add_comm i 8] at t
  exact t
theorem pc_ct {a A n : Nat} (ha : a < 256) : fb_ct (fun i => (a + 256 * A).testBit i) (8 + n) = pcB a + fb_ct (fun i => A.testBit i) n := by
  rw [fb_ct_split]
  congr 1
  · exact fb_ct_cong (fun k hk => pc_bit ha hk)
  · exact fb_ct_cong (fun k hk => pc_bit2 ha)
end
section
theorem pc_all {a0 a1 a2 a3 a4 a5 a6 a7 : Nat} (h0 : a0 < 256) (h1 : a1 < 256) (h2 : a2 < 256) (h3 : a3 < 256) (h4 : a4 < 256) (h5 : a5 < 256) (h6 : a6 < 256) :
    fb_ct (fun i => (by8 a0 a1 a2 a3 a4 a5 a6 a7).testBit i) 64 = pcB a0 + pcB a1 + pcB a2 + pcB a3 + pcB a4 + pcB a5 + pcB a6 + pcB a7 := by
  unfold by8
  rw [show (64 : Nat) = 8 + (8 + (8 + (8 + (8 + (8 + (8 + 8)))))) from rfl, pc_ct h0, pc_ct h1, pc_ct h2, pc_ct h3, pc_ct h4, pc_ct h5, pc_ct h6]
  have e7 : fb_ct (fun i => a7.testBit i) 8 = pcB a7 := rfl
  rw [e7]
  omega
/-- how many rows a set has -/
def popc (x : Int64) : Nat := fb_ct (lb x) 64
theorem popc_le (x : Int64) : popc x ≤ 64 := fb_ct_le _ _
def onesE1 (x : Int64) : Int64 := x - ((x.toUInt64 >>> ((nI 1).toInt64.toUInt64 &&& Int64.toUInt64 63)).toInt64 &&& (6148914691236517205 : Int64))
def onesE2 (x : Int64) : Int64 := (x &&& (3689348814741910323 : Int64)) + ((x.toUInt64 >>> ((nI 2).toInt64.toUInt64 &&& Int64.toUInt64 63)).toInt64 &&& (3689348814741910323 : Int64))
def onesE3 (x : Int64) : Int64 := (x + (x.toUInt64 >>> ((nI 4).toInt64.toUInt64 &&& Int64.toUInt64 63)).toInt64) &&& (1085102592571150095 : Int64)
def onesE4 (x : Int64) : Int32 := (((x * (72340172838076673 : Int64)).toUInt64 >>> ((nI 56).toInt64.toUInt64 &&& Int64.toUInt64 63)).toInt64).toInt32
theorem by8_lt {a0 a1 a2 a3 a4 a5 a6 a7 : Nat} (h0 : a0 ≤ 68) (h1 : a1 ≤ 68) (h2 : a2 ≤ 68) (h3 : a3 ≤ 68) (h4 : a4 ≤ 68) (h5 : a5 ≤ 68) (h6 : a6 ≤ 68) (h7 : a7 ≤ 68) : by8 a0 a1 a2 a3 a4 a5 a6 a7 < 9223372036854775808 := by
  unfold by8
  omega
theorem nib {a : Nat} (h1 : a % 16 ≤ 4) (h2 : a / 16 ≤ 4) : a ≤ 68 := by omega
theorem hlf {x : Nat} (h : x < 9223372036854775808) : x < 18446744073709551616 := by omega
theorem hlf2 {x : Nat} (h : x < 9223372036854775808) : x + x / 16 < 18446744073709551616 := by omega
theorem kc1 : uN (6148914691236517205 : Int64) = 6148914691236517205 := by decide
theorem kc2 : uN (3689348814741910323 : Int64) = 3689348814741910323 := by decide
theorem kc3 : uN (1085102592571150095 : Int64) = 1085102592571150095 := by decide
theorem kc4 : uN (72340172838076673 : Int64) = 72340172838076673 := by decide
theorem kp2 : (2 : Nat) ^ 2 = 4 := by decide
theorem kp4 : (2 : Nat) ^ 4 = 16 := by decide
theorem kp56 : (2 : Nat) ^ 56 = 72057594037927936 := by decide
theorem ones_eq (x : Int64) : onesE4 (onesE3 (onesE2 (onesE1 x))) = nI (popc x) := by
  obtain ⟨a0, a1, a2, a3, a4, a5, a6, a7, h0, h1, h2, h3, h4, h5, h6, h7, hx⟩ := by8_of (uN_lt x)
  have hp : popc x = pcB a0 + pcB a1 + pcB a2 + pcB a3 + pcB a4 + pcB a5 + pcB a6 + pcB a7 := by
    rw [← pc_all h0 h1 h2 h3 h4 h5 h6, ← hx]
    exact fb_ct_cong (fun i _ => lb_uN x i)
  obtain ⟨s1, e1⟩ := pc_s1 h0 h1 h2 h3 h4 h5 h6 h7
  have u1 : uN (onesE1 x) = by8 (pc1 a0) (pc1 a1) (pc1 a2) (pc1 a3) (pc1 a4) (pc1 a5) (pc1 a6) (pc1 a7) := by
    have hv : uN ((x.toUInt64 >>> ((nI 1).toInt64.toUInt64 &&& Int64.toUInt64 63)).toInt64 &&& (6148914691236517205 : Int64)) = (by8 a0 a1 a2 a3 a4 a5 a6 a7 / 2 &&& 6148914691236517205) := by
      rw [uN_and, uN_sk x (by decide), hx, kc1, Nat.pow_one]
    unfold onesE1
    rw [uN_sub _ _ (by rw [hv, hx]; exact s1), hv, hx]
    exact e1
  have b0 := pc_1b a0 h0
  have b1 := pc_1b a1 h1
  have b2 := pc_1b a2 h2
  have b3 := pc_1b a3 h3
  have b4 := pc_1b a4 h4
  have b5 := pc_1b a5 h5
  have b6 := pc_1b a6 h6
  have b7 := pc_1b a7 h7
  have c0 := pc_2b a0 h0
  have c1 := pc_2b a1 h1
  have c2 := pc_2b a2 h2
  have c3 := pc_2b a3 h3
  have c4 := pc_2b a4 h4
  have c5 := pc_2b a5 h5
  have c6 := pc_2b a6 h6
  have c7 := pc_2b a7 h7
  have hbb := by8_lt (nib c0.1 c0.2.1) (nib c1.1 c1.2.1) (nib c2.1 c2.2.1) (nib c3.1 c3.2.1) (nib c4.1 c4.2.1) (nib c5.1 c5.2.1) (nib c6.1 c6.2.1) (nib c7.1 c7.2.1)
  have e2 := pc_s2 b0.2 b1.2 b2.2 b3.2 b4.2 b5.2 b6.2 b7.2
  have u2 : uN (onesE2 (onesE1 x)) = by8 (pc2 (pc1 a0)) (pc2 (pc1 a1)) (pc2 (pc1 a2)) (pc2 (pc1 a3)) (pc2 (pc1 a4)) (pc2 (pc1 a5)) (pc2 (pc1 a6)) (pc2 (pc1 a7)) := by
    have hb := hlf hbb
    unfold onesE2
    rw [uN_add, uN_and, uN_and, uN_sk _ (by decide), u1, kc2, kp2, e2, Nat.mod_eq_of_lt hb]
  have e3 := pc_s3 (a0 := pc2 (pc1 a0)) (a1 := pc2 (pc1 a1)) (a2 := pc2 (pc1 a2)) (a3 := pc2 (pc1 a3)) (a4 := pc2 (pc1 a4)) (a5 := pc2 (pc1 a5)) (a6 := pc2 (pc1 a6)) (a7 := pc2 (pc1 a7)) ⟨c0.1, c0.2.1⟩ ⟨c1.1, c1.2.1⟩ ⟨c2.1, c2.2.1⟩ ⟨c3.1, c3.2.1⟩ ⟨c4.1, c4.2.1⟩ ⟨c5.1, c5.2.1⟩ ⟨c6.1, c6.2.1⟩ ⟨c7.1, c7.2.1⟩
  have u3 : uN (onesE3 (onesE2 (onesE1 x))) = by8 (pcB a0) (pcB a1) (pcB a2) (pcB a3) (pcB a4) (pcB a5) (pcB a6) (pcB a7) := by
    have hb := hlf2 hbb
    unfold onesE3
    rw [uN_and, uN_add, uN_sk _ (by decide), u2, kp4, Nat.mod_eq_of_lt hb, kc3]
    rw [e3, c0.2.2.1, c1.2.2.1, c2.2.2.1, c3.2.2.1, c4.2.2.1, c5.2.2.1, c6.2.2.1, c7.2.2.1]
  have e4 := pc_s4 c0.2.2.2 c1.2.2.2 c2.2.2.2 c3.2.2.2 c4.2.2.2 c5.2.2.2 c6.2.2.2 c7.2.2.2
  unfold onesE4
  have u4 : uN ((onesE3 (onesE2 (onesE1 x)) * (72340172838076673 : Int64)).toUInt64 >>> ((nI 56).toInt64.toUInt64 &&& Int64.toUInt64 63)).toInt64 = popc x := by
    rw [uN_sk _ (by decide), uN_mul, u3, hp, ← e4, kc4, kp56]
  rw [← lN_uN (((onesE3 (onesE2 (onesE1 x)) * (72340172838076673 : Int64)).toUInt64 >>> ((nI 56).toInt64.toUInt64 &&& Int64.toUInt64 63)).toInt64), u4, lN_i]
end
section
/-! plain facts: the table's mathematical state, and what each part of a walk does to it -/
/-- the value that a column takes out of an int -/
def wv (v : Int32) : Nat := v.toBitVec.toNat % 256
theorem wv_lt (v : Int32) : wv v < 256 := Nat.mod_lt _ (by decide)
theorem wv_bit (v : Int32) {b : Nat} (hb : b < 8) : (wv v).testBit b = v.toBitVec.toNat.testBit b := by
  unfold wv
  have h := Nat.testBit_mod_two_pow v.toBitVec.toNat 8 b
  simp only [hb, decide_true, Bool.true_and] at h
  exact h
theorem wv_and (v : Int32) : v &&& nI 255 = nI (wv v) := pk_and v 8 rfl
theorem s_u32 : ∀ n, n < 32 → (((nI n).toUInt32 &&& Int32.toUInt32 31).toBitVec % 32).toNat = n := by decide +kernel
/-- one digit of an int -/
theorem dig_eq (v : Int32) {b : Nat} (hb : b < 32) : ((v.toUInt32 >>> ((nI b).toUInt32 &&& Int32.toUInt32 31)).toInt32 &&& nI 1) = nI (v.toBitVec.toNat / 2 ^ b % 2) := by
  rw [pk_and _ (m := nI 1) 1 rfl, pk_ushr v (nI b) b (s_u32 b hb)]
theorem digN_eq {K b : Nat} (hK : K < 2 ^ 31) (hb : b < 32) : (((nI K).toUInt32 >>> ((nI b).toUInt32 &&& Int32.toUInt32 31)).toInt32 &&& nI 1) = nI (K / 2 ^ b % 2) := by
  rw [dig_eq _ hb, pk_tn (by omega)]
def stcE (r b : Nat) (v : Int32) (x : Int64) : Int64 := (x &&& (((1 : Int64) <<< ((nI r).toInt64 &&& 63)) ^^^ (-1 : Int64))) ||| ((((v.toUInt32 >>> ((nI b).toUInt32 &&& Int32.toUInt32 31)).toInt32 &&& nI 1).toInt64) <<< ((nI r).toInt64 &&& 63))
theorem lb_one : ∀ i, i < 64 → lb 1 i = decide (i = 0) := by decide +kernel
theorem lb_bit (r i : Nat) (hr : r < 64) (hi : i < 64) : lb ((1 : Int64) <<< ((nI r).toInt64 &&& 63)) i = decide (i = r) := by
  rw [lb_shl hr _ hi, lb_one _ (by omega)]
  by_cases h : i = r
  · subst h; simp
  · rw [Bool.eq_iff_iff]
    simp only [Bool.and_eq_true, decide_eq_true_eq]
    omega
theorem lb_lN1 (t i : Nat) (ht : t < 2) (hi : i < 64) : lb (lN t) i = (decide (i = 0) && decide (t = 1)) := by
  have h : t = 0 ∨ t = 1 := by omega
  rcases h with rfl | rfl
  · show lb 0 i = _
    rw [lb_0]
    simp
  · show lb 1 i = _
    rw [lb_one i hi]
    simp
theorem stcE_bit {r b : Nat} (hr : r < 64) (hb : b < 8) (v : Int32) (x : Int64) {i : Nat} (hi : i < 64) : lb (stcE r b v x) i = if i = r then (wv v).testBit b else lb x i := by
  have hd : v.toBitVec.toNat / 2 ^ b % 2 < 2 := Nat.mod_lt _ (by decide)
  unfold stcE
  rw [dig_eq v (by omega), nI_l (n := v.toBitVec.toNat / 2 ^ b % 2) (by omega), lb_or, lb_and, lb_not _ hi, lb_bit r i hr hi, lb_shl hr _ hi, lb_lN1 _ _ hd (by omega), wv_bit v hb, tb_eq]
  by_cases h : i = r
  · subst h
    simp
  · rw [if_neg h]
    have h2 : (decide (r ≤ i) && (decide (i - r = 0) && decide (v.toBitVec.toNat / 2 ^ b % 2 = 1))) = false := by
      rw [Bool.eq_false_iff]
      intro q
      simp only [Bool.and_eq_true, decide_eq_true_eq] at q
      omega
    rw [h2]
    simp [h]
def stc (r c : Nat) (v : Int32) (sl : Nat → Int64) : Nat → Nat → Int64
  | 0 => sl
  | b + 1 => vp_updL (stc r c v sl b) (8 * c + b) (stcE r b v (stc r c v sl b (8 * c + b)))
theorem stc_at (r c : Nat) (v : Int32) (sl : Nat → Int64) : ∀ (n j : Nat), stc r c v sl n j = if 8 * c ≤ j ∧ j < 8 * c + n then stcE r (j - 8 * c) v (sl j) else sl j
  | 0, j => by
    rw [if_neg (by omega)]
    rfl
  | n + 1, j => by
    show vp_updL (stc r c v sl n) (8 * c + n) _ j = _
    by_cases h : j = 8 * c + n
    · subst h
      rw [pk_uLs, if_pos (by omega), stc_at r c v sl n, if_neg (by omega)]
      congr 1
      omega
    · rw [pk_uLn h, stc_at r c v sl n]
      by_cases h2 : 8 * c ≤ j ∧ j < 8 * c + n
      · rw [if_pos h2, if_pos (by omega)]
      · rw [if_neg h2, if_neg (by omega)]
/-- the slices hold the values -/
def SLok (vl : Nat → Nat → Nat) (sl : Nat → Int64) : Prop := ∀ i, i < 64 → ∀ c, c < 3 → vl i c < 256 ∧ ∀ b, b < 8 → lb (sl (8 * c + b)) i = (vl i c).testBit b
def vput (vl : Nat → Nat → Nat) (r : Nat) (a b c : Int32) : Nat → Nat → Nat := fun i k => if i = r then (if k = 0 then wv a else if k = 1 then wv b else wv c) else vl i k
theorem put_SL {vl : Nat → Nat → Nat} {sl : Nat → Int64} {r : Nat} (a b c : Int32) (hr : r < 64) (h : SLok vl sl) : SLok (vput vl r a b c) (stc r 2 c (stc r 1 b (stc r 0 a sl 8) 8) 8) := by
  intro i hi k hk
  obtain ⟨h1, h2⟩ := h i hi k hk
  constructor
  · unfold vput
    split
    · split
      · exact wv_lt a
      · split
        · exact wv_lt b
        · exact wv_lt c
    · exact h1
  · intro d hd
    have h3 := h2 d hd
    rw [stc_at, stc_at, stc_at]
    unfold vput
    have hk3 : k = 0 ∨ k = 1 ∨ k = 2 := by omega
    rcases hk3 with rfl | rfl | rfl
    · rw [if_neg (by omega), if_neg (by omega), if_pos (by omega), stcE_bit hr (by omega) _ _ hi, h3]
      by_cases q : i = r
      · simp [q]
      · simp [q]
    · rw [if_neg (by omega), if_pos (by omega), if_neg (by omega), stcE_bit hr (by omega) _ _ hi, h3]
      by_cases q : i = r
      · simp [q]
      · simp [q]
    · rw [if_pos (by omega), if_neg (by omega), if_neg (by omega), stcE_bit hr (by omega) _ _ hi, h3]
      by_cases q : i = r
      · simp [q]
      · simp [q]
/-! comparing with a constant: digits from the top -/
def xwI (T : Nat → Nat) (K n : Nat) (le ee : Int64) : Prop := ∀ i, i < 64 → lb le i = decide (T i / 2 ^ n < K / 2 ^ n) ∧ lb ee i = decide (T i / 2 ^ n = K / 2 ^ n)
theorem xwI_0 {T : Nat → Nat} {K : Nat} (hT : ∀ i, i < 64 → T i < 512) (hK : K < 512) : xwI T K 9 0 (-1) := by
  intro i hi
  have h1 : T i / 2 ^ 9 = 0 := Nat.div_eq_of_lt (hT i hi)
  have h2 : K / 2 ^ 9 = 0 := Nat.div_eq_of_lt hK
  rw [h1, h2, lb_0, lb_m1 i hi]
  exact ⟨rfl, rfl⟩
theorem xwI_1 {T : Nat → Nat} {K n : Nat} {le ee : Int64} {tl : Nat → Int64} (hb : ∀ i, i < 64 → lb (tl n) i = (T i).testBit n) (h : xwI T K (n + 1) le ee) (hk : K / 2 ^ n % 2 ≠ 0) : xwI T K n (le ||| (ee &&& (tl n ^^^ (-1)))) (ee &&& tl n) := by
  intro i hi
  obtain ⟨h1, h2⟩ := h i hi
  have d1 := dg_eq (T i) n
  have d2 := dg_eq K n
  have hb := hb i hi
  rw [tb_eq] at hb
  rw [lb_or, lb_and, lb_not _ hi, lb_and, h1, h2, hb]
  generalize T i / 2 ^ (n + 1) = a at *
  generalize K / 2 ^ (n + 1) = b at *
  generalize T i / 2 ^ n = x at *
  generalize K / 2 ^ n = y at *
  constructor <;> (rw [Bool.eq_iff_iff]; simp only [Bool.or_eq_true, Bool.and_eq_true, Bool.not_eq_true', decide_eq_true_eq, decide_eq_false_iff_not]; omega)
theorem xwI_2 {T : Nat → Nat} {K n : Nat} {le ee : Int64} {tl : Nat → Int64} (hb : ∀ i, i < 64 → lb (tl n) i = (T i).testBit n) (h : xwI T K (n + 1) le ee) (hk : K / 2 ^ n % 2 = 0) : xwI T K n le (ee &&& (tl n ^^^ (-1))) := by
  intro i hi
  obtain ⟨h1, h2⟩ := h i hi
  have d1 := dg_eq (T i) n
  have d2 := dg_eq K n
  have hb := hb i hi
  rw [tb_eq] at hb
  rw [lb_and, lb_not _ hi, h1, h2, hb]
  generalize T i / 2 ^ (n + 1) = a at *
  generalize K / 2 ^ (n + 1) = b at *
  generalize T i / 2 ^ n = x at *
  generalize K / 2 ^ n = y at *
  constructor <;> (rw [Bool.eq_iff_iff]; simp only [Bool.or_eq_true, Bool.and_eq_true, Bool.not_eq_true', decide_eq_true_eq, decide_eq_false_iff_not]; omega)
/-- what a comparison leaves behind -/
def cmpd (T : Nat → Nat) (k : Nat → Int) (le ee : Int64) : Prop := ∀ i, i < 64 → lb le i = decide ((T i : Int) < k i) ∧ lb ee i = decide ((T i : Int) = k i)
theorem xwI_end {T : Nat → Nat} {K : Nat} {le ee : Int64} (hK : K < 2 ^ 31) (h : xwI T K 0 le ee) : cmpd T (fun _ => (nI K).toInt) le ee := by
  intro i hi
  obtain ⟨h1, h2⟩ := h i hi
  rw [h1, h2]
  dsimp only
  rw [nI_toInt hK, Nat.pow_zero, Nat.div_one, Nat.div_one]
  constructor <;> (rw [Bool.eq_iff_iff]; simp only [decide_eq_true_eq]; omega)
theorem cw_neg {T : Nat → Nat} {k : Int32} (hk : k.toInt < 0) : cmpd T (fun _ => k.toInt) 0 0 := by
  intro i hi
  rw [lb_0]
  dsimp only
  constructor <;> (rw [Bool.eq_iff_iff]; simp only [decide_eq_true_eq, Bool.false_eq_true, false_iff]; omega)
theorem cw_big {T : Nat → Nat} {k : Int32} (hT : ∀ i, i < 64 → T i < 512) (hk : 511 < k.toInt) : cmpd T (fun _ => k.toInt) (-1) 0 := by
  intro i hi
  have hTi := hT i hi
  rw [lb_0, lb_m1 i hi]
  dsimp only
  constructor
  · rw [Bool.eq_iff_iff]
    simp only [decide_eq_true_eq, true_iff]
    omega
  · rw [Bool.eq_iff_iff]
    simp only [decide_eq_true_eq, Bool.false_eq_true, false_iff]
    omega
/-! comparing two columns -/
def ccI (X Y : Nat → Nat) (n : Nat) (le ee : Int64) : Prop := ∀ i, i < 64 → lb le i = decide (X i / 2 ^ n < Y i / 2 ^ n) ∧ lb ee i = decide (X i / 2 ^ n = Y i / 2 ^ n)
theorem ccI_0 {X Y : Nat → Nat} (hX : ∀ i, i < 64 → X i < 256) (hY : ∀ i, i < 64 → Y i < 256) : ccI X Y 8 0 (-1) := by
  intro i hi
  have h1 : X i / 2 ^ 8 = 0 := Nat.div_eq_of_lt (hX i hi)
  have h2 : Y i / 2 ^ 8 = 0 := Nat.div_eq_of_lt (hY i hi)
  rw [h1, h2, lb_0, lb_m1 i hi]
  exact ⟨rfl, rfl⟩
theorem ccI_1 {X Y : Nat → Nat} {n : Nat} {le ee x y : Int64} (hx : ∀ i, i < 64 → lb x i = (X i).testBit n) (hy : ∀ i, i < 64 → lb y i = (Y i).testBit n) (h : ccI X Y (n + 1) le ee) : ccI X Y n (le ||| ((ee &&& (x ^^^ (-1))) &&& y)) (ee &&& ((x ^^^ y) ^^^ (-1))) := by
  intro i hi
  obtain ⟨h1, h2⟩ := h i hi
  have d1 := dg_eq (X i) n
  have d2 := dg_eq (Y i) n
  have hx := hx i hi
  have hy := hy i hi
  rw [tb_eq] at hx hy
  rw [lb_or, lb_and, lb_and, lb_not _ hi, lb_and, lb_not _ hi, lb_xor, h1, h2, hx, hy]
  generalize X i / 2 ^ (n + 1) = a at *
  generalize Y i / 2 ^ (n + 1) = b at *
  generalize X i / 2 ^ n = p at *
  generalize Y i / 2 ^ n = q at *
  have e1 : p % 2 = 0 ∨ p % 2 = 1 := by omega
  have e2 : q % 2 = 0 ∨ q % 2 = 1 := by omega
  rcases e1 with e1 | e1 <;> rcases e2 with e2 | e2 <;> simp only [e1, e2] <;> constructor <;> (rw [Bool.eq_iff_iff]; simp; try omega)
theorem ccI_end {X Y : Nat → Nat} {le ee : Int64} (h : ccI X Y 0 le ee) : cmpd X (fun i => (Y i : Int)) le ee := by
  intro i hi
  obtain ⟨h1, h2⟩ := h i hi
  rw [h1, h2]
  dsimp only
  rw [Nat.pow_zero, Nat.div_one, Nat.div_one]
  constructor <;> (rw [Bool.eq_iff_iff]; simp only [decide_eq_true_eq]; omega)
/-! adding two columns -/
def adI (X Y : Nat → Nat) (k : Nat) (tl : Nat → Int64) (cy : Int64) : Prop := ∀ i, i < 64 → (∀ b, b < k → lb (tl b) i = (X i + Y i).testBit b) ∧ lb cy i = decide (2 ^ k ≤ X i % 2 ^ k + Y i % 2 ^ k)
theorem adI_0 {X Y : Nat → Nat} {tl : Nat → Int64} : adI X Y 0 tl 0 := by
  intro i hi
  refine ⟨fun b hb => absurd hb (Nat.not_lt_zero _), ?_⟩
  rw [lb_0, Nat.pow_zero, Nat.mod_one, Nat.mod_one]
  rfl
theorem md_eq (t k : Nat) : t % 2 ^ (k + 1) = t % 2 ^ k + 2 ^ k * (t / 2 ^ k % 2) := by
  rw [Nat.pow_succ, Nat.mod_mul]
theorem ad_dig (x y k : Nat) : (x + y) / 2 ^ k % 2 = (x / 2 ^ k % 2 + y / 2 ^ k % 2 + (if 2 ^ k ≤ x % 2 ^ k + y % 2 ^ k then 1 else 0)) % 2 := by
  have hx := Nat.div_add_mod x (2 ^ k)
  have hy := Nat.div_add_mod y (2 ^ k)
  have p0 : 0 < 2 ^ k := Nat.two_pow_pos k
  have rx := Nat.mod_lt x p0
  have ry := Nat.mod_lt y p0
  have e : (x + y) / 2 ^ k = x / 2 ^ k + y / 2 ^ k + (if 2 ^ k ≤ x % 2 ^ k + y % 2 ^ k then 1 else 0) := by
    have h : x + y = (x % 2 ^ k + y % 2 ^ k) + 2 ^ k * (x / 2 ^ k + y / 2 ^ k) := by
      rw [Nat.mul_add]
      omega
    rw [h, Nat.add_mul_div_left _ _ p0, Nat.add_comm]
    congr 1
    split
    · rename_i q
      rw [Nat.div_eq_of_lt_le (k := 1) (by omega) (by omega)]
    · rename_i q
      exact Nat.div_eq_of_lt (by omega)
  rw [e]
  omega
theorem adI_1 {X Y : Nat → Nat} {k : Nat} {tl : Nat → Int64} {cy x y : Int64} (hx : ∀ i, i < 64 → lb x i = (X i).testBit k) (hy : ∀ i, i < 64 → lb y i = (Y i).testBit k) (h : adI X Y k tl cy) : adI X Y (k + 1) (vp_updL tl k ((x ^^^ y) ^^^ cy)) ((x &&& y) ||| ((x ^^^ y) &&& cy)) := by
  intro i hi
  obtain ⟨h1, h2⟩ := h i hi
  have hx := hx i hi
  have hy := hy i hi
  rw [tb_eq] at hx hy
  have ad := ad_dig (X i) (Y i) k
  have p0 : 0 < 2 ^ k := Nat.two_pow_pos k
  have rx := Nat.mod_lt (X i) p0
  have ry := Nat.mod_lt (Y i) p0
  have mx := md_eq (X i) k
  have my := md_eq (Y i) k
  have e1 : X i / 2 ^ k % 2 = 0 ∨ X i / 2 ^ k % 2 = 1 := by omega
  have e2 : Y i / 2 ^ k % 2 = 0 ∨ Y i / 2 ^ k % 2 = 1 := by omega
  refine ⟨fun b hb => ?_, ?_⟩
  · by_cases q : b = k
    · subst q
      rw [pk_uLs, lb_xor, lb_xor, hx, hy, h2, tb_eq, ad]
      by_cases c : 2 ^ b ≤ X i % 2 ^ b + Y i % 2 ^ b
      · rcases e1 with e1 | e1 <;> rcases e2 with e2 | e2 <;> simp [e1, e2, c]
      · rcases e1 with e1 | e1 <;> rcases e2 with e2 | e2 <;> simp [e1, e2, c]
    · rw [pk_uLn q]
      exact h1 b (by omega)
  · rw [lb_or, lb_and, lb_and, lb_xor, hx, hy, h2, mx, my, Nat.pow_succ]
    rcases e1 with e1 | e1 <;> rcases e2 with e2 | e2 <;> rw [e1, e2] <;> (rw [Bool.eq_iff_iff]; simp; try omega)
theorem adI_end {X Y : Nat → Nat} {tl : Nat → Int64} {cy : Int64} (hX : ∀ i, i < 64 → X i < 256) (hY : ∀ i, i < 64 → Y i < 256) (h : adI X Y 8 tl cy) : ∀ i, i < 64 → ∀ b, b < 9 → lb (vp_updL tl 8 cy b) i = (X i + Y i).testBit b := by
  intro i hi b hb
  obtain ⟨h1, h2⟩ := h i hi
  have hx := hX i hi
  have hy := hY i hi
  by_cases q : b = 8
  · subst q
    rw [pk_uLs, h2, tb_eq, Nat.mod_eq_of_lt hx, Nat.mod_eq_of_lt hy, Bool.eq_iff_iff]
    simp only [decide_eq_true_eq]
    omega
  · rw [pk_uLn q]
    exact h1 b (by omega)
/-! the outcome of a comparison, by its kind -/
def cmpB (x y : Int) (h : Nat) : Bool := if h = 0 then decide (x = y) else if h = 1 then decide (x < y) else if h = 2 then decide (x ≤ y) else if h = 3 then decide (x ≠ y) else if h = 4 then decide (y ≤ x) else decide (y < x)
def chz (h : Nat) (le ee : Int64) : Int64 := if h = 0 then ee else if h = 1 then le else if h = 2 then le ||| ee else if h = 3 then ee ^^^ (-1) else if h = 4 then le ^^^ (-1) else (le ||| ee) ^^^ (-1)
theorem chz_bit {T : Nat → Nat} {k : Nat → Int} {le ee : Int64} (h : cmpd T k le ee) (w : Nat) {i : Nat} (hi : i < 64) : lb (chz w le ee) i = cmpB (T i) (k i) w := by
  obtain ⟨h1, h2⟩ := h i hi
  unfold chz cmpB
  split
  · exact h2
  split
  · exact h1
  split
  · rw [lb_or, h1, h2, Bool.eq_iff_iff]
    simp only [Bool.or_eq_true, decide_eq_true_eq]
    omega
  split
  · rw [lb_not _ hi, h2, Bool.eq_iff_iff]
    simp only [Bool.not_eq_true', decide_eq_false_iff_not, decide_eq_true_eq, ne_eq]
  split
  · rw [lb_not _ hi, h1, Bool.eq_iff_iff]
    simp only [Bool.not_eq_true', decide_eq_false_iff_not, decide_eq_true_eq]
    omega
  · rw [lb_not _ hi, lb_or, h1, h2, Bool.eq_iff_iff]
    simp only [Bool.not_eq_true', Bool.or_eq_false_iff, decide_eq_false_iff_not, decide_eq_true_eq]
    omega
def jnB (a b : Bool) (h : Nat) : Bool := if h = 0 then a && b else if h = 1 then a || b else if h = 2 then a ^^ b else a && !b
def jnL (a b : Int64) (h : Nat) : Int64 := if h = 0 then a &&& b else if h = 1 then a ||| b else if h = 2 then a ^^^ b else a &&& (b ^^^ (-1))
theorem jnL_bit (a b : Int64) (h : Nat) {i : Nat} (hi : i < 64) : lb (jnL a b h) i = jnB (lb a i) (lb b i) h := by
  unfold jnL jnB
  split
  · exact lb_and a b i
  split
  · exact lb_or a b i
  split
  · exact lb_xor a b i
  · rw [lb_and, lb_not _ hi]
/-! conditions: (kind, left, right, how, constant) -/
abbrev cdT : Type := Nat → Nat × Nat × Nat × Nat × Int32
def stB (val : Nat → Nat) (t : Nat → Bool) (c : Nat × Nat × Nat × Nat × Int32) : Bool := if c.1 = 3 then jnB (t c.2.1) (t c.2.2.1) c.2.2.2.1 else if c.1 = 0 then cmpB (val c.2.1) c.2.2.2.2.toInt c.2.2.2.1 else if c.1 = 1 then cmpB (val c.2.1) (val c.2.2.1) c.2.2.2.1 else cmpB ((val c.2.1 + val c.2.2.1 : Nat) : Int) c.2.2.2.2.toInt c.2.2.2.1
def TB (cd : cdT) (val : Nat → Nat) : Nat → Nat → Bool
  | 0 => fun _ => false
  | k + 1 => fun j => if j = k then stB val (TB cd val k) (cd k) else TB cd val k j
def EB (cd : cdT) (val : Nat → Nat) (k : Nat) : Bool := TB cd val (k + 1) k
theorem EB_eq (cd : cdT) (val : Nat → Nat) (k : Nat) : EB cd val k = stB val (TB cd val k) (cd k) := if_pos rfl
theorem TB_lt (cd : cdT) (val : Nat → Nat) : ∀ (k j : Nat), j < k → TB cd val k j = EB cd val j
  | 0, _, h => absurd h (Nat.not_lt_zero _)
  | k + 1, j, h => by
    by_cases q : j = k
    · subst q
      rfl
    · exact (if_neg q).trans (TB_lt cd val k j (by omega))
def CDv (n : Nat) (cd : cdT) : Prop := n ≤ 16 ∧ ∀ k, k < n → (((cd k).1 ≤ 2 ∧ (cd k).2.1 ≤ 2 ∧ (cd k).2.2.1 ≤ 2 ∧ (cd k).2.2.2.1 ≤ 5) ∨ ((cd k).1 = 3 ∧ (cd k).2.1 < k ∧ (cd k).2.2.1 < k ∧ (cd k).2.2.2.1 ≤ 3))
def CDok (n : Nat) (cd : cdT) (so fi se ho co : Nat → Int32) : Prop := ∀ k, k < n → so k = nI (cd k).1 ∧ fi k = nI (cd k).2.1 ∧ se k = nI (cd k).2.2.1 ∧ ho k = nI (cd k).2.2.2.1 ∧ co k = (cd k).2.2.2.2
/-- one condition more -/
def cdUp (cd : cdT) (n : Nat) (c : Nat × Nat × Nat × Nat × Int32) : cdT := fun k => if k = n then c else cd k
theorem CDok_up {n : Nat} {cd : cdT} {so fi se ho co : Nat → Int32} (h : CDok n cd so fi se ho co) (a b c d : Nat) (x : Int32) : CDok (n + 1) (cdUp cd n (a, b, c, d, x)) (upd so n (nI a)) (upd fi n (nI b)) (upd se n (nI c)) (upd ho n (nI d)) (upd co n x) := by
  intro k hk
  unfold cdUp
  by_cases q : k = n
  · subst q
    rw [pk_us, pk_us, pk_us, pk_us, pk_us, if_pos rfl]
    exact ⟨rfl, rfl, rfl, rfl, rfl⟩
  · rw [pk_un q, pk_un q, pk_un q, pk_un q, pk_un q, if_neg q]
    exact h k (by omega)
theorem CDv_up {n : Nat} {cd : cdT} (h : CDv n cd) (hn : n < 16) {a b c d : Nat} {x : Int32} (hc : (a ≤ 2 ∧ b ≤ 2 ∧ c ≤ 2 ∧ d ≤ 5) ∨ (a = 3 ∧ b < n ∧ c < n ∧ d ≤ 3)) : CDv (n + 1) (cdUp cd n (a, b, c, d, x)) := by
  refine ⟨hn, fun k hk => ?_⟩
  unfold cdUp
  by_cases q : k = n
  · subst q
    rw [if_pos rfl]
    exact hc
  · rw [if_neg q]
    exact h.2 k (by omega)
theorem TB_cong {cd cd' : cdT} {val : Nat → Nat} : ∀ (k : Nat), (∀ j, j < k → cd j = cd' j) → TB cd val k = TB cd' val k
  | 0, _ => rfl
  | k + 1, h => by
    have ih := TB_cong (val := val) k (fun j hj => h j (by omega))
    funext j
    show (if j = k then stB val (TB cd val k) (cd k) else TB cd val k j) = (if j = k then stB val (TB cd' val k) (cd' k) else TB cd' val k j)
    rw [ih, h k (by omega)]
theorem EB_up {cd : cdT} {val : Nat → Nat} {n k : Nat} {c : Nat × Nat × Nat × Nat × Int32} (hk : k < n) : EB (cdUp cd n c) val k = EB cd val k := by
  unfold EB
  rw [TB_cong (cd := cdUp cd n c) (cd' := cd) (val := val) (k + 1) (fun j hj => show cdUp cd n c j = cd j from if_neg (by omega))]
/-- what is fresh is right -/
def FRok (th : Nat → Bool) (vl : Nat → Nat → Nat) (n : Nat) (cd : cdT) (mt : Nat → Int64) (fr : Nat → Int32) : Prop := ∀ k, k < n → ¬ fr k = 0 → ∀ i, i < 64 → lb (mt k) i = (th i && EB cd (vl i) k)
/-- the rows that a question asks about: cs = 0 all that are there, cs = k + 1 those that meet condition k -/
def selB (th : Nat → Bool) (vl : Nat → Nat → Nat) (cd : cdT) (cs : Nat) : Nat → Bool := fun i => th i && (match cs with | 0 => true | k + 1 => EB cd (vl i) k)
/-- joins of masked sets are masked joins -/
theorem jn_mask (p a b : Bool) (h : Nat) : (jnB (p && a) (p && b) h && p) = (p && jnB a b h) := by
  unfold jnB
  cases p <;> cases a <;> cases b <;> (repeat' split) <;> rfl
theorem in3 {x : Int32} (h1 : ¬ x < 0) (h2 : ¬ nI 2 < x) : ∃ j, j ≤ 2 ∧ x = nI j := nI_of2 (M := nI 2) (n := 2) (nI_toInt (by decide)) h1 (Int32.not_lt.mp h2)
theorem in64 {x : Int32} (h1 : ¬ x < 0) (h2 : x ≤ nI 63) : ∃ j, j ≤ 63 ∧ x = nI j := nI_of2 (M := nI 63) (n := 63) (nI_toInt (by decide)) h1 h2
theorem inK {x : Int32} (K : Nat) (hK : K < 2 ^ 31) (h1 : ¬ x < 0) (h2 : x ≤ nI K) : ∃ j, j ≤ K ∧ x = nI j := nI_of2 (M := nI K) (n := K) (nI_toInt hK) h1 h2
def cs_bad (n : Nat) (x : Int32) : Prop := x < (-1) ∨ nI n ≤ x
theorem cs_of {n : Nat} {x : Int32} (hn : n ≤ 16) (h1 : ¬ x < (-1)) (h2 : ¬ nI n ≤ x) : ∃ cs, cs ≤ n ∧ x = nI cs + (-1) := by
  by_cases h : x < 0
  · refine ⟨0, Nat.zero_le _, Int32.toInt_inj.mp ?_⟩
    rw [Int32.lt_iff_toInt_lt] at h h1
    have e0 : (0 : Int32).toInt = 0 := by decide
    have e1 : (-1 : Int32).toInt = -1 := by decide
    have e2 : (nI 0 + (-1)).toInt = -1 := by decide
    omega
  · obtain ⟨j, hj, rfl⟩ := nI_of h
    refine ⟨j + 1, ?_, (pk_m1 j).symm⟩
    rcases Nat.lt_or_ge j n with q | q
    · exact q
    · exact absurd (nI_le q hj) h2
theorem fz_step {f : Nat → Int32} {i : Nat} (h : ∀ k, k < i → f k = 0) : ∀ k, k < i + 1 → upd f i (nI 0) k = 0 := by
  intro k hk
  by_cases q : k = i
  · subst q
    rw [pk_us]
    rfl
  · rw [pk_un q]
    exact h k (by omega)
end
section
/-! plain facts: which arguments are good; what the methods' ends say -/
theorem no_neg {x : Int32} {K : Nat} (hK : K < 2 ^ 31) (h : x < 0) : ¬ ∃ j, j ≤ K ∧ x = nI j := by
  rintro ⟨j, hj, rfl⟩
  exact nI_pos (by omega) h
theorem no_big {x : Int32} {K : Nat} (hK : K < 2 ^ 31) (h : nI K < x) : ¬ ∃ j, j ≤ K ∧ x = nI j := by
  rintro ⟨j, hj, rfl⟩
  exact absurd ((nI_ltI hK (by omega)).mp h) (by omega)
theorem no_nle {x : Int32} {K : Nat} (hK : K < 2 ^ 31) (h : ¬ x ≤ nI K) : ¬ ∃ j, j ≤ K ∧ x = nI j := by
  rintro ⟨j, hj, rfl⟩
  exact h (nI_le hj hK)
theorem no_neg' {x : Int32} {n : Nat} (hn : n < 2 ^ 31) (h : x < 0) : ¬ ∃ j, j < n ∧ x = nI j := by
  rintro ⟨j, hj, rfl⟩
  exact nI_pos (by omega) h
theorem no_ge {x : Int32} {n : Nat} (hn : n < 2 ^ 31) (h : nI n ≤ x) : ¬ ∃ j, j < n ∧ x = nI j := by
  rintro ⟨j, hj, rfl⟩
  exact absurd ((nI_leI hn (by omega)).mp h) (by omega)
theorem inN {x : Int32} {n : Nat} (hn : n < 2 ^ 31) (h1 : ¬ x < 0) (h2 : ¬ nI n ≤ x) : ∃ j, j < n ∧ x = nI j := by
  obtain ⟨j, hj, rfl⟩ := nI_of h1
  exact ⟨j, Nat.lt_of_not_le (fun q => h2 (nI_le q hj)), rfl⟩
def okQ (n : Nat) (x : Int32) : Prop := ∃ cs, cs ≤ n ∧ x = nI cs + (-1)
def okCol (x : Int32) : Prop := ∃ j, j ≤ 2 ∧ x = nI j
def okRow (x : Int32) : Prop := ∃ j, j ≤ 63 ∧ x = nI j
theorem cs_no {n : Nat} {x : Int32} (hn : n ≤ 16) (h : cs_bad n x) : ¬ okQ n x := by
  rintro ⟨cs, hcs, rfl⟩
  cases cs with
  | zero =>
    rcases h with h | h
    · exact absurd h (by decide)
    · have h2 : nI n ≤ -1 := h
      exact absurd (Int32.le_iff_toInt_le.mp h2) (by rw [nI_toInt (by omega)]; show ¬ ((n : Int) ≤ -1); omega)
  | succ k =>
    rw [pk_m1] at h
    rcases h with h | h
    · exact absurd (Int32.lt_iff_toInt_lt.mp h) (by rw [nI_toInt (by omega)]; show ¬ ((k : Int) < -1); omega)
    · exact absurd ((nI_leI (by omega) (by omega)).mp h) (by omega)
theorem nI_inj {a b : Nat} (ha : a < 2 ^ 31) (hb : b < 2 ^ 31) (h : nI a = nI b) : a = b := (nI_eq ha hb).mp h
theorem cs_one {a b : Nat} (ha : a ≤ 16) (hb : b ≤ 16) (h : nI a + (-1) = nI b + (-1)) : a = b := by
  apply nI_inj (by omega) (by omega)
  have e : ∀ x : Int32, x + (-1) + 1 = x := fun x => by grind
  rw [← e (nI a), h, e]
/-- making a condition -/
abbrev mkS : Type := Int32 × (Nat → Int32) × (Nat → Int32) × (Nat → Int32) × (Nat → Int32) × (Nat → Int32) × (Nat → Int32)
def mkP (n : Nat) (so fi se ho co fr : Nat → Int32) (sv a b h k : Int32) (r : Int32) (u : mkS) : Prop :=
  (n = 16 ∧ r = (-1) ∧ u = (nI n, so, fi, se, ho, co, fr)) ∨ (n < 16 ∧ r = nI n ∧ u = (nI (n + 1), upd so n sv, upd fi n a, upd se n b, upd ho n h, upd co n k, upd fr n (nI 0)))
def okCmp (x h : Int32) : Prop := ∃ j d, j ≤ 2 ∧ d ≤ 5 ∧ x = nI j ∧ h = nI d
def okCols (x h y : Int32) : Prop := ∃ j d q, j ≤ 2 ∧ d ≤ 5 ∧ q ≤ 2 ∧ x = nI j ∧ h = nI d ∧ y = nI q
def okJoin (n : Nat) (x h y : Int32) : Prop := ∃ j d q, j < n ∧ d ≤ 3 ∧ q < n ∧ x = nI j ∧ h = nI d ∧ y = nI q
/-- a column taken into the total -/
theorem tk_step {sl t1 : Nat → Int64} {k i : Nat} (h : ∀ b, b < i → t1 b = sl (8 * k + b)) : ∀ b, b < i + 1 → vp_updL t1 i (sl (8 * k + i)) b = sl (8 * k + b) := by
  intro b hb
  by_cases q : b = i
  · subst q
    rw [pk_uLs]
  · rw [pk_uLn q]
    exact h b (by omega)
def Tok (T : Nat → Nat) (tl : Nat → Int64) : Prop := ∀ i, i < 64 → T i < 512 ∧ ∀ b, b < 9 → lb (tl b) i = (T i).testBit b
theorem tk_T {vl : Nat → Nat → Nat} {sl t1 : Nat → Int64} {k : Nat} (hk : k < 3) (hs : SLok vl sl) (h : (∀ b, b < 8 → t1 b = sl (8 * k + b)) ∧ t1 8 = 0) : Tok (fun i => vl i k) t1 := by
  intro i hi
  obtain ⟨h1, h2⟩ := hs i hi k hk
  refine ⟨by show vl i k < 512; omega, fun b hb => ?_⟩
  show lb (t1 b) i = (vl i k).testBit b
  by_cases q : b = 8
  · subst q
    rw [h.2, lb_0]
    exact (Nat.testBit_lt_two_pow (show vl i k < 2 ^ 8 from h1)).symm
  · rw [h.1 b (by omega)]
    exact h2 b (by omega)
theorem ad_T {vl : Nat → Nat → Nat} {sl t1 : Nat → Int64} {a b : Nat} (ha : a < 3) (hb : b < 3) (hs : SLok vl sl) (h : ∀ i, i < 64 → ∀ d, d < 9 → lb (t1 d) i = (vl i a + vl i b).testBit d) : Tok (fun i => vl i a + vl i b) t1 := by
  intro i hi
  have h1 := (hs i hi a ha).1
  have h2 := (hs i hi b hb).1
  exact ⟨by show vl i a + vl i b < 512; omega, h i hi⟩
/-- working out one condition -/
theorem wo_join {vl : Nat → Nat → Nat} {mt : Nat → Int64} {cd : cdT} {k lf rt hw : Nat} {ks : Int32} {r : Int64} (hq : cd k = (3, lf, rt, hw, ks)) (h : r = jnL (mt lf) (mt rt) hw) : ∀ i, i < 64 → lb r i = stB (vl i) (fun j => lb (mt j) i) (cd k) := by
  intro i hi
  rw [h, hq, jnL_bit _ _ _ hi]
  rfl
theorem wo_0 {vl : Nat → Nat → Nat} {mt : Nat → Int64} {cd : cdT} {k lf rt hw : Nat} {ks : Int32} {r le ee : Int64} (hq : cd k = (0, lf, rt, hw, ks)) (hc : cmpd (fun i => vl i lf) (fun _ => ks.toInt) le ee) (h : r = chz hw le ee) : ∀ i, i < 64 → lb r i = stB (vl i) (fun j => lb (mt j) i) (cd k) := by
  intro i hi
  rw [h, hq, chz_bit hc _ hi]
  rfl
theorem wo_1 {vl : Nat → Nat → Nat} {mt : Nat → Int64} {cd : cdT} {k lf rt hw : Nat} {ks : Int32} {r le ee : Int64} (hq : cd k = (1, lf, rt, hw, ks)) (hc : cmpd (fun i => vl i lf) (fun i => (vl i rt : Int)) le ee) (h : r = chz hw le ee) : ∀ i, i < 64 → lb r i = stB (vl i) (fun j => lb (mt j) i) (cd k) := by
  intro i hi
  rw [h, hq, chz_bit hc _ hi]
  rfl
theorem wo_2 {vl : Nat → Nat → Nat} {mt : Nat → Int64} {cd : cdT} {k lf rt hw : Nat} {ks : Int32} {r le ee : Int64} (hq : cd k = (2, lf, rt, hw, ks)) (hc : cmpd (fun i => vl i lf + vl i rt) (fun _ => ks.toInt) le ee) (h : r = chz hw le ee) : ∀ i, i < 64 → lb r i = stB (vl i) (fun j => lb (mt j) i) (cd k) := by
  intro i hi
  rw [h, hq, chz_bit hc _ hi]
  rfl
theorem EBm {th : Nat → Bool} {vl : Nat → Nat → Nat} {n : Nat} {cd : cdT} {mt : Nat → Int64} {fr : Nat → Int32} {i : Nat} (hvd : CDv n cd) (hi : i < n) (hF : FRok th vl n cd mt fr) (hall : ∀ j, j < i → ¬ fr j = 0) {q : Nat} (hq : q < 64) : (stB (vl q) (fun j => lb (mt j) q) (cd i) && th q) = (th q && EB cd (vl q) i) := by
  rw [EB_eq]
  obtain ⟨kd, lf, rt, hw, ks, he⟩ : ∃ kd lf rt hw ks, cd i = (kd, lf, rt, hw, ks) := ⟨_, _, _, _, _, rfl⟩
  have hv := hvd.2 i hi
  rw [he] at hv ⊢
  dsimp only at hv
  unfold stB
  dsimp only
  by_cases h3 : kd = 3
  · rw [if_pos h3, if_pos h3]
    have hlt : lf < i ∧ rt < i := by omega
    rw [hF lf (by omega) (hall lf hlt.1) q hq, hF rt (by omega) (hall rt hlt.2) q hq, TB_lt _ _ _ _ hlt.1, TB_lt _ _ _ _ hlt.2]
    exact jn_mask _ _ _ _
  · rw [if_neg h3, if_neg h3, Bool.and_comm]
theorem fr_step {th : Nat → Bool} {vl : Nat → Nat → Nat} {n : Nat} {cd : cdT} {mt : Nat → Int64} {fr : Nat → Int32} {i : Nat} {r pr : Int64} (hvd : CDv n cd) (hi : i < n) (hF : FRok th vl n cd mt fr) (hall : ∀ j, j < i → ¬ fr j = 0) (hr : ∀ q, q < 64 → lb r q = stB (vl q) (fun j => lb (mt j) q) (cd i)) (hpr : ∀ q, q < 64 → lb pr q = th q) :
    FRok th vl n cd (vp_updL mt i (r &&& pr)) (upd fr i (nI 1)) ∧ ∀ j, j < i + 1 → ¬ upd fr i (nI 1) j = 0 := by
  constructor
  · intro k hk hf q hq
    by_cases e : k = i
    · subst e
      rw [pk_uLs, lb_and, hr q hq, hpr q hq]
      exact EBm hvd hi hF hall hq
    · rw [pk_uLn e]
      rw [pk_un e] at hf
      exact hF k hk hf q hq
  · intro j hj
    by_cases e : j = i
    · subst e
      rw [pk_us]
      decide
    · rw [pk_un e]
      exact hall j (by omega)
theorem fr_keep {fr : Nat → Int32} {i : Nat} (hall : ∀ j, j < i → ¬ fr j = 0) (h : ¬ fr i = 0) : ∀ j, j < i + 1 → ¬ fr j = 0 := by
  intro j hj
  by_cases e : j = i
  · subst e
    exact h
  · exact hall j (by omega)
/-- answers -/
def rowA (p : Nat → Bool) (pl r : Int32) : Prop := ((∀ i, i < 64 → p i = true → pl ≠ nI (fb_ct p i)) ∧ r = (-1)) ∨ ∃ i, i < 64 ∧ p i = true ∧ pl = nI (fb_ct p i) ∧ r = nI i
def smA (p : Nat → Bool) (v : Nat → Nat) : Nat := fb_sm (fun i => if p i then v i else 0) 64
def ltA (p : Nat → Bool) (v : Nat → Nat) (w : Nat) : Nat := fb_ct (fun i => p i && decide (v i < w)) 64
def rkA (p : Nat → Bool) (v : Nat → Nat) (pl r : Int32) : Prop := ((pl < 0 ∨ ∃ q, q < 2 ^ 31 ∧ pl = nI q ∧ fb_ct p 64 ≤ q) ∧ r = (-1)) ∨ ∃ q w, q < 2 ^ 31 ∧ pl = nI q ∧ w < 256 ∧ ltA p v w ≤ q ∧ q < ltA p v (w + 1) ∧ r = nI w
def hvA (p : Nat → Bool) (v : Nat → Nat) (w : Nat) : Nat := fb_ct (fun i => decide (v i = w) && p i) 64
def dfA (p : Nat → Bool) (v : Nat → Nat) : Nat := fb_ct (fun w => decide (0 < hvA p v w)) 256
theorem popc_sel {p : Nat → Bool} {r : Int64} (h : ∀ i, i < 64 → lb r i = p i) : popc r = fb_ct p 64 := fb_ct_cong h
theorem popc_f {p : Nat → Bool} {r : Int64} (h : ∀ i, i < 64 → lb r i = p i) {f : Nat → Bool} {x : Int64} (hx : ∀ i, i < 64 → lb x i = f i) : popc (r &&& x) = fb_ct (fun i => p i && f i) 64 := fb_ct_cong (fun i hi => by rw [lb_and, h i hi, hx i hi])
abbrev S5 : Type := (Nat → Int64) × (Nat → Int32) × (Nat → Int64) × Int64 × Int64
end
section
set_option maxHeartbeats 4000000 in
set_option maxRecDepth 100000 in
theorem metX0_isColumn {l : Launch} {D : va_G}  (x : Int32) : Met l yX0_isColumn (ws_ yX0_isColumn cX0_isColumn 1 (some .boolean)) (rmK 0) (PcW D [] [] [.int x]) (va_Qi (fun (r : Int32) (_ : Unit) => (r = nI 0 ∧ ¬ okCol x) ∨ (r = nI 1 ∧ okCol x)) (fun _ t => va_P D vwCl [] t.heap) (fun _ => False)) 0 0 (fun _ => False) := by
  refine en_z (own := RX0) (by decide) rfl (Nat.le_of_ble_eq_true rfl) ?_
  intro p e s m below meth c R Q ls hR hC hK hP hl hret
  subst hR
  obtain ⟨hx, hb, hml, hown, hts, hr, hlocks⟩ := id hC
  have hS : va_S (fun _ => False) s.heap s.heap [] := va_S.rf
  have hl : lv_has ls 1 [(0, .int x)] := hl
  refine lv_iload_n hx hb dX0_isColumn_0 rfl (lv_at hl 0 rfl) ?_
  refine lv_if_lt (tgt := 13) hx hb dX0_isColumn_1 (by decide) (fun c1 => ?_) (fun c1 => ?_)
  · have _h : True := trivial
    refine lv_iconst (v := nI 0) hx hb dX0_isColumn_13 (by decide) ?_
    exact hret _ () _ _ _ _ dX0_isColumn_14 rfl hP hS (Or.inl ⟨rfl, no_neg (by decide) c1⟩)
  · have _h : True := trivial
    refine lv_iload_n hx hb dX0_isColumn_4 rfl (lv_at hl 0 rfl) ?_
    refine lv_iconst (v := nI 2) hx hb dX0_isColumn_5 (by decide) ?_
    refine lv_icmp_gt (tgt := 13) hx hb dX0_isColumn_6 (by decide) (fun c2 => ?_) (fun c2 => ?_)
    · have _h : True := trivial
      refine lv_iconst (v := nI 0) hx hb dX0_isColumn_13 (by decide) ?_
      exact hret _ () _ _ _ _ dX0_isColumn_14 rfl hP hS (Or.inl ⟨rfl, no_big (by decide) c2⟩)
    · have _h : True := trivial
      refine lv_iconst (v := nI 1) hx hb dX0_isColumn_9 (by decide) ?_
      refine lv_goto (tgt := 14) hx hb dX0_isColumn_10 (by decide) ?_
      exact hret _ () _ _ _ _ dX0_isColumn_14 rfl hP hS (Or.inr ⟨rfl, in3 c1 c2⟩)
set_option maxHeartbeats 4000000 in
set_option maxRecDepth 100000 in
theorem metX0_isCondition {l : Launch} {D : va_G} {ad : Nat → Nat} {cA : Nat → ClassId} {pr : Int64} {sl : Nat → Int64} {cn : Int32} {so fi se ho co : Nat → Int32} {mt : Nat → Int64} {fr : Nat → Int32} {tl : Nat → Int64} {le ee : Int64} {ss hv : Nat → Int64} (ha : apt 12 ad) {n : Nat} (hn : n ≤ 16) (hcn : cn = nI n) (x : Int32) : Met l yX0_isCondition (ws_ yX0_isCondition cX0_isCondition 2 (some .boolean)) (rmK 0) (PcW D (tX cA) (wX ad cA pr sl cn so fi se ho co mt fr tl le ee ss hv) [.ref (ad 0), .int x]) (va_Qi (fun (r : Int32) (_ : Unit) => (r = nI 0 ∧ ¬ okQ n x) ∨ (r = nI 1 ∧ okQ n x)) (fun u t => va_P D vwCl (wX ad cA pr sl cn so fi se ho co mt fr tl le ee ss hv) t.heap) (AdX 12 ad)) 0 0 (AdX 12 ad) := by
  refine en_z (own := RX0) (by decide) rfl (Nat.le_of_ble_eq_true rfl) ?_
  intro p e s m below meth c R Q ls hR hC hK hP hl hret
  subst hR
  obtain ⟨hx, hb, hml, hown, hts, hr, hlocks⟩ := id hC
  have hS : va_S (AdX 12 ad) s.heap s.heap [] := va_S.rf
  have hl : lv_has ls 2 [(0, .ref (ad 0)), (1, .int x)] := hl
  refine lv_iload_n hx hb dX0_isCondition_0 rfl (lv_at hl 1 rfl) ?_
  refine lv_iconst (v := (-1)) hx hb dX0_isCondition_1 (by decide) ?_
  refine lv_icmp_lt (tgt := 17) hx hb dX0_isCondition_2 (by decide) (fun c1 => ?_) (fun c1 => ?_)
  · have _h : True := trivial
    refine lv_iconst (v := nI 0) hx hb dX0_isCondition_17 (by decide) ?_
    exact hret _ () _ _ _ _ dX0_isCondition_18 rfl hP hS (Or.inl ⟨rfl, cs_no hn (Or.inl c1)⟩)
  · have _h : True := trivial
    refine lv_iload_n hx hb dX0_isCondition_5 rfl (lv_at hl 1 rfl) ?_
    refine lv_aload_n hx hb dX0_isCondition_6 rfl (lv_at hl 0 rfl) ?_
    refine va_get (D := D) (ci := 0) (v := .int cn) (C := RX0) (T := TX0) (N := 15) hx hb hts in_X0 hown hK hP 0 rfl rfl 2 (by decide) (hts _ q29) (fun _ h9 => h9) rfl dX0_isCondition_7 ?_
    refine lv_icmp_ge (tgt := 17) hx hb dX0_isCondition_10 (by decide) (fun c2 => ?_) (fun c2 => ?_)
    · have _h : True := trivial
      refine lv_iconst (v := nI 0) hx hb dX0_isCondition_17 (by decide) ?_
      exact hret _ () _ _ _ _ dX0_isCondition_18 rfl hP hS (Or.inl ⟨rfl, cs_no hn (Or.inr (by rw [← hcn]; exact c2))⟩)
    · have _h : True := trivial
      refine lv_iconst (v := nI 1) hx hb dX0_isCondition_13 (by decide) ?_
      refine lv_goto (tgt := 18) hx hb dX0_isCondition_14 (by decide) ?_
      exact hret _ () _ _ _ _ dX0_isCondition_18 rfl hP hS (Or.inr ⟨rfl, cs_of hn c1 (by rw [← hcn]; exact c2)⟩)
set_option maxHeartbeats 4000000 in
set_option maxRecDepth 100000 in
theorem metX0_ones {l : Launch} {D : va_G}  (x : Int64) : Met l yX0_ones (ws_ yX0_ones cX0_ones 4 (some .int)) (rmK 0) (PcW D [] [] [.long x]) (va_Qi (fun (r : Int32) (_ : Unit) => r = nI (popc x)) (fun _ t => va_P D vwCl [] t.heap) (fun _ => False)) 0 0 (fun _ => False) := by
  refine en_i (own := RX0) (by decide) rfl (Nat.le_of_ble_eq_true rfl) ?_
  intro p e s m below meth c R Q ls hR hC hK hP hl hret
  subst hR
  obtain ⟨hx, hb, hml, hown, hts, hr, hlocks⟩ := id hC
  have hS : va_S (fun _ => False) s.heap s.heap [] := va_S.rf
  have hl : lv_has ls 4 [(0, .long x)] := hl
  refine lv_lload_n hx hb dX0_ones_0 rfl (lv_at hl 0 rfl) ?_
  refine lv_lload_n hx hb dX0_ones_1 rfl (lv_at hl 0 rfl) ?_
  refine lv_iconst (v := nI 1) hx hb dX0_ones_2 (by decide) ?_
  refine lv_lushr (v := (x.toUInt64 >>> ((nI 1).toInt64.toUInt64 &&& Int64.toUInt64 63)).toInt64) hx hb dX0_ones_3 rfl ?_
  refine lv_ldc2 hx hb hown (hts _ q159) dX0_ones_4 ?_
  refine lv_land hx hb dX0_ones_7 ?_
  refine lv_lsub hx hb dX0_ones_8 ?_
  refine lv_topl (fun x1 ex1 => ?_)
  refine lv_lstore_n (lv' := [(2, .long x1), (0, .long x)]) hx hb dX0_ones_9 rfl hl (by decide) rfl (fun ls hl => ?_)
  refine lv_lload_n hx hb dX0_ones_10 rfl (lv_at hl 0 rfl) ?_
  refine lv_ldc2 hx hb hown (hts _ q160) dX0_ones_11 ?_
  refine lv_land hx hb dX0_ones_14 ?_
  refine lv_lload_n hx hb dX0_ones_15 rfl (lv_at hl 0 rfl) ?_
  refine lv_iconst (v := nI 2) hx hb dX0_ones_16 (by decide) ?_
  refine lv_lushr (v := (x1.toUInt64 >>> ((nI 2).toInt64.toUInt64 &&& Int64.toUInt64 63)).toInt64) hx hb dX0_ones_17 rfl ?_
  refine lv_ldc2 hx hb hown (hts _ q160) dX0_ones_18 ?_
  refine lv_land hx hb dX0_ones_21 ?_
  refine lv_ladd hx hb dX0_ones_22 ?_
  refine lv_topl (fun x2 ex2 => ?_)
  refine lv_lstore_n (lv' := [(2, .long x2), (0, .long x)]) hx hb dX0_ones_23 rfl hl (by decide) rfl (fun ls hl => ?_)
  refine lv_lload_n hx hb dX0_ones_24 rfl (lv_at hl 0 rfl) ?_
  refine lv_lload_n hx hb dX0_ones_25 rfl (lv_at hl 0 rfl) ?_
  refine lv_iconst (v := nI 4) hx hb dX0_ones_26 (by decide) ?_
  refine lv_lushr (v := (x2.toUInt64 >>> ((nI 4).toInt64.toUInt64 &&& Int64.toUInt64 63)).toInt64) hx hb dX0_ones_27 rfl ?_
  refine lv_ladd hx hb dX0_ones_28 ?_
  refine lv_ldc2 hx hb hown (hts _ q161) dX0_ones_29 ?_
  refine lv_land hx hb dX0_ones_32 ?_
  refine lv_topl (fun x3 ex3 => ?_)
  refine lv_lstore_n (lv' := [(2, .long x3), (0, .long x)]) hx hb dX0_ones_33 rfl hl (by decide) rfl (fun ls hl => ?_)
  refine lv_lload_n hx hb dX0_ones_34 rfl (lv_at hl 0 rfl) ?_
  refine lv_ldc2 hx hb hown (hts _ q162) dX0_ones_35 ?_
  refine lv_lmul hx hb dX0_ones_38 ?_
  refine lv_bipush (v := nI 56) hx hb dX0_ones_39 (by decide) ?_
  refine lv_lushr (v := ((x3 * (72340172838076673 : Int64)).toUInt64 >>> ((nI 56).toInt64.toUInt64 &&& Int64.toUInt64 63)).toInt64) hx hb dX0_ones_41 rfl ?_
  refine lv_l2i (v := (((x3 * (72340172838076673 : Int64)).toUInt64 >>> ((nI 56).toInt64.toUInt64 &&& Int64.toUInt64 63)).toInt64).toInt32) hx hb dX0_ones_42 rfl ?_
  exact hret _ () _ _ _ _ dX0_ones_43 hP hS (by rw [ex3, ex2, ex1]; exact ones_eq x)
set_option maxHeartbeats 4000000 in
set_option maxRecDepth 100000 in
theorem metX0_forgetAnswers {l : Launch} {D : va_G} {ad : Nat → Nat} {cA : Nat → ClassId} {pr : Int64} {sl : Nat → Int64} {cn : Int32} {so fi se ho co : Nat → Int32} {mt : Nat → Int64} {fr : Nat → Int32} {tl : Nat → Int64} {le ee : Int64} {ss hv : Nat → Int64} (ha : apt 12 ad)  : Met l yX0_forgetAnswers (ws_ yX0_forgetAnswers cX0_forgetAnswers 2 (none)) (rmK 0) (PcW D (tX cA) (wX ad cA pr sl cn so fi se ho co mt fr tl le ee ss hv) [.ref (ad 0)]) (va_Qv (fun (u : Nat → Int32) => ∀ k, k < 16 → u k = 0) (fun u t => va_P D vwCl (wX ad cA pr sl cn so fi se ho co mt u tl le ee ss hv) t.heap) (AdX 12 ad)) 0 0 (AdX 12 ad) := by
  refine en_v (own := RX0) (by decide) rfl (Nat.le_of_ble_eq_true rfl) ?_
  intro p e s m below meth c R Q ls hR hC hK hP hl hret
  subst hR
  obtain ⟨hx, hb, hml, hown, hts, hr, hlocks⟩ := id hC
  have hS : va_S (AdX 12 ad) s.heap s.heap [] := va_S.rf
  have hl : lv_has ls 2 [(0, .ref (ad 0))] := hl
  refine lv_iconst (v := nI 0) hx hb dX0_forgetAnswers_0 (by decide) ?_
  refine lv_istore_n (lv' := [(1, .int (nI 0)), (0, .ref (ad 0))]) hx hb dX0_forgetAnswers_1 rfl hl (by decide) rfl (fun ls hl => ?_)
  have loop : ∀ (n i : Nat) (f1 : Nat → Int32), i ≤ 16 → 16 < i + n → (∀ k, k < i → f1 k = 0) → ∀ (H : Heap) (locs : List Loc) (ls : Array Slot), va_P D vwCl (wX ad cA pr sl cn so fi se ho co mt f1 tl le ee ss hv) H → va_S (AdX 12 ad) s.heap H locs → lv_has ls 2 [(1, .int (nI i)), (0, .ref (ad 0))] → W p l e (rmK 0) s m ([.ref (ad 0)] : List Value).toArray below meth c H locs 0 0 Q (F0 m 2 ls []) := by
    intro n
    induction n with
    | zero => intro i f1 h1 h2; exact absurd h2 (by omega)
    | succ n ih =>
      intro i f1 hi hin hf H locs ls hP hS hl
      refine lv_iload_n hx hb dX0_forgetAnswers_2 rfl (lv_at hl 0 rfl) ?_
      refine lv_bipush (v := nI 16) hx hb dX0_forgetAnswers_3 (by decide) ?_
      refine ra_icmp_ge (tgt := 21) hx hb (by omega) (by omega) dX0_forgetAnswers_5 (by decide) (fun c1 => ?_) (fun c1 => ?_)
      · have _h : True := trivial
        exact hret f1 _ _ _ _ dX0_forgetAnswers_21 hP hS (fun k hk => hf k (by omega))
      · have _h : True := trivial
        refine lv_aload_n hx hb dX0_forgetAnswers_8 rfl (lv_at hl 1 rfl) ?_
        refine va_get (D := D) (ci := 0) (v := .ref (ad 8)) (C := RX0) (T := TX0) (N := 15) hx hb hts in_X0 hown hK hP 0 rfl rfl 9 (by decide) (hts _ q36) (fun _ h9 => h9) rfl dX0_forgetAnswers_9 ?_
        refine lv_iload_n hx hb dX0_forgetAnswers_12 rfl (lv_at hl 0 rfl) ?_
        refine lv_iconst (v := nI 0) hx hb dX0_forgetAnswers_13 (by decide) ?_
        refine ra_zast hx hb hK hP (dX ha) hS 8 7 rfl rfl (by omega) (by decide) rfl dX0_forgetAnswers_14 (fun H locs hP hS => ?_)
        have hP : va_P D vwCl (wX ad cA pr sl cn so fi se ho co mt (upd f1 i (nI 0)) tl le ee ss hv) H := hP
        refine lv_iinc (v := nI (i + 1)) (lv' := [(1, .int (nI (i + 1))), (0, .ref (ad 0))]) hx hb dX0_forgetAnswers_15 hl (k := 0) rfl (nI_1 _) (by decide) rfl (fun ls hl => ?_)
        refine lv_goto (tgt := 2) hx hb dX0_forgetAnswers_18 (by decide) ?_
        exact ih (i + 1) _ (by omega) (by omega) (fz_step hf) _ _ _ hP hS hl
  exact loop 17 0 fr (by omega) (by omega) (fun k hk => absurd hk (Nat.not_lt_zero _)) _ _ _ hP hS hl
set_option maxHeartbeats 4000000 in
set_option maxRecDepth 100000 in
theorem metX0_setColumn {l : Launch} {D : va_G} {ad : Nat → Nat} {cA : Nat → ClassId} {pr : Int64} {sl : Nat → Int64} {cn : Int32} {so fi se ho co : Nat → Int32} {mt : Nat → Int64} {fr : Nat → Int32} {tl : Nat → Int64} {le ee : Int64} {ss hv : Nat → Int64} (ha : apt 12 ad) {r k : Nat} (hr : r < 64) (hk : k < 3) (v : Int32) : Met l yX0_setColumn (ws_ yX0_setColumn cX0_setColumn 6 (none)) (rmK 0) (PcW D (tX cA) (wX ad cA pr sl cn so fi se ho co mt fr tl le ee ss hv) [.ref (ad 0), .int (nI r), .int (nI k), .int v]) (va_Qv (fun (u : Nat → Int64) => u = stc r k v sl 8) (fun u t => va_P D vwCl (wX ad cA pr u cn so fi se ho co mt fr tl le ee ss hv) t.heap) (AdX 12 ad)) 0 0 (AdX 12 ad) := by
  refine en_v (own := RX0) (by decide) rfl (Nat.le_of_ble_eq_true rfl) ?_
  intro p e s m below meth c R Q ls hR hC hK hP hl hret
  subst hR
  obtain ⟨hx, hb, hml, hown, hts, hr, hlocks⟩ := id hC
  have hS : va_S (AdX 12 ad) s.heap s.heap [] := va_S.rf
  have hl : lv_has ls 6 [(0, .ref (ad 0)), (1, .int (nI r)), (2, .int (nI k)), (3, .int v)] := hl
  refine lv_iconst (v := nI 0) hx hb dX0_setColumn_0 (by decide) ?_
  refine lv_istore (lv' := [(4, .int (nI 0)), (0, .ref (ad 0)), (1, .int (nI r)), (2, .int (nI k)), (3, .int v)]) hx hb dX0_setColumn_1 hl (by decide) rfl (fun ls hl => ?_)
  have loop : ∀ (n i : Nat), i ≤ 8 → 8 < i + n → ∀ (H : Heap) (locs : List Loc) (ls : Array Slot), va_P D vwCl (wX ad cA pr (stc r k v sl i) cn so fi se ho co mt fr tl le ee ss hv) H → va_S (AdX 12 ad) s.heap H locs → lv_has ls 6 [(4, .int (nI i)), (0, .ref (ad 0)), (1, .int (nI r)), (2, .int (nI k)), (3, .int v)] → W p l e (rmK 0) s m ([.ref (ad 0), .int (nI r), .int (nI k), .int v] : List Value).toArray below meth c H locs 0 0 Q (F0 m 3 ls []) := by
    intro n
    induction n with
    | zero => intro i h1 h2; exact absurd h2 (by omega)
    | succ n ih =>
      intro i hi hin H locs ls hP hS hl
      refine lv_iload hx hb dX0_setColumn_3 (lv_at hl 0 rfl) ?_
      refine lv_bipush (v := nI 8) hx hb dX0_setColumn_5 (by decide) ?_
      refine ra_icmp_ge (tgt := 57) hx hb (by omega) (by omega) dX0_setColumn_7 (by decide) (fun c1 => ?_) (fun c1 => ?_)
      · have _h : True := trivial
        exact hret _ _ _ _ _ dX0_setColumn_57 hP hS (by rw [show i = 8 by omega])
      · have _h : True := trivial
        refine lv_bipush (v := nI 8) hx hb dX0_setColumn_10 (by decide) ?_
        refine lv_iload_n hx hb dX0_setColumn_12 rfl (lv_at hl 3 rfl) ?_
        refine ra_imul hx hb dX0_setColumn_13 ?_
        refine lv_iload hx hb dX0_setColumn_14 (lv_at hl 0 rfl) ?_
        refine ra_iadd hx hb dX0_setColumn_16 ?_
        refine lv_istore (lv' := [(5, .int (nI ((8 * k) + i))), (4, .int (nI i)), (0, .ref (ad 0)), (1, .int (nI r)), (2, .int (nI k)), (3, .int v)]) hx hb dX0_setColumn_17 hl (by decide) rfl (fun ls hl => ?_)
        refine lv_aload_n hx hb dX0_setColumn_19 rfl (lv_at hl 2 rfl) ?_
        refine va_get (D := D) (ci := 0) (v := .ref (ad 1)) (C := RX0) (T := TX0) (N := 15) hx hb hts in_X0 hown hK hP 0 rfl rfl 1 (by decide) (hts _ q28) (fun _ h9 => h9) rfl dX0_setColumn_20 ?_
        refine lv_iload hx hb dX0_setColumn_23 (lv_at hl 0 rfl) ?_
        refine lv_aload_n hx hb dX0_setColumn_25 rfl (lv_at hl 2 rfl) ?_
        refine va_get (D := D) (ci := 0) (v := .ref (ad 1)) (C := RX0) (T := TX0) (N := 15) hx hb hts in_X0 hown hK hP 0 rfl rfl 1 (by decide) (hts _ q28) (fun _ h9 => h9) rfl dX0_setColumn_26 ?_
        refine lv_iload hx hb dX0_setColumn_29 (lv_at hl 0 rfl) ?_
        refine ra_lald hx hb hK hP 1 0 rfl rfl (by omega) (by decide) dX0_setColumn_31 ?_
        refine lv_lconst (v := 1) hx hb dX0_setColumn_32 (by decide) ?_
        refine lv_iload_n hx hb dX0_setColumn_33 rfl (lv_at hl 3 rfl) ?_
        refine lv_lshl (v := (1 : Int64) <<< ((nI r).toInt64 &&& 63)) hx hb dX0_setColumn_34 rfl ?_
        refine lv_ldc2 hx hb hown (hts _ q84) dX0_setColumn_35 ?_
        refine lv_lxor hx hb dX0_setColumn_38 ?_
        refine lv_land hx hb dX0_setColumn_39 ?_
        refine lv_iload_n hx hb dX0_setColumn_40 rfl (lv_at hl 5 rfl) ?_
        refine lv_iload hx hb dX0_setColumn_41 (lv_at hl 1 rfl) ?_
        refine lv_iushr (v := (v.toUInt32 >>> ((nI i).toUInt32 &&& Int32.toUInt32 31)).toInt32) hx hb dX0_setColumn_43 rfl ?_
        refine lv_iconst (v := nI 1) hx hb dX0_setColumn_44 (by decide) ?_
        refine lv_iand hx hb dX0_setColumn_45 ?_
        refine lv_i2l (v := (((v.toUInt32 >>> ((nI i).toUInt32 &&& Int32.toUInt32 31)).toInt32) &&& (nI 1)).toInt64) hx hb dX0_setColumn_46 rfl ?_
        refine lv_iload_n hx hb dX0_setColumn_47 rfl (lv_at hl 3 rfl) ?_
        refine lv_lshl (v := ((((v.toUInt32 >>> ((nI i).toUInt32 &&& Int32.toUInt32 31)).toInt32) &&& (nI 1)).toInt64) <<< ((nI r).toInt64 &&& 63)) hx hb dX0_setColumn_48 rfl ?_
        refine lv_lor hx hb dX0_setColumn_49 ?_
        refine ra_last hx hb hK hP (dX ha) hS 1 0 rfl rfl (by omega) (by decide) dX0_setColumn_50 (fun H locs hP hS => ?_)
        have hP : va_P D vwCl (wX ad cA pr (vp_updL (stc r k v sl i) ((8 * k) + i) ((((stc r k v sl i) ((8 * k) + i)) &&& (((1 : Int64) <<< ((nI r).toInt64 &&& 63)) ^^^ (-1 : Int64))) ||| (((((v.toUInt32 >>> ((nI i).toUInt32 &&& Int32.toUInt32 31)).toInt32) &&& (nI 1)).toInt64) <<< ((nI r).toInt64 &&& 63)))) cn so fi se ho co mt fr tl le ee ss hv) H := hP
        refine lv_iinc (v := nI (i + 1)) (lv' := [(4, .int (nI (i + 1))), (5, .int (nI ((8 * k) + i))), (0, .ref (ad 0)), (1, .int (nI r)), (2, .int (nI k)), (3, .int v)]) hx hb dX0_setColumn_51 hl (k := 1) rfl (nI_1 _) (by decide) rfl (fun ls hl => ?_)
        refine lv_goto (tgt := 3) hx hb dX0_setColumn_54 (by decide) ?_
        exact ih (i + 1) (by omega) (by omega) _ _ _ hP hS (lv_sub hl [0, 2, 3, 4, 5] rfl)
  exact loop 9 0 (by omega) (by omega) _ _ _ hP hS hl
set_option maxHeartbeats 4000000 in
set_option maxRecDepth 100000 in
theorem metX0_chosen {l : Launch} {D : va_G} {ad : Nat → Nat} {cA : Nat → ClassId} {pr : Int64} {sl : Nat → Int64} {cn : Int32} {so fi se ho co : Nat → Int32} {mt : Nat → Int64} {fr : Nat → Int32} {tl : Nat → Int64} {le ee : Int64} {ss hv : Nat → Int64} (ha : apt 12 ad) {h : Nat} (hh : h ≤ 5) : Met l yX0_chosen (ws_ yX0_chosen cX0_chosen 2 (some .long)) (rmK 0) (PcW D (tX cA) (wX ad cA pr sl cn so fi se ho co mt fr tl le ee ss hv) [.ref (ad 0), .int (nI h)]) (va_Ql (fun (r : Int64) (_ : Unit) => r = chz h le ee) (fun u t => va_P D vwCl (wX ad cA pr sl cn so fi se ho co mt fr tl le ee ss hv) t.heap) (AdX 12 ad)) 0 0 (AdX 12 ad) := by
  refine en_l (own := RX0) (by decide) rfl (Nat.le_of_ble_eq_true rfl) ?_
  intro p e s m below meth c R Q ls hR hC hK hP hl hret
  subst hR
  obtain ⟨hx, hb, hml, hown, hts, hr, hlocks⟩ := id hC
  have hS : va_S (AdX 12 ad) s.heap s.heap [] := va_S.rf
  have hl : lv_has ls 2 [(0, .ref (ad 0)), (1, .int (nI h))] := hl
  refine lv_iload_n hx hb dX0_chosen_0 rfl (lv_at hl 1 rfl) ?_
  refine ra_if_ne (tgt := 9) hx hb (by omega) dX0_chosen_1 (by decide) (fun c0 => ?_) (fun c0 => ?_)
  · have _h : True := trivial
    refine lv_iload_n hx hb dX0_chosen_9 rfl (lv_at hl 1 rfl) ?_
    refine lv_iconst (v := nI 1) hx hb dX0_chosen_10 (by decide) ?_
    refine ra_icmp_ne (tgt := 19) hx hb (by omega) (by omega) dX0_chosen_11 (by decide) (fun c1 => ?_) (fun c1 => ?_)
    · have _h : True := trivial
      refine lv_iload_n hx hb dX0_chosen_19 rfl (lv_at hl 1 rfl) ?_
      refine lv_iconst (v := nI 2) hx hb dX0_chosen_20 (by decide) ?_
      refine ra_icmp_ne (tgt := 34) hx hb (by omega) (by omega) dX0_chosen_21 (by decide) (fun c2 => ?_) (fun c2 => ?_)
      · have _h : True := trivial
        refine lv_iload_n hx hb dX0_chosen_34 rfl (lv_at hl 1 rfl) ?_
        refine lv_iconst (v := nI 3) hx hb dX0_chosen_35 (by decide) ?_
        refine ra_icmp_ne (tgt := 48) hx hb (by omega) (by omega) dX0_chosen_36 (by decide) (fun c3 => ?_) (fun c3 => ?_)
        · have _h : True := trivial
          refine lv_iload_n hx hb dX0_chosen_48 rfl (lv_at hl 1 rfl) ?_
          refine lv_iconst (v := nI 4) hx hb dX0_chosen_49 (by decide) ?_
          refine ra_icmp_ne (tgt := 64) hx hb (by omega) (by omega) dX0_chosen_50 (by decide) (fun c4 => ?_) (fun c4 => ?_)
          · have _h : True := trivial
            refine lv_aload_n hx hb dX0_chosen_64 rfl (lv_at hl 0 rfl) ?_
            refine va_get (D := D) (ci := 0) (v := .long le) (C := RX0) (T := TX0) (N := 15) hx hb hts in_X0 hown hK hP 0 rfl rfl 11 (by decide) (hts _ q38) (fun _ h9 => h9) rfl dX0_chosen_65 ?_
            refine lv_aload_n hx hb dX0_chosen_68 rfl (lv_at hl 0 rfl) ?_
            refine va_get (D := D) (ci := 0) (v := .long ee) (C := RX0) (T := TX0) (N := 15) hx hb hts in_X0 hown hK hP 0 rfl rfl 12 (by decide) (hts _ q39) (fun _ h9 => h9) rfl dX0_chosen_69 ?_
            refine lv_lor hx hb dX0_chosen_72 ?_
            refine lv_ldc2 hx hb hown (hts _ q84) dX0_chosen_73 ?_
            refine lv_lxor hx hb dX0_chosen_76 ?_
            exact hret _ () _ _ _ _ dX0_chosen_77 hP hS (by simp [chz, c0, c1, c2, c3, c4])
          · have _h : True := trivial
            refine lv_aload_n hx hb dX0_chosen_53 rfl (lv_at hl 0 rfl) ?_
            refine va_get (D := D) (ci := 0) (v := .long le) (C := RX0) (T := TX0) (N := 15) hx hb hts in_X0 hown hK hP 0 rfl rfl 11 (by decide) (hts _ q38) (fun _ h9 => h9) rfl dX0_chosen_54 ?_
            refine lv_ldc2 hx hb hown (hts _ q84) dX0_chosen_57 ?_
            refine lv_lxor hx hb dX0_chosen_60 ?_
            refine lv_goto (tgt := 77) hx hb dX0_chosen_61 (by decide) ?_
            exact hret _ () _ _ _ _ dX0_chosen_77 hP hS (by subst c4; rfl)
        · have _h : True := trivial
          refine lv_aload_n hx hb dX0_chosen_39 rfl (lv_at hl 0 rfl) ?_
          refine va_get (D := D) (ci := 0) (v := .long ee) (C := RX0) (T := TX0) (N := 15) hx hb hts in_X0 hown hK hP 0 rfl rfl 12 (by decide) (hts _ q39) (fun _ h9 => h9) rfl dX0_chosen_40 ?_
          refine lv_ldc2 hx hb hown (hts _ q84) dX0_chosen_43 ?_
          refine lv_lxor hx hb dX0_chosen_46 ?_
          exact hret _ () _ _ _ _ dX0_chosen_47 hP hS (by subst c3; rfl)
      · have _h : True := trivial
        refine lv_aload_n hx hb dX0_chosen_24 rfl (lv_at hl 0 rfl) ?_
        refine va_get (D := D) (ci := 0) (v := .long le) (C := RX0) (T := TX0) (N := 15) hx hb hts in_X0 hown hK hP 0 rfl rfl 11 (by decide) (hts _ q38) (fun _ h9 => h9) rfl dX0_chosen_25 ?_
        refine lv_aload_n hx hb dX0_chosen_28 rfl (lv_at hl 0 rfl) ?_
        refine va_get (D := D) (ci := 0) (v := .long ee) (C := RX0) (T := TX0) (N := 15) hx hb hts in_X0 hown hK hP 0 rfl rfl 12 (by decide) (hts _ q39) (fun _ h9 => h9) rfl dX0_chosen_29 ?_
        refine lv_lor hx hb dX0_chosen_32 ?_
        exact hret _ () _ _ _ _ dX0_chosen_33 hP hS (by subst c2; rfl)
    · have _h : True := trivial
      refine lv_aload_n hx hb dX0_chosen_14 rfl (lv_at hl 0 rfl) ?_
      refine va_get (D := D) (ci := 0) (v := .long le) (C := RX0) (T := TX0) (N := 15) hx hb hts in_X0 hown hK hP 0 rfl rfl 11 (by decide) (hts _ q38) (fun _ h9 => h9) rfl dX0_chosen_15 ?_
      exact hret _ () _ _ _ _ dX0_chosen_18 hP hS (by subst c1; rfl)
  · have _h : True := trivial
    refine lv_aload_n hx hb dX0_chosen_4 rfl (lv_at hl 0 rfl) ?_
    refine va_get (D := D) (ci := 0) (v := .long ee) (C := RX0) (T := TX0) (N := 15) hx hb hts in_X0 hown hK hP 0 rfl rfl 12 (by decide) (hts _ q39) (fun _ h9 => h9) rfl dX0_chosen_5 ?_
    exact hret _ () _ _ _ _ dX0_chosen_8 hP hS (by subst c0; rfl)
end
section
set_option maxHeartbeats 4000000 in
set_option maxRecDepth 100000 in
theorem metX0_put {l : Launch} {D : va_G} {ad : Nat → Nat} {cA : Nat → ClassId} {pr : Int64} {sl : Nat → Int64} {cn : Int32} {so fi se ho co : Nat → Int32} {mt : Nat → Int64} {fr : Nat → Int32} {tl : Nat → Int64} {le ee : Int64} {ss hv : Nat → Int64} (ha : apt 12 ad) (x a b d : Int32) : Met l yX0_put (ws_ yX0_put cX0_put 5 (some .int)) (rmK 1) (PcW D (tX cA) (wX ad cA pr sl cn so fi se ho co mt fr tl le ee ss hv) [.ref (ad 0), .int x, .int a, .int b, .int d]) (va_Qi (fun (r : Int32) (u : Int64 × (Nat → Int64) × (Nat → Int32)) => (¬ okRow x ∧ r = (-1) ∧ u = (pr, sl, fr)) ∨ (∃ j, j ≤ 63 ∧ x = nI j ∧ r = nI 0 ∧ u.1 = pr ||| ((1 : Int64) <<< ((nI j).toInt64 &&& 63)) ∧ u.2.1 = stc j 2 d (stc j 1 b (stc j 0 a sl 8) 8) 8 ∧ ∀ k, k < 16 → u.2.2 k = 0)) (fun u t => va_P D vwCl (wX ad cA u.1 u.2.1 cn so fi se ho co mt u.2.2 tl le ee ss hv) t.heap) (AdX 12 ad)) 0 0 (AdX 12 ad) := by
  refine en_i (own := RX0) (by decide) rfl (Nat.le_of_ble_eq_true rfl) ?_
  intro p e s m below meth c R Q ls hR hC hK hP hl hret
  subst hR
  obtain ⟨hx, hb, hml, hown, hts, hr, hlocks⟩ := id hC
  have hS : va_S (AdX 12 ad) s.heap s.heap [] := va_S.rf
  have hl : lv_has ls 5 [(0, .ref (ad 0)), (1, .int x), (2, .int a), (3, .int b), (4, .int d)] := hl
  refine lv_iload_n hx hb dX0_put_0 rfl (lv_at hl 1 rfl) ?_
  refine lv_if_lt (tgt := 10) hx hb dX0_put_1 (by decide) (fun c1 => ?_) (fun c1 => ?_)
  · have _h : True := trivial
    refine lv_iconst (v := (-1)) hx hb dX0_put_10 (by decide) ?_
    exact hret _ (pr, sl, fr) _ _ _ _ dX0_put_11 hP hS (Or.inl ⟨no_neg (by decide) c1, rfl, rfl⟩)
  · have _h : True := trivial
    refine lv_iload_n hx hb dX0_put_4 rfl (lv_at hl 1 rfl) ?_
    refine lv_bipush (v := nI 63) hx hb dX0_put_5 (by decide) ?_
    refine lv_icmp_le (tgt := 12) hx hb dX0_put_7 (by decide) (fun c2 => ?_) (fun c2 => ?_)
    · have _h : True := trivial
      obtain ⟨j, hj, rfl⟩ := in64 c1 c2
      refine lv_aload_n hx hb dX0_put_12 rfl (lv_at hl 0 rfl) ?_
      refine lv_dup hx hb dX0_put_13 rfl ?_
      refine va_get (D := D) (ci := 0) (v := .long pr) (C := RX0) (T := TX0) (N := 15) hx hb hts in_X0 hown hK hP 0 rfl rfl 0 (by decide) (hts _ q27) (fun _ h9 => h9) rfl dX0_put_14 ?_
      refine lv_lconst (v := 1) hx hb dX0_put_17 (by decide) ?_
      refine lv_iload_n hx hb dX0_put_18 rfl (lv_at hl 1 rfl) ?_
      refine lv_lshl (v := (1 : Int64) <<< ((nI j).toInt64 &&& 63)) hx hb dX0_put_19 rfl ?_
      refine lv_lor hx hb dX0_put_20 ?_
      refine va_put (D := D) (ci := 0) (v := .long (pr ||| ((1 : Int64) <<< ((nI j).toInt64 &&& 63)))) (ty := .long) (C := RX0) (T := TX0) (N := 15) hx hb hts in_X0 tyX0 tyX0_ok nmX0 hown hK hP (dX ha) hS 0 rfl rfl 0 (by decide) (hts _ q27) (fun _ h9 => h9) rfl (by decide +kernel) rfl rfl (Nat.le_of_ble_eq_true rfl) dX0_put_21 (fun H locs hP _ hS => ?_)
      have hP : va_P D vwCl (wX ad cA (pr ||| ((1 : Int64) <<< ((nI j).toInt64 &&& 63))) sl cn so fi se ho co mt fr tl le ee ss hv) H := hP
      refine lv_aload_n hx hb dX0_put_24 rfl (lv_at hl 0 rfl) ?_
      refine lv_iload_n hx hb dX0_put_25 rfl (lv_at hl 1 rfl) ?_
      refine lv_iconst (v := nI 0) hx hb dX0_put_26 (by decide) ?_
      refine lv_iload_n hx hb dX0_put_27 rfl (lv_at hl 2 rfl) ?_
      refine ca_v (As := [.int (nI j), .int (nI 0), .int a]) (rest := []) hC (metX0_setColumn ha (r := j) (k := 0) (by omega) (by omega) a) (cwV 3 hts (lw_V q80 q82 qs0 q17 q83) rfl rfl rfl (by decide +kernel) ⟨Nat.le_of_ble_eq_true rfl, Nat.le_of_ble_eq_true rfl⟩) hK hP (va_recv hK hP (ci := 0) (q0 := 0) rfl rfl) rfl hl.1 rfl (Nat.le_of_ble_eq_true rfl) dX0_put_28 ⟨Nat.zero_le _, Nat.zero_le _⟩ hS (fun _ h => h) (fun u1 H locs hq1 hP hk1 hS => ?_)
      subst hq1
      have hP : va_P D vwCl (wX ad cA (pr ||| ((1 : Int64) <<< ((nI j).toInt64 &&& 63))) (stc j 0 a sl 8) cn so fi se ho co mt fr tl le ee ss hv) H := hP
      refine lv_aload_n hx hb dX0_put_31 rfl (lv_at hl 0 rfl) ?_
      refine lv_iload_n hx hb dX0_put_32 rfl (lv_at hl 1 rfl) ?_
      refine lv_iconst (v := nI 1) hx hb dX0_put_33 (by decide) ?_
      refine lv_iload_n hx hb dX0_put_34 rfl (lv_at hl 3 rfl) ?_
      refine ca_v (As := [.int (nI j), .int (nI 1), .int b]) (rest := []) hC (metX0_setColumn ha (r := j) (k := 1) (by omega) (by omega) b) (cwV 3 hts (lw_V q80 q82 qs0 q17 q83) rfl rfl rfl (by decide +kernel) ⟨Nat.le_of_ble_eq_true rfl, Nat.le_of_ble_eq_true rfl⟩) hK hP (va_recv hK hP (ci := 0) (q0 := 0) rfl rfl) rfl hl.1 rfl (Nat.le_of_ble_eq_true rfl) dX0_put_35 ⟨Nat.zero_le _, Nat.zero_le _⟩ hS (fun _ h => h) (fun u2 H locs hq2 hP hk2 hS => ?_)
      subst hq2
      have hP : va_P D vwCl (wX ad cA (pr ||| ((1 : Int64) <<< ((nI j).toInt64 &&& 63))) (stc j 1 b (stc j 0 a sl 8) 8) cn so fi se ho co mt fr tl le ee ss hv) H := hP
      refine lv_aload_n hx hb dX0_put_38 rfl (lv_at hl 0 rfl) ?_
      refine lv_iload_n hx hb dX0_put_39 rfl (lv_at hl 1 rfl) ?_
      refine lv_iconst (v := nI 2) hx hb dX0_put_40 (by decide) ?_
      refine lv_iload hx hb dX0_put_41 (lv_at hl 4 rfl) ?_
      refine ca_v (As := [.int (nI j), .int (nI 2), .int d]) (rest := []) hC (metX0_setColumn ha (r := j) (k := 2) (by omega) (by omega) d) (cwV 3 hts (lw_V q80 q82 qs0 q17 q83) rfl rfl rfl (by decide +kernel) ⟨Nat.le_of_ble_eq_true rfl, Nat.le_of_ble_eq_true rfl⟩) hK hP (va_recv hK hP (ci := 0) (q0 := 0) rfl rfl) rfl hl.1 rfl (Nat.le_of_ble_eq_true rfl) dX0_put_43 ⟨Nat.zero_le _, Nat.zero_le _⟩ hS (fun _ h => h) (fun u3 H locs hq3 hP hk3 hS => ?_)
      subst hq3
      have hP : va_P D vwCl (wX ad cA (pr ||| ((1 : Int64) <<< ((nI j).toInt64 &&& 63))) (stc j 2 d (stc j 1 b (stc j 0 a sl 8) 8) 8) cn so fi se ho co mt fr tl le ee ss hv) H := hP
      refine lv_aload_n hx hb dX0_put_46 rfl (lv_at hl 0 rfl) ?_
      refine ca_v (As := []) (rest := []) hC (metX0_forgetAnswers ha) (cwV 0 hts (lw_V q85 q87 qs1 q17 q88) rfl rfl rfl (by decide +kernel) ⟨Nat.le_of_ble_eq_true rfl, Nat.le_of_ble_eq_true rfl⟩) hK hP (va_recv hK hP (ci := 0) (q0 := 0) rfl rfl) rfl hl.1 rfl (Nat.le_of_ble_eq_true rfl) dX0_put_47 ⟨Nat.zero_le _, Nat.zero_le _⟩ hS (fun _ h => h) (fun u4 H locs hq4 hP hk4 hS => ?_)
      refine lv_iconst (v := nI 0) hx hb dX0_put_50 (by decide) ?_
      exact hret _ (pr ||| ((1 : Int64) <<< ((nI j).toInt64 &&& 63)), stc j 2 d (stc j 1 b (stc j 0 a sl 8) 8) 8, u4) _ _ _ _ dX0_put_51 hP hS (Or.inr ⟨j, hj, rfl, rfl, rfl, rfl, hq4⟩)
    · have _h : True := trivial
      refine lv_iconst (v := (-1)) hx hb dX0_put_10 (by decide) ?_
      exact hret _ (pr, sl, fr) _ _ _ _ dX0_put_11 hP hS (Or.inl ⟨no_nle (by decide) c2, rfl, rfl⟩)
set_option maxHeartbeats 4000000 in
set_option maxRecDepth 100000 in
theorem metX0_drop {l : Launch} {D : va_G} {ad : Nat → Nat} {cA : Nat → ClassId} {pr : Int64} {sl : Nat → Int64} {cn : Int32} {so fi se ho co : Nat → Int32} {mt : Nat → Int64} {fr : Nat → Int32} {tl : Nat → Int64} {le ee : Int64} {ss hv : Nat → Int64} (ha : apt 12 ad) (x : Int32) : Met l yX0_drop (ws_ yX0_drop cX0_drop 3 (some .int)) (rmK 1) (PcW D (tX cA) (wX ad cA pr sl cn so fi se ho co mt fr tl le ee ss hv) [.ref (ad 0), .int x]) (va_Qi (fun (r : Int32) (u : Int64 × (Nat → Int32)) => (¬ okRow x ∧ r = (-1) ∧ u = (pr, fr)) ∨ (∃ j, j ≤ 63 ∧ x = nI j ∧ r = (((pr.toUInt64 >>> ((nI j).toInt64.toUInt64 &&& Int64.toUInt64 63)).toInt64).toInt32 &&& nI 1) ∧ u.1 = pr &&& (((1 : Int64) <<< ((nI j).toInt64 &&& 63)) ^^^ (-1)) ∧ ∀ k, k < 16 → u.2 k = 0)) (fun u t => va_P D vwCl (wX ad cA u.1 sl cn so fi se ho co mt u.2 tl le ee ss hv) t.heap) (AdX 12 ad)) 0 0 (AdX 12 ad) := by
  refine en_i (own := RX0) (by decide) rfl (Nat.le_of_ble_eq_true rfl) ?_
  intro p e s m below meth c R Q ls hR hC hK hP hl hret
  subst hR
  obtain ⟨hx, hb, hml, hown, hts, hr, hlocks⟩ := id hC
  have hS : va_S (AdX 12 ad) s.heap s.heap [] := va_S.rf
  have hl : lv_has ls 3 [(0, .ref (ad 0)), (1, .int x)] := hl
  refine lv_iload_n hx hb dX0_drop_0 rfl (lv_at hl 1 rfl) ?_
  refine lv_if_lt (tgt := 10) hx hb dX0_drop_1 (by decide) (fun c1 => ?_) (fun c1 => ?_)
  · have _h : True := trivial
    refine lv_iconst (v := (-1)) hx hb dX0_drop_10 (by decide) ?_
    exact hret _ (pr, fr) _ _ _ _ dX0_drop_11 hP hS (Or.inl ⟨no_neg (by decide) c1, rfl, rfl⟩)
  · have _h : True := trivial
    refine lv_iload_n hx hb dX0_drop_4 rfl (lv_at hl 1 rfl) ?_
    refine lv_bipush (v := nI 63) hx hb dX0_drop_5 (by decide) ?_
    refine lv_icmp_le (tgt := 12) hx hb dX0_drop_7 (by decide) (fun c2 => ?_) (fun c2 => ?_)
    · have _h : True := trivial
      obtain ⟨j, hj, rfl⟩ := in64 c1 c2
      refine lv_aload_n hx hb dX0_drop_12 rfl (lv_at hl 0 rfl) ?_
      refine va_get (D := D) (ci := 0) (v := .long pr) (C := RX0) (T := TX0) (N := 15) hx hb hts in_X0 hown hK hP 0 rfl rfl 0 (by decide) (hts _ q27) (fun _ h9 => h9) rfl dX0_drop_13 ?_
      refine lv_iload_n hx hb dX0_drop_16 rfl (lv_at hl 1 rfl) ?_
      refine lv_lushr (v := (pr.toUInt64 >>> ((nI j).toInt64.toUInt64 &&& Int64.toUInt64 63)).toInt64) hx hb dX0_drop_17 rfl ?_
      refine lv_l2i (v := ((pr.toUInt64 >>> ((nI j).toInt64.toUInt64 &&& Int64.toUInt64 63)).toInt64).toInt32) hx hb dX0_drop_18 rfl ?_
      refine lv_iconst (v := nI 1) hx hb dX0_drop_19 (by decide) ?_
      refine lv_iand hx hb dX0_drop_20 ?_
      refine lv_istore_n (lv' := [(2, .int ((((pr.toUInt64 >>> ((nI j).toInt64.toUInt64 &&& Int64.toUInt64 63)).toInt64).toInt32) &&& (nI 1))), (0, .ref (ad 0)), (1, .int (nI j))]) hx hb dX0_drop_21 rfl hl (by decide) rfl (fun ls hl => ?_)
      refine lv_aload_n hx hb dX0_drop_22 rfl (lv_at hl 1 rfl) ?_
      refine lv_dup hx hb dX0_drop_23 rfl ?_
      refine va_get (D := D) (ci := 0) (v := .long pr) (C := RX0) (T := TX0) (N := 15) hx hb hts in_X0 hown hK hP 0 rfl rfl 0 (by decide) (hts _ q27) (fun _ h9 => h9) rfl dX0_drop_24 ?_
      refine lv_lconst (v := 1) hx hb dX0_drop_27 (by decide) ?_
      refine lv_iload_n hx hb dX0_drop_28 rfl (lv_at hl 2 rfl) ?_
      refine lv_lshl (v := (1 : Int64) <<< ((nI j).toInt64 &&& 63)) hx hb dX0_drop_29 rfl ?_
      refine lv_ldc2 hx hb hown (hts _ q84) dX0_drop_30 ?_
      refine lv_lxor hx hb dX0_drop_33 ?_
      refine lv_land hx hb dX0_drop_34 ?_
      refine va_put (D := D) (ci := 0) (v := .long (pr &&& (((1 : Int64) <<< ((nI j).toInt64 &&& 63)) ^^^ (-1 : Int64)))) (ty := .long) (C := RX0) (T := TX0) (N := 15) hx hb hts in_X0 tyX0 tyX0_ok nmX0 hown hK hP (dX ha) hS 0 rfl rfl 0 (by decide) (hts _ q27) (fun _ h9 => h9) rfl (by decide +kernel) rfl rfl (Nat.le_of_ble_eq_true rfl) dX0_drop_35 (fun H locs hP _ hS => ?_)
      have hP : va_P D vwCl (wX ad cA (pr &&& (((1 : Int64) <<< ((nI j).toInt64 &&& 63)) ^^^ (-1 : Int64))) sl cn so fi se ho co mt fr tl le ee ss hv) H := hP
      refine lv_aload_n hx hb dX0_drop_38 rfl (lv_at hl 1 rfl) ?_
      refine ca_v (As := []) (rest := []) hC (metX0_forgetAnswers ha) (cwV 0 hts (lw_V q85 q87 qs1 q17 q88) rfl rfl rfl (by decide +kernel) ⟨Nat.le_of_ble_eq_true rfl, Nat.le_of_ble_eq_true rfl⟩) hK hP (va_recv hK hP (ci := 0) (q0 := 0) rfl rfl) rfl hl.1 rfl (Nat.le_of_ble_eq_true rfl) dX0_drop_39 ⟨Nat.zero_le _, Nat.zero_le _⟩ hS (fun _ h => h) (fun u4 H locs hq4 hP hk4 hS => ?_)
      refine lv_iload_n hx hb dX0_drop_42 rfl (lv_at hl 0 rfl) ?_
      exact hret _ (pr &&& (((1 : Int64) <<< ((nI j).toInt64 &&& 63)) ^^^ (-1 : Int64)), u4) _ _ _ _ dX0_drop_43 hP hS (Or.inr ⟨j, hj, rfl, rfl, rfl, hq4⟩)
    · have _h : True := trivial
      refine lv_iconst (v := (-1)) hx hb dX0_drop_10 (by decide) ?_
      exact hret _ (pr, fr) _ _ _ _ dX0_drop_11 hP hS (Or.inl ⟨no_nle (by decide) c2, rfl, rfl⟩)
set_option maxHeartbeats 4000000 in
set_option maxRecDepth 100000 in
theorem metX0_clear {l : Launch} {D : va_G} {ad : Nat → Nat} {cA : Nat → ClassId} {pr : Int64} {sl : Nat → Int64} {cn : Int32} {so fi se ho co : Nat → Int32} {mt : Nat → Int64} {fr : Nat → Int32} {tl : Nat → Int64} {le ee : Int64} {ss hv : Nat → Int64} (ha : apt 12 ad)  : Met l yX0_clear (ws_ yX0_clear cX0_clear 1 (none)) (rmK 1) (PcW D (tX cA) (wX ad cA pr sl cn so fi se ho co mt fr tl le ee ss hv) [.ref (ad 0)]) (va_Qv (fun (u : Int32 × (Nat → Int32)) => u.1 = nI 0 ∧ ∀ k, k < 16 → u.2 k = 0) (fun u t => va_P D vwCl (wX ad cA pr sl u.1 so fi se ho co mt u.2 tl le ee ss hv) t.heap) (AdX 12 ad)) 0 0 (AdX 12 ad) := by
  refine en_v (own := RX0) (by decide) rfl (Nat.le_of_ble_eq_true rfl) ?_
  intro p e s m below meth c R Q ls hR hC hK hP hl hret
  subst hR
  obtain ⟨hx, hb, hml, hown, hts, hr, hlocks⟩ := id hC
  have hS : va_S (AdX 12 ad) s.heap s.heap [] := va_S.rf
  have hl : lv_has ls 1 [(0, .ref (ad 0))] := hl
  refine lv_aload_n hx hb dX0_clear_0 rfl (lv_at hl 0 rfl) ?_
  refine lv_iconst (v := nI 0) hx hb dX0_clear_1 (by decide) ?_
  refine va_put (D := D) (ci := 0) (v := .int (nI 0)) (ty := .int) (C := RX0) (T := TX0) (N := 15) hx hb hts in_X0 tyX0 tyX0_ok nmX0 hown hK hP (dX ha) hS 0 rfl rfl 2 (by decide) (hts _ q29) (fun _ h9 => h9) rfl (by decide +kernel) rfl rfl (Nat.le_of_ble_eq_true rfl) dX0_clear_2 (fun H locs hP _ hS => ?_)
  have hP : va_P D vwCl (wX ad cA pr sl (nI 0) so fi se ho co mt fr tl le ee ss hv) H := hP
  refine lv_aload_n hx hb dX0_clear_5 rfl (lv_at hl 0 rfl) ?_
  refine ca_v (As := []) (rest := []) hC (metX0_forgetAnswers ha) (cwV 0 hts (lw_V q85 q87 qs1 q17 q88) rfl rfl rfl (by decide +kernel) ⟨Nat.le_of_ble_eq_true rfl, Nat.le_of_ble_eq_true rfl⟩) hK hP (va_recv hK hP (ci := 0) (q0 := 0) rfl rfl) rfl hl.1 rfl (Nat.le_of_ble_eq_true rfl) dX0_clear_6 ⟨Nat.zero_le _, Nat.zero_le _⟩ hS (fun _ h => h) (fun u4 H locs hq4 hP hk4 hS => ?_)
  exact hret (nI 0, u4) _ _ _ _ dX0_clear_9 hP hS ⟨rfl, hq4⟩
set_option maxHeartbeats 4000000 in
set_option maxRecDepth 100000 in
theorem metX0_make {l : Launch} {D : va_G} {ad : Nat → Nat} {cA : Nat → ClassId} {pr : Int64} {sl : Nat → Int64}  {so fi se ho co : Nat → Int32} {mt : Nat → Int64} {fr : Nat → Int32} {tl : Nat → Int64} {le ee : Int64} {ss hv : Nat → Int64} (ha : apt 12 ad) {n : Nat} (hn : n ≤ 16) (sv a b h k : Int32) : Met l yX0_make (ws_ yX0_make cX0_make 7 (some .int)) (rmK 0) (PcW D (tX cA) (wX ad cA pr sl (nI n) so fi se ho co mt fr tl le ee ss hv) [.ref (ad 0), .int sv, .int a, .int b, .int h, .int k]) (va_Qi (fun (r : Int32) (u : mkS) => mkP n so fi se ho co fr sv a b h k r u) (fun u t => va_P D vwCl (wX ad cA pr sl u.1 u.2.1 u.2.2.1 u.2.2.2.1 u.2.2.2.2.1 u.2.2.2.2.2.1 mt u.2.2.2.2.2.2 tl le ee ss hv) t.heap) (AdX 12 ad)) 0 0 (AdX 12 ad) := by
  refine en_i (own := RX0) (by decide) rfl (Nat.le_of_ble_eq_true rfl) ?_
  intro p e s m below meth c R Q ls hR hC hK hP hl hret
  subst hR
  obtain ⟨hx, hb, hml, hown, hts, hr, hlocks⟩ := id hC
  have hS : va_S (AdX 12 ad) s.heap s.heap [] := va_S.rf
  have hl : lv_has ls 7 [(0, .ref (ad 0)), (1, .int sv), (2, .int a), (3, .int b), (4, .int h), (5, .int k)] := hl
  refine lv_aload_n hx hb dX0_make_0 rfl (lv_at hl 0 rfl) ?_
  refine va_get (D := D) (ci := 0) (v := .int (nI n)) (C := RX0) (T := TX0) (N := 15) hx hb hts in_X0 hown hK hP 0 rfl rfl 2 (by decide) (hts _ q29) (fun _ h9 => h9) rfl dX0_make_1 ?_
  refine lv_bipush (v := nI 16) hx hb dX0_make_4 (by decide) ?_
  refine ra_icmp_lt (tgt := 11) hx hb (by omega) (by omega) dX0_make_6 (by decide) (fun c1 => ?_) (fun c1 => ?_)
  · have _h : True := trivial
    refine lv_aload_n hx hb dX0_make_11 rfl (lv_at hl 0 rfl) ?_
    refine va_get (D := D) (ci := 0) (v := .int (nI n)) (C := RX0) (T := TX0) (N := 15) hx hb hts in_X0 hown hK hP 0 rfl rfl 2 (by decide) (hts _ q29) (fun _ h9 => h9) rfl dX0_make_12 ?_
    refine lv_istore (lv' := [(6, .int (nI n)), (0, .ref (ad 0)), (1, .int sv), (2, .int a), (3, .int b), (4, .int h), (5, .int k)]) hx hb dX0_make_15 hl (by decide) rfl (fun ls hl => ?_)
    refine lv_aload_n hx hb dX0_make_17 rfl (lv_at hl 1 rfl) ?_
    refine va_get (D := D) (ci := 0) (v := .ref (ad 2)) (C := RX0) (T := TX0) (N := 15) hx hb hts in_X0 hown hK hP 0 rfl rfl 3 (by decide) (hts _ q30) (fun _ h9 => h9) rfl dX0_make_18 ?_
    refine lv_iload hx hb dX0_make_21 (lv_at hl 0 rfl) ?_
    refine lv_iload_n hx hb dX0_make_23 rfl (lv_at hl 2 rfl) ?_
    refine ra_iast hx hb hK hP (dX ha) hS 2 1 rfl rfl (by omega) (by decide) dX0_make_24 (fun H locs hP hS => ?_)
    have hP : va_P D vwCl (wX ad cA pr sl (nI n) (upd so n sv) fi se ho co mt fr tl le ee ss hv) H := hP
    refine lv_aload_n hx hb dX0_make_25 rfl (lv_at hl 1 rfl) ?_
    refine va_get (D := D) (ci := 0) (v := .ref (ad 3)) (C := RX0) (T := TX0) (N := 15) hx hb hts in_X0 hown hK hP 0 rfl rfl 4 (by decide) (hts _ q31) (fun _ h9 => h9) rfl dX0_make_26 ?_
    refine lv_iload hx hb dX0_make_29 (lv_at hl 0 rfl) ?_
    refine lv_iload_n hx hb dX0_make_31 rfl (lv_at hl 3 rfl) ?_
    refine ra_iast hx hb hK hP (dX ha) hS 3 2 rfl rfl (by omega) (by decide) dX0_make_32 (fun H locs hP hS => ?_)
    have hP : va_P D vwCl (wX ad cA pr sl (nI n) (upd so n sv) (upd fi n a) se ho co mt fr tl le ee ss hv) H := hP
    refine lv_aload_n hx hb dX0_make_33 rfl (lv_at hl 1 rfl) ?_
    refine va_get (D := D) (ci := 0) (v := .ref (ad 4)) (C := RX0) (T := TX0) (N := 15) hx hb hts in_X0 hown hK hP 0 rfl rfl 5 (by decide) (hts _ q32) (fun _ h9 => h9) rfl dX0_make_34 ?_
    refine lv_iload hx hb dX0_make_37 (lv_at hl 0 rfl) ?_
    refine lv_iload_n hx hb dX0_make_39 rfl (lv_at hl 4 rfl) ?_
    refine ra_iast hx hb hK hP (dX ha) hS 4 3 rfl rfl (by omega) (by decide) dX0_make_40 (fun H locs hP hS => ?_)
    have hP : va_P D vwCl (wX ad cA pr sl (nI n) (upd so n sv) (upd fi n a) (upd se n b) ho co mt fr tl le ee ss hv) H := hP
    refine lv_aload_n hx hb dX0_make_41 rfl (lv_at hl 1 rfl) ?_
    refine va_get (D := D) (ci := 0) (v := .ref (ad 5)) (C := RX0) (T := TX0) (N := 15) hx hb hts in_X0 hown hK hP 0 rfl rfl 6 (by decide) (hts _ q33) (fun _ h9 => h9) rfl dX0_make_42 ?_
    refine lv_iload hx hb dX0_make_45 (lv_at hl 0 rfl) ?_
    refine lv_iload hx hb dX0_make_47 (lv_at hl 5 rfl) ?_
    refine ra_iast hx hb hK hP (dX ha) hS 5 4 rfl rfl (by omega) (by decide) dX0_make_49 (fun H locs hP hS => ?_)
    have hP : va_P D vwCl (wX ad cA pr sl (nI n) (upd so n sv) (upd fi n a) (upd se n b) (upd ho n h) co mt fr tl le ee ss hv) H := hP
    refine lv_aload_n hx hb dX0_make_50 rfl (lv_at hl 1 rfl) ?_
    refine va_get (D := D) (ci := 0) (v := .ref (ad 6)) (C := RX0) (T := TX0) (N := 15) hx hb hts in_X0 hown hK hP 0 rfl rfl 7 (by decide) (hts _ q34) (fun _ h9 => h9) rfl dX0_make_51 ?_
    refine lv_iload hx hb dX0_make_54 (lv_at hl 0 rfl) ?_
    refine lv_iload hx hb dX0_make_56 (lv_at hl 6 rfl) ?_
    refine ra_iast hx hb hK hP (dX ha) hS 6 5 rfl rfl (by omega) (by decide) dX0_make_58 (fun H locs hP hS => ?_)
    have hP : va_P D vwCl (wX ad cA pr sl (nI n) (upd so n sv) (upd fi n a) (upd se n b) (upd ho n h) (upd co n k) mt fr tl le ee ss hv) H := hP
    refine lv_aload_n hx hb dX0_make_59 rfl (lv_at hl 1 rfl) ?_
    refine va_get (D := D) (ci := 0) (v := .ref (ad 8)) (C := RX0) (T := TX0) (N := 15) hx hb hts in_X0 hown hK hP 0 rfl rfl 9 (by decide) (hts _ q36) (fun _ h9 => h9) rfl dX0_make_60 ?_
    refine lv_iload hx hb dX0_make_63 (lv_at hl 0 rfl) ?_
    refine lv_iconst (v := nI 0) hx hb dX0_make_65 (by decide) ?_
    refine ra_zast hx hb hK hP (dX ha) hS 8 7 rfl rfl (by omega) (by decide) rfl dX0_make_66 (fun H locs hP hS => ?_)
    have hP : va_P D vwCl (wX ad cA pr sl (nI n) (upd so n sv) (upd fi n a) (upd se n b) (upd ho n h) (upd co n k) mt (upd fr n (nI 0)) tl le ee ss hv) H := hP
    refine lv_aload_n hx hb dX0_make_67 rfl (lv_at hl 1 rfl) ?_
    refine lv_iload hx hb dX0_make_68 (lv_at hl 0 rfl) ?_
    refine lv_iconst (v := nI 1) hx hb dX0_make_70 (by decide) ?_
    refine ra_iadd hx hb dX0_make_71 ?_
    refine va_put (D := D) (ci := 0) (v := .int (nI (n + 1))) (ty := .int) (C := RX0) (T := TX0) (N := 15) hx hb hts in_X0 tyX0 tyX0_ok nmX0 hown hK hP (dX ha) hS 0 rfl rfl 2 (by decide) (hts _ q29) (fun _ h9 => h9) rfl (by decide +kernel) rfl rfl (Nat.le_of_ble_eq_true rfl) dX0_make_72 (fun H locs hP _ hS => ?_)
    have hP : va_P D vwCl (wX ad cA pr sl (nI (n + 1)) (upd so n sv) (upd fi n a) (upd se n b) (upd ho n h) (upd co n k) mt (upd fr n (nI 0)) tl le ee ss hv) H := hP
    refine lv_iload hx hb dX0_make_75 (lv_at hl 0 rfl) ?_
    exact hret _ (nI (n + 1), upd so n sv, upd fi n a, upd se n b, upd ho n h, upd co n k, upd fr n (nI 0)) _ _ _ _ dX0_make_77 hP hS (Or.inr ⟨c1, rfl, rfl⟩)
  · have _h : True := trivial
    refine lv_iconst (v := (-1)) hx hb dX0_make_9 (by decide) ?_
    exact hret _ (nI n, so, fi, se, ho, co, fr) _ _ _ _ dX0_make_10 hP hS (Or.inl ⟨by omega, rfl, rfl⟩)
set_option maxHeartbeats 4000000 in
set_option maxRecDepth 100000 in
theorem metX0_compare {l : Launch} {D : va_G} {ad : Nat → Nat} {cA : Nat → ClassId} {pr : Int64} {sl : Nat → Int64}  {so fi se ho co : Nat → Int32} {mt : Nat → Int64} {fr : Nat → Int32} {tl : Nat → Int64} {le ee : Int64} {ss hv : Nat → Int64} (ha : apt 12 ad) {n : Nat} (hn : n ≤ 16) (x h k : Int32) : Met l yX0_compare (ws_ yX0_compare cX0_compare 4 (some .int)) (rmK 1) (PcW D (tX cA) (wX ad cA pr sl (nI n) so fi se ho co mt fr tl le ee ss hv) [.ref (ad 0), .int x, .int h, .int k]) (va_Qi (fun (r : Int32) (u : mkS) => (¬ okCmp x h ∧ r = (-1) ∧ u = (nI n, so, fi, se, ho, co, fr)) ∨ (∃ j d, j ≤ 2 ∧ d ≤ 5 ∧ x = nI j ∧ h = nI d ∧ mkP n so fi se ho co fr (nI 0) (nI j) (nI 0) (nI d) k r u)) (fun u t => va_P D vwCl (wX ad cA pr sl u.1 u.2.1 u.2.2.1 u.2.2.2.1 u.2.2.2.2.1 u.2.2.2.2.2.1 mt u.2.2.2.2.2.2 tl le ee ss hv) t.heap) (AdX 12 ad)) 0 0 (AdX 12 ad) := by
  refine en_i (own := RX0) (by decide) rfl (Nat.le_of_ble_eq_true rfl) ?_
  intro p e s m below meth c R Q ls hR hC hK hP hl hret
  subst hR
  obtain ⟨hx, hb, hml, hown, hts, hr, hlocks⟩ := id hC
  have hS : va_S (AdX 12 ad) s.heap s.heap [] := va_S.rf
  have hl : lv_has ls 4 [(0, .ref (ad 0)), (1, .int x), (2, .int h), (3, .int k)] := hl
  refine lv_iload_n hx hb dX0_compare_0 rfl (lv_at hl 1 rfl) ?_
  refine cs_i (As := [.int x]) (rest := []) hC (metX0_isColumn x) (va_cwS 1 hts (lw_S q97 q98 q17 q99) rfl rfl rfl (by decide +kernel) ⟨Nat.le_of_ble_eq_true rfl, Nat.le_of_ble_eq_true rfl⟩) hK rfl hl.1 rfl (Nat.le_of_ble_eq_true rfl) dX0_compare_1 ⟨Nat.zero_le _, Nat.zero_le _⟩ hS hP (fun r1 H locs hq1 hP hS => ?_)
  rcases hq1 with ⟨rfl, hb1⟩ | ⟨rfl, j1, hj1, rfl⟩
  · have _h : True := trivial
    refine ra_if_eq (tgt := 16) hx hb (by omega) dX0_compare_4 (by decide) (fun c1 => ?_) (fun c1 => (by omega : False).elim)
    refine lv_iconst (v := (-1)) hx hb dX0_compare_16 (by decide) ?_
    exact hret _ (nI n, so, fi, se, ho, co, fr) _ _ _ _ dX0_compare_17 hP hS (Or.inl ⟨fun ⟨j, d, hj, hd, e1, e2⟩ => hb1 ⟨j, hj, e1⟩, rfl, rfl⟩)
  · have _h : True := trivial
    refine ra_if_eq (tgt := 16) hx hb (by omega) dX0_compare_4 (by decide) (fun c1 => (by omega : False).elim) (fun c1 => ?_)
    refine lv_iload_n hx hb dX0_compare_7 rfl (lv_at hl 2 rfl) ?_
    refine lv_if_lt (tgt := 16) hx hb dX0_compare_8 (by decide) (fun c2 => ?_) (fun c2 => ?_)
    · have _h : True := trivial
      refine lv_iconst (v := (-1)) hx hb dX0_compare_16 (by decide) ?_
      exact hret _ (nI n, so, fi, se, ho, co, fr) _ _ _ _ dX0_compare_17 hP hS (Or.inl ⟨fun ⟨j, d, hj, hd, e1, e2⟩ => no_neg (K := 5) (by decide) c2 ⟨d, hd, e2⟩, rfl, rfl⟩)
    · have _h : True := trivial
      refine lv_iload_n hx hb dX0_compare_11 rfl (lv_at hl 2 rfl) ?_
      refine lv_iconst (v := nI 5) hx hb dX0_compare_12 (by decide) ?_
      refine lv_icmp_le (tgt := 18) hx hb dX0_compare_13 (by decide) (fun c3 => ?_) (fun c3 => ?_)
      · have _h : True := trivial
        obtain ⟨d, hd, rfl⟩ := inK 5 (by decide) c2 c3
        refine lv_aload_n hx hb dX0_compare_18 rfl (lv_at hl 0 rfl) ?_
        refine lv_iconst (v := nI 0) hx hb dX0_compare_19 (by decide) ?_
        refine lv_iload_n hx hb dX0_compare_20 rfl (lv_at hl 1 rfl) ?_
        refine lv_iconst (v := nI 0) hx hb dX0_compare_21 (by decide) ?_
        refine lv_iload_n hx hb dX0_compare_22 rfl (lv_at hl 2 rfl) ?_
        refine lv_iload_n hx hb dX0_compare_23 rfl (lv_at hl 3 rfl) ?_
        refine ca_i (As := [.int (nI 0), .int (nI j1), .int (nI 0), .int (nI d), .int k]) (rest := []) hC (metX0_make ha hn (nI 0) (nI j1) (nI 0) (nI d) k) (cwV 5 hts (lw_V q100 q102 qs2 q17 q103) rfl rfl rfl (by decide +kernel) ⟨Nat.le_of_ble_eq_true rfl, Nat.le_of_ble_eq_true rfl⟩) hK hP (va_recv hK hP (ci := 0) (q0 := 0) rfl rfl) rfl hl.1 rfl (Nat.le_of_ble_eq_true rfl) dX0_compare_24 ⟨Nat.zero_le _, Nat.zero_le _⟩ hS (fun _ h => h) (fun r2 u2 H locs hq2 hP hk2 hS => ?_)
        exact hret _ u2 _ _ _ _ dX0_compare_27 hP hS (Or.inr ⟨j1, d, hj1, hd, rfl, rfl, hq2⟩)
      · have _h : True := trivial
        refine lv_iconst (v := (-1)) hx hb dX0_compare_16 (by decide) ?_
        exact hret _ (nI n, so, fi, se, ho, co, fr) _ _ _ _ dX0_compare_17 hP hS (Or.inl ⟨fun ⟨j, d, hj, hd, e1, e2⟩ => no_nle (K := 5) (by decide) c3 ⟨d, hd, e2⟩, rfl, rfl⟩)
set_option maxHeartbeats 4000000 in
set_option maxRecDepth 100000 in
theorem metX0_columns {l : Launch} {D : va_G} {ad : Nat → Nat} {cA : Nat → ClassId} {pr : Int64} {sl : Nat → Int64}  {so fi se ho co : Nat → Int32} {mt : Nat → Int64} {fr : Nat → Int32} {tl : Nat → Int64} {le ee : Int64} {ss hv : Nat → Int64} (ha : apt 12 ad) {n : Nat} (hn : n ≤ 16) (x h y : Int32) : Met l yX0_columns (ws_ yX0_columns cX0_columns 4 (some .int)) (rmK 1) (PcW D (tX cA) (wX ad cA pr sl (nI n) so fi se ho co mt fr tl le ee ss hv) [.ref (ad 0), .int x, .int h, .int y]) (va_Qi (fun (r : Int32) (u : mkS) => (¬ okCols x h y ∧ r = (-1) ∧ u = (nI n, so, fi, se, ho, co, fr)) ∨ (∃ j d q, j ≤ 2 ∧ d ≤ 5 ∧ q ≤ 2 ∧ x = nI j ∧ h = nI d ∧ y = nI q ∧ mkP n so fi se ho co fr (nI 1) (nI j) (nI q) (nI d) (nI 0) r u)) (fun u t => va_P D vwCl (wX ad cA pr sl u.1 u.2.1 u.2.2.1 u.2.2.2.1 u.2.2.2.2.1 u.2.2.2.2.2.1 mt u.2.2.2.2.2.2 tl le ee ss hv) t.heap) (AdX 12 ad)) 0 0 (AdX 12 ad) := by
  refine en_i (own := RX0) (by decide) rfl (Nat.le_of_ble_eq_true rfl) ?_
  intro p e s m below meth c R Q ls hR hC hK hP hl hret
  subst hR
  obtain ⟨hx, hb, hml, hown, hts, hr, hlocks⟩ := id hC
  have hS : va_S (AdX 12 ad) s.heap s.heap [] := va_S.rf
  have hl : lv_has ls 4 [(0, .ref (ad 0)), (1, .int x), (2, .int h), (3, .int y)] := hl
  refine lv_iload_n hx hb dX0_columns_0 rfl (lv_at hl 1 rfl) ?_
  refine cs_i (As := [.int x]) (rest := []) hC (metX0_isColumn x) (va_cwS 1 hts (lw_S q97 q98 q17 q99) rfl rfl rfl (by decide +kernel) ⟨Nat.le_of_ble_eq_true rfl, Nat.le_of_ble_eq_true rfl⟩) hK rfl hl.1 rfl (Nat.le_of_ble_eq_true rfl) dX0_columns_1 ⟨Nat.zero_le _, Nat.zero_le _⟩ hS hP (fun r1 H locs hq1 hP hS => ?_)
  rcases hq1 with ⟨rfl, hb1⟩ | ⟨rfl, j1, hj1, rfl⟩
  · have _h : True := trivial
    refine ra_if_eq (tgt := 23) hx hb (by omega) dX0_columns_4 (by decide) (fun c1 => ?_) (fun c1 => (by omega : False).elim)
    refine lv_iconst (v := (-1)) hx hb dX0_columns_23 (by decide) ?_
    exact hret _ (nI n, so, fi, se, ho, co, fr) _ _ _ _ dX0_columns_24 hP hS (Or.inl ⟨fun ⟨j, d, q, hj, hd, hq, e1, e2, e3⟩ => hb1 ⟨j, hj, e1⟩, rfl, rfl⟩)
  · have _h : True := trivial
    refine ra_if_eq (tgt := 23) hx hb (by omega) dX0_columns_4 (by decide) (fun c1 => (by omega : False).elim) (fun c1 => ?_)
    refine lv_iload_n hx hb dX0_columns_7 rfl (lv_at hl 3 rfl) ?_
    refine cs_i (As := [.int y]) (rest := []) hC (metX0_isColumn y) (va_cwS 1 hts (lw_S q97 q98 q17 q99) rfl rfl rfl (by decide +kernel) ⟨Nat.le_of_ble_eq_true rfl, Nat.le_of_ble_eq_true rfl⟩) hK rfl hl.1 rfl (Nat.le_of_ble_eq_true rfl) dX0_columns_8 ⟨Nat.zero_le _, Nat.zero_le _⟩ hS hP (fun r2 H locs hq2 hP hS => ?_)
    rcases hq2 with ⟨rfl, hb2⟩ | ⟨rfl, j2, hj2, rfl⟩
    · have _h : True := trivial
      refine ra_if_eq (tgt := 23) hx hb (by omega) dX0_columns_11 (by decide) (fun c2 => ?_) (fun c2 => (by omega : False).elim)
      refine lv_iconst (v := (-1)) hx hb dX0_columns_23 (by decide) ?_
      exact hret _ (nI n, so, fi, se, ho, co, fr) _ _ _ _ dX0_columns_24 hP hS (Or.inl ⟨fun ⟨j, d, q, hj, hd, hq, e1, e2, e3⟩ => hb2 ⟨q, hq, e3⟩, rfl, rfl⟩)
    · have _h : True := trivial
      refine ra_if_eq (tgt := 23) hx hb (by omega) dX0_columns_11 (by decide) (fun c2 => (by omega : False).elim) (fun c2 => ?_)
      refine lv_iload_n hx hb dX0_columns_14 rfl (lv_at hl 2 rfl) ?_
      refine lv_if_lt (tgt := 23) hx hb dX0_columns_15 (by decide) (fun c3 => ?_) (fun c3 => ?_)
      · have _h : True := trivial
        refine lv_iconst (v := (-1)) hx hb dX0_columns_23 (by decide) ?_
        exact hret _ (nI n, so, fi, se, ho, co, fr) _ _ _ _ dX0_columns_24 hP hS (Or.inl ⟨fun ⟨j, d, q, hj, hd, hq, e1, e2, e3⟩ => no_neg (K := 5) (by decide) c3 ⟨d, hd, e2⟩, rfl, rfl⟩)
      · have _h : True := trivial
        refine lv_iload_n hx hb dX0_columns_18 rfl (lv_at hl 2 rfl) ?_
        refine lv_iconst (v := nI 5) hx hb dX0_columns_19 (by decide) ?_
        refine lv_icmp_le (tgt := 25) hx hb dX0_columns_20 (by decide) (fun c4 => ?_) (fun c4 => ?_)
        · have _h : True := trivial
          obtain ⟨d, hd, rfl⟩ := inK 5 (by decide) c3 c4
          refine lv_aload_n hx hb dX0_columns_25 rfl (lv_at hl 0 rfl) ?_
          refine lv_iconst (v := nI 1) hx hb dX0_columns_26 (by decide) ?_
          refine lv_iload_n hx hb dX0_columns_27 rfl (lv_at hl 1 rfl) ?_
          refine lv_iload_n hx hb dX0_columns_28 rfl (lv_at hl 3 rfl) ?_
          refine lv_iload_n hx hb dX0_columns_29 rfl (lv_at hl 2 rfl) ?_
          refine lv_iconst (v := nI 0) hx hb dX0_columns_30 (by decide) ?_
          refine ca_i (As := [.int (nI 1), .int (nI j1), .int (nI j2), .int (nI d), .int (nI 0)]) (rest := []) hC (metX0_make ha hn (nI 1) (nI j1) (nI j2) (nI d) (nI 0)) (cwV 5 hts (lw_V q100 q102 qs2 q17 q103) rfl rfl rfl (by decide +kernel) ⟨Nat.le_of_ble_eq_true rfl, Nat.le_of_ble_eq_true rfl⟩) hK hP (va_recv hK hP (ci := 0) (q0 := 0) rfl rfl) rfl hl.1 rfl (Nat.le_of_ble_eq_true rfl) dX0_columns_31 ⟨Nat.zero_le _, Nat.zero_le _⟩ hS (fun _ h => h) (fun r3 u3 H locs hq3 hP hk3 hS => ?_)
          exact hret _ u3 _ _ _ _ dX0_columns_34 hP hS (Or.inr ⟨j1, d, j2, hj1, hd, hj2, rfl, rfl, rfl, hq3⟩)
        · have _h : True := trivial
          refine lv_iconst (v := (-1)) hx hb dX0_columns_23 (by decide) ?_
          exact hret _ (nI n, so, fi, se, ho, co, fr) _ _ _ _ dX0_columns_24 hP hS (Or.inl ⟨fun ⟨j, d, q, hj, hd, hq, e1, e2, e3⟩ => no_nle (K := 5) (by decide) c4 ⟨d, hd, e2⟩, rfl, rfl⟩)
set_option maxHeartbeats 4000000 in
set_option maxRecDepth 100000 in
theorem metX0_sums {l : Launch} {D : va_G} {ad : Nat → Nat} {cA : Nat → ClassId} {pr : Int64} {sl : Nat → Int64}  {so fi se ho co : Nat → Int32} {mt : Nat → Int64} {fr : Nat → Int32} {tl : Nat → Int64} {le ee : Int64} {ss hv : Nat → Int64} (ha : apt 12 ad) {n : Nat} (hn : n ≤ 16) (x y h k : Int32) : Met l yX0_sums (ws_ yX0_sums cX0_sums 5 (some .int)) (rmK 1) (PcW D (tX cA) (wX ad cA pr sl (nI n) so fi se ho co mt fr tl le ee ss hv) [.ref (ad 0), .int x, .int y, .int h, .int k]) (va_Qi (fun (r : Int32) (u : mkS) => (¬ okCols x h y ∧ r = (-1) ∧ u = (nI n, so, fi, se, ho, co, fr)) ∨ (∃ j d q, j ≤ 2 ∧ d ≤ 5 ∧ q ≤ 2 ∧ x = nI j ∧ h = nI d ∧ y = nI q ∧ mkP n so fi se ho co fr (nI 2) (nI j) (nI q) (nI d) k r u)) (fun u t => va_P D vwCl (wX ad cA pr sl u.1 u.2.1 u.2.2.1 u.2.2.2.1 u.2.2.2.2.1 u.2.2.2.2.2.1 mt u.2.2.2.2.2.2 tl le ee ss hv) t.heap) (AdX 12 ad)) 0 0 (AdX 12 ad) := by
  refine en_i (own := RX0) (by decide) rfl (Nat.le_of_ble_eq_true rfl) ?_
  intro p e s m below meth c R Q ls hR hC hK hP hl hret
  subst hR
  obtain ⟨hx, hb, hml, hown, hts, hr, hlocks⟩ := id hC
  have hS : va_S (AdX 12 ad) s.heap s.heap [] := va_S.rf
  have hl : lv_has ls 5 [(0, .ref (ad 0)), (1, .int x), (2, .int y), (3, .int h), (4, .int k)] := hl
  refine lv_iload_n hx hb dX0_sums_0 rfl (lv_at hl 1 rfl) ?_
  refine cs_i (As := [.int x]) (rest := []) hC (metX0_isColumn x) (va_cwS 1 hts (lw_S q97 q98 q17 q99) rfl rfl rfl (by decide +kernel) ⟨Nat.le_of_ble_eq_true rfl, Nat.le_of_ble_eq_true rfl⟩) hK rfl hl.1 rfl (Nat.le_of_ble_eq_true rfl) dX0_sums_1 ⟨Nat.zero_le _, Nat.zero_le _⟩ hS hP (fun r1 H locs hq1 hP hS => ?_)
  rcases hq1 with ⟨rfl, hb1⟩ | ⟨rfl, j1, hj1, rfl⟩
  · have _h : True := trivial
    refine ra_if_eq (tgt := 23) hx hb (by omega) dX0_sums_4 (by decide) (fun c1 => ?_) (fun c1 => (by omega : False).elim)
    refine lv_iconst (v := (-1)) hx hb dX0_sums_23 (by decide) ?_
    exact hret _ (nI n, so, fi, se, ho, co, fr) _ _ _ _ dX0_sums_24 hP hS (Or.inl ⟨fun ⟨j, d, q, hj, hd, hq, e1, e2, e3⟩ => hb1 ⟨j, hj, e1⟩, rfl, rfl⟩)
  · have _h : True := trivial
    refine ra_if_eq (tgt := 23) hx hb (by omega) dX0_sums_4 (by decide) (fun c1 => (by omega : False).elim) (fun c1 => ?_)
    refine lv_iload_n hx hb dX0_sums_7 rfl (lv_at hl 2 rfl) ?_
    refine cs_i (As := [.int y]) (rest := []) hC (metX0_isColumn y) (va_cwS 1 hts (lw_S q97 q98 q17 q99) rfl rfl rfl (by decide +kernel) ⟨Nat.le_of_ble_eq_true rfl, Nat.le_of_ble_eq_true rfl⟩) hK rfl hl.1 rfl (Nat.le_of_ble_eq_true rfl) dX0_sums_8 ⟨Nat.zero_le _, Nat.zero_le _⟩ hS hP (fun r2 H locs hq2 hP hS => ?_)
    rcases hq2 with ⟨rfl, hb2⟩ | ⟨rfl, j2, hj2, rfl⟩
    · have _h : True := trivial
      refine ra_if_eq (tgt := 23) hx hb (by omega) dX0_sums_11 (by decide) (fun c2 => ?_) (fun c2 => (by omega : False).elim)
      refine lv_iconst (v := (-1)) hx hb dX0_sums_23 (by decide) ?_
      exact hret _ (nI n, so, fi, se, ho, co, fr) _ _ _ _ dX0_sums_24 hP hS (Or.inl ⟨fun ⟨j, d, q, hj, hd, hq, e1, e2, e3⟩ => hb2 ⟨q, hq, e3⟩, rfl, rfl⟩)
    · have _h : True := trivial
      refine ra_if_eq (tgt := 23) hx hb (by omega) dX0_sums_11 (by decide) (fun c2 => (by omega : False).elim) (fun c2 => ?_)
      refine lv_iload_n hx hb dX0_sums_14 rfl (lv_at hl 3 rfl) ?_
      refine lv_if_lt (tgt := 23) hx hb dX0_sums_15 (by decide) (fun c3 => ?_) (fun c3 => ?_)
      · have _h : True := trivial
        refine lv_iconst (v := (-1)) hx hb dX0_sums_23 (by decide) ?_
        exact hret _ (nI n, so, fi, se, ho, co, fr) _ _ _ _ dX0_sums_24 hP hS (Or.inl ⟨fun ⟨j, d, q, hj, hd, hq, e1, e2, e3⟩ => no_neg (K := 5) (by decide) c3 ⟨d, hd, e2⟩, rfl, rfl⟩)
      · have _h : True := trivial
        refine lv_iload_n hx hb dX0_sums_18 rfl (lv_at hl 3 rfl) ?_
        refine lv_iconst (v := nI 5) hx hb dX0_sums_19 (by decide) ?_
        refine lv_icmp_le (tgt := 25) hx hb dX0_sums_20 (by decide) (fun c4 => ?_) (fun c4 => ?_)
        · have _h : True := trivial
          obtain ⟨d, hd, rfl⟩ := inK 5 (by decide) c3 c4
          refine lv_aload_n hx hb dX0_sums_25 rfl (lv_at hl 0 rfl) ?_
          refine lv_iconst (v := nI 2) hx hb dX0_sums_26 (by decide) ?_
          refine lv_iload_n hx hb dX0_sums_27 rfl (lv_at hl 1 rfl) ?_
          refine lv_iload_n hx hb dX0_sums_28 rfl (lv_at hl 2 rfl) ?_
          refine lv_iload_n hx hb dX0_sums_29 rfl (lv_at hl 3 rfl) ?_
          refine lv_iload hx hb dX0_sums_30 (lv_at hl 4 rfl) ?_
          refine ca_i (As := [.int (nI 2), .int (nI j1), .int (nI j2), .int (nI d), .int k]) (rest := []) hC (metX0_make ha hn (nI 2) (nI j1) (nI j2) (nI d) k) (cwV 5 hts (lw_V q100 q102 qs2 q17 q103) rfl rfl rfl (by decide +kernel) ⟨Nat.le_of_ble_eq_true rfl, Nat.le_of_ble_eq_true rfl⟩) hK hP (va_recv hK hP (ci := 0) (q0 := 0) rfl rfl) rfl hl.1 rfl (Nat.le_of_ble_eq_true rfl) dX0_sums_32 ⟨Nat.zero_le _, Nat.zero_le _⟩ hS (fun _ h => h) (fun r3 u3 H locs hq3 hP hk3 hS => ?_)
          exact hret _ u3 _ _ _ _ dX0_sums_35 hP hS (Or.inr ⟨j1, d, j2, hj1, hd, hj2, rfl, rfl, rfl, hq3⟩)
        · have _h : True := trivial
          refine lv_iconst (v := (-1)) hx hb dX0_sums_23 (by decide) ?_
          exact hret _ (nI n, so, fi, se, ho, co, fr) _ _ _ _ dX0_sums_24 hP hS (Or.inl ⟨fun ⟨j, d, q, hj, hd, hq, e1, e2, e3⟩ => no_nle (K := 5) (by decide) c4 ⟨d, hd, e2⟩, rfl, rfl⟩)
set_option maxHeartbeats 4000000 in
set_option maxRecDepth 100000 in
theorem metX0_join {l : Launch} {D : va_G} {ad : Nat → Nat} {cA : Nat → ClassId} {pr : Int64} {sl : Nat → Int64}  {so fi se ho co : Nat → Int32} {mt : Nat → Int64} {fr : Nat → Int32} {tl : Nat → Int64} {le ee : Int64} {ss hv : Nat → Int64} (ha : apt 12 ad) {n : Nat} (hn : n ≤ 16) (x h y : Int32) : Met l yX0_join (ws_ yX0_join cX0_join 4 (some .int)) (rmK 1) (PcW D (tX cA) (wX ad cA pr sl (nI n) so fi se ho co mt fr tl le ee ss hv) [.ref (ad 0), .int x, .int h, .int y]) (va_Qi (fun (r : Int32) (u : mkS) => (¬ okJoin n x h y ∧ r = (-1) ∧ u = (nI n, so, fi, se, ho, co, fr)) ∨ (∃ j d q, j < n ∧ d ≤ 3 ∧ q < n ∧ x = nI j ∧ h = nI d ∧ y = nI q ∧ mkP n so fi se ho co fr (nI 3) (nI j) (nI q) (nI d) (nI 0) r u)) (fun u t => va_P D vwCl (wX ad cA pr sl u.1 u.2.1 u.2.2.1 u.2.2.2.1 u.2.2.2.2.1 u.2.2.2.2.2.1 mt u.2.2.2.2.2.2 tl le ee ss hv) t.heap) (AdX 12 ad)) 0 0 (AdX 12 ad) := by
  refine en_i (own := RX0) (by decide) rfl (Nat.le_of_ble_eq_true rfl) ?_
  intro p e s m below meth c R Q ls hR hC hK hP hl hret
  subst hR
  obtain ⟨hx, hb, hml, hown, hts, hr, hlocks⟩ := id hC
  have hS : va_S (AdX 12 ad) s.heap s.heap [] := va_S.rf
  have hl : lv_has ls 4 [(0, .ref (ad 0)), (1, .int x), (2, .int h), (3, .int y)] := hl
  refine lv_iload_n hx hb dX0_join_0 rfl (lv_at hl 1 rfl) ?_
  refine lv_if_lt (tgt := 33) hx hb dX0_join_1 (by decide) (fun c1 => ?_) (fun c1 => ?_)
  · have _h : True := trivial
    refine lv_iconst (v := (-1)) hx hb dX0_join_33 (by decide) ?_
    exact hret _ (nI n, so, fi, se, ho, co, fr) _ _ _ _ dX0_join_34 hP hS (Or.inl ⟨fun ⟨j, d, q, hj, hd, hq, e1, e2, e3⟩ => no_neg' (n := n) (by omega) c1 ⟨j, hj, e1⟩, rfl, rfl⟩)
  · have _h : True := trivial
    refine lv_iload_n hx hb dX0_join_4 rfl (lv_at hl 1 rfl) ?_
    refine lv_aload_n hx hb dX0_join_5 rfl (lv_at hl 0 rfl) ?_
    refine va_get (D := D) (ci := 0) (v := .int (nI n)) (C := RX0) (T := TX0) (N := 15) hx hb hts in_X0 hown hK hP 0 rfl rfl 2 (by decide) (hts _ q29) (fun _ h9 => h9) rfl dX0_join_6 ?_
    refine lv_icmp_ge (tgt := 33) hx hb dX0_join_9 (by decide) (fun c2 => ?_) (fun c2 => ?_)
    · have _h : True := trivial
      refine lv_iconst (v := (-1)) hx hb dX0_join_33 (by decide) ?_
      exact hret _ (nI n, so, fi, se, ho, co, fr) _ _ _ _ dX0_join_34 hP hS (Or.inl ⟨fun ⟨j, d, q, hj, hd, hq, e1, e2, e3⟩ => no_ge (n := n) (by omega) c2 ⟨j, hj, e1⟩, rfl, rfl⟩)
    · have _h : True := trivial
      refine lv_iload_n hx hb dX0_join_12 rfl (lv_at hl 3 rfl) ?_
      refine lv_if_lt (tgt := 33) hx hb dX0_join_13 (by decide) (fun c3 => ?_) (fun c3 => ?_)
      · have _h : True := trivial
        refine lv_iconst (v := (-1)) hx hb dX0_join_33 (by decide) ?_
        exact hret _ (nI n, so, fi, se, ho, co, fr) _ _ _ _ dX0_join_34 hP hS (Or.inl ⟨fun ⟨j, d, q, hj, hd, hq, e1, e2, e3⟩ => no_neg' (n := n) (by omega) c3 ⟨q, hq, e3⟩, rfl, rfl⟩)
      · have _h : True := trivial
        refine lv_iload_n hx hb dX0_join_16 rfl (lv_at hl 3 rfl) ?_
        refine lv_aload_n hx hb dX0_join_17 rfl (lv_at hl 0 rfl) ?_
        refine va_get (D := D) (ci := 0) (v := .int (nI n)) (C := RX0) (T := TX0) (N := 15) hx hb hts in_X0 hown hK hP 0 rfl rfl 2 (by decide) (hts _ q29) (fun _ h9 => h9) rfl dX0_join_18 ?_
        refine lv_icmp_ge (tgt := 33) hx hb dX0_join_21 (by decide) (fun c4 => ?_) (fun c4 => ?_)
        · have _h : True := trivial
          refine lv_iconst (v := (-1)) hx hb dX0_join_33 (by decide) ?_
          exact hret _ (nI n, so, fi, se, ho, co, fr) _ _ _ _ dX0_join_34 hP hS (Or.inl ⟨fun ⟨j, d, q, hj, hd, hq, e1, e2, e3⟩ => no_ge (n := n) (by omega) c4 ⟨q, hq, e3⟩, rfl, rfl⟩)
        · have _h : True := trivial
          refine lv_iload_n hx hb dX0_join_24 rfl (lv_at hl 2 rfl) ?_
          refine lv_if_lt (tgt := 33) hx hb dX0_join_25 (by decide) (fun c5 => ?_) (fun c5 => ?_)
          · have _h : True := trivial
            refine lv_iconst (v := (-1)) hx hb dX0_join_33 (by decide) ?_
            exact hret _ (nI n, so, fi, se, ho, co, fr) _ _ _ _ dX0_join_34 hP hS (Or.inl ⟨fun ⟨j, d, q, hj, hd, hq, e1, e2, e3⟩ => no_neg (K := 3) (by decide) c5 ⟨d, hd, e2⟩, rfl, rfl⟩)
          · have _h : True := trivial
            refine lv_iload_n hx hb dX0_join_28 rfl (lv_at hl 2 rfl) ?_
            refine lv_iconst (v := nI 3) hx hb dX0_join_29 (by decide) ?_
            refine lv_icmp_le (tgt := 35) hx hb dX0_join_30 (by decide) (fun c6 => ?_) (fun c6 => ?_)
            · have _h : True := trivial
              obtain ⟨j, hj, rfl⟩ := inN (n := n) (by omega) c1 c2
              obtain ⟨q, hq, rfl⟩ := inN (n := n) (by omega) c3 c4
              obtain ⟨d, hd, rfl⟩ := inK 3 (by decide) c5 c6
              refine lv_aload_n hx hb dX0_join_35 rfl (lv_at hl 0 rfl) ?_
              refine lv_iconst (v := nI 3) hx hb dX0_join_36 (by decide) ?_
              refine lv_iload_n hx hb dX0_join_37 rfl (lv_at hl 1 rfl) ?_
              refine lv_iload_n hx hb dX0_join_38 rfl (lv_at hl 3 rfl) ?_
              refine lv_iload_n hx hb dX0_join_39 rfl (lv_at hl 2 rfl) ?_
              refine lv_iconst (v := nI 0) hx hb dX0_join_40 (by decide) ?_
              refine ca_i (As := [.int (nI 3), .int (nI j), .int (nI q), .int (nI d), .int (nI 0)]) (rest := []) hC (metX0_make ha hn (nI 3) (nI j) (nI q) (nI d) (nI 0)) (cwV 5 hts (lw_V q100 q102 qs2 q17 q103) rfl rfl rfl (by decide +kernel) ⟨Nat.le_of_ble_eq_true rfl, Nat.le_of_ble_eq_true rfl⟩) hK hP (va_recv hK hP (ci := 0) (q0 := 0) rfl rfl) rfl hl.1 rfl (Nat.le_of_ble_eq_true rfl) dX0_join_41 ⟨Nat.zero_le _, Nat.zero_le _⟩ hS (fun _ h => h) (fun r2 u2 H locs hq2 hP hk2 hS => ?_)
              exact hret _ u2 _ _ _ _ dX0_join_44 hP hS (Or.inr ⟨j, d, q, hj, hd, hq, rfl, rfl, rfl, hq2⟩)
            · have _h : True := trivial
              refine lv_iconst (v := (-1)) hx hb dX0_join_33 (by decide) ?_
              exact hret _ (nI n, so, fi, se, ho, co, fr) _ _ _ _ dX0_join_34 hP hS (Or.inl ⟨fun ⟨j, d, q, hj, hd, hq, e1, e2, e3⟩ => no_nle (K := 3) (by decide) c6 ⟨d, hd, e2⟩, rfl, rfl⟩)
end
section
set_option maxHeartbeats 4000000 in
set_option maxRecDepth 100000 in
theorem metX0_takeColumn {l : Launch} {D : va_G} {ad : Nat → Nat} {cA : Nat → ClassId} {pr : Int64} {sl : Nat → Int64} {cn : Int32} {so fi se ho co : Nat → Int32} {mt : Nat → Int64} {fr : Nat → Int32} {tl : Nat → Int64} {le ee : Int64} {ss hv : Nat → Int64} (ha : apt 12 ad) {k : Nat} (hk : k < 3) : Met l yX0_takeColumn (ws_ yX0_takeColumn cX0_takeColumn 3 (none)) (rmK 0) (PcW D (tX cA) (wX ad cA pr sl cn so fi se ho co mt fr tl le ee ss hv) [.ref (ad 0), .int (nI k)]) (va_Qv (fun (u : Nat → Int64) => (∀ b, b < 8 → u b = sl (8 * k + b)) ∧ u 8 = 0) (fun u t => va_P D vwCl (wX ad cA pr sl cn so fi se ho co mt fr u le ee ss hv) t.heap) (AdX 12 ad)) 0 0 (AdX 12 ad) := by
  refine en_v (own := RX0) (by decide) rfl (Nat.le_of_ble_eq_true rfl) ?_
  intro p e s m below meth c R Q ls hR hC hK hP hl hret
  subst hR
  obtain ⟨hx, hb, hml, hown, hts, hr, hlocks⟩ := id hC
  have hS : va_S (AdX 12 ad) s.heap s.heap [] := va_S.rf
  have hl : lv_has ls 3 [(0, .ref (ad 0)), (1, .int (nI k))] := hl
  refine lv_iconst (v := nI 0) hx hb dX0_takeColumn_0 (by decide) ?_
  refine lv_istore_n (lv' := [(2, .int (nI 0)), (0, .ref (ad 0)), (1, .int (nI k))]) hx hb dX0_takeColumn_1 rfl hl (by decide) rfl (fun ls hl => ?_)
  have loop : ∀ (n0 : Nat) (i : Nat) (t1 : Nat → Int64), i ≤ 8 → 8 < i + n0 → (∀ b, b < i → t1 b = sl (8 * k + b)) → ∀ (H : Heap) (locs : List Loc) (ls : Array Slot), va_P D vwCl (wX ad cA pr sl cn so fi se ho co mt fr t1 le ee ss hv) H → va_S (AdX 12 ad) s.heap H locs → lv_has ls 3 [(2, .int (nI i)), (0, .ref (ad 0)), (1, .int (nI k))] → W p l e (rmK 0) s m ([.ref (ad 0), .int (nI k)] : List Value).toArray below meth c H locs 0 0 Q (F0 m 2 ls []) := by
    intro n
    induction n with
    | zero => intro i t1 h1 h2; exact absurd h2 (by omega)
    | succ n ih =>
      intro i t1 hi hin hf H locs ls hP hS hl
      refine lv_iload_n hx hb dX0_takeColumn_2 rfl (lv_at hl 0 rfl) ?_
      refine lv_bipush (v := nI 8) hx hb dX0_takeColumn_3 (by decide) ?_
      refine ra_icmp_ge (tgt := 31) hx hb (by omega) (by omega) dX0_takeColumn_5 (by decide) (fun c1 => ?_) (fun c1 => ?_)
      · have _h : True := trivial
        refine lv_aload_n hx hb dX0_takeColumn_31 rfl (lv_at hl 1 rfl) ?_
        refine va_get (D := D) (ci := 0) (v := .ref (ad 9)) (C := RX0) (T := TX0) (N := 15) hx hb hts in_X0 hown hK hP 0 rfl rfl 10 (by decide) (hts _ q37) (fun _ h9 => h9) rfl dX0_takeColumn_32 ?_
        refine lv_bipush (v := nI 8) hx hb dX0_takeColumn_35 (by decide) ?_
        refine lv_lconst (v := 0) hx hb dX0_takeColumn_37 (by decide) ?_
        refine ra_last hx hb hK hP (dX ha) hS 9 8 rfl rfl (by omega) (by decide) dX0_takeColumn_38 (fun H locs hP hS => ?_)
        have hP : va_P D vwCl (wX ad cA pr sl cn so fi se ho co mt fr (vp_updL t1 8 (0 : Int64)) le ee ss hv) H := hP
        exact hret (vp_updL t1 8 (0 : Int64)) _ _ _ _ dX0_takeColumn_39 hP hS ⟨fun b hb => by rw [pk_uLn (by omega)]; exact hf b (by omega), pk_uLs⟩
      · have _h : True := trivial
        refine lv_aload_n hx hb dX0_takeColumn_8 rfl (lv_at hl 1 rfl) ?_
        refine va_get (D := D) (ci := 0) (v := .ref (ad 9)) (C := RX0) (T := TX0) (N := 15) hx hb hts in_X0 hown hK hP 0 rfl rfl 10 (by decide) (hts _ q37) (fun _ h9 => h9) rfl dX0_takeColumn_9 ?_
        refine lv_iload_n hx hb dX0_takeColumn_12 rfl (lv_at hl 0 rfl) ?_
        refine lv_aload_n hx hb dX0_takeColumn_13 rfl (lv_at hl 1 rfl) ?_
        refine va_get (D := D) (ci := 0) (v := .ref (ad 1)) (C := RX0) (T := TX0) (N := 15) hx hb hts in_X0 hown hK hP 0 rfl rfl 1 (by decide) (hts _ q28) (fun _ h9 => h9) rfl dX0_takeColumn_14 ?_
        refine lv_bipush (v := nI 8) hx hb dX0_takeColumn_17 (by decide) ?_
        refine lv_iload_n hx hb dX0_takeColumn_19 rfl (lv_at hl 2 rfl) ?_
        refine ra_imul hx hb dX0_takeColumn_20 ?_
        refine lv_iload_n hx hb dX0_takeColumn_21 rfl (lv_at hl 0 rfl) ?_
        refine ra_iadd hx hb dX0_takeColumn_22 ?_
        refine ra_lald hx hb hK hP 1 0 rfl rfl (by omega) (by decide) dX0_takeColumn_23 ?_
        refine ra_last hx hb hK hP (dX ha) hS 9 8 rfl rfl (by omega) (by decide) dX0_takeColumn_24 (fun H locs hP hS => ?_)
        have hP : va_P D vwCl (wX ad cA pr sl cn so fi se ho co mt fr (vp_updL t1 i (sl ((8 * k) + i))) le ee ss hv) H := hP
        refine lv_iinc (v := nI (i + 1)) (lv' := [(2, .int (nI (i + 1))), (0, .ref (ad 0)), (1, .int (nI k))]) hx hb dX0_takeColumn_25 hl (k := 0) rfl (nI_1 _) (by decide) rfl (fun ls hl => ?_)
        refine lv_goto (tgt := 2) hx hb dX0_takeColumn_28 (by decide) ?_
        exact ih (i + 1) _ (by omega) (by omega) (tk_step hf) _ _ _ hP hS (lv_sub hl [0, 1, 2] rfl)
  exact loop 9 0 tl (by omega) (by omega) (fun b hb => absurd hb (Nat.not_lt_zero _)) _ _ _ hP hS hl
set_option maxHeartbeats 4000000 in
set_option maxRecDepth 100000 in
theorem metX0_addColumns {l : Launch} {D : va_G} {ad : Nat → Nat} {cA : Nat → ClassId} {pr : Int64} {sl : Nat → Int64} {cn : Int32} {so fi se ho co : Nat → Int32} {mt : Nat → Int64} {fr : Nat → Int32} {tl : Nat → Int64} {le ee : Int64} {ss hv : Nat → Int64} (ha : apt 12 ad) {vl : Nat → Nat → Nat} (hsl : SLok vl sl) {ka kb : Nat} (hka : ka < 3) (hkb : kb < 3) : Met l yX0_addColumns (ws_ yX0_addColumns cX0_addColumns 10 (none)) (rmK 0) (PcW D (tX cA) (wX ad cA pr sl cn so fi se ho co mt fr tl le ee ss hv) [.ref (ad 0), .int (nI ka), .int (nI kb)]) (va_Qv (fun (u : Nat → Int64) => ∀ i, i < 64 → ∀ b, b < 9 → lb (u b) i = (vl i ka + vl i kb).testBit b) (fun u t => va_P D vwCl (wX ad cA pr sl cn so fi se ho co mt fr u le ee ss hv) t.heap) (AdX 12 ad)) 0 0 (AdX 12 ad) := by
  refine en_v (own := RX0) (by decide) rfl (Nat.le_of_ble_eq_true rfl) ?_
  intro p e s m below meth c R Q ls hR hC hK hP hl hret
  subst hR
  obtain ⟨hx, hb, hml, hown, hts, hr, hlocks⟩ := id hC
  have hS : va_S (AdX 12 ad) s.heap s.heap [] := va_S.rf
  have hl : lv_has ls 10 [(0, .ref (ad 0)), (1, .int (nI ka)), (2, .int (nI kb))] := hl
  refine lv_lconst (v := 0) hx hb dX0_addColumns_0 (by decide) ?_
  refine lv_lstore_n (lv' := [(3, .long (0 : Int64)), (0, .ref (ad 0)), (1, .int (nI ka)), (2, .int (nI kb))]) hx hb dX0_addColumns_1 rfl hl (by decide) rfl (fun ls hl => ?_)
  refine lv_iconst (v := nI 0) hx hb dX0_addColumns_2 (by decide) ?_
  refine lv_istore (lv' := [(5, .int (nI 0)), (3, .long (0 : Int64)), (0, .ref (ad 0)), (1, .int (nI ka)), (2, .int (nI kb))]) hx hb dX0_addColumns_3 hl (by decide) rfl (fun ls hl => ?_)
  have loop : ∀ (n0 : Nat) (i : Nat) (t1 : Nat → Int64) (cy : Int64), i ≤ 8 → 8 < i + n0 → adI (fun q => vl q ka) (fun q => vl q kb) i t1 cy → ∀ (H : Heap) (locs : List Loc) (ls : Array Slot), va_P D vwCl (wX ad cA pr sl cn so fi se ho co mt fr t1 le ee ss hv) H → va_S (AdX 12 ad) s.heap H locs → lv_has ls 10 [(5, .int (nI i)), (3, .long cy), (0, .ref (ad 0)), (1, .int (nI ka)), (2, .int (nI kb))] → W p l e (rmK 0) s m ([.ref (ad 0), .int (nI ka), .int (nI kb)] : List Value).toArray below meth c H locs 0 0 Q (F0 m 5 ls []) := by
    intro n
    induction n with
    | zero => intro i t1 cy h1 h2; exact absurd h2 (by omega)
    | succ n ih =>
      intro i t1 cy hi hin hf H locs ls hP hS hl
      refine lv_iload hx hb dX0_addColumns_5 (lv_at hl 0 rfl) ?_
      refine lv_bipush (v := nI 8) hx hb dX0_addColumns_7 (by decide) ?_
      refine ra_icmp_ge (tgt := 74) hx hb (by omega) (by omega) dX0_addColumns_9 (by decide) (fun c1 => ?_) (fun c1 => ?_)
      · have _h : True := trivial
        obtain rfl : i = 8 := by omega
        refine lv_aload_n hx hb dX0_addColumns_74 rfl (lv_at hl 2 rfl) ?_
        refine va_get (D := D) (ci := 0) (v := .ref (ad 9)) (C := RX0) (T := TX0) (N := 15) hx hb hts in_X0 hown hK hP 0 rfl rfl 10 (by decide) (hts _ q37) (fun _ h9 => h9) rfl dX0_addColumns_75 ?_
        refine lv_bipush (v := nI 8) hx hb dX0_addColumns_78 (by decide) ?_
        refine lv_lload_n hx hb dX0_addColumns_80 rfl (lv_at hl 1 rfl) ?_
        refine ra_last hx hb hK hP (dX ha) hS 9 8 rfl rfl (by omega) (by decide) dX0_addColumns_81 (fun H locs hP hS => ?_)
        have hP : va_P D vwCl (wX ad cA pr sl cn so fi se ho co mt fr (vp_updL t1 8 cy) le ee ss hv) H := hP
        exact hret (vp_updL t1 8 cy) _ _ _ _ dX0_addColumns_82 hP hS (adI_end (fun q hq => (hsl q hq ka hka).1) (fun q hq => (hsl q hq kb hkb).1) hf)
      · have _h : True := trivial
        refine lv_aload_n hx hb dX0_addColumns_12 rfl (lv_at hl 2 rfl) ?_
        refine va_get (D := D) (ci := 0) (v := .ref (ad 1)) (C := RX0) (T := TX0) (N := 15) hx hb hts in_X0 hown hK hP 0 rfl rfl 1 (by decide) (hts _ q28) (fun _ h9 => h9) rfl dX0_addColumns_13 ?_
        refine lv_bipush (v := nI 8) hx hb dX0_addColumns_16 (by decide) ?_
        refine lv_iload_n hx hb dX0_addColumns_18 rfl (lv_at hl 3 rfl) ?_
        refine ra_imul hx hb dX0_addColumns_19 ?_
        refine lv_iload hx hb dX0_addColumns_20 (lv_at hl 0 rfl) ?_
        refine ra_iadd hx hb dX0_addColumns_22 ?_
        refine ra_lald hx hb hK hP 1 0 rfl rfl (by omega) (by decide) dX0_addColumns_23 ?_
        refine lv_lstore (lv' := [(6, .long (sl ((8 * ka) + i))), (5, .int (nI i)), (3, .long cy), (0, .ref (ad 0)), (1, .int (nI ka)), (2, .int (nI kb))]) hx hb dX0_addColumns_24 hl (by decide) rfl (fun ls hl => ?_)
        refine lv_aload_n hx hb dX0_addColumns_26 rfl (lv_at hl 3 rfl) ?_
        refine va_get (D := D) (ci := 0) (v := .ref (ad 1)) (C := RX0) (T := TX0) (N := 15) hx hb hts in_X0 hown hK hP 0 rfl rfl 1 (by decide) (hts _ q28) (fun _ h9 => h9) rfl dX0_addColumns_27 ?_
        refine lv_bipush (v := nI 8) hx hb dX0_addColumns_30 (by decide) ?_
        refine lv_iload_n hx hb dX0_addColumns_32 rfl (lv_at hl 5 rfl) ?_
        refine ra_imul hx hb dX0_addColumns_33 ?_
        refine lv_iload hx hb dX0_addColumns_34 (lv_at hl 1 rfl) ?_
        refine ra_iadd hx hb dX0_addColumns_36 ?_
        refine ra_lald hx hb hK hP 1 0 rfl rfl (by omega) (by decide) dX0_addColumns_37 ?_
        refine lv_lstore (lv' := [(8, .long (sl ((8 * kb) + i))), (6, .long (sl ((8 * ka) + i))), (5, .int (nI i)), (3, .long cy), (0, .ref (ad 0)), (1, .int (nI ka)), (2, .int (nI kb))]) hx hb dX0_addColumns_38 hl (by decide) rfl (fun ls hl => ?_)
        refine lv_aload_n hx hb dX0_addColumns_40 rfl (lv_at hl 4 rfl) ?_
        refine va_get (D := D) (ci := 0) (v := .ref (ad 9)) (C := RX0) (T := TX0) (N := 15) hx hb hts in_X0 hown hK hP 0 rfl rfl 10 (by decide) (hts _ q37) (fun _ h9 => h9) rfl dX0_addColumns_41 ?_
        refine lv_iload hx hb dX0_addColumns_44 (lv_at hl 2 rfl) ?_
        refine lv_lload hx hb dX0_addColumns_46 (lv_at hl 1 rfl) ?_
        refine lv_lload hx hb dX0_addColumns_48 (lv_at hl 0 rfl) ?_
        refine lv_lxor hx hb dX0_addColumns_50 ?_
        refine lv_lload_n hx hb dX0_addColumns_51 rfl (lv_at hl 3 rfl) ?_
        refine lv_lxor hx hb dX0_addColumns_52 ?_
        refine ra_last hx hb hK hP (dX ha) hS 9 8 rfl rfl (by omega) (by decide) dX0_addColumns_53 (fun H locs hP hS => ?_)
        have hP : va_P D vwCl (wX ad cA pr sl cn so fi se ho co mt fr (vp_updL t1 i (((sl ((8 * ka) + i)) ^^^ (sl ((8 * kb) + i))) ^^^ cy)) le ee ss hv) H := hP
        refine lv_lload hx hb dX0_addColumns_54 (lv_at hl 1 rfl) ?_
        refine lv_lload hx hb dX0_addColumns_56 (lv_at hl 0 rfl) ?_
        refine lv_land hx hb dX0_addColumns_58 ?_
        refine lv_lload hx hb dX0_addColumns_59 (lv_at hl 1 rfl) ?_
        refine lv_lload hx hb dX0_addColumns_61 (lv_at hl 0 rfl) ?_
        refine lv_lxor hx hb dX0_addColumns_63 ?_
        refine lv_lload_n hx hb dX0_addColumns_64 rfl (lv_at hl 3 rfl) ?_
        refine lv_land hx hb dX0_addColumns_65 ?_
        refine lv_lor hx hb dX0_addColumns_66 ?_
        refine lv_lstore_n (lv' := [(3, .long (((sl ((8 * ka) + i)) &&& (sl ((8 * kb) + i))) ||| (((sl ((8 * ka) + i)) ^^^ (sl ((8 * kb) + i))) &&& cy))), (8, .long (sl ((8 * kb) + i))), (6, .long (sl ((8 * ka) + i))), (5, .int (nI i)), (0, .ref (ad 0)), (1, .int (nI ka)), (2, .int (nI kb))]) hx hb dX0_addColumns_67 rfl hl (by decide) rfl (fun ls hl => ?_)
        refine lv_iinc (v := nI (i + 1)) (lv' := [(5, .int (nI (i + 1))), (3, .long (((sl ((8 * ka) + i)) &&& (sl ((8 * kb) + i))) ||| (((sl ((8 * ka) + i)) ^^^ (sl ((8 * kb) + i))) &&& cy))), (8, .long (sl ((8 * kb) + i))), (6, .long (sl ((8 * ka) + i))), (0, .ref (ad 0)), (1, .int (nI ka)), (2, .int (nI kb))]) hx hb dX0_addColumns_68 hl (k := 3) rfl (nI_1 _) (by decide) rfl (fun ls hl => ?_)
        refine lv_goto (tgt := 5) hx hb dX0_addColumns_71 (by decide) ?_
        exact ih (i + 1) _ _ (by omega) (by omega) (adI_1 (fun q hq => (hsl q hq ka hka).2 i (by omega)) (fun q hq => (hsl q hq kb hkb).2 i (by omega)) hf) _ _ _ hP hS (lv_sub hl [0, 1, 4, 5, 6] rfl)
  exact loop 9 0 tl 0 (by omega) (by omega) adI_0 _ _ _ hP hS hl
set_option maxHeartbeats 4000000 in
set_option maxRecDepth 100000 in
theorem metX0_compareColumns {l : Launch} {D : va_G} {ad : Nat → Nat} {cA : Nat → ClassId} {pr : Int64} {sl : Nat → Int64} {cn : Int32} {so fi se ho co : Nat → Int32} {mt : Nat → Int64} {fr : Nat → Int32} {tl : Nat → Int64} {le ee : Int64} {ss hv : Nat → Int64} (ha : apt 12 ad) {vl : Nat → Nat → Nat} (hsl : SLok vl sl) {ka kb : Nat} (hka : ka < 3) (hkb : kb < 3) : Met l yX0_compareColumns (ws_ yX0_compareColumns cX0_compareColumns 8 (none)) (rmK 0) (PcW D (tX cA) (wX ad cA pr sl cn so fi se ho co mt fr tl le ee ss hv) [.ref (ad 0), .int (nI ka), .int (nI kb)]) (va_Qv (fun (u : Int64 × Int64) => cmpd (fun i => vl i ka) (fun i => (vl i kb : Int)) u.1 u.2) (fun u t => va_P D vwCl (wX ad cA pr sl cn so fi se ho co mt fr tl u.1 u.2 ss hv) t.heap) (AdX 12 ad)) 0 0 (AdX 12 ad) := by
  refine en_v (own := RX0) (by decide) rfl (Nat.le_of_ble_eq_true rfl) ?_
  intro p e s m below meth c R Q ls hR hC hK hP hl hret
  subst hR
  obtain ⟨hx, hb, hml, hown, hts, hr, hlocks⟩ := id hC
  have hS : va_S (AdX 12 ad) s.heap s.heap [] := va_S.rf
  have hl : lv_has ls 8 [(0, .ref (ad 0)), (1, .int (nI ka)), (2, .int (nI kb))] := hl
  refine lv_aload_n hx hb dX0_compareColumns_0 rfl (lv_at hl 0 rfl) ?_
  refine lv_lconst (v := 0) hx hb dX0_compareColumns_1 (by decide) ?_
  refine va_put (D := D) (ci := 0) (v := .long (0 : Int64)) (ty := .long) (C := RX0) (T := TX0) (N := 15) hx hb hts in_X0 tyX0 tyX0_ok nmX0 hown hK hP (dX ha) hS 0 rfl rfl 11 (by decide) (hts _ q38) (fun _ h9 => h9) rfl (by decide +kernel) rfl rfl (Nat.le_of_ble_eq_true rfl) dX0_compareColumns_2 (fun H locs hP _ hS => ?_)
  have hP : va_P D vwCl (wX ad cA pr sl cn so fi se ho co mt fr tl (0 : Int64) ee ss hv) H := hP
  refine lv_aload_n hx hb dX0_compareColumns_5 rfl (lv_at hl 0 rfl) ?_
  refine lv_ldc2 hx hb hown (hts _ q84) dX0_compareColumns_6 ?_
  refine va_put (D := D) (ci := 0) (v := .long (-1 : Int64)) (ty := .long) (C := RX0) (T := TX0) (N := 15) hx hb hts in_X0 tyX0 tyX0_ok nmX0 hown hK hP (dX ha) hS 0 rfl rfl 12 (by decide) (hts _ q39) (fun _ h9 => h9) rfl (by decide +kernel) rfl rfl (Nat.le_of_ble_eq_true rfl) dX0_compareColumns_9 (fun H locs hP _ hS => ?_)
  have hP : va_P D vwCl (wX ad cA pr sl cn so fi se ho co mt fr tl (0 : Int64) (-1 : Int64) ss hv) H := hP
  refine lv_bipush (v := nI 7) hx hb dX0_compareColumns_12 (by decide) ?_
  refine lv_istore_n (x := nI 8 + (-1)) (lv' := [(3, .int (nI 8 + (-1))), (0, .ref (ad 0)), (1, .int (nI ka)), (2, .int (nI kb))]) hx hb dX0_compareColumns_14 rfl hl (by decide) rfl (fun ls hl => ?_)
  have loop : ∀ (n0 : Nat) (n1 : Nat) (l1 e1 : Int64), n1 ≤ 8 → n1 < n0 → ccI (fun q => vl q ka) (fun q => vl q kb) n1 l1 e1 → ∀ (H : Heap) (locs : List Loc) (ls : Array Slot), va_P D vwCl (wX ad cA pr sl cn so fi se ho co mt fr tl l1 e1 ss hv) H → va_S (AdX 12 ad) s.heap H locs → lv_has ls 8 [(3, .int (nI n1 + (-1))), (0, .ref (ad 0)), (1, .int (nI ka)), (2, .int (nI kb))] → W p l e (rmK 0) s m ([.ref (ad 0), .int (nI ka), .int (nI kb)] : List Value).toArray below meth c H locs 0 0 Q (F0 m 15 ls []) := by
    intro n
    induction n with
    | zero => intro n1 l1 e1 h1 h2; exact absurd h2 (by omega)
    | succ n ih =>
      intro n1 l1 e1 hi hin hf H locs ls hP hS hl
      refine lv_iload_n hx hb dX0_compareColumns_15 rfl (lv_at hl 0 rfl) ?_
      refine ra_down (tgt := 92) hx hb (by omega) dX0_compareColumns_16 (by decide) (fun c1 => ?_) (fun k1 c1 => ?_)
      · have _h : True := trivial
        subst c1
        exact hret (l1, e1) _ _ _ _ dX0_compareColumns_92 hP hS (ccI_end hf)
      · have _h : True := trivial
        subst c1
        rw [pk_m1] at hl
        refine lv_aload_n hx hb dX0_compareColumns_19 rfl (lv_at hl 1 rfl) ?_
        refine va_get (D := D) (ci := 0) (v := .ref (ad 1)) (C := RX0) (T := TX0) (N := 15) hx hb hts in_X0 hown hK hP 0 rfl rfl 1 (by decide) (hts _ q28) (fun _ h9 => h9) rfl dX0_compareColumns_20 ?_
        refine lv_bipush (v := nI 8) hx hb dX0_compareColumns_23 (by decide) ?_
        refine lv_iload_n hx hb dX0_compareColumns_25 rfl (lv_at hl 2 rfl) ?_
        refine ra_imul hx hb dX0_compareColumns_26 ?_
        refine lv_iload_n hx hb dX0_compareColumns_27 rfl (lv_at hl 0 rfl) ?_
        refine ra_iadd hx hb dX0_compareColumns_28 ?_
        refine ra_lald hx hb hK hP 1 0 rfl rfl (by omega) (by decide) dX0_compareColumns_29 ?_
        refine lv_lstore (lv' := [(4, .long (sl ((8 * ka) + k1))), (3, .int (nI k1)), (0, .ref (ad 0)), (1, .int (nI ka)), (2, .int (nI kb))]) hx hb dX0_compareColumns_30 hl (by decide) rfl (fun ls hl => ?_)
        refine lv_aload_n hx hb dX0_compareColumns_32 rfl (lv_at hl 2 rfl) ?_
        refine va_get (D := D) (ci := 0) (v := .ref (ad 1)) (C := RX0) (T := TX0) (N := 15) hx hb hts in_X0 hown hK hP 0 rfl rfl 1 (by decide) (hts _ q28) (fun _ h9 => h9) rfl dX0_compareColumns_33 ?_
        refine lv_bipush (v := nI 8) hx hb dX0_compareColumns_36 (by decide) ?_
        refine lv_iload_n hx hb dX0_compareColumns_38 rfl (lv_at hl 4 rfl) ?_
        refine ra_imul hx hb dX0_compareColumns_39 ?_
        refine lv_iload_n hx hb dX0_compareColumns_40 rfl (lv_at hl 1 rfl) ?_
        refine ra_iadd hx hb dX0_compareColumns_41 ?_
        refine ra_lald hx hb hK hP 1 0 rfl rfl (by omega) (by decide) dX0_compareColumns_42 ?_
        refine lv_lstore (lv' := [(6, .long (sl ((8 * kb) + k1))), (4, .long (sl ((8 * ka) + k1))), (3, .int (nI k1)), (0, .ref (ad 0)), (1, .int (nI ka)), (2, .int (nI kb))]) hx hb dX0_compareColumns_43 hl (by decide) rfl (fun ls hl => ?_)
        refine lv_aload_n hx hb dX0_compareColumns_45 rfl (lv_at hl 3 rfl) ?_
        refine lv_dup hx hb dX0_compareColumns_46 rfl ?_
        refine va_get (D := D) (ci := 0) (v := .long l1) (C := RX0) (T := TX0) (N := 15) hx hb hts in_X0 hown hK hP 0 rfl rfl 11 (by decide) (hts _ q38) (fun _ h9 => h9) rfl dX0_compareColumns_47 ?_
        refine lv_aload_n hx hb dX0_compareColumns_50 rfl (lv_at hl 3 rfl) ?_
        refine va_get (D := D) (ci := 0) (v := .long e1) (C := RX0) (T := TX0) (N := 15) hx hb hts in_X0 hown hK hP 0 rfl rfl 12 (by decide) (hts _ q39) (fun _ h9 => h9) rfl dX0_compareColumns_51 ?_
        refine lv_lload hx hb dX0_compareColumns_54 (lv_at hl 1 rfl) ?_
        refine lv_ldc2 hx hb hown (hts _ q84) dX0_compareColumns_56 ?_
        refine lv_lxor hx hb dX0_compareColumns_59 ?_
        refine lv_land hx hb dX0_compareColumns_60 ?_
        refine lv_lload hx hb dX0_compareColumns_61 (lv_at hl 0 rfl) ?_
        refine lv_land hx hb dX0_compareColumns_63 ?_
        refine lv_lor hx hb dX0_compareColumns_64 ?_
        refine va_put (D := D) (ci := 0) (v := .long (l1 ||| ((e1 &&& ((sl ((8 * ka) + k1)) ^^^ (-1 : Int64))) &&& (sl ((8 * kb) + k1))))) (ty := .long) (C := RX0) (T := TX0) (N := 15) hx hb hts in_X0 tyX0 tyX0_ok nmX0 hown hK hP (dX ha) hS 0 rfl rfl 11 (by decide) (hts _ q38) (fun _ h9 => h9) rfl (by decide +kernel) rfl rfl (Nat.le_of_ble_eq_true rfl) dX0_compareColumns_65 (fun H locs hP _ hS => ?_)
        have hP : va_P D vwCl (wX ad cA pr sl cn so fi se ho co mt fr tl (l1 ||| ((e1 &&& ((sl ((8 * ka) + k1)) ^^^ (-1 : Int64))) &&& (sl ((8 * kb) + k1)))) e1 ss hv) H := hP
        refine lv_aload_n hx hb dX0_compareColumns_68 rfl (lv_at hl 3 rfl) ?_
        refine lv_dup hx hb dX0_compareColumns_69 rfl ?_
        refine va_get (D := D) (ci := 0) (v := .long e1) (C := RX0) (T := TX0) (N := 15) hx hb hts in_X0 hown hK hP 0 rfl rfl 12 (by decide) (hts _ q39) (fun _ h9 => h9) rfl dX0_compareColumns_70 ?_
        refine lv_lload hx hb dX0_compareColumns_73 (lv_at hl 1 rfl) ?_
        refine lv_lload hx hb dX0_compareColumns_75 (lv_at hl 0 rfl) ?_
        refine lv_lxor hx hb dX0_compareColumns_77 ?_
        refine lv_ldc2 hx hb hown (hts _ q84) dX0_compareColumns_78 ?_
        refine lv_lxor hx hb dX0_compareColumns_81 ?_
        refine lv_land hx hb dX0_compareColumns_82 ?_
        refine va_put (D := D) (ci := 0) (v := .long (e1 &&& (((sl ((8 * ka) + k1)) ^^^ (sl ((8 * kb) + k1))) ^^^ (-1 : Int64)))) (ty := .long) (C := RX0) (T := TX0) (N := 15) hx hb hts in_X0 tyX0 tyX0_ok nmX0 hown hK hP (dX ha) hS 0 rfl rfl 12 (by decide) (hts _ q39) (fun _ h9 => h9) rfl (by decide +kernel) rfl rfl (Nat.le_of_ble_eq_true rfl) dX0_compareColumns_83 (fun H locs hP _ hS => ?_)
        have hP : va_P D vwCl (wX ad cA pr sl cn so fi se ho co mt fr tl (l1 ||| ((e1 &&& ((sl ((8 * ka) + k1)) ^^^ (-1 : Int64))) &&& (sl ((8 * kb) + k1)))) (e1 &&& (((sl ((8 * ka) + k1)) ^^^ (sl ((8 * kb) + k1))) ^^^ (-1 : Int64))) ss hv) H := hP
        refine lv_iinc (v := nI k1 + (-1)) (lv' := [(3, .int (nI k1 + (-1))), (6, .long (sl ((8 * kb) + k1))), (4, .long (sl ((8 * ka) + k1))), (0, .ref (ad 0)), (1, .int (nI ka)), (2, .int (nI kb))]) hx hb dX0_compareColumns_86 hl (k := 2) rfl rfl (by decide) rfl (fun ls hl => ?_)
        refine lv_goto (tgt := 15) hx hb dX0_compareColumns_89 (by decide) ?_
        exact ih k1 _ _ (by omega) (by omega) (ccI_1 (fun q hq => (hsl q hq ka hka).2 k1 (by omega)) (fun q hq => (hsl q hq kb hkb).2 k1 (by omega)) hf) _ _ _ hP hS (lv_sub hl [0, 3, 4, 5] rfl)
  exact loop 9 8 _ _ (by omega) (by omega) (ccI_0 (fun q hq => (hsl q hq ka hka).1) (fun q hq => (hsl q hq kb hkb).1)) _ _ _ hP hS hl
set_option maxHeartbeats 4000000 in
set_option maxRecDepth 100000 in
theorem metX0_compareWithConstant {l : Launch} {D : va_G} {ad : Nat → Nat} {cA : Nat → ClassId} {pr : Int64} {sl : Nat → Int64} {cn : Int32} {so fi se ho co : Nat → Int32} {mt : Nat → Int64} {fr : Nat → Int32} {tl : Nat → Int64} {le ee : Int64} {ss hv : Nat → Int64} (ha : apt 12 ad) {TT : Nat → Nat} (hT : Tok TT tl) (k : Int32) : Met l yX0_compareWithConstant (ws_ yX0_compareWithConstant cX0_compareWithConstant 3 (none)) (rmK 0) (PcW D (tX cA) (wX ad cA pr sl cn so fi se ho co mt fr tl le ee ss hv) [.ref (ad 0), .int k]) (va_Qv (fun (u : Int64 × Int64) => cmpd TT (fun _ => k.toInt) u.1 u.2) (fun u t => va_P D vwCl (wX ad cA pr sl cn so fi se ho co mt fr tl u.1 u.2 ss hv) t.heap) (AdX 12 ad)) 0 0 (AdX 12 ad) := by
  refine en_v (own := RX0) (by decide) rfl (Nat.le_of_ble_eq_true rfl) ?_
  intro p e s m below meth c R Q ls hR hC hK hP hl hret
  subst hR
  obtain ⟨hx, hb, hml, hown, hts, hr, hlocks⟩ := id hC
  have hS : va_S (AdX 12 ad) s.heap s.heap [] := va_S.rf
  have hl : lv_has ls 3 [(0, .ref (ad 0)), (1, .int k)] := hl
  refine lv_aload_n hx hb dX0_compareWithConstant_0 rfl (lv_at hl 0 rfl) ?_
  refine lv_lconst (v := 0) hx hb dX0_compareWithConstant_1 (by decide) ?_
  refine va_put (D := D) (ci := 0) (v := .long (0 : Int64)) (ty := .long) (C := RX0) (T := TX0) (N := 15) hx hb hts in_X0 tyX0 tyX0_ok nmX0 hown hK hP (dX ha) hS 0 rfl rfl 11 (by decide) (hts _ q38) (fun _ h9 => h9) rfl (by decide +kernel) rfl rfl (Nat.le_of_ble_eq_true rfl) dX0_compareWithConstant_2 (fun H locs hP _ hS => ?_)
  have hP : va_P D vwCl (wX ad cA pr sl cn so fi se ho co mt fr tl (0 : Int64) ee ss hv) H := hP
  refine lv_aload_n hx hb dX0_compareWithConstant_5 rfl (lv_at hl 0 rfl) ?_
  refine lv_ldc2 hx hb hown (hts _ q84) dX0_compareWithConstant_6 ?_
  refine va_put (D := D) (ci := 0) (v := .long (-1 : Int64)) (ty := .long) (C := RX0) (T := TX0) (N := 15) hx hb hts in_X0 tyX0 tyX0_ok nmX0 hown hK hP (dX ha) hS 0 rfl rfl 12 (by decide) (hts _ q39) (fun _ h9 => h9) rfl (by decide +kernel) rfl rfl (Nat.le_of_ble_eq_true rfl) dX0_compareWithConstant_9 (fun H locs hP _ hS => ?_)
  have hP : va_P D vwCl (wX ad cA pr sl cn so fi se ho co mt fr tl (0 : Int64) (-1 : Int64) ss hv) H := hP
  refine lv_iload_n hx hb dX0_compareWithConstant_12 rfl (lv_at hl 1 rfl) ?_
  refine lv_if_ge (tgt := 22) hx hb dX0_compareWithConstant_13 (by decide) (fun c1 => ?_) (fun c1 => ?_)
  · have _h : True := trivial
    refine lv_iload_n hx hb dX0_compareWithConstant_22 rfl (lv_at hl 1 rfl) ?_
    refine lv_sipush (v := nI 511) hx hb dX0_compareWithConstant_23 (by decide) ?_
    refine lv_icmp_le (tgt := 42) hx hb dX0_compareWithConstant_26 (by decide) (fun c2 => ?_) (fun c2 => ?_)
    · have _h : True := trivial
      obtain ⟨K, hKk, rfl⟩ := inK 511 (by decide) (Int32.not_lt.mpr c1) c2
      refine lv_bipush (v := nI 8) hx hb dX0_compareWithConstant_42 (by decide) ?_
      refine lv_istore_n (x := nI 9 + (-1)) (lv' := [(2, .int (nI 9 + (-1))), (0, .ref (ad 0)), (1, .int (nI K))]) hx hb dX0_compareWithConstant_44 rfl hl (by decide) rfl (fun ls hl => ?_)
      have loop : ∀ (n0 : Nat) (n1 : Nat) (l1 e1 : Int64), n1 ≤ 9 → n1 < n0 → xwI TT K n1 l1 e1 → ∀ (H : Heap) (locs : List Loc) (ls : Array Slot), va_P D vwCl (wX ad cA pr sl cn so fi se ho co mt fr tl l1 e1 ss hv) H → va_S (AdX 12 ad) s.heap H locs → lv_has ls 3 [(2, .int (nI n1 + (-1))), (0, .ref (ad 0)), (1, .int (nI K))] → W p l e (rmK 0) s m ([.ref (ad 0), .int (nI K)] : List Value).toArray below meth c H locs 0 0 Q (F0 m 45 ls []) := by
        intro n
        induction n with
        | zero => intro n1 l1 e1 h1 h2; exact absurd h2 (by omega)
        | succ n ih =>
          intro n1 l1 e1 hi hin hf H locs ls hP hS hl
          refine lv_iload_n hx hb dX0_compareWithConstant_45 rfl (lv_at hl 0 rfl) ?_
          refine ra_down (tgt := 124) hx hb (by omega) dX0_compareWithConstant_46 (by decide) (fun c3 => ?_) (fun k1 c3 => ?_)
          · have _h : True := trivial
            subst c3
            exact hret (l1, e1) _ _ _ _ dX0_compareWithConstant_124 hP hS (xwI_end (by omega) hf)
          · have _h : True := trivial
            subst c3
            rw [pk_m1] at hl
            refine lv_iload_n hx hb dX0_compareWithConstant_49 rfl (lv_at hl 2 rfl) ?_
            refine lv_iload_n hx hb dX0_compareWithConstant_50 rfl (lv_at hl 0 rfl) ?_
            refine lv_iushr (v := ((nI K).toUInt32 >>> ((nI k1).toUInt32 &&& Int32.toUInt32 31)).toInt32) hx hb dX0_compareWithConstant_51 rfl ?_
            refine lv_iconst (v := nI 1) hx hb dX0_compareWithConstant_52 (by decide) ?_
            refine lv_iand hx hb dX0_compareWithConstant_53 ?_
            rw [show ((((nI K).toUInt32 >>> ((nI k1).toUInt32 &&& Int32.toUInt32 31)).toInt32) &&& (nI 1) : Int32) = nI (K / 2 ^ k1 % 2) from digN_eq (by omega) (by omega)]
            refine ra_if_eq (tgt := 99) hx hb (by omega) dX0_compareWithConstant_54 (by decide) (fun c4 => ?_) (fun c4 => ?_)
            · have _h : True := trivial
              refine lv_aload_n hx hb dX0_compareWithConstant_99 rfl (lv_at hl 1 rfl) ?_
              refine lv_dup hx hb dX0_compareWithConstant_100 rfl ?_
              refine va_get (D := D) (ci := 0) (v := .long e1) (C := RX0) (T := TX0) (N := 15) hx hb hts in_X0 hown hK hP 0 rfl rfl 12 (by decide) (hts _ q39) (fun _ h9 => h9) rfl dX0_compareWithConstant_101 ?_
              refine lv_aload_n hx hb dX0_compareWithConstant_104 rfl (lv_at hl 1 rfl) ?_
              refine va_get (D := D) (ci := 0) (v := .ref (ad 9)) (C := RX0) (T := TX0) (N := 15) hx hb hts in_X0 hown hK hP 0 rfl rfl 10 (by decide) (hts _ q37) (fun _ h9 => h9) rfl dX0_compareWithConstant_105 ?_
              refine lv_iload_n hx hb dX0_compareWithConstant_108 rfl (lv_at hl 0 rfl) ?_
              refine ra_lald hx hb hK hP 9 8 rfl rfl (by omega) (by decide) dX0_compareWithConstant_109 ?_
              refine lv_ldc2 hx hb hown (hts _ q84) dX0_compareWithConstant_110 ?_
              refine lv_lxor hx hb dX0_compareWithConstant_113 ?_
              refine lv_land hx hb dX0_compareWithConstant_114 ?_
              refine va_put (D := D) (ci := 0) (v := .long (e1 &&& ((tl k1) ^^^ (-1 : Int64)))) (ty := .long) (C := RX0) (T := TX0) (N := 15) hx hb hts in_X0 tyX0 tyX0_ok nmX0 hown hK hP (dX ha) hS 0 rfl rfl 12 (by decide) (hts _ q39) (fun _ h9 => h9) rfl (by decide +kernel) rfl rfl (Nat.le_of_ble_eq_true rfl) dX0_compareWithConstant_115 (fun H locs hP _ hS => ?_)
              have hP : va_P D vwCl (wX ad cA pr sl cn so fi se ho co mt fr tl l1 (e1 &&& ((tl k1) ^^^ (-1 : Int64))) ss hv) H := hP
              refine lv_iinc (v := nI k1 + (-1)) (lv' := [(2, .int (nI k1 + (-1))), (0, .ref (ad 0)), (1, .int (nI K))]) hx hb dX0_compareWithConstant_118 hl (k := 0) rfl rfl (by decide) rfl (fun ls hl => ?_)
              refine lv_goto (tgt := 45) hx hb dX0_compareWithConstant_121 (by decide) ?_
              exact ih k1 _ _ (by omega) (by omega) (xwI_2 (fun q hq => (hT q hq).2 k1 (by omega)) hf c4) _ _ _ hP hS (lv_sub hl [0, 1, 2] rfl)
            · have _h : True := trivial
              refine lv_aload_n hx hb dX0_compareWithConstant_57 rfl (lv_at hl 1 rfl) ?_
              refine lv_dup hx hb dX0_compareWithConstant_58 rfl ?_
              refine va_get (D := D) (ci := 0) (v := .long l1) (C := RX0) (T := TX0) (N := 15) hx hb hts in_X0 hown hK hP 0 rfl rfl 11 (by decide) (hts _ q38) (fun _ h9 => h9) rfl dX0_compareWithConstant_59 ?_
              refine lv_aload_n hx hb dX0_compareWithConstant_62 rfl (lv_at hl 1 rfl) ?_
              refine va_get (D := D) (ci := 0) (v := .long e1) (C := RX0) (T := TX0) (N := 15) hx hb hts in_X0 hown hK hP 0 rfl rfl 12 (by decide) (hts _ q39) (fun _ h9 => h9) rfl dX0_compareWithConstant_63 ?_
              refine lv_aload_n hx hb dX0_compareWithConstant_66 rfl (lv_at hl 1 rfl) ?_
              refine va_get (D := D) (ci := 0) (v := .ref (ad 9)) (C := RX0) (T := TX0) (N := 15) hx hb hts in_X0 hown hK hP 0 rfl rfl 10 (by decide) (hts _ q37) (fun _ h9 => h9) rfl dX0_compareWithConstant_67 ?_
              refine lv_iload_n hx hb dX0_compareWithConstant_70 rfl (lv_at hl 0 rfl) ?_
              refine ra_lald hx hb hK hP 9 8 rfl rfl (by omega) (by decide) dX0_compareWithConstant_71 ?_
              refine lv_ldc2 hx hb hown (hts _ q84) dX0_compareWithConstant_72 ?_
              refine lv_lxor hx hb dX0_compareWithConstant_75 ?_
              refine lv_land hx hb dX0_compareWithConstant_76 ?_
              refine lv_lor hx hb dX0_compareWithConstant_77 ?_
              refine va_put (D := D) (ci := 0) (v := .long (l1 ||| (e1 &&& ((tl k1) ^^^ (-1 : Int64))))) (ty := .long) (C := RX0) (T := TX0) (N := 15) hx hb hts in_X0 tyX0 tyX0_ok nmX0 hown hK hP (dX ha) hS 0 rfl rfl 11 (by decide) (hts _ q38) (fun _ h9 => h9) rfl (by decide +kernel) rfl rfl (Nat.le_of_ble_eq_true rfl) dX0_compareWithConstant_78 (fun H locs hP _ hS => ?_)
              have hP : va_P D vwCl (wX ad cA pr sl cn so fi se ho co mt fr tl (l1 ||| (e1 &&& ((tl k1) ^^^ (-1 : Int64)))) e1 ss hv) H := hP
              refine lv_aload_n hx hb dX0_compareWithConstant_81 rfl (lv_at hl 1 rfl) ?_
              refine lv_dup hx hb dX0_compareWithConstant_82 rfl ?_
              refine va_get (D := D) (ci := 0) (v := .long e1) (C := RX0) (T := TX0) (N := 15) hx hb hts in_X0 hown hK hP 0 rfl rfl 12 (by decide) (hts _ q39) (fun _ h9 => h9) rfl dX0_compareWithConstant_83 ?_
              refine lv_aload_n hx hb dX0_compareWithConstant_86 rfl (lv_at hl 1 rfl) ?_
              refine va_get (D := D) (ci := 0) (v := .ref (ad 9)) (C := RX0) (T := TX0) (N := 15) hx hb hts in_X0 hown hK hP 0 rfl rfl 10 (by decide) (hts _ q37) (fun _ h9 => h9) rfl dX0_compareWithConstant_87 ?_
              refine lv_iload_n hx hb dX0_compareWithConstant_90 rfl (lv_at hl 0 rfl) ?_
              refine ra_lald hx hb hK hP 9 8 rfl rfl (by omega) (by decide) dX0_compareWithConstant_91 ?_
              refine lv_land hx hb dX0_compareWithConstant_92 ?_
              refine va_put (D := D) (ci := 0) (v := .long (e1 &&& (tl k1))) (ty := .long) (C := RX0) (T := TX0) (N := 15) hx hb hts in_X0 tyX0 tyX0_ok nmX0 hown hK hP (dX ha) hS 0 rfl rfl 12 (by decide) (hts _ q39) (fun _ h9 => h9) rfl (by decide +kernel) rfl rfl (Nat.le_of_ble_eq_true rfl) dX0_compareWithConstant_93 (fun H locs hP _ hS => ?_)
              have hP : va_P D vwCl (wX ad cA pr sl cn so fi se ho co mt fr tl (l1 ||| (e1 &&& ((tl k1) ^^^ (-1 : Int64)))) (e1 &&& (tl k1)) ss hv) H := hP
              refine lv_goto (tgt := 118) hx hb dX0_compareWithConstant_96 (by decide) ?_
              refine lv_iinc (v := nI k1 + (-1)) (lv' := [(2, .int (nI k1 + (-1))), (0, .ref (ad 0)), (1, .int (nI K))]) hx hb dX0_compareWithConstant_118 hl (k := 0) rfl rfl (by decide) rfl (fun ls hl => ?_)
              refine lv_goto (tgt := 45) hx hb dX0_compareWithConstant_121 (by decide) ?_
              exact ih k1 _ _ (by omega) (by omega) (xwI_1 (fun q hq => (hT q hq).2 k1 (by omega)) hf c4) _ _ _ hP hS (lv_sub hl [0, 1, 2] rfl)
      exact loop 10 9 _ _ (by omega) (by omega) (xwI_0 (fun q hq => (hT q hq).1) (by omega)) _ _ _ hP hS hl
    · have _h : True := trivial
      refine lv_aload_n hx hb dX0_compareWithConstant_29 rfl (lv_at hl 0 rfl) ?_
      refine lv_ldc2 hx hb hown (hts _ q84) dX0_compareWithConstant_30 ?_
      refine va_put (D := D) (ci := 0) (v := .long (-1 : Int64)) (ty := .long) (C := RX0) (T := TX0) (N := 15) hx hb hts in_X0 tyX0 tyX0_ok nmX0 hown hK hP (dX ha) hS 0 rfl rfl 11 (by decide) (hts _ q38) (fun _ h9 => h9) rfl (by decide +kernel) rfl rfl (Nat.le_of_ble_eq_true rfl) dX0_compareWithConstant_33 (fun H locs hP _ hS => ?_)
      have hP : va_P D vwCl (wX ad cA pr sl cn so fi se ho co mt fr tl (-1 : Int64) (-1 : Int64) ss hv) H := hP
      refine lv_aload_n hx hb dX0_compareWithConstant_36 rfl (lv_at hl 0 rfl) ?_
      refine lv_lconst (v := 0) hx hb dX0_compareWithConstant_37 (by decide) ?_
      refine va_put (D := D) (ci := 0) (v := .long (0 : Int64)) (ty := .long) (C := RX0) (T := TX0) (N := 15) hx hb hts in_X0 tyX0 tyX0_ok nmX0 hown hK hP (dX ha) hS 0 rfl rfl 12 (by decide) (hts _ q39) (fun _ h9 => h9) rfl (by decide +kernel) rfl rfl (Nat.le_of_ble_eq_true rfl) dX0_compareWithConstant_38 (fun H locs hP _ hS => ?_)
      have hP : va_P D vwCl (wX ad cA pr sl cn so fi se ho co mt fr tl (-1 : Int64) (0 : Int64) ss hv) H := hP
      exact hret ((-1 : Int64), (0 : Int64)) _ _ _ _ dX0_compareWithConstant_41 hP hS (cw_big (fun q hq => (hT q hq).1) (by have h := Int32.lt_iff_toInt_lt.mp (Int32.not_le.mp c2); rw [nI_toInt (by decide)] at h; exact h))
  · have _h : True := trivial
    refine lv_aload_n hx hb dX0_compareWithConstant_16 rfl (lv_at hl 0 rfl) ?_
    refine lv_lconst (v := 0) hx hb dX0_compareWithConstant_17 (by decide) ?_
    refine va_put (D := D) (ci := 0) (v := .long (0 : Int64)) (ty := .long) (C := RX0) (T := TX0) (N := 15) hx hb hts in_X0 tyX0 tyX0_ok nmX0 hown hK hP (dX ha) hS 0 rfl rfl 12 (by decide) (hts _ q39) (fun _ h9 => h9) rfl (by decide +kernel) rfl rfl (Nat.le_of_ble_eq_true rfl) dX0_compareWithConstant_18 (fun H locs hP _ hS => ?_)
    have hP : va_P D vwCl (wX ad cA pr sl cn so fi se ho co mt fr tl (0 : Int64) (0 : Int64) ss hv) H := hP
    exact hret ((0 : Int64), (0 : Int64)) _ _ _ _ dX0_compareWithConstant_21 hP hS (cw_neg (Int32.lt_iff_toInt_lt.mp (Int32.not_le.mp c1)))
end
section
/-! plain facts: the k-th row, sums, ranks -/
theorem row_neg {p : Nat → Bool} {pl : Int32} (h : ¬ 0 ≤ pl) : rowA p pl (-1) := by
  refine Or.inl ⟨fun i hi _ e => h ?_, rfl⟩
  rw [e]
  have := fb_ct_le p i
  exact nI_pos' (by omega)
theorem ct_lt {p : Nat → Bool} {i n : Nat} (hi : i < n) (hp : p i = true) : fb_ct p i < fb_ct p n := by
  have h1 := fb_ct_mono p (show i + 1 ≤ n from hi)
  have h2 : fb_ct p (i + 1) = fb_ct p i + 1 := by rw [fb_ct_succ, hp]; rfl
  omega
theorem row_far {p : Nat → Bool} {P : Nat} (hP : P < 2 ^ 31) (h : fb_ct p 64 ≤ P) : rowA p (nI P) (-1) := by
  refine Or.inl ⟨fun i hi hp e => ?_, rfl⟩
  have h1 := ct_lt hi hp
  have h2 := nI_inj hP (by omega) e
  omega
theorem mask_bit : ∀ w, w ≤ 32 → ∀ i, i < 64 → lb (((1 : Int64) <<< ((nI w).toInt64 &&& 63)) - 1) i = decide (i < w) := by decide +kernel
theorem ct_cut {f : Nat → Bool} (w : Nat) : ∀ n, fb_ct (fun i => f i && decide (i < w)) (w + n) = fb_ct f w
  | 0 => fb_ct_cong (fun k hk => by
    have hk : k < w := hk
    simp [hk])
  | n + 1 => by
    show fb_ct _ (w + n + 1) = _
    rw [fb_ct_succ, ct_cut w n]
    simp
theorem part_pop {p : Nat → Bool} {r x : Int64} {Lo w : Nat} (hr : ∀ i, i < 64 → lb r i = p i) (hw : w ≤ 32) (hL : Lo + w ≤ 64) (hx : x = (r.toUInt64 >>> ((nI Lo).toInt64.toUInt64 &&& Int64.toUInt64 63)).toInt64 &&& (((1 : Int64) <<< ((nI w).toInt64 &&& 63)) - 1)) (hl : Lo < 64) : popc x = fb_ct (fun i => p (Lo + i)) w := by
  have e : 64 = w + (64 - w) := by omega
  unfold popc
  rw [← ct_cut (f := fun i => p (Lo + i)) w (64 - w), ← e]
  refine fb_ct_cong (fun i hi => ?_)
  rw [hx, lb_and, lb_ushr hl, mask_bit w hw i hi]
  by_cases q : i < w
  · rw [hr (Lo + i) (by omega)]
  · simp [q]
theorem pw6 {j : Nat} (h : j ≤ 6) : 2 ^ j ≤ 64 := Nat.pow_le_pow_right (n := 2) (j := 6) (by decide) h
theorem pw5 {j : Nat} (h : j + 1 ≤ 6) : 2 ^ j ≤ 32 := Nat.pow_le_pow_right (n := 2) (j := 5) (by decide) (show j ≤ 5 by omega)
theorem pw_half (j : Nat) : 2 ^ (j + 1) / 2 = 2 ^ j := by rw [Nat.pow_succ]; omega
/-- a window of 2^j rows from Lo on that holds the place -/
def rwI (p : Nat → Bool) (P Lo P1 j : Nat) : Prop := Lo + 2 ^ j ≤ 64 ∧ P = fb_ct p Lo + P1 ∧ P1 < fb_ct (fun i => p (Lo + i)) (2 ^ j)
theorem rwI_0 {p : Nat → Bool} {P : Nat} (h : P < fb_ct p 64) : rwI p P 0 P 6 := by
  refine ⟨by decide, by rw [show fb_ct p 0 = 0 from rfl]; omega, ?_⟩
  have e : fb_ct (fun i => p (0 + i)) (2 ^ 6) = fb_ct p 64 := fb_ct_cong (fun i _ => by rw [Nat.zero_add])
  rw [e]
  exact h
theorem rwI_lo {p : Nat → Bool} {P Lo P1 j n1 : Nat} (h : rwI p P Lo P1 (j + 1)) (hn : n1 = fb_ct (fun i => p (Lo + i)) (2 ^ j)) (hl : P1 < n1) : rwI p P Lo P1 j := by
  obtain ⟨h1, h2, h3⟩ := h
  rw [Nat.pow_succ] at h1
  exact ⟨by omega, h2, by rw [← hn]; exact hl⟩
theorem rwI_hi {p : Nat → Bool} {P Lo P1 j n1 : Nat} (h : rwI p P Lo P1 (j + 1)) (hn : n1 = fb_ct (fun i => p (Lo + i)) (2 ^ j)) (hl : n1 ≤ P1) : rwI p P (Lo + 2 ^ j) (P1 - n1) j := by
  obtain ⟨h1, h2, h3⟩ := h
  rw [Nat.pow_succ] at h1
  have e1 := fb_ct_split p Lo (2 ^ j)
  have e2 := fb_ct_split (fun i => p (Lo + i)) (2 ^ j) (2 ^ j)
  rw [show 2 ^ j + 2 ^ j = 2 ^ (j + 1) by rw [Nat.pow_succ]; omega] at e2
  have e3 : fb_ct (fun k => (fun i => p (Lo + i)) (2 ^ j + k)) (2 ^ j) = fb_ct (fun i => p (Lo + 2 ^ j + i)) (2 ^ j) := fb_ct_cong (fun i _ => by
    show p (Lo + (2 ^ j + i)) = p (Lo + 2 ^ j + i)
    rw [Nat.add_assoc])
  rw [e3] at e2
  refine ⟨by omega, ?_, ?_⟩
  · rw [e1, ← hn]; omega
  · omega
theorem rwI_end {p : Nat → Bool} {P Lo P1 : Nat} (h : rwI p P Lo P1 0) : rowA p (nI P) (nI Lo) := by
  obtain ⟨h1, h2, h3⟩ := h
  have h1 : Lo + 1 ≤ 64 := h1
  have h3 : P1 < fb_ct (fun i => p (Lo + i)) (0 + 1) := h3
  rw [fb_ct_succ, show fb_ct (fun i => p (Lo + i)) 0 = 0 from rfl, Nat.zero_add] at h3
  cases hp : p Lo with
  | false =>
    rw [show Lo + 0 = Lo from rfl, hp] at h3
    simp at h3
  | true =>
    rw [show Lo + 0 = Lo from rfl, hp] at h3
    simp at h3
    exact Or.inr ⟨Lo, by omega, hp, by rw [h2, h3]; rfl, rfl⟩
/-! sums by digits -/
theorem sm_step (p : Nat → Bool) (v : Nat → Nat) (b : Nat) : ∀ n, 2 * fb_sm (fun i => if p i then v i / 2 ^ (b + 1) else 0) n + fb_ct (fun i => p i && (v i).testBit b) n = fb_sm (fun i => if p i then v i / 2 ^ b else 0) n
  | 0 => rfl
  | n + 1 => by
    have ih := sm_step p v b n
    rw [fb_sm_succ, fb_sm_succ, fb_ct_succ, ← ih, tb_eq]
    have d := dg_eq (v n) b
    cases p n with
    | false => simp
    | true =>
      simp only [Bool.true_and, decide_eq_true_eq, if_true]
      split <;> omega
theorem sm_0 {p : Nat → Bool} {v : Nat → Nat} : ∀ n, (∀ i, i < n → v i < 256) → fb_sm (fun i => if p i then v i / 2 ^ 8 else 0) n = 0
  | 0, _ => rfl
  | n + 1, h => by
    rw [fb_sm_succ, sm_0 n (fun i hi => h i (by omega))]
    have := h n (by omega)
    rw [Nat.div_eq_of_lt (show v n < 2 ^ 8 from this)]
    simp
theorem sm_end (p : Nat → Bool) (v : Nat → Nat) : fb_sm (fun i => if p i then v i / 2 ^ 0 else 0) 64 = smA p v := fb_sm_cong (fun i _ => by rw [Nat.pow_zero, Nat.div_one])
/-! ranks by digits -/
def rkI (p : Nat → Bool) (v : Nat → Nat) (q n1 : Nat) (rows : Int64) (q1 v1 : Nat) : Prop :=
  ∃ h, h < 2 ^ (8 - n1) ∧ v1 = 2 ^ n1 * h ∧ (∀ i, i < 64 → lb rows i = (p i && decide (v i / 2 ^ n1 = h))) ∧ q = fb_ct (fun i => p i && decide (v i / 2 ^ n1 < h)) 64 + q1 ∧ q1 < fb_ct (fun i => p i && decide (v i / 2 ^ n1 = h)) 64
theorem rkI_0 {p : Nat → Bool} {v : Nat → Nat} {q : Nat} {rows : Int64} (hv : ∀ i, i < 64 → v i < 256) (hr : ∀ i, i < 64 → lb rows i = p i) (hq : q < fb_ct p 64) : rkI p v q 8 rows q 0 := by
  have e1 : ∀ i, i < 64 → v i / 2 ^ 8 = 0 := fun i hi => Nat.div_eq_of_lt (hv i hi)
  refine ⟨0, by decide, rfl, fun i hi => ?_, ?_, ?_⟩
  · rw [hr i hi, e1 i hi]
    simp
  · have : fb_ct (fun i => p i && decide (v i / 2 ^ 8 < 0)) 64 = 0 := fb_ct_zero.mpr (fun i hi => by simp)
    omega
  · have : fb_ct (fun i => p i && decide (v i / 2 ^ 8 = 0)) 64 = fb_ct p 64 := fb_ct_cong (fun i hi => by rw [e1 i hi]; simp)
    rw [this]
    exact hq
theorem rk_zeros {p : Nat → Bool} {v : Nat → Nat} {b h : Nat} {rows sli : Int64} (hr : ∀ i, i < 64 → lb rows i = (p i && decide (v i / 2 ^ (b + 1) = h))) (hs : ∀ i, i < 64 → lb sli i = (v i).testBit b) : ∀ i, i < 64 → lb (rows &&& (sli ^^^ (-1))) i = (p i && decide (v i / 2 ^ b = 2 * h)) := by
  intro i hi
  have d := dg_eq (v i) b
  rw [lb_and, lb_not _ hi, hr i hi, hs i hi, tb_eq]
  cases p i with
  | false => rfl
  | true =>
    rw [Bool.eq_iff_iff]
    simp only [Bool.true_and, Bool.and_eq_true, Bool.not_eq_true', decide_eq_true_eq, decide_eq_false_iff_not]
    omega
theorem rk_onesS {p : Nat → Bool} {v : Nat → Nat} {b h : Nat} {rows sli : Int64} (hr : ∀ i, i < 64 → lb rows i = (p i && decide (v i / 2 ^ (b + 1) = h))) (hs : ∀ i, i < 64 → lb sli i = (v i).testBit b) : ∀ i, i < 64 → lb (rows &&& sli) i = (p i && decide (v i / 2 ^ b = 2 * h + 1)) := by
  intro i hi
  have d := dg_eq (v i) b
  rw [lb_and, hr i hi, hs i hi, tb_eq]
  cases p i with
  | false => rfl
  | true =>
    rw [Bool.eq_iff_iff]
    simp only [Bool.true_and, Bool.and_eq_true, Bool.not_eq_true', decide_eq_true_eq, decide_eq_false_iff_not]
    omega
theorem rkI_z {p : Nat → Bool} {v : Nat → Nat} {q b q1 v1 : Nat} {rows sli : Int64} (hb : b < 8) (hI : rkI p v q (b + 1) rows q1 v1) (hs : ∀ i, i < 64 → lb sli i = (v i).testBit b) (hl : q1 < popc (rows &&& (sli ^^^ (-1)))) : rkI p v q b (rows &&& (sli ^^^ (-1))) q1 v1 := by
  obtain ⟨h, hh, hv, hr, hq, hq1⟩ := hI
  have hz := rk_zeros hr hs
  rw [popc_sel hz] at hl
  refine ⟨2 * h, ?_, ?_, hz, ?_, hl⟩
  · have e : 8 - b = (8 - (b + 1)) + 1 := by omega
    rw [e, Nat.pow_succ]
    omega
  · rw [hv, Nat.pow_succ, Nat.mul_assoc]
  · rw [hq]
    congr 1
    refine fb_ct_cong (fun i hi => ?_)
    have d := dg_eq (v i) b
    congr 1
    rw [Bool.eq_iff_iff]
    simp only [decide_eq_true_eq]
    omega
theorem rkI_o {p : Nat → Bool} {v : Nat → Nat} {q b q1 v1 : Nat} {rows sli : Int64} (hb : b < 8) (hI : rkI p v q (b + 1) rows q1 v1) (hs : ∀ i, i < 64 → lb sli i = (v i).testBit b) (hl : popc (rows &&& (sli ^^^ (-1))) ≤ q1) : rkI p v q b (rows &&& sli) (q1 - popc (rows &&& (sli ^^^ (-1)))) (v1 + 2 ^ b) := by
  obtain ⟨h, hh, hv, hr, hq, hq1⟩ := hI
  have hz := rk_zeros hr hs
  have ho := rk_onesS hr hs
  rw [popc_sel hz] at hl ⊢
  have c1 : fb_ct (fun i => p i && decide (v i / 2 ^ (b + 1) = h)) 64 = fb_ct (fun i => p i && decide (v i / 2 ^ b = 2 * h)) 64 + fb_ct (fun i => p i && decide (v i / 2 ^ b = 2 * h + 1)) 64 := by
    rw [← fb_ct_or (fun k _ => by simp only [Bool.and_eq_true, decide_eq_true_eq]; omega)]
    refine fb_ct_cong (fun i hi => ?_)
    have d := dg_eq (v i) b
    rw [Bool.eq_iff_iff]
    simp only [Bool.or_eq_true, Bool.and_eq_true, decide_eq_true_eq]
    constructor
    · intro ⟨a, e⟩
      have : v i / 2 ^ b = 2 * h ∨ v i / 2 ^ b = 2 * h + 1 := by omega
      rcases this with t | t
      · exact Or.inl ⟨a, t⟩
      · exact Or.inr ⟨a, t⟩
    · intro t
      rcases t with ⟨a, t⟩ | ⟨a, t⟩
      · exact ⟨a, by omega⟩
      · exact ⟨a, by omega⟩
  have c2 : fb_ct (fun i => p i && decide (v i / 2 ^ b < 2 * h + 1)) 64 = fb_ct (fun i => p i && decide (v i / 2 ^ (b + 1) < h)) 64 + fb_ct (fun i => p i && decide (v i / 2 ^ b = 2 * h)) 64 := by
    rw [← fb_ct_or (fun k _ => by
      have d := dg_eq (v k) b
      simp only [Bool.and_eq_true, decide_eq_true_eq]
      omega)]
    refine fb_ct_cong (fun i hi => ?_)
    have d := dg_eq (v i) b
    rw [Bool.eq_iff_iff]
    simp only [Bool.or_eq_true, Bool.and_eq_true, decide_eq_true_eq]
    constructor
    · intro ⟨a, e⟩
      have : v i / 2 ^ (b + 1) < h ∨ v i / 2 ^ b = 2 * h := by omega
      rcases this with t | t
      · exact Or.inl ⟨a, t⟩
      · exact Or.inr ⟨a, t⟩
    · intro t
      rcases t with ⟨a, t⟩ | ⟨a, t⟩
      · exact ⟨a, by omega⟩
      · exact ⟨a, by omega⟩
  refine ⟨2 * h + 1, ?_, ?_, ho, ?_, ?_⟩
  · have e : 8 - b = (8 - (b + 1)) + 1 := by omega
    rw [e, Nat.pow_succ]
    omega
  · rw [hv, Nat.pow_succ, Nat.mul_assoc, Nat.mul_add, Nat.mul_one]
  · rw [c2, hq]
    omega
  · omega
theorem ltA_succ (p : Nat → Bool) (v : Nat → Nat) (w : Nat) : ltA p v (w + 1) = ltA p v w + fb_ct (fun i => p i && decide (v i = w)) 64 := by
  unfold ltA
  rw [← fb_ct_or (fun k _ => by simp only [Bool.and_eq_true, decide_eq_true_eq]; omega)]
  refine fb_ct_cong (fun i hi => ?_)
  cases p i with
  | false => rfl
  | true =>
    rw [Bool.eq_iff_iff]
    simp only [Bool.true_and, Bool.or_eq_true, decide_eq_true_eq]
    omega
theorem rkI_end {p : Nat → Bool} {v : Nat → Nat} {q q1 v1 : Nat} {rows : Int64} (hq31 : q < 2 ^ 31) (hI : rkI p v q 0 rows q1 v1) : rkA p v (nI q) (nI v1) := by
  obtain ⟨h, hh, hv, hr, hq, hq1⟩ := hI
  have e1 : fb_ct (fun i => p i && decide (v i / 2 ^ 0 < h)) 64 = ltA p v h := fb_ct_cong (fun i _ => by rw [Nat.pow_zero, Nat.div_one])
  have e2 : fb_ct (fun i => p i && decide (v i / 2 ^ 0 = h)) 64 = fb_ct (fun i => p i && decide (v i = h)) 64 := fb_ct_cong (fun i _ => by rw [Nat.pow_zero, Nat.div_one])
  rw [e1] at hq
  rw [e2] at hq1
  have e3 := ltA_succ p v h
  have hv : v1 = h := by rw [hv, Nat.pow_zero, Nat.one_mul]
  subst hv
  exact Or.inr ⟨q, v1, hq31, rfl, hh, by omega, by omega, rfl⟩
theorem orI (a b : Nat) : nI a ||| nI b = nI (a ||| b) := by
  apply Int32.toBitVec_inj.mp
  rw [Int32.toBitVec_or]
  show BitVec.ofNat 32 a ||| BitVec.ofNat 32 b = BitVec.ofNat 32 (a ||| b)
  apply BitVec.eq_of_toNat_eq
  rw [BitVec.toNat_or, BitVec.toNat_ofNat, BitVec.toNat_ofNat, BitVec.toNat_ofNat, Nat.or_mod_two_pow]
theorem or_bit {p : Nat → Bool} {v : Nat → Nat} {q b q1 v1 : Nat} {rows : Int64} (hb : b < 8) (hI : rkI p v q (b + 1) rows q1 v1) : nI v1 ||| (nI 1 <<< (nI b &&& 31)) = nI (v1 + 2 ^ b) := by
  obtain ⟨h, hh, hv, -⟩ := hI
  have hp : 2 ^ b < 2 ^ (b + 1) := Nat.pow_lt_pow_right (by decide) (by omega)
  have h8 : 2 ^ b ≤ 2 ^ 8 := Nat.pow_le_pow_right (by decide) (by omega)
  rw [pk_shlN (n := 1) (nI b &&& 31) b (s_l b (by omega)) (by omega), orI, Nat.one_mul, hv, ← Nat.two_pow_add_eq_or_of_lt hp]
end
section
set_option maxHeartbeats 4000000 in
set_option maxRecDepth 100000 in
theorem metX0_workOut {l : Launch} {D : va_G} {ad : Nat → Nat} {cA : Nat → ClassId} {pr : Int64} {sl : Nat → Int64} {cn : Int32} {so fi se ho co : Nat → Int32} {mt : Nat → Int64} {fr : Nat → Int32} {tl : Nat → Int64} {le ee : Int64} {ss hv : Nat → Int64} (ha : apt 12 ad) {vl : Nat → Nat → Nat} (hsl : SLok vl sl) {n : Nat} {cd : cdT} (hcd : CDok n cd so fi se ho co) (hvd : CDv n cd) {k : Nat} (hk : k < n) : Met l yX0_workOut (ws_ yX0_workOut cX0_workOut 6 (some .long)) (rmK 1) (PcW D (tX cA) (wX ad cA pr sl cn so fi se ho co mt fr tl le ee ss hv) [.ref (ad 0), .int (nI k)]) (va_Ql (fun (r : Int64) (u : (Nat → Int64) × Int64 × Int64) => ∀ i, i < 64 → lb r i = stB (vl i) (fun j => lb (mt j) i) (cd k)) (fun u t => va_P D vwCl (wX ad cA pr sl cn so fi se ho co mt fr u.1 u.2.1 u.2.2 ss hv) t.heap) (AdX 12 ad)) 0 0 (AdX 12 ad) := by
  refine en_l (own := RX0) (by decide) rfl (Nat.le_of_ble_eq_true rfl) ?_
  intro p e s m below meth c R Q ls hR hC hK hP hl hret
  subst hR
  obtain ⟨hx, hb, hml, hown, hts, hr, hlocks⟩ := id hC
  have hS : va_S (AdX 12 ad) s.heap s.heap [] := va_S.rf
  have hl : lv_has ls 6 [(0, .ref (ad 0)), (1, .int (nI k))] := hl
  have hn16 : n ≤ 16 := hvd.1
  obtain ⟨kd, lf, rt, hw, ks, hq⟩ : ∃ kd lf rt hw ks, cd k = (kd, lf, rt, hw, ks) := ⟨_, _, _, _, _, rfl⟩
  have he := hcd k hk
  have hvk := hvd.2 k hk
  rw [hq] at he hvk
  obtain ⟨e1, e2, e3, e4, e5⟩ := he
  have e1 : so k = nI kd := e1
  have e2 : fi k = nI lf := e2
  have e3 : se k = nI rt := e3
  have e4 : ho k = nI hw := e4
  have e5 : co k = ks := e5
  dsimp only at hvk
  refine lv_aload_n hx hb dX0_workOut_0 rfl (lv_at hl 0 rfl) ?_
  refine va_get (D := D) (ci := 0) (v := .ref (ad 2)) (C := RX0) (T := TX0) (N := 15) hx hb hts in_X0 hown hK hP 0 rfl rfl 3 (by decide) (hts _ q30) (fun _ h9 => h9) rfl dX0_workOut_1 ?_
  refine lv_iload_n hx hb dX0_workOut_4 rfl (lv_at hl 1 rfl) ?_
  refine ra_iald hx hb hK hP 2 1 rfl rfl (by omega) (by decide) dX0_workOut_5 ?_
  rw [show (so k : Int32) = nI kd from e1]
  refine lv_iconst (v := nI 3) hx hb dX0_workOut_6 (by decide) ?_
  refine ra_icmp_ne (tgt := 94) hx hb (by omega) (by omega) dX0_workOut_7 (by decide) (fun c1 => ?_) (fun c1 => ?_)
  · have _h : True := trivial
    have hj : kd ≤ 2 ∧ lf ≤ 2 ∧ rt ≤ 2 ∧ hw ≤ 5 := by omega
    refine lv_aload_n hx hb dX0_workOut_94 rfl (lv_at hl 0 rfl) ?_
    refine va_get (D := D) (ci := 0) (v := .ref (ad 2)) (C := RX0) (T := TX0) (N := 15) hx hb hts in_X0 hown hK hP 0 rfl rfl 3 (by decide) (hts _ q30) (fun _ h9 => h9) rfl dX0_workOut_95 ?_
    refine lv_iload_n hx hb dX0_workOut_98 rfl (lv_at hl 1 rfl) ?_
    refine ra_iald hx hb hK hP 2 1 rfl rfl (by omega) (by decide) dX0_workOut_99 ?_
    rw [show (so k : Int32) = nI kd from e1]
    refine ra_if_ne (tgt := 126) hx hb (by omega) dX0_workOut_100 (by decide) (fun c2 => ?_) (fun c2 => ?_)
    · have _h : True := trivial
      refine lv_aload_n hx hb dX0_workOut_126 rfl (lv_at hl 0 rfl) ?_
      refine va_get (D := D) (ci := 0) (v := .ref (ad 2)) (C := RX0) (T := TX0) (N := 15) hx hb hts in_X0 hown hK hP 0 rfl rfl 3 (by decide) (hts _ q30) (fun _ h9 => h9) rfl dX0_workOut_127 ?_
      refine lv_iload_n hx hb dX0_workOut_130 rfl (lv_at hl 1 rfl) ?_
      refine ra_iald hx hb hK hP 2 1 rfl rfl (by omega) (by decide) dX0_workOut_131 ?_
      rw [show (so k : Int32) = nI kd from e1]
      refine lv_iconst (v := nI 1) hx hb dX0_workOut_132 (by decide) ?_
      refine ra_icmp_ne (tgt := 155) hx hb (by omega) (by omega) dX0_workOut_133 (by decide) (fun c3 => ?_) (fun c3 => ?_)
      · have _h : True := trivial
        obtain rfl : kd = 2 := by omega
        refine lv_aload_n hx hb dX0_workOut_155 rfl (lv_at hl 0 rfl) ?_
        refine lv_aload_n hx hb dX0_workOut_156 rfl (lv_at hl 0 rfl) ?_
        refine va_get (D := D) (ci := 0) (v := .ref (ad 3)) (C := RX0) (T := TX0) (N := 15) hx hb hts in_X0 hown hK hP 0 rfl rfl 4 (by decide) (hts _ q31) (fun _ h9 => h9) rfl dX0_workOut_157 ?_
        refine lv_iload_n hx hb dX0_workOut_160 rfl (lv_at hl 1 rfl) ?_
        refine ra_iald hx hb hK hP 3 2 rfl rfl (by omega) (by decide) dX0_workOut_161 ?_
        rw [show (fi k : Int32) = nI lf from e2]
        refine lv_aload_n hx hb dX0_workOut_162 rfl (lv_at hl 0 rfl) ?_
        refine va_get (D := D) (ci := 0) (v := .ref (ad 4)) (C := RX0) (T := TX0) (N := 15) hx hb hts in_X0 hown hK hP 0 rfl rfl 5 (by decide) (hts _ q32) (fun _ h9 => h9) rfl dX0_workOut_163 ?_
        refine lv_iload_n hx hb dX0_workOut_166 rfl (lv_at hl 1 rfl) ?_
        refine ra_iald hx hb hK hP 4 3 rfl rfl (by omega) (by decide) dX0_workOut_167 ?_
        rw [show (se k : Int32) = nI rt from e3]
        refine ca_v (As := [.int (nI lf), .int (nI rt)]) (rest := []) hC (metX0_addColumns ha hsl (ka := lf) (kb := rt) (by omega) (by omega)) (cwV 2 hts (lw_V q148 q150 qs9 q17 q151) rfl rfl rfl (by decide +kernel) ⟨Nat.le_of_ble_eq_true rfl, Nat.le_of_ble_eq_true rfl⟩) hK hP (va_recv hK hP (ci := 0) (q0 := 0) rfl rfl) rfl hl.1 rfl (Nat.le_of_ble_eq_true rfl) dX0_workOut_168 ⟨Nat.zero_le _, Nat.zero_le _⟩ hS (fun _ h => h) (fun u1 H locs hq1 hP hk1 hS => ?_)
        have hP : va_P D vwCl (wX ad cA pr sl cn so fi se ho co mt fr u1 le ee ss hv) H := hP
        refine lv_aload_n hx hb dX0_workOut_171 rfl (lv_at hl 0 rfl) ?_
        refine lv_aload_n hx hb dX0_workOut_172 rfl (lv_at hl 0 rfl) ?_
        refine va_get (D := D) (ci := 0) (v := .ref (ad 6)) (C := RX0) (T := TX0) (N := 15) hx hb hts in_X0 hown hK hP 0 rfl rfl 7 (by decide) (hts _ q34) (fun _ h9 => h9) rfl dX0_workOut_173 ?_
        refine lv_iload_n hx hb dX0_workOut_176 rfl (lv_at hl 1 rfl) ?_
        refine ra_iald hx hb hK hP 6 5 rfl rfl (by omega) (by decide) dX0_workOut_177 ?_
        rw [show (co k : Int32) = ks from e5]
        refine ca_v (As := [.int ks]) (rest := []) hC (metX0_compareWithConstant ha (TT := fun i => vl i lf + vl i rt) (ad_T (by omega) (by omega) hsl hq1) ks) (cwV 1 hts (lw_V q140 q142 qs7 q17 q143) rfl rfl rfl (by decide +kernel) ⟨Nat.le_of_ble_eq_true rfl, Nat.le_of_ble_eq_true rfl⟩) hK hP (va_recv hK hP (ci := 0) (q0 := 0) rfl rfl) rfl hl.1 rfl (Nat.le_of_ble_eq_true rfl) dX0_workOut_178 ⟨Nat.zero_le _, Nat.zero_le _⟩ hS (fun _ h => h) (fun u2 H locs hq2 hP hk2 hS => ?_)
        have hP : va_P D vwCl (wX ad cA pr sl cn so fi se ho co mt fr u1 u2.1 u2.2 ss hv) H := hP
        refine lv_aload_n hx hb dX0_workOut_181 rfl (lv_at hl 0 rfl) ?_
        refine lv_aload_n hx hb dX0_workOut_182 rfl (lv_at hl 0 rfl) ?_
        refine va_get (D := D) (ci := 0) (v := .ref (ad 5)) (C := RX0) (T := TX0) (N := 15) hx hb hts in_X0 hown hK hP 0 rfl rfl 6 (by decide) (hts _ q33) (fun _ h9 => h9) rfl dX0_workOut_183 ?_
        refine lv_iload_n hx hb dX0_workOut_186 rfl (lv_at hl 1 rfl) ?_
        refine ra_iald hx hb hK hP 5 4 rfl rfl (by omega) (by decide) dX0_workOut_187 ?_
        rw [show (ho k : Int32) = nI hw from e4]
        refine ca_l (As := [.int (nI hw)]) (rest := []) hC (metX0_chosen ha (h := hw) (by omega)) (cwV 1 hts (lw_V q152 q154 qs10 q17 q155) rfl rfl rfl (by decide +kernel) ⟨Nat.le_of_ble_eq_true rfl, Nat.le_of_ble_eq_true rfl⟩) hK hP (va_recv hK hP (ci := 0) (q0 := 0) rfl rfl) rfl hl.1 rfl (Nat.le_of_ble_eq_true rfl) dX0_workOut_188 ⟨Nat.zero_le _, Nat.zero_le _⟩ hS (fun _ h => h) (fun r9 u9 H locs hq9 hP hk9 hS => ?_)
        exact hret _ (u1, u2.1, u2.2) _ _ _ _ dX0_workOut_191 hP hS (wo_2 hq hq2 hq9)
      · have _h : True := trivial
        subst c3
        refine lv_aload_n hx hb dX0_workOut_136 rfl (lv_at hl 0 rfl) ?_
        refine lv_aload_n hx hb dX0_workOut_137 rfl (lv_at hl 0 rfl) ?_
        refine va_get (D := D) (ci := 0) (v := .ref (ad 3)) (C := RX0) (T := TX0) (N := 15) hx hb hts in_X0 hown hK hP 0 rfl rfl 4 (by decide) (hts _ q31) (fun _ h9 => h9) rfl dX0_workOut_138 ?_
        refine lv_iload_n hx hb dX0_workOut_141 rfl (lv_at hl 1 rfl) ?_
        refine ra_iald hx hb hK hP 3 2 rfl rfl (by omega) (by decide) dX0_workOut_142 ?_
        rw [show (fi k : Int32) = nI lf from e2]
        refine lv_aload_n hx hb dX0_workOut_143 rfl (lv_at hl 0 rfl) ?_
        refine va_get (D := D) (ci := 0) (v := .ref (ad 4)) (C := RX0) (T := TX0) (N := 15) hx hb hts in_X0 hown hK hP 0 rfl rfl 5 (by decide) (hts _ q32) (fun _ h9 => h9) rfl dX0_workOut_144 ?_
        refine lv_iload_n hx hb dX0_workOut_147 rfl (lv_at hl 1 rfl) ?_
        refine ra_iald hx hb hK hP 4 3 rfl rfl (by omega) (by decide) dX0_workOut_148 ?_
        rw [show (se k : Int32) = nI rt from e3]
        refine ca_v (As := [.int (nI lf), .int (nI rt)]) (rest := []) hC (metX0_compareColumns ha hsl (ka := lf) (kb := rt) (by omega) (by omega)) (cwV 2 hts (lw_V q144 q146 qs8 q17 q147) rfl rfl rfl (by decide +kernel) ⟨Nat.le_of_ble_eq_true rfl, Nat.le_of_ble_eq_true rfl⟩) hK hP (va_recv hK hP (ci := 0) (q0 := 0) rfl rfl) rfl hl.1 rfl (Nat.le_of_ble_eq_true rfl) dX0_workOut_149 ⟨Nat.zero_le _, Nat.zero_le _⟩ hS (fun _ h => h) (fun u1 H locs hq1 hP hk1 hS => ?_)
        have hP : va_P D vwCl (wX ad cA pr sl cn so fi se ho co mt fr tl u1.1 u1.2 ss hv) H := hP
        refine lv_goto (tgt := 181) hx hb dX0_workOut_152 (by decide) ?_
        refine lv_aload_n hx hb dX0_workOut_181 rfl (lv_at hl 0 rfl) ?_
        refine lv_aload_n hx hb dX0_workOut_182 rfl (lv_at hl 0 rfl) ?_
        refine va_get (D := D) (ci := 0) (v := .ref (ad 5)) (C := RX0) (T := TX0) (N := 15) hx hb hts in_X0 hown hK hP 0 rfl rfl 6 (by decide) (hts _ q33) (fun _ h9 => h9) rfl dX0_workOut_183 ?_
        refine lv_iload_n hx hb dX0_workOut_186 rfl (lv_at hl 1 rfl) ?_
        refine ra_iald hx hb hK hP 5 4 rfl rfl (by omega) (by decide) dX0_workOut_187 ?_
        rw [show (ho k : Int32) = nI hw from e4]
        refine ca_l (As := [.int (nI hw)]) (rest := []) hC (metX0_chosen ha (h := hw) (by omega)) (cwV 1 hts (lw_V q152 q154 qs10 q17 q155) rfl rfl rfl (by decide +kernel) ⟨Nat.le_of_ble_eq_true rfl, Nat.le_of_ble_eq_true rfl⟩) hK hP (va_recv hK hP (ci := 0) (q0 := 0) rfl rfl) rfl hl.1 rfl (Nat.le_of_ble_eq_true rfl) dX0_workOut_188 ⟨Nat.zero_le _, Nat.zero_le _⟩ hS (fun _ h => h) (fun r9 u9 H locs hq9 hP hk9 hS => ?_)
        exact hret _ (tl, u1.1, u1.2) _ _ _ _ dX0_workOut_191 hP hS (wo_1 hq hq1 hq9)
    · have _h : True := trivial
      subst c2
      refine lv_aload_n hx hb dX0_workOut_103 rfl (lv_at hl 0 rfl) ?_
      refine lv_aload_n hx hb dX0_workOut_104 rfl (lv_at hl 0 rfl) ?_
      refine va_get (D := D) (ci := 0) (v := .ref (ad 3)) (C := RX0) (T := TX0) (N := 15) hx hb hts in_X0 hown hK hP 0 rfl rfl 4 (by decide) (hts _ q31) (fun _ h9 => h9) rfl dX0_workOut_105 ?_
      refine lv_iload_n hx hb dX0_workOut_108 rfl (lv_at hl 1 rfl) ?_
      refine ra_iald hx hb hK hP 3 2 rfl rfl (by omega) (by decide) dX0_workOut_109 ?_
      rw [show (fi k : Int32) = nI lf from e2]
      refine ca_v (As := [.int (nI lf)]) (rest := []) hC (metX0_takeColumn ha (k := lf) (by omega)) (cwV 1 hts (lw_V q136 q138 qs6 q17 q139) rfl rfl rfl (by decide +kernel) ⟨Nat.le_of_ble_eq_true rfl, Nat.le_of_ble_eq_true rfl⟩) hK hP (va_recv hK hP (ci := 0) (q0 := 0) rfl rfl) rfl hl.1 rfl (Nat.le_of_ble_eq_true rfl) dX0_workOut_110 ⟨Nat.zero_le _, Nat.zero_le _⟩ hS (fun _ h => h) (fun u1 H locs hq1 hP hk1 hS => ?_)
      have hP : va_P D vwCl (wX ad cA pr sl cn so fi se ho co mt fr u1 le ee ss hv) H := hP
      refine lv_aload_n hx hb dX0_workOut_113 rfl (lv_at hl 0 rfl) ?_
      refine lv_aload_n hx hb dX0_workOut_114 rfl (lv_at hl 0 rfl) ?_
      refine va_get (D := D) (ci := 0) (v := .ref (ad 6)) (C := RX0) (T := TX0) (N := 15) hx hb hts in_X0 hown hK hP 0 rfl rfl 7 (by decide) (hts _ q34) (fun _ h9 => h9) rfl dX0_workOut_115 ?_
      refine lv_iload_n hx hb dX0_workOut_118 rfl (lv_at hl 1 rfl) ?_
      refine ra_iald hx hb hK hP 6 5 rfl rfl (by omega) (by decide) dX0_workOut_119 ?_
      rw [show (co k : Int32) = ks from e5]
      refine ca_v (As := [.int ks]) (rest := []) hC (metX0_compareWithConstant ha (TT := fun i => vl i lf) (tk_T (by omega) hsl hq1) ks) (cwV 1 hts (lw_V q140 q142 qs7 q17 q143) rfl rfl rfl (by decide +kernel) ⟨Nat.le_of_ble_eq_true rfl, Nat.le_of_ble_eq_true rfl⟩) hK hP (va_recv hK hP (ci := 0) (q0 := 0) rfl rfl) rfl hl.1 rfl (Nat.le_of_ble_eq_true rfl) dX0_workOut_120 ⟨Nat.zero_le _, Nat.zero_le _⟩ hS (fun _ h => h) (fun u2 H locs hq2 hP hk2 hS => ?_)
      have hP : va_P D vwCl (wX ad cA pr sl cn so fi se ho co mt fr u1 u2.1 u2.2 ss hv) H := hP
      refine lv_goto (tgt := 181) hx hb dX0_workOut_123 (by decide) ?_
      refine lv_aload_n hx hb dX0_workOut_181 rfl (lv_at hl 0 rfl) ?_
      refine lv_aload_n hx hb dX0_workOut_182 rfl (lv_at hl 0 rfl) ?_
      refine va_get (D := D) (ci := 0) (v := .ref (ad 5)) (C := RX0) (T := TX0) (N := 15) hx hb hts in_X0 hown hK hP 0 rfl rfl 6 (by decide) (hts _ q33) (fun _ h9 => h9) rfl dX0_workOut_183 ?_
      refine lv_iload_n hx hb dX0_workOut_186 rfl (lv_at hl 1 rfl) ?_
      refine ra_iald hx hb hK hP 5 4 rfl rfl (by omega) (by decide) dX0_workOut_187 ?_
      rw [show (ho k : Int32) = nI hw from e4]
      refine ca_l (As := [.int (nI hw)]) (rest := []) hC (metX0_chosen ha (h := hw) (by omega)) (cwV 1 hts (lw_V q152 q154 qs10 q17 q155) rfl rfl rfl (by decide +kernel) ⟨Nat.le_of_ble_eq_true rfl, Nat.le_of_ble_eq_true rfl⟩) hK hP (va_recv hK hP (ci := 0) (q0 := 0) rfl rfl) rfl hl.1 rfl (Nat.le_of_ble_eq_true rfl) dX0_workOut_188 ⟨Nat.zero_le _, Nat.zero_le _⟩ hS (fun _ h => h) (fun r9 u9 H locs hq9 hP hk9 hS => ?_)
      exact hret _ (u1, u2.1, u2.2) _ _ _ _ dX0_workOut_191 hP hS (wo_0 hq hq2 hq9)
  · have _h : True := trivial
    subst c1
    have hj : lf < k ∧ rt < k ∧ hw ≤ 3 := by omega
    refine lv_aload_n hx hb dX0_workOut_10 rfl (lv_at hl 0 rfl) ?_
    refine va_get (D := D) (ci := 0) (v := .ref (ad 7)) (C := RX0) (T := TX0) (N := 15) hx hb hts in_X0 hown hK hP 0 rfl rfl 8 (by decide) (hts _ q35) (fun _ h9 => h9) rfl dX0_workOut_11 ?_
    refine lv_aload_n hx hb dX0_workOut_14 rfl (lv_at hl 0 rfl) ?_
    refine va_get (D := D) (ci := 0) (v := .ref (ad 3)) (C := RX0) (T := TX0) (N := 15) hx hb hts in_X0 hown hK hP 0 rfl rfl 4 (by decide) (hts _ q31) (fun _ h9 => h9) rfl dX0_workOut_15 ?_
    refine lv_iload_n hx hb dX0_workOut_18 rfl (lv_at hl 1 rfl) ?_
    refine ra_iald hx hb hK hP 3 2 rfl rfl (by omega) (by decide) dX0_workOut_19 ?_
    rw [show (fi k : Int32) = nI lf from e2]
    refine ra_lald hx hb hK hP 7 6 rfl rfl (by omega) (by decide) dX0_workOut_20 ?_
    refine lv_lstore_n (lv' := [(2, .long (mt lf)), (0, .ref (ad 0)), (1, .int (nI k))]) hx hb dX0_workOut_21 rfl hl (by decide) rfl (fun ls hl => ?_)
    refine lv_aload_n hx hb dX0_workOut_22 rfl (lv_at hl 1 rfl) ?_
    refine va_get (D := D) (ci := 0) (v := .ref (ad 7)) (C := RX0) (T := TX0) (N := 15) hx hb hts in_X0 hown hK hP 0 rfl rfl 8 (by decide) (hts _ q35) (fun _ h9 => h9) rfl dX0_workOut_23 ?_
    refine lv_aload_n hx hb dX0_workOut_26 rfl (lv_at hl 1 rfl) ?_
    refine va_get (D := D) (ci := 0) (v := .ref (ad 4)) (C := RX0) (T := TX0) (N := 15) hx hb hts in_X0 hown hK hP 0 rfl rfl 5 (by decide) (hts _ q32) (fun _ h9 => h9) rfl dX0_workOut_27 ?_
    refine lv_iload_n hx hb dX0_workOut_30 rfl (lv_at hl 2 rfl) ?_
    refine ra_iald hx hb hK hP 4 3 rfl rfl (by omega) (by decide) dX0_workOut_31 ?_
    rw [show (se k : Int32) = nI rt from e3]
    refine ra_lald hx hb hK hP 7 6 rfl rfl (by omega) (by decide) dX0_workOut_32 ?_
    refine lv_lstore (lv' := [(4, .long (mt rt)), (2, .long (mt lf)), (0, .ref (ad 0)), (1, .int (nI k))]) hx hb dX0_workOut_33 hl (by decide) rfl (fun ls hl => ?_)
    refine lv_aload_n hx hb dX0_workOut_35 rfl (lv_at hl 2 rfl) ?_
    refine va_get (D := D) (ci := 0) (v := .ref (ad 5)) (C := RX0) (T := TX0) (N := 15) hx hb hts in_X0 hown hK hP 0 rfl rfl 6 (by decide) (hts _ q33) (fun _ h9 => h9) rfl dX0_workOut_36 ?_
    refine lv_iload_n hx hb dX0_workOut_39 rfl (lv_at hl 3 rfl) ?_
    refine ra_iald hx hb hK hP 5 4 rfl rfl (by omega) (by decide) dX0_workOut_40 ?_
    rw [show (ho k : Int32) = nI hw from e4]
    refine ra_if_ne (tgt := 51) hx hb (by omega) dX0_workOut_41 (by decide) (fun c2 => ?_) (fun c2 => ?_)
    · have _h : True := trivial
      refine lv_aload_n hx hb dX0_workOut_51 rfl (lv_at hl 2 rfl) ?_
      refine va_get (D := D) (ci := 0) (v := .ref (ad 5)) (C := RX0) (T := TX0) (N := 15) hx hb hts in_X0 hown hK hP 0 rfl rfl 6 (by decide) (hts _ q33) (fun _ h9 => h9) rfl dX0_workOut_52 ?_
      refine lv_iload_n hx hb dX0_workOut_55 rfl (lv_at hl 3 rfl) ?_
      refine ra_iald hx hb hK hP 5 4 rfl rfl (by omega) (by decide) dX0_workOut_56 ?_
      rw [show (ho k : Int32) = nI hw from e4]
      refine lv_iconst (v := nI 1) hx hb dX0_workOut_57 (by decide) ?_
      refine ra_icmp_ne (tgt := 68) hx hb (by omega) (by omega) dX0_workOut_58 (by decide) (fun c3 => ?_) (fun c3 => ?_)
      · have _h : True := trivial
        refine lv_aload_n hx hb dX0_workOut_68 rfl (lv_at hl 2 rfl) ?_
        refine va_get (D := D) (ci := 0) (v := .ref (ad 5)) (C := RX0) (T := TX0) (N := 15) hx hb hts in_X0 hown hK hP 0 rfl rfl 6 (by decide) (hts _ q33) (fun _ h9 => h9) rfl dX0_workOut_69 ?_
        refine lv_iload_n hx hb dX0_workOut_72 rfl (lv_at hl 3 rfl) ?_
        refine ra_iald hx hb hK hP 5 4 rfl rfl (by omega) (by decide) dX0_workOut_73 ?_
        rw [show (ho k : Int32) = nI hw from e4]
        refine lv_iconst (v := nI 2) hx hb dX0_workOut_74 (by decide) ?_
        refine ra_icmp_ne (tgt := 85) hx hb (by omega) (by omega) dX0_workOut_75 (by decide) (fun c4 => ?_) (fun c4 => ?_)
        · have _h : True := trivial
          refine lv_lload_n hx hb dX0_workOut_85 rfl (lv_at hl 1 rfl) ?_
          refine lv_lload hx hb dX0_workOut_86 (lv_at hl 0 rfl) ?_
          refine lv_ldc2 hx hb hown (hts _ q84) dX0_workOut_88 ?_
          refine lv_lxor hx hb dX0_workOut_91 ?_
          refine lv_land hx hb dX0_workOut_92 ?_
          exact hret _ (tl, le, ee) _ _ _ _ dX0_workOut_93 hP hS (wo_join hq (by simp [jnL, c2, c3, c4]))
        · have _h : True := trivial
          refine lv_lload_n hx hb dX0_workOut_78 rfl (lv_at hl 1 rfl) ?_
          refine lv_lload hx hb dX0_workOut_79 (lv_at hl 0 rfl) ?_
          refine lv_lxor hx hb dX0_workOut_81 ?_
          refine lv_goto (tgt := 93) hx hb dX0_workOut_82 (by decide) ?_
          exact hret _ (tl, le, ee) _ _ _ _ dX0_workOut_93 hP hS (wo_join hq (by subst c4; rfl))
      · have _h : True := trivial
        refine lv_lload_n hx hb dX0_workOut_61 rfl (lv_at hl 1 rfl) ?_
        refine lv_lload hx hb dX0_workOut_62 (lv_at hl 0 rfl) ?_
        refine lv_lor hx hb dX0_workOut_64 ?_
        refine lv_goto (tgt := 93) hx hb dX0_workOut_65 (by decide) ?_
        exact hret _ (tl, le, ee) _ _ _ _ dX0_workOut_93 hP hS (wo_join hq (by subst c3; rfl))
    · have _h : True := trivial
      refine lv_lload_n hx hb dX0_workOut_44 rfl (lv_at hl 1 rfl) ?_
      refine lv_lload hx hb dX0_workOut_45 (lv_at hl 0 rfl) ?_
      refine lv_land hx hb dX0_workOut_47 ?_
      refine lv_goto (tgt := 93) hx hb dX0_workOut_48 (by decide) ?_
      exact hret _ (tl, le, ee) _ _ _ _ dX0_workOut_93 hP hS (wo_join hq (by subst c2; rfl))
set_option maxHeartbeats 4000000 in
set_option maxRecDepth 100000 in
theorem metX0_rowsOf {l : Launch} {D : va_G} {ad : Nat → Nat} {cA : Nat → ClassId} {pr : Int64} {sl : Nat → Int64} {cn : Int32} {so fi se ho co : Nat → Int32} {mt : Nat → Int64} {fr : Nat → Int32} {tl : Nat → Int64} {le ee : Int64} {ss hv : Nat → Int64} (ha : apt 12 ad) {vl : Nat → Nat → Nat} (hsl : SLok vl sl) {n : Nat} {cd : cdT} (hcd : CDok n cd so fi se ho co) (hvd : CDv n cd) {th : Nat → Bool} (hpr : ∀ i, i < 64 → lb pr i = th i) (hfr : FRok th vl n cd mt fr) {cs : Nat} (hcs : cs ≤ n) {x : Int32} (hxe : x = nI cs + (-1)) : Met l yX0_rowsOf (ws_ yX0_rowsOf cX0_rowsOf 3 (some .long)) (rmK 2) (PcW D (tX cA) (wX ad cA pr sl cn so fi se ho co mt fr tl le ee ss hv) [.ref (ad 0), .int x]) (va_Ql (fun (r : Int64) (u : S5) => (∀ i, i < 64 → lb r i = selB th vl cd cs i) ∧ FRok th vl n cd u.1 u.2.1) (fun u t => va_P D vwCl (wX ad cA pr sl cn so fi se ho co u.1 u.2.1 u.2.2.1 u.2.2.2.1 u.2.2.2.2 ss hv) t.heap) (AdX 12 ad)) 0 0 (AdX 12 ad) := by
  refine en_l (own := RX0) (by decide) rfl (Nat.le_of_ble_eq_true rfl) ?_
  intro p e s m below meth c R Q ls hR hC hK hP hl hret
  subst hR
  obtain ⟨hx, hb, hml, hown, hts, hr, hlocks⟩ := id hC
  have hS : va_S (AdX 12 ad) s.heap s.heap [] := va_S.rf
  have hl : lv_has ls 3 [(0, .ref (ad 0)), (1, .int x)] := hl
  have hn16 : n ≤ 16 := hvd.1
  cases cs with
  | zero =>
    subst hxe
    refine lv_iload_n hx hb dX0_rowsOf_0 rfl (lv_at hl 1 rfl) ?_
    refine lv_if_ge (tgt := 9) hx hb dX0_rowsOf_1 (by decide) (fun c1 => absurd c1 (by decide)) (fun c1 => ?_)
    refine lv_aload_n hx hb dX0_rowsOf_4 rfl (lv_at hl 0 rfl) ?_
    refine va_get (D := D) (ci := 0) (v := .long pr) (C := RX0) (T := TX0) (N := 15) hx hb hts in_X0 hown hK hP 0 rfl rfl 0 (by decide) (hts _ q27) (fun _ h9 => h9) rfl dX0_rowsOf_5 ?_
    exact hret _ (mt, fr, tl, le, ee) _ _ _ _ dX0_rowsOf_8 hP hS ⟨fun i hi => by rw [hpr i hi]; simp [selB], hfr⟩
  | succ k =>
    rw [pk_m1] at hxe
    subst hxe
    refine lv_iload_n hx hb dX0_rowsOf_0 rfl (lv_at hl 1 rfl) ?_
    refine lv_if_ge (tgt := 9) hx hb dX0_rowsOf_1 (by decide) (fun c1 => ?_) (fun c1 => absurd (nI_pos' (by omega)) c1)
    refine lv_iconst (v := nI 0) hx hb dX0_rowsOf_9 (by decide) ?_
    refine lv_istore_n (lv' := [(2, .int (nI 0)), (0, .ref (ad 0)), (1, .int (nI k))]) hx hb dX0_rowsOf_10 rfl hl (by decide) rfl (fun ls hl => ?_)
    have loop : ∀ (n0 : Nat) (i : Nat) (m1 : Nat → Int64) (f1 : Nat → Int32) (t1 : Nat → Int64) (l1 e1 : Int64), i ≤ k + 1 → k + 1 < i + n0 → FRok th vl n cd m1 f1 → (∀ j, j < i → ¬ f1 j = 0) → ∀ (H : Heap) (locs : List Loc) (ls : Array Slot), va_P D vwCl (wX ad cA pr sl cn so fi se ho co m1 f1 t1 l1 e1 ss hv) H → va_S (AdX 12 ad) s.heap H locs → lv_has ls 3 [(2, .int (nI i)), (0, .ref (ad 0)), (1, .int (nI k))] → W p l e (rmK 2) s m ([.ref (ad 0), .int (nI k)] : List Value).toArray below meth c H locs 0 0 Q (F0 m 11 ls []) := by
      intro n
      induction n with
      | zero => intro i m1 f1 t1 l1 e1 h1 h2; exact absurd h2 (by omega)
      | succ n ih =>
        intro i m1 f1 t1 l1 e1 hi hin hF hall H locs ls hP hS hl
        refine lv_iload_n hx hb dX0_rowsOf_11 rfl (lv_at hl 0 rfl) ?_
        refine lv_iload_n hx hb dX0_rowsOf_12 rfl (lv_at hl 2 rfl) ?_
        refine ra_icmp_gt (tgt := 54) hx hb (by omega) (by omega) dX0_rowsOf_13 (by decide) (fun c2 => ?_) (fun c2 => ?_)
        · have _h : True := trivial
          refine lv_aload_n hx hb dX0_rowsOf_54 rfl (lv_at hl 1 rfl) ?_
          refine va_get (D := D) (ci := 0) (v := .ref (ad 7)) (C := RX0) (T := TX0) (N := 15) hx hb hts in_X0 hown hK hP 0 rfl rfl 8 (by decide) (hts _ q35) (fun _ h9 => h9) rfl dX0_rowsOf_55 ?_
          refine lv_iload_n hx hb dX0_rowsOf_58 rfl (lv_at hl 2 rfl) ?_
          refine ra_lald hx hb hK hP 7 6 rfl rfl (by omega) (by decide) dX0_rowsOf_59 ?_
          exact hret _ (m1, f1, t1, l1, e1) _ _ _ _ dX0_rowsOf_60 hP hS ⟨fun q hq => by rw [hF k (by omega) (hall k (by omega)) q hq]; rfl, hF⟩
        · have _h : True := trivial
          refine lv_aload_n hx hb dX0_rowsOf_16 rfl (lv_at hl 1 rfl) ?_
          refine va_get (D := D) (ci := 0) (v := .ref (ad 8)) (C := RX0) (T := TX0) (N := 15) hx hb hts in_X0 hown hK hP 0 rfl rfl 9 (by decide) (hts _ q36) (fun _ h9 => h9) rfl dX0_rowsOf_17 ?_
          refine lv_iload_n hx hb dX0_rowsOf_20 rfl (lv_at hl 0 rfl) ?_
          refine ra_zald hx hb hK hP 8 7 rfl rfl (by omega) (by decide) dX0_rowsOf_21 ?_
          refine lv_if_ne (tgt := 48) hx hb dX0_rowsOf_22 (by decide) (fun c3 => ?_) (fun c3 => ?_)
          · have _h : True := trivial
            refine lv_iinc (v := nI (i + 1)) (lv' := [(2, .int (nI (i + 1))), (0, .ref (ad 0)), (1, .int (nI k))]) hx hb dX0_rowsOf_48 hl (k := 0) rfl (nI_1 _) (by decide) rfl (fun ls hl => ?_)
            refine lv_goto (tgt := 11) hx hb dX0_rowsOf_51 (by decide) ?_
            exact ih (i + 1) _ _ _ _ _ (by omega) (by omega) hF (fr_keep hall c3) _ _ _ hP hS (lv_sub hl [0, 1, 2] rfl)
          · have _h : True := trivial
            refine lv_aload_n hx hb dX0_rowsOf_25 rfl (lv_at hl 1 rfl) ?_
            refine va_get (D := D) (ci := 0) (v := .ref (ad 7)) (C := RX0) (T := TX0) (N := 15) hx hb hts in_X0 hown hK hP 0 rfl rfl 8 (by decide) (hts _ q35) (fun _ h9 => h9) rfl dX0_rowsOf_26 ?_
            refine lv_iload_n hx hb dX0_rowsOf_29 rfl (lv_at hl 0 rfl) ?_
            refine lv_aload_n hx hb dX0_rowsOf_30 rfl (lv_at hl 1 rfl) ?_
            refine lv_iload_n hx hb dX0_rowsOf_31 rfl (lv_at hl 0 rfl) ?_
            refine ca_l (As := [.int (nI i)]) (rest := [.int (nI i), .ref (ad 7)]) hC (metX0_workOut ha hsl hcd hvd (k := i) (by omega)) (cwV 1 hts (lw_V q132 q134 qs5 q17 q135) rfl rfl rfl (by decide +kernel) ⟨Nat.le_of_ble_eq_true rfl, Nat.le_of_ble_eq_true rfl⟩) hK hP (va_recv hK hP (ci := 0) (q0 := 0) rfl rfl) rfl hl.1 rfl (Nat.le_of_ble_eq_true rfl) dX0_rowsOf_32 ⟨Nat.zero_le _, Nat.zero_le _⟩ hS (fun _ h => h) (fun r1 u1 H locs hq1 hP hk1 hS => ?_)
            have hP : va_P D vwCl (wX ad cA pr sl cn so fi se ho co m1 f1 u1.1 u1.2.1 u1.2.2 ss hv) H := hP
            refine lv_aload_n hx hb dX0_rowsOf_35 rfl (lv_at hl 1 rfl) ?_
            refine va_get (D := D) (ci := 0) (v := .long pr) (C := RX0) (T := TX0) (N := 15) hx hb hts in_X0 hown hK hP 0 rfl rfl 0 (by decide) (hts _ q27) (fun _ h9 => h9) rfl dX0_rowsOf_36 ?_
            refine lv_land hx hb dX0_rowsOf_39 ?_
            refine ra_last hx hb hK hP (dX ha) hS 7 6 rfl rfl (by omega) (by decide) dX0_rowsOf_40 (fun H locs hP hS => ?_)
            have hP : va_P D vwCl (wX ad cA pr sl cn so fi se ho co (vp_updL m1 i (r1 &&& pr)) f1 u1.1 u1.2.1 u1.2.2 ss hv) H := hP
            refine lv_aload_n hx hb dX0_rowsOf_41 rfl (lv_at hl 1 rfl) ?_
            refine va_get (D := D) (ci := 0) (v := .ref (ad 8)) (C := RX0) (T := TX0) (N := 15) hx hb hts in_X0 hown hK hP 0 rfl rfl 9 (by decide) (hts _ q36) (fun _ h9 => h9) rfl dX0_rowsOf_42 ?_
            refine lv_iload_n hx hb dX0_rowsOf_45 rfl (lv_at hl 0 rfl) ?_
            refine lv_iconst (v := nI 1) hx hb dX0_rowsOf_46 (by decide) ?_
            refine ra_zast hx hb hK hP (dX ha) hS 8 7 rfl rfl (by omega) (by decide) rfl dX0_rowsOf_47 (fun H locs hP hS => ?_)
            have hP : va_P D vwCl (wX ad cA pr sl cn so fi se ho co (vp_updL m1 i (r1 &&& pr)) (upd f1 i (nI 1)) u1.1 u1.2.1 u1.2.2 ss hv) H := hP
            refine lv_iinc (v := nI (i + 1)) (lv' := [(2, .int (nI (i + 1))), (0, .ref (ad 0)), (1, .int (nI k))]) hx hb dX0_rowsOf_48 hl (k := 0) rfl (nI_1 _) (by decide) rfl (fun ls hl => ?_)
            refine lv_goto (tgt := 11) hx hb dX0_rowsOf_51 (by decide) ?_
            have hst := fr_step hvd (by omega) hF hall hq1 hpr
            exact ih (i + 1) _ _ _ _ _ (by omega) (by omega) hst.1 hst.2 _ _ _ hP hS (lv_sub hl [0, 1, 2] rfl)
    exact loop (k + 2) 0 _ _ _ _ _ (by omega) (by omega) hfr (fun j hj => absurd hj (Nat.not_lt_zero _)) _ _ _ hP hS hl
end
section
set_option maxHeartbeats 4000000 in
set_option maxRecDepth 100000 in
theorem metX0_count {l : Launch} {D : va_G} {ad : Nat → Nat} {cA : Nat → ClassId} {pr : Int64} {sl : Nat → Int64}  {so fi se ho co : Nat → Int32} {mt : Nat → Int64} {fr : Nat → Int32} {tl : Nat → Int64} {le ee : Int64} {ss hv : Nat → Int64} (ha : apt 12 ad) {vl : Nat → Nat → Nat} (hsl : SLok vl sl) {n : Nat} {cd : cdT} (hcd : CDok n cd so fi se ho co) (hvd : CDv n cd) {th : Nat → Bool} (hpr : ∀ i, i < 64 → lb pr i = th i) (hfr : FRok th vl n cd mt fr) (x : Int32) : Met l yX0_count (ws_ yX0_count cX0_count 4 (some .int)) (rmK 3) (PcW D (tX cA) (wX ad cA pr sl (nI n) so fi se ho co mt fr tl le ee ss hv) [.ref (ad 0), .int x]) (va_Qi (fun (r : Int32) (u : S5) => FRok th vl n cd u.1 u.2.1 ∧ ((¬ okQ n x ∧ r = (-1)) ∨ (∃ cs, cs ≤ n ∧ x = nI cs + (-1) ∧ r = nI (fb_ct (selB th vl cd cs) 64)))) (fun u t => va_P D vwCl (wX ad cA pr sl (nI n) so fi se ho co u.1 u.2.1 u.2.2.1 u.2.2.2.1 u.2.2.2.2 ss hv) t.heap) (AdX 12 ad)) 0 0 (AdX 12 ad) := by
  refine en_i (own := RX0) (by decide) rfl (Nat.le_of_ble_eq_true rfl) ?_
  intro p e s m below meth c R Q ls hR hC hK hP hl hret
  subst hR
  obtain ⟨hx, hb, hml, hown, hts, hr, hlocks⟩ := id hC
  have hS : va_S (AdX 12 ad) s.heap s.heap [] := va_S.rf
  have hl : lv_has ls 4 [(0, .ref (ad 0)), (1, .int x)] := hl
  have hn16 : n ≤ 16 := hvd.1
  refine lv_aload_n hx hb dX0_count_0 rfl (lv_at hl 0 rfl) ?_
  refine lv_iload_n hx hb dX0_count_1 rfl (lv_at hl 1 rfl) ?_
  refine ca_i (As := [.int x]) (rest := []) hC (metX0_isCondition ha hn16 rfl x) (cwV 1 hts (lw_V q124 q126 qs3 q17 q127) rfl rfl rfl (by decide +kernel) ⟨Nat.le_of_ble_eq_true rfl, Nat.le_of_ble_eq_true rfl⟩) hK hP (va_recv hK hP (ci := 0) (q0 := 0) rfl rfl) rfl hl.1 rfl (Nat.le_of_ble_eq_true rfl) dX0_count_2 ⟨Nat.zero_le _, Nat.zero_le _⟩ hS (fun _ h => h) (fun r1 u1 H locs hq1 hP hk1 hS => ?_)
  rcases hq1 with ⟨rfl, hb1⟩ | ⟨rfl, cs, hcs, rfl⟩
  · have _h : True := trivial
    refine ra_if_ne (tgt := 10) hx hb (by omega) dX0_count_5 (by decide) (fun c1 => (by omega : False).elim) (fun c1 => ?_)
    refine lv_iconst (v := (-1)) hx hb dX0_count_8 (by decide) ?_
    exact hret _ (mt, fr, tl, le, ee) _ _ _ _ dX0_count_9 hP hS ⟨hfr, Or.inl ⟨hb1, rfl⟩⟩
  · have _h : True := trivial
    refine ra_if_ne (tgt := 10) hx hb (by omega) dX0_count_5 (by decide) (fun c1 => ?_) (fun c1 => (by omega : False).elim)
    refine lv_aload_n hx hb dX0_count_10 rfl (lv_at hl 0 rfl) ?_
    refine lv_iload_n hx hb dX0_count_11 rfl (lv_at hl 1 rfl) ?_
    refine ca_l (As := [.int (nI cs + (-1))]) (rest := []) hC (metX0_rowsOf ha hsl hcd hvd hpr hfr hcs rfl) (cwV 1 hts (lw_V q128 q130 qs4 q17 q131) rfl rfl rfl (by decide +kernel) ⟨Nat.le_of_ble_eq_true rfl, Nat.le_of_ble_eq_true rfl⟩) hK hP (va_recv hK hP (ci := 0) (q0 := 0) rfl rfl) rfl hl.1 rfl (Nat.le_of_ble_eq_true rfl) dX0_count_12 ⟨Nat.zero_le _, Nat.zero_le _⟩ hS (fun _ h => h) (fun r2 u2 H locs hq2 hP hk2 hS => ?_)
    have hP : va_P D vwCl (wX ad cA pr sl (nI n) so fi se ho co u2.1 u2.2.1 u2.2.2.1 u2.2.2.2.1 u2.2.2.2.2 ss hv) H := hP
    refine lv_lstore_n (lv' := [(2, .long r2), (0, .ref (ad 0)), (1, .int (nI cs + (-1)))]) hx hb dX0_count_15 rfl hl (by decide) rfl (fun ls hl => ?_)
    refine lv_lload_n hx hb dX0_count_16 rfl (lv_at hl 0 rfl) ?_
    refine cs_i (As := [.long r2]) (rest := []) hC (metX0_ones r2) (va_cwS 1 hts (lw_S q156 q157 q17 q158) rfl rfl rfl (by decide +kernel) ⟨Nat.le_of_ble_eq_true rfl, Nat.le_of_ble_eq_true rfl⟩) hK rfl hl.1 rfl (Nat.le_of_ble_eq_true rfl) dX0_count_17 ⟨Nat.zero_le _, Nat.zero_le _⟩ hS hP (fun r3 H locs hq3 hP hS => ?_)
    exact hret _ u2 _ _ _ _ dX0_count_20 hP hS ⟨hq2.2, Or.inr ⟨cs, hcs, rfl, by rw [hq3, popc_sel hq2.1]⟩⟩
set_option maxHeartbeats 4000000 in
set_option maxRecDepth 100000 in
theorem metX0_row {l : Launch} {D : va_G} {ad : Nat → Nat} {cA : Nat → ClassId} {pr : Int64} {sl : Nat → Int64}  {so fi se ho co : Nat → Int32} {mt : Nat → Int64} {fr : Nat → Int32} {tl : Nat → Int64} {le ee : Int64} {ss hv : Nat → Int64} (ha : apt 12 ad) {vl : Nat → Nat → Nat} (hsl : SLok vl sl) {n : Nat} {cd : cdT} (hcd : CDok n cd so fi se ho co) (hvd : CDv n cd) {th : Nat → Bool} (hpr : ∀ i, i < 64 → lb pr i = th i) (hfr : FRok th vl n cd mt fr) (x pl : Int32) : Met l yX0_row (ws_ yX0_row cX0_row 11 (some .int)) (rmK 3) (PcW D (tX cA) (wX ad cA pr sl (nI n) so fi se ho co mt fr tl le ee ss hv) [.ref (ad 0), .int x, .int pl]) (va_Qi (fun (r : Int32) (u : S5) => FRok th vl n cd u.1 u.2.1 ∧ ((¬ okQ n x ∧ r = (-1)) ∨ (∃ cs, cs ≤ n ∧ x = nI cs + (-1) ∧ rowA (selB th vl cd cs) pl r))) (fun u t => va_P D vwCl (wX ad cA pr sl (nI n) so fi se ho co u.1 u.2.1 u.2.2.1 u.2.2.2.1 u.2.2.2.2 ss hv) t.heap) (AdX 12 ad)) 0 0 (AdX 12 ad) := by
  refine en_i (own := RX0) (by decide) rfl (Nat.le_of_ble_eq_true rfl) ?_
  intro p e s m below meth c R Q ls hR hC hK hP hl hret
  subst hR
  obtain ⟨hx, hb, hml, hown, hts, hr, hlocks⟩ := id hC
  have hS : va_S (AdX 12 ad) s.heap s.heap [] := va_S.rf
  have hl : lv_has ls 11 [(0, .ref (ad 0)), (1, .int x), (2, .int pl)] := hl
  have hn16 : n ≤ 16 := hvd.1
  refine lv_aload_n hx hb dX0_row_0 rfl (lv_at hl 0 rfl) ?_
  refine lv_iload_n hx hb dX0_row_1 rfl (lv_at hl 1 rfl) ?_
  refine ca_i (As := [.int x]) (rest := []) hC (metX0_isCondition ha hn16 rfl x) (cwV 1 hts (lw_V q124 q126 qs3 q17 q127) rfl rfl rfl (by decide +kernel) ⟨Nat.le_of_ble_eq_true rfl, Nat.le_of_ble_eq_true rfl⟩) hK hP (va_recv hK hP (ci := 0) (q0 := 0) rfl rfl) rfl hl.1 rfl (Nat.le_of_ble_eq_true rfl) dX0_row_2 ⟨Nat.zero_le _, Nat.zero_le _⟩ hS (fun _ h => h) (fun r1 u1 H locs hq1 hP hk1 hS => ?_)
  rcases hq1 with ⟨rfl, hb1⟩ | ⟨rfl, cs, hcs, rfl⟩
  · have _h : True := trivial
    refine ra_if_eq (tgt := 12) hx hb (by omega) dX0_row_5 (by decide) (fun c1 => ?_) (fun c1 => (by omega : False).elim)
    refine lv_iconst (v := (-1)) hx hb dX0_row_12 (by decide) ?_
    exact hret _ (mt, fr, tl, le, ee) _ _ _ _ dX0_row_13 hP hS ⟨hfr, Or.inl ⟨hb1, rfl⟩⟩
  · have _h : True := trivial
    refine ra_if_eq (tgt := 12) hx hb (by omega) dX0_row_5 (by decide) (fun c1 => (by omega : False).elim) (fun c1 => ?_)
    refine lv_iload_n hx hb dX0_row_8 rfl (lv_at hl 2 rfl) ?_
    refine lv_if_ge (tgt := 14) hx hb dX0_row_9 (by decide) (fun c2 => ?_) (fun c2 => ?_)
    · have _h : True := trivial
      obtain ⟨P, hP31, rfl⟩ := nI_of (Int32.not_lt.mpr c2)
      refine lv_aload_n hx hb dX0_row_14 rfl (lv_at hl 0 rfl) ?_
      refine lv_iload_n hx hb dX0_row_15 rfl (lv_at hl 1 rfl) ?_
      refine ca_l (As := [.int (nI cs + (-1))]) (rest := []) hC (metX0_rowsOf ha hsl hcd hvd hpr hfr hcs rfl) (cwV 1 hts (lw_V q128 q130 qs4 q17 q131) rfl rfl rfl (by decide +kernel) ⟨Nat.le_of_ble_eq_true rfl, Nat.le_of_ble_eq_true rfl⟩) hK hP (va_recv hK hP (ci := 0) (q0 := 0) rfl rfl) rfl hl.1 rfl (Nat.le_of_ble_eq_true rfl) dX0_row_16 ⟨Nat.zero_le _, Nat.zero_le _⟩ hS (fun _ h => h) (fun r2 u2 H locs hq2 hP hk2 hS => ?_)
      have hP : va_P D vwCl (wX ad cA pr sl (nI n) so fi se ho co u2.1 u2.2.1 u2.2.2.1 u2.2.2.2.1 u2.2.2.2.2 ss hv) H := hP
      refine lv_lstore_n (lv' := [(3, .long r2), (0, .ref (ad 0)), (1, .int (nI cs + (-1))), (2, .int (nI P))]) hx hb dX0_row_19 rfl hl (by decide) rfl (fun ls hl => ?_)
      refine lv_iload_n hx hb dX0_row_20 rfl (lv_at hl 3 rfl) ?_
      refine lv_lload_n hx hb dX0_row_21 rfl (lv_at hl 0 rfl) ?_
      refine cs_i (As := [.long r2]) (rest := [.int (nI P)]) hC (metX0_ones r2) (va_cwS 1 hts (lw_S q156 q157 q17 q158) rfl rfl rfl (by decide +kernel) ⟨Nat.le_of_ble_eq_true rfl, Nat.le_of_ble_eq_true rfl⟩) hK rfl hl.1 rfl (Nat.le_of_ble_eq_true rfl) dX0_row_22 ⟨Nat.zero_le _, Nat.zero_le _⟩ hS hP (fun r3 H locs hq3 hP hS => ?_)
      have hpc := popc_le r2
      subst hq3
      refine ra_icmp_lt (tgt := 30) hx hb (by omega) (by omega) dX0_row_25 (by decide) (fun c3 => ?_) (fun c3 => ?_)
      · have _h : True := trivial
        refine lv_iconst (v := nI 0) hx hb dX0_row_30 (by decide) ?_
        refine lv_istore (lv' := [(5, .int (nI 0)), (3, .long r2), (0, .ref (ad 0)), (1, .int (nI cs + (-1))), (2, .int (nI P))]) hx hb dX0_row_31 hl (by decide) rfl (fun ls hl => ?_)
        refine lv_iload_n hx hb dX0_row_33 rfl (lv_at hl 4 rfl) ?_
        refine lv_istore (lv' := [(6, .int (nI P)), (5, .int (nI 0)), (3, .long r2), (0, .ref (ad 0)), (1, .int (nI cs + (-1))), (2, .int (nI P))]) hx hb dX0_row_34 hl (by decide) rfl (fun ls hl => ?_)
        refine lv_bipush (v := nI (2 ^ 6 / 2)) hx hb dX0_row_36 (by decide) ?_
        refine lv_istore (lv' := [(7, .int (nI (2 ^ 6 / 2))), (6, .int (nI P)), (5, .int (nI 0)), (3, .long r2), (0, .ref (ad 0)), (1, .int (nI cs + (-1))), (2, .int (nI P))]) hx hb dX0_row_38 hl (by decide) rfl (fun ls hl => ?_)
        have hin0 : rwI (selB th vl cd cs) P 0 P 6 := rwI_0 (by rw [← popc_sel hq2.1]; exact c3)
        have loop : ∀ (j Lo P1 : Nat), j ≤ 6 → rwI (selB th vl cd cs) P Lo P1 j → ∀ (H : Heap) (locs : List Loc) (ls : Array Slot), va_P D vwCl (wX ad cA pr sl (nI n) so fi se ho co u2.1 u2.2.1 u2.2.2.1 u2.2.2.2.1 u2.2.2.2.2 ss hv) H → va_S (AdX 12 ad) s.heap H locs → lv_has ls 11 [(7, .int (nI (2 ^ j / 2))), (6, .int (nI P1)), (5, .int (nI Lo)), (3, .long r2), (0, .ref (ad 0)), (1, .int (nI cs + (-1))), (2, .int (nI P))] → W p l e (rmK 3) s m ([.ref (ad 0), .int (nI cs + (-1)), .int (nI P)] : List Value).toArray below meth c H locs 0 0 Q (F0 m 40 ls []) := by
          intro j
          induction j with
          | zero =>
            intro Lo P1 hj hI H locs ls hP hS hl
            refine lv_iload hx hb dX0_row_40 (lv_at hl 0 rfl) ?_
            refine ra_if_le (tgt := 95) hx hb (by omega) dX0_row_42 (by decide) (fun c4 => ?_) (fun c4 => absurd c4 (by decide))
            refine lv_iload hx hb dX0_row_95 (lv_at hl 2 rfl) ?_
            exact hret _ u2 _ _ _ _ dX0_row_97 hP hS ⟨hq2.2, Or.inr ⟨cs, hcs, rfl, rwI_end hI⟩⟩
          | succ j ih =>
            intro Lo P1 hj hI H locs ls hP hS hl
            have hj5 := pw5 hj
            have hjp : 0 < 2 ^ j := Nat.two_pow_pos j
            have hI1 := hI.1
            rw [Nat.pow_succ] at hI1
            rw [pw_half] at hl
            refine lv_iload hx hb dX0_row_40 (lv_at hl 0 rfl) ?_
            refine ra_if_le (tgt := 95) hx hb (by omega) dX0_row_42 (by decide) (fun c4 => absurd c4 (by omega)) (fun c4 => ?_)
            refine lv_lload_n hx hb dX0_row_45 rfl (lv_at hl 3 rfl) ?_
            refine lv_iload hx hb dX0_row_46 (lv_at hl 2 rfl) ?_
            refine lv_lushr (v := (r2.toUInt64 >>> ((nI Lo).toInt64.toUInt64 &&& Int64.toUInt64 63)).toInt64) hx hb dX0_row_48 rfl ?_
            refine lv_lconst (v := 1) hx hb dX0_row_49 (by decide) ?_
            refine lv_iload hx hb dX0_row_50 (lv_at hl 0 rfl) ?_
            refine lv_lshl (v := (1 : Int64) <<< ((nI (2 ^ j)).toInt64 &&& 63)) hx hb dX0_row_52 rfl ?_
            refine lv_lconst (v := 1) hx hb dX0_row_53 (by decide) ?_
            refine lv_lsub hx hb dX0_row_54 ?_
            refine lv_land hx hb dX0_row_55 ?_
            refine lv_topl (fun x1 ex1 => ?_)
            refine lv_lstore (lv' := [(8, .long x1), (7, .int (nI (2 ^ j))), (6, .int (nI P1)), (5, .int (nI Lo)), (3, .long r2), (0, .ref (ad 0)), (1, .int (nI cs + (-1))), (2, .int (nI P))]) hx hb dX0_row_56 hl (by decide) rfl (fun ls hl => ?_)
            refine lv_lload hx hb dX0_row_58 (lv_at hl 0 rfl) ?_
            refine cs_i (As := [.long x1]) (rest := []) hC (metX0_ones x1) (va_cwS 1 hts (lw_S q156 q157 q17 q158) rfl rfl rfl (by decide +kernel) ⟨Nat.le_of_ble_eq_true rfl, Nat.le_of_ble_eq_true rfl⟩) hK rfl hl.1 rfl (Nat.le_of_ble_eq_true rfl) dX0_row_60 ⟨Nat.zero_le _, Nat.zero_le _⟩ hS hP (fun r5 H locs hq5 hP hS => ?_)
            obtain ⟨n1, en1⟩ : ∃ n1, n1 = fb_ct (fun i => selB th vl cd cs (Lo + i)) (2 ^ j) := ⟨_, rfl⟩
            have hn1 : n1 ≤ 2 ^ j := by rw [en1]; exact fb_ct_le _ _
            have hq5 : r5 = nI n1 := by rw [hq5, part_pop hq2.1 hj5 (by omega) ex1 (by omega), en1]
            subst hq5
            have hP1 : P1 < 2 ^ 31 := by have h9 := hI.2.1; omega
            refine lv_istore (lv' := [(10, .int (nI n1)), (8, .long x1), (7, .int (nI (2 ^ j))), (6, .int (nI P1)), (5, .int (nI Lo)), (3, .long r2), (0, .ref (ad 0)), (1, .int (nI cs + (-1))), (2, .int (nI P))]) hx hb dX0_row_63 hl (by decide) rfl (fun ls hl => ?_)
            refine lv_iload hx hb dX0_row_65 (lv_at hl 3 rfl) ?_
            refine lv_iload hx hb dX0_row_67 (lv_at hl 0 rfl) ?_
            refine ra_icmp_lt (tgt := 86) hx hb (by omega) (by omega) dX0_row_69 (by decide) (fun c5 => ?_) (fun c5 => ?_)
            · have _h : True := trivial
              refine lv_iload hx hb dX0_row_86 (lv_at hl 2 rfl) ?_
              refine lv_iconst (v := nI 2) hx hb dX0_row_88 (by decide) ?_
              refine ra_idiv hx hb (by omega) (by decide) (by decide) dX0_row_89 ?_
              refine lv_istore (lv' := [(7, .int (nI ((2 ^ j) / 2))), (10, .int (nI n1)), (8, .long x1), (6, .int (nI P1)), (5, .int (nI Lo)), (3, .long r2), (0, .ref (ad 0)), (1, .int (nI cs + (-1))), (2, .int (nI P))]) hx hb dX0_row_90 hl (by decide) rfl (fun ls hl => ?_)
              refine lv_goto (tgt := 40) hx hb dX0_row_92 (by decide) ?_
              exact ih Lo P1 (by omega) (rwI_lo hI en1 c5) _ _ _ hP hS (lv_sub hl [0, 3, 4, 5, 6, 7, 8] rfl)
            · have _h : True := trivial
              refine lv_iload hx hb dX0_row_72 (lv_at hl 3 rfl) ?_
              refine lv_iload hx hb dX0_row_74 (lv_at hl 0 rfl) ?_
              refine ra_isub hx hb (by omega) dX0_row_76 ?_
              refine lv_istore (lv' := [(6, .int (nI (P1 - n1))), (10, .int (nI n1)), (8, .long x1), (7, .int (nI (2 ^ j))), (5, .int (nI Lo)), (3, .long r2), (0, .ref (ad 0)), (1, .int (nI cs + (-1))), (2, .int (nI P))]) hx hb dX0_row_77 hl (by decide) rfl (fun ls hl => ?_)
              refine lv_iload hx hb dX0_row_79 (lv_at hl 4 rfl) ?_
              refine lv_iload hx hb dX0_row_81 (lv_at hl 3 rfl) ?_
              refine ra_iadd hx hb dX0_row_83 ?_
              refine lv_istore (lv' := [(5, .int (nI (Lo + (2 ^ j)))), (6, .int (nI (P1 - n1))), (10, .int (nI n1)), (8, .long x1), (7, .int (nI (2 ^ j))), (3, .long r2), (0, .ref (ad 0)), (1, .int (nI cs + (-1))), (2, .int (nI P))]) hx hb dX0_row_84 hl (by decide) rfl (fun ls hl => ?_)
              refine lv_iload hx hb dX0_row_86 (lv_at hl 4 rfl) ?_
              refine lv_iconst (v := nI 2) hx hb dX0_row_88 (by decide) ?_
              refine ra_idiv hx hb (by omega) (by decide) (by decide) dX0_row_89 ?_
              refine lv_istore (lv' := [(7, .int (nI ((2 ^ j) / 2))), (5, .int (nI (Lo + (2 ^ j)))), (6, .int (nI (P1 - n1))), (10, .int (nI n1)), (8, .long x1), (3, .long r2), (0, .ref (ad 0)), (1, .int (nI cs + (-1))), (2, .int (nI P))]) hx hb dX0_row_90 hl (by decide) rfl (fun ls hl => ?_)
              refine lv_goto (tgt := 40) hx hb dX0_row_92 (by decide) ?_
              exact ih (Lo + 2 ^ j) (P1 - n1) (by omega) (rwI_hi hI en1 c5) _ _ _ hP hS (lv_sub hl [0, 2, 1, 5, 6, 7, 8] rfl)
        exact loop 6 0 P (by omega) hin0 _ _ _ hP hS (lv_sub hl [0, 1, 2, 3, 4, 5, 6] rfl)
      · have _h : True := trivial
        refine lv_iconst (v := (-1)) hx hb dX0_row_28 (by decide) ?_
        exact hret _ u2 _ _ _ _ dX0_row_29 hP hS ⟨hq2.2, Or.inr ⟨cs, hcs, rfl, row_far hP31 (by rw [← popc_sel hq2.1]; exact c3)⟩⟩
    · have _h : True := trivial
      refine lv_iconst (v := (-1)) hx hb dX0_row_12 (by decide) ?_
      exact hret _ (mt, fr, tl, le, ee) _ _ _ _ dX0_row_13 hP hS ⟨hfr, Or.inr ⟨cs, hcs, rfl, row_neg c2⟩⟩
set_option maxHeartbeats 4000000 in
set_option maxRecDepth 100000 in
theorem metX0_sum {l : Launch} {D : va_G} {ad : Nat → Nat} {cA : Nat → ClassId} {pr : Int64} {sl : Nat → Int64}  {so fi se ho co : Nat → Int32} {mt : Nat → Int64} {fr : Nat → Int32} {tl : Nat → Int64} {le ee : Int64} {ss hv : Nat → Int64} (ha : apt 12 ad) {vl : Nat → Nat → Nat} (hsl : SLok vl sl) {n : Nat} {cd : cdT} (hcd : CDok n cd so fi se ho co) (hvd : CDv n cd) {th : Nat → Bool} (hpr : ∀ i, i < 64 → lb pr i = th i) (hfr : FRok th vl n cd mt fr) (x y : Int32) : Met l yX0_sum (ws_ yX0_sum cX0_sum 8 (some .int)) (rmK 3) (PcW D (tX cA) (wX ad cA pr sl (nI n) so fi se ho co mt fr tl le ee ss hv) [.ref (ad 0), .int x, .int y]) (va_Qi (fun (r : Int32) (u : S5) => FRok th vl n cd u.1 u.2.1 ∧ ((¬ (okQ n x ∧ okCol y) ∧ r = (-1)) ∨ (∃ cs k, cs ≤ n ∧ k ≤ 2 ∧ x = nI cs + (-1) ∧ y = nI k ∧ r = nI (smA (selB th vl cd cs) (fun i => vl i k))))) (fun u t => va_P D vwCl (wX ad cA pr sl (nI n) so fi se ho co u.1 u.2.1 u.2.2.1 u.2.2.2.1 u.2.2.2.2 ss hv) t.heap) (AdX 12 ad)) 0 0 (AdX 12 ad) := by
  refine en_i (own := RX0) (by decide) rfl (Nat.le_of_ble_eq_true rfl) ?_
  intro p e s m below meth c R Q ls hR hC hK hP hl hret
  subst hR
  obtain ⟨hx, hb, hml, hown, hts, hr, hlocks⟩ := id hC
  have hS : va_S (AdX 12 ad) s.heap s.heap [] := va_S.rf
  have hl : lv_has ls 8 [(0, .ref (ad 0)), (1, .int x), (2, .int y)] := hl
  have hn16 : n ≤ 16 := hvd.1
  refine lv_iload_n hx hb dX0_sum_0 rfl (lv_at hl 2 rfl) ?_
  refine cs_i (As := [.int y]) (rest := []) hC (metX0_isColumn y) (va_cwS 1 hts (lw_S q97 q98 q17 q99) rfl rfl rfl (by decide +kernel) ⟨Nat.le_of_ble_eq_true rfl, Nat.le_of_ble_eq_true rfl⟩) hK rfl hl.1 rfl (Nat.le_of_ble_eq_true rfl) dX0_sum_1 ⟨Nat.zero_le _, Nat.zero_le _⟩ hS hP (fun r1 H locs hq1 hP hS => ?_)
  rcases hq1 with ⟨rfl, hb1⟩ | ⟨rfl, k, hk, rfl⟩
  · have _h : True := trivial
    refine ra_if_eq (tgt := 15) hx hb (by omega) dX0_sum_4 (by decide) (fun c1 => ?_) (fun c1 => (by omega : False).elim)
    refine lv_iconst (v := (-1)) hx hb dX0_sum_15 (by decide) ?_
    exact hret _ (mt, fr, tl, le, ee) _ _ _ _ dX0_sum_16 hP hS ⟨hfr, Or.inl ⟨fun q => hb1 q.2, rfl⟩⟩
  · have _h : True := trivial
    refine ra_if_eq (tgt := 15) hx hb (by omega) dX0_sum_4 (by decide) (fun c1 => (by omega : False).elim) (fun c1 => ?_)
    refine lv_aload_n hx hb dX0_sum_7 rfl (lv_at hl 0 rfl) ?_
    refine lv_iload_n hx hb dX0_sum_8 rfl (lv_at hl 1 rfl) ?_
    refine ca_i (As := [.int x]) (rest := []) hC (metX0_isCondition ha hn16 rfl x) (cwV 1 hts (lw_V q124 q126 qs3 q17 q127) rfl rfl rfl (by decide +kernel) ⟨Nat.le_of_ble_eq_true rfl, Nat.le_of_ble_eq_true rfl⟩) hK hP (va_recv hK hP (ci := 0) (q0 := 0) rfl rfl) rfl hl.1 rfl (Nat.le_of_ble_eq_true rfl) dX0_sum_9 ⟨Nat.zero_le _, Nat.zero_le _⟩ hS (fun _ h => h) (fun r2 u2 H locs hq2 hP hk2 hS => ?_)
    rcases hq2 with ⟨rfl, hb2⟩ | ⟨rfl, cs, hcs, rfl⟩
    · have _h : True := trivial
      refine ra_if_ne (tgt := 17) hx hb (by omega) dX0_sum_12 (by decide) (fun c2 => (by omega : False).elim) (fun c2 => ?_)
      refine lv_iconst (v := (-1)) hx hb dX0_sum_15 (by decide) ?_
      exact hret _ (mt, fr, tl, le, ee) _ _ _ _ dX0_sum_16 hP hS ⟨hfr, Or.inl ⟨fun q => hb2 q.1, rfl⟩⟩
    · have _h : True := trivial
      refine ra_if_ne (tgt := 17) hx hb (by omega) dX0_sum_12 (by decide) (fun c2 => ?_) (fun c2 => (by omega : False).elim)
      refine lv_aload_n hx hb dX0_sum_17 rfl (lv_at hl 0 rfl) ?_
      refine lv_iload_n hx hb dX0_sum_18 rfl (lv_at hl 1 rfl) ?_
      refine ca_l (As := [.int (nI cs + (-1))]) (rest := []) hC (metX0_rowsOf ha hsl hcd hvd hpr hfr hcs rfl) (cwV 1 hts (lw_V q128 q130 qs4 q17 q131) rfl rfl rfl (by decide +kernel) ⟨Nat.le_of_ble_eq_true rfl, Nat.le_of_ble_eq_true rfl⟩) hK hP (va_recv hK hP (ci := 0) (q0 := 0) rfl rfl) rfl hl.1 rfl (Nat.le_of_ble_eq_true rfl) dX0_sum_19 ⟨Nat.zero_le _, Nat.zero_le _⟩ hS (fun _ h => h) (fun r3 u3 H locs hq3 hP hk3 hS => ?_)
      have hP : va_P D vwCl (wX ad cA pr sl (nI n) so fi se ho co u3.1 u3.2.1 u3.2.2.1 u3.2.2.2.1 u3.2.2.2.2 ss hv) H := hP
      refine lv_lstore_n (lv' := [(3, .long r3), (0, .ref (ad 0)), (1, .int (nI cs + (-1))), (2, .int (nI k))]) hx hb dX0_sum_22 rfl hl (by decide) rfl (fun ls hl => ?_)
      refine lv_iconst (v := nI 0) hx hb dX0_sum_23 (by decide) ?_
      refine lv_istore (lv' := [(5, .int (nI 0)), (3, .long r3), (0, .ref (ad 0)), (1, .int (nI cs + (-1))), (2, .int (nI k))]) hx hb dX0_sum_24 hl (by decide) rfl (fun ls hl => ?_)
      refine lv_bipush (v := nI 7) hx hb dX0_sum_26 (by decide) ?_
      refine lv_istore (x := nI 8 + (-1)) (lv' := [(6, .int (nI 8 + (-1))), (5, .int (nI 0)), (3, .long r3), (0, .ref (ad 0)), (1, .int (nI cs + (-1))), (2, .int (nI k))]) hx hb dX0_sum_28 hl (by decide) rfl (fun ls hl => ?_)
      have loop : ∀ (n0 : Nat) (n1 s1 : Nat), n1 ≤ 8 → n1 < n0 → s1 = fb_sm (fun i => if selB th vl cd cs i then vl i k / 2 ^ n1 else 0) 64 → ∀ (H : Heap) (locs : List Loc) (ls : Array Slot), va_P D vwCl (wX ad cA pr sl (nI n) so fi se ho co u3.1 u3.2.1 u3.2.2.1 u3.2.2.2.1 u3.2.2.2.2 ss hv) H → va_S (AdX 12 ad) s.heap H locs → lv_has ls 8 [(6, .int (nI n1 + (-1))), (5, .int (nI s1)), (3, .long r3), (0, .ref (ad 0)), (1, .int (nI cs + (-1))), (2, .int (nI k))] → W p l e (rmK 3) s m ([.ref (ad 0), .int (nI cs + (-1)), .int (nI k)] : List Value).toArray below meth c H locs 0 0 Q (F0 m 30 ls []) := by
        intro n
        induction n with
        | zero => intro n1 s1 h1 h2; exact absurd h2 (by omega)
        | succ n ih =>
          intro n1 s1 hi hin hf H locs ls hP hS hl
          refine lv_iload hx hb dX0_sum_30 (lv_at hl 0 rfl) ?_
          refine ra_down (tgt := 69) hx hb (by omega) dX0_sum_32 (by decide) (fun c3 => ?_) (fun k1 c3 => ?_)
          · have _h : True := trivial
            subst c3
            refine lv_iload hx hb dX0_sum_69 (lv_at hl 1 rfl) ?_
            exact hret _ u3 _ _ _ _ dX0_sum_71 hP hS ⟨hq3.2, Or.inr ⟨cs, k, hcs, hk, rfl, rfl, by rw [hf, sm_end]⟩⟩
          · have _h : True := trivial
            subst c3
            rw [pk_m1] at hl
            refine lv_lload_n hx hb dX0_sum_35 rfl (lv_at hl 2 rfl) ?_
            refine lv_aload_n hx hb dX0_sum_36 rfl (lv_at hl 3 rfl) ?_
            refine va_get (D := D) (ci := 0) (v := .ref (ad 1)) (C := RX0) (T := TX0) (N := 15) hx hb hts in_X0 hown hK hP 0 rfl rfl 1 (by decide) (hts _ q28) (fun _ h9 => h9) rfl dX0_sum_37 ?_
            refine lv_bipush (v := nI 8) hx hb dX0_sum_40 (by decide) ?_
            refine lv_iload_n hx hb dX0_sum_42 rfl (lv_at hl 5 rfl) ?_
            refine ra_imul hx hb dX0_sum_43 ?_
            refine lv_iload hx hb dX0_sum_44 (lv_at hl 0 rfl) ?_
            refine ra_iadd hx hb dX0_sum_46 ?_
            refine ra_lald hx hb hK hP 1 0 rfl rfl (by omega) (by decide) dX0_sum_47 ?_
            refine lv_land hx hb dX0_sum_48 ?_
            refine cs_i (As := [.long (r3 &&& (sl ((8 * k) + k1)))]) (rest := []) hC (metX0_ones (r3 &&& sl (8 * k + k1))) (va_cwS 1 hts (lw_S q156 q157 q17 q158) rfl rfl rfl (by decide +kernel) ⟨Nat.le_of_ble_eq_true rfl, Nat.le_of_ble_eq_true rfl⟩) hK rfl hl.1 rfl (Nat.le_of_ble_eq_true rfl) dX0_sum_49 ⟨Nat.zero_le _, Nat.zero_le _⟩ hS hP (fun r4 H locs hq4 hP hS => ?_)
            rw [popc_f hq3.1 (fun q hq => (hsl q hq k (by omega)).2 k1 (by omega))] at hq4
            subst hq4
            refine lv_istore (lv' := [(7, .int (nI (fb_ct (fun i => selB th vl cd cs i && (vl i k).testBit k1) 64))), (6, .int (nI k1)), (5, .int (nI s1)), (3, .long r3), (0, .ref (ad 0)), (1, .int (nI cs + (-1))), (2, .int (nI k))]) hx hb dX0_sum_52 hl (by decide) rfl (fun ls hl => ?_)
            refine lv_iconst (v := nI 2) hx hb dX0_sum_54 (by decide) ?_
            refine lv_iload hx hb dX0_sum_55 (lv_at hl 2 rfl) ?_
            refine ra_imul hx hb dX0_sum_57 ?_
            refine lv_iload hx hb dX0_sum_58 (lv_at hl 0 rfl) ?_
            refine ra_iadd hx hb dX0_sum_60 ?_
            refine lv_istore (lv' := [(5, .int (nI ((2 * s1) + (fb_ct (fun i => selB th vl cd cs i && (vl i k).testBit k1) 64)))), (7, .int (nI (fb_ct (fun i => selB th vl cd cs i && (vl i k).testBit k1) 64))), (6, .int (nI k1)), (3, .long r3), (0, .ref (ad 0)), (1, .int (nI cs + (-1))), (2, .int (nI k))]) hx hb dX0_sum_61 hl (by decide) rfl (fun ls hl => ?_)
            refine lv_iinc (v := nI k1 + (-1)) (lv' := [(6, .int (nI k1 + (-1))), (5, .int (nI ((2 * s1) + (fb_ct (fun i => selB th vl cd cs i && (vl i k).testBit k1) 64)))), (7, .int (nI (fb_ct (fun i => selB th vl cd cs i && (vl i k).testBit k1) 64))), (3, .long r3), (0, .ref (ad 0)), (1, .int (nI cs + (-1))), (2, .int (nI k))]) hx hb dX0_sum_63 hl (k := 2) rfl rfl (by decide) rfl (fun ls hl => ?_)
            refine lv_goto (tgt := 30) hx hb dX0_sum_66 (by decide) ?_
            exact ih k1 _ (by omega) (by omega) (by rw [hf]; exact sm_step _ _ _ _) _ _ _ hP hS (lv_sub hl [0, 1, 3, 4, 5, 6] rfl)
      exact loop 9 8 0 (by omega) (by omega) (sm_0 64 (fun i hi => (hsl i hi k (by omega)).1)).symm _ _ _ hP hS (lv_sub hl [0, 1, 2, 3, 4, 5] rfl)
set_option maxHeartbeats 4000000 in
set_option maxRecDepth 100000 in
theorem metX0_ranked {l : Launch} {D : va_G} {ad : Nat → Nat} {cA : Nat → ClassId} {pr : Int64} {sl : Nat → Int64}  {so fi se ho co : Nat → Int32} {mt : Nat → Int64} {fr : Nat → Int32} {tl : Nat → Int64} {le ee : Int64} {ss hv : Nat → Int64} (ha : apt 12 ad) {vl : Nat → Nat → Nat} (hsl : SLok vl sl) {n : Nat} {cd : cdT} (hcd : CDok n cd so fi se ho co) (hvd : CDv n cd) {th : Nat → Bool} (hpr : ∀ i, i < 64 → lb pr i = th i) (hfr : FRok th vl n cd mt fr) (x y pl : Int32) : Met l yX0_ranked (ws_ yX0_ranked cX0_ranked 12 (some .int)) (rmK 3) (PcW D (tX cA) (wX ad cA pr sl (nI n) so fi se ho co mt fr tl le ee ss hv) [.ref (ad 0), .int x, .int y, .int pl]) (va_Qi (fun (r : Int32) (u : S5) => FRok th vl n cd u.1 u.2.1 ∧ ((¬ (okQ n x ∧ okCol y) ∧ r = (-1)) ∨ (∃ cs k, cs ≤ n ∧ k ≤ 2 ∧ x = nI cs + (-1) ∧ y = nI k ∧ rkA (selB th vl cd cs) (fun i => vl i k) pl r))) (fun u t => va_P D vwCl (wX ad cA pr sl (nI n) so fi se ho co u.1 u.2.1 u.2.2.1 u.2.2.2.1 u.2.2.2.2 ss hv) t.heap) (AdX 12 ad)) 0 0 (AdX 12 ad) := by
  refine en_i (own := RX0) (by decide) rfl (Nat.le_of_ble_eq_true rfl) ?_
  intro p e s m below meth c R Q ls hR hC hK hP hl hret
  subst hR
  obtain ⟨hx, hb, hml, hown, hts, hr, hlocks⟩ := id hC
  have hS : va_S (AdX 12 ad) s.heap s.heap [] := va_S.rf
  have hl : lv_has ls 12 [(0, .ref (ad 0)), (1, .int x), (2, .int y), (3, .int pl)] := hl
  have hn16 : n ≤ 16 := hvd.1
  refine lv_iload_n hx hb dX0_ranked_0 rfl (lv_at hl 2 rfl) ?_
  refine cs_i (As := [.int y]) (rest := []) hC (metX0_isColumn y) (va_cwS 1 hts (lw_S q97 q98 q17 q99) rfl rfl rfl (by decide +kernel) ⟨Nat.le_of_ble_eq_true rfl, Nat.le_of_ble_eq_true rfl⟩) hK rfl hl.1 rfl (Nat.le_of_ble_eq_true rfl) dX0_ranked_1 ⟨Nat.zero_le _, Nat.zero_le _⟩ hS hP (fun r1 H locs hq1 hP hS => ?_)
  rcases hq1 with ⟨rfl, hb1⟩ | ⟨rfl, k, hk, rfl⟩
  · have _h : True := trivial
    refine ra_if_eq (tgt := 19) hx hb (by omega) dX0_ranked_4 (by decide) (fun c1 => ?_) (fun c1 => (by omega : False).elim)
    refine lv_iconst (v := (-1)) hx hb dX0_ranked_19 (by decide) ?_
    exact hret _ (mt, fr, tl, le, ee) _ _ _ _ dX0_ranked_20 hP hS ⟨hfr, Or.inl ⟨fun q => hb1 q.2, rfl⟩⟩
  · have _h : True := trivial
    refine ra_if_eq (tgt := 19) hx hb (by omega) dX0_ranked_4 (by decide) (fun c1 => (by omega : False).elim) (fun c1 => ?_)
    refine lv_aload_n hx hb dX0_ranked_7 rfl (lv_at hl 0 rfl) ?_
    refine lv_iload_n hx hb dX0_ranked_8 rfl (lv_at hl 1 rfl) ?_
    refine ca_i (As := [.int x]) (rest := []) hC (metX0_isCondition ha hn16 rfl x) (cwV 1 hts (lw_V q124 q126 qs3 q17 q127) rfl rfl rfl (by decide +kernel) ⟨Nat.le_of_ble_eq_true rfl, Nat.le_of_ble_eq_true rfl⟩) hK hP (va_recv hK hP (ci := 0) (q0 := 0) rfl rfl) rfl hl.1 rfl (Nat.le_of_ble_eq_true rfl) dX0_ranked_9 ⟨Nat.zero_le _, Nat.zero_le _⟩ hS (fun _ h => h) (fun r2 u2 H locs hq2 hP hk2 hS => ?_)
    rcases hq2 with ⟨rfl, hb2⟩ | ⟨rfl, cs, hcs, rfl⟩
    · have _h : True := trivial
      refine ra_if_eq (tgt := 19) hx hb (by omega) dX0_ranked_12 (by decide) (fun c2 => ?_) (fun c2 => (by omega : False).elim)
      refine lv_iconst (v := (-1)) hx hb dX0_ranked_19 (by decide) ?_
      exact hret _ (mt, fr, tl, le, ee) _ _ _ _ dX0_ranked_20 hP hS ⟨hfr, Or.inl ⟨fun q => hb2 q.1, rfl⟩⟩
    · have _h : True := trivial
      refine ra_if_eq (tgt := 19) hx hb (by omega) dX0_ranked_12 (by decide) (fun c2 => (by omega : False).elim) (fun c2 => ?_)
      refine lv_iload_n hx hb dX0_ranked_15 rfl (lv_at hl 3 rfl) ?_
      refine lv_if_ge (tgt := 21) hx hb dX0_ranked_16 (by decide) (fun c3 => ?_) (fun c3 => ?_)
      · have _h : True := trivial
        obtain ⟨P, hP31, rfl⟩ := nI_of (Int32.not_lt.mpr c3)
        refine lv_aload_n hx hb dX0_ranked_21 rfl (lv_at hl 0 rfl) ?_
        refine lv_iload_n hx hb dX0_ranked_22 rfl (lv_at hl 1 rfl) ?_
        refine ca_l (As := [.int (nI cs + (-1))]) (rest := []) hC (metX0_rowsOf ha hsl hcd hvd hpr hfr hcs rfl) (cwV 1 hts (lw_V q128 q130 qs4 q17 q131) rfl rfl rfl (by decide +kernel) ⟨Nat.le_of_ble_eq_true rfl, Nat.le_of_ble_eq_true rfl⟩) hK hP (va_recv hK hP (ci := 0) (q0 := 0) rfl rfl) rfl hl.1 rfl (Nat.le_of_ble_eq_true rfl) dX0_ranked_23 ⟨Nat.zero_le _, Nat.zero_le _⟩ hS (fun _ h => h) (fun r3 u3 H locs hq3 hP hk3 hS => ?_)
        have hP : va_P D vwCl (wX ad cA pr sl (nI n) so fi se ho co u3.1 u3.2.1 u3.2.2.1 u3.2.2.2.1 u3.2.2.2.2 ss hv) H := hP
        refine lv_lstore (lv' := [(4, .long r3), (0, .ref (ad 0)), (1, .int (nI cs + (-1))), (2, .int (nI k)), (3, .int (nI P))]) hx hb dX0_ranked_26 hl (by decide) rfl (fun ls hl => ?_)
        refine lv_iload_n hx hb dX0_ranked_28 rfl (lv_at hl 4 rfl) ?_
        refine lv_lload hx hb dX0_ranked_29 (lv_at hl 0 rfl) ?_
        refine cs_i (As := [.long r3]) (rest := [.int (nI P)]) hC (metX0_ones r3) (va_cwS 1 hts (lw_S q156 q157 q17 q158) rfl rfl rfl (by decide +kernel) ⟨Nat.le_of_ble_eq_true rfl, Nat.le_of_ble_eq_true rfl⟩) hK rfl hl.1 rfl (Nat.le_of_ble_eq_true rfl) dX0_ranked_31 ⟨Nat.zero_le _, Nat.zero_le _⟩ hS hP (fun r4 H locs hq4 hP hS => ?_)
        have hpc := popc_le r3
        subst hq4
        refine ra_icmp_lt (tgt := 39) hx hb (by omega) (by omega) dX0_ranked_34 (by decide) (fun c4 => ?_) (fun c4 => ?_)
        · have _h : True := trivial
          refine lv_iload_n hx hb dX0_ranked_39 rfl (lv_at hl 4 rfl) ?_
          refine lv_istore (lv' := [(6, .int (nI P)), (4, .long r3), (0, .ref (ad 0)), (1, .int (nI cs + (-1))), (2, .int (nI k)), (3, .int (nI P))]) hx hb dX0_ranked_40 hl (by decide) rfl (fun ls hl => ?_)
          refine lv_iconst (v := nI 0) hx hb dX0_ranked_42 (by decide) ?_
          refine lv_istore (lv' := [(7, .int (nI 0)), (6, .int (nI P)), (4, .long r3), (0, .ref (ad 0)), (1, .int (nI cs + (-1))), (2, .int (nI k)), (3, .int (nI P))]) hx hb dX0_ranked_43 hl (by decide) rfl (fun ls hl => ?_)
          refine lv_bipush (v := nI 7) hx hb dX0_ranked_45 (by decide) ?_
          refine lv_istore (x := nI 8 + (-1)) (lv' := [(8, .int (nI 8 + (-1))), (7, .int (nI 0)), (6, .int (nI P)), (4, .long r3), (0, .ref (ad 0)), (1, .int (nI cs + (-1))), (2, .int (nI k)), (3, .int (nI P))]) hx hb dX0_ranked_47 hl (by decide) rfl (fun ls hl => ?_)
          have loop : ∀ (n0 : Nat) (n1 q1 v1 : Nat) (ro : Int64), n1 ≤ 8 → n1 < n0 → rkI (selB th vl cd cs) (fun i => vl i k) P n1 ro q1 v1 → ∀ (H : Heap) (locs : List Loc) (ls : Array Slot), va_P D vwCl (wX ad cA pr sl (nI n) so fi se ho co u3.1 u3.2.1 u3.2.2.1 u3.2.2.2.1 u3.2.2.2.2 ss hv) H → va_S (AdX 12 ad) s.heap H locs → lv_has ls 12 [(8, .int (nI n1 + (-1))), (7, .int (nI v1)), (6, .int (nI q1)), (4, .long ro), (0, .ref (ad 0)), (1, .int (nI cs + (-1))), (2, .int (nI k)), (3, .int (nI P))] → W p l e (rmK 3) s m ([.ref (ad 0), .int (nI cs + (-1)), .int (nI k), .int (nI P)] : List Value).toArray below meth c H locs 0 0 Q (F0 m 49 ls []) := by
            intro n
            induction n with
            | zero => intro n1 q1 v1 ro h1 h2; exact absurd h2 (by omega)
            | succ n ih =>
              intro n1 q1 v1 ro hi hin hI H locs ls hP hS hl
              have hq1 : q1 < 2 ^ 31 := by obtain ⟨h, -, -, -, h9, -⟩ := hI; omega
              refine lv_iload hx hb dX0_ranked_49 (lv_at hl 0 rfl) ?_
              refine ra_down (tgt := 135) hx hb (by omega) dX0_ranked_51 (by decide) (fun c5 => ?_) (fun k1 c5 => ?_)
              · have _h : True := trivial
                subst c5
                refine lv_iload hx hb dX0_ranked_135 (lv_at hl 1 rfl) ?_
                exact hret _ u3 _ _ _ _ dX0_ranked_137 hP hS ⟨hq3.2, Or.inr ⟨cs, k, hcs, hk, rfl, rfl, rkI_end hP31 hI⟩⟩
              · have _h : True := trivial
                subst c5
                rw [pk_m1] at hl
                refine lv_lload hx hb dX0_ranked_54 (lv_at hl 3 rfl) ?_
                refine lv_aload_n hx hb dX0_ranked_56 rfl (lv_at hl 4 rfl) ?_
                refine va_get (D := D) (ci := 0) (v := .ref (ad 1)) (C := RX0) (T := TX0) (N := 15) hx hb hts in_X0 hown hK hP 0 rfl rfl 1 (by decide) (hts _ q28) (fun _ h9 => h9) rfl dX0_ranked_57 ?_
                refine lv_bipush (v := nI 8) hx hb dX0_ranked_60 (by decide) ?_
                refine lv_iload_n hx hb dX0_ranked_62 rfl (lv_at hl 6 rfl) ?_
                refine ra_imul hx hb dX0_ranked_63 ?_
                refine lv_iload hx hb dX0_ranked_64 (lv_at hl 0 rfl) ?_
                refine ra_iadd hx hb dX0_ranked_66 ?_
                refine ra_lald hx hb hK hP 1 0 rfl rfl (by omega) (by decide) dX0_ranked_67 ?_
                refine lv_ldc2 hx hb hown (hts _ q84) dX0_ranked_68 ?_
                refine lv_lxor hx hb dX0_ranked_71 ?_
                refine lv_land hx hb dX0_ranked_72 ?_
                refine lv_lstore (lv' := [(9, .long (ro &&& ((sl ((8 * k) + k1)) ^^^ (-1 : Int64)))), (8, .int (nI k1)), (7, .int (nI v1)), (6, .int (nI q1)), (4, .long ro), (0, .ref (ad 0)), (1, .int (nI cs + (-1))), (2, .int (nI k)), (3, .int (nI P))]) hx hb dX0_ranked_73 hl (by decide) rfl (fun ls hl => ?_)
                refine lv_lload hx hb dX0_ranked_75 (lv_at hl 0 rfl) ?_
                refine cs_i (As := [.long (ro &&& ((sl ((8 * k) + k1)) ^^^ (-1 : Int64)))]) (rest := []) hC (metX0_ones (ro &&& (sl (8 * k + k1) ^^^ (-1)))) (va_cwS 1 hts (lw_S q156 q157 q17 q158) rfl rfl rfl (by decide +kernel) ⟨Nat.le_of_ble_eq_true rfl, Nat.le_of_ble_eq_true rfl⟩) hK rfl hl.1 rfl (Nat.le_of_ble_eq_true rfl) dX0_ranked_77 ⟨Nat.zero_le _, Nat.zero_le _⟩ hS hP (fun r5 H locs hq5 hP hS => ?_)
                have hpz := popc_le (ro &&& (sl (8 * k + k1) ^^^ (-1)))
                have hbit : ∀ i, i < 64 → lb (sl (8 * k + k1)) i = (vl i k).testBit k1 := fun q hq => (hsl q hq k (by omega)).2 k1 (by omega)
                subst hq5
                refine lv_istore (lv' := [(11, .int (nI (popc (ro &&& (sl (8 * k + k1) ^^^ (-1)))))), (9, .long (ro &&& ((sl ((8 * k) + k1)) ^^^ (-1 : Int64)))), (8, .int (nI k1)), (7, .int (nI v1)), (6, .int (nI q1)), (4, .long ro), (0, .ref (ad 0)), (1, .int (nI cs + (-1))), (2, .int (nI k)), (3, .int (nI P))]) hx hb dX0_ranked_80 hl (by decide) rfl (fun ls hl => ?_)
                refine lv_iload hx hb dX0_ranked_82 (lv_at hl 4 rfl) ?_
                refine lv_iload hx hb dX0_ranked_84 (lv_at hl 0 rfl) ?_
                refine ra_icmp_ge (tgt := 96) hx hb (by omega) (by omega) dX0_ranked_86 (by decide) (fun c6 => ?_) (fun c6 => ?_)
                · have _h : True := trivial
                  refine lv_iload hx hb dX0_ranked_96 (lv_at hl 4 rfl) ?_
                  refine lv_iload hx hb dX0_ranked_98 (lv_at hl 0 rfl) ?_
                  refine ra_isub hx hb (by omega) dX0_ranked_100 ?_
                  refine lv_istore (lv' := [(6, .int (nI (q1 - (popc (ro &&& (sl (8 * k + k1) ^^^ (-1))))))), (11, .int (nI (popc (ro &&& (sl (8 * k + k1) ^^^ (-1)))))), (9, .long (ro &&& ((sl ((8 * k) + k1)) ^^^ (-1 : Int64)))), (8, .int (nI k1)), (7, .int (nI v1)), (4, .long ro), (0, .ref (ad 0)), (1, .int (nI cs + (-1))), (2, .int (nI k)), (3, .int (nI P))]) hx hb dX0_ranked_101 hl (by decide) rfl (fun ls hl => ?_)
                  refine lv_lload hx hb dX0_ranked_103 (lv_at hl 5 rfl) ?_
                  refine lv_aload_n hx hb dX0_ranked_105 rfl (lv_at hl 6 rfl) ?_
                  refine va_get (D := D) (ci := 0) (v := .ref (ad 1)) (C := RX0) (T := TX0) (N := 15) hx hb hts in_X0 hown hK hP 0 rfl rfl 1 (by decide) (hts _ q28) (fun _ h9 => h9) rfl dX0_ranked_106 ?_
                  refine lv_bipush (v := nI 8) hx hb dX0_ranked_109 (by decide) ?_
                  refine lv_iload_n hx hb dX0_ranked_111 rfl (lv_at hl 8 rfl) ?_
                  refine ra_imul hx hb dX0_ranked_112 ?_
                  refine lv_iload hx hb dX0_ranked_113 (lv_at hl 3 rfl) ?_
                  refine ra_iadd hx hb dX0_ranked_115 ?_
                  refine ra_lald hx hb hK hP 1 0 rfl rfl (by omega) (by decide) dX0_ranked_116 ?_
                  refine lv_land hx hb dX0_ranked_117 ?_
                  refine lv_lstore (lv' := [(4, .long (ro &&& (sl ((8 * k) + k1)))), (6, .int (nI (q1 - (popc (ro &&& (sl (8 * k + k1) ^^^ (-1))))))), (11, .int (nI (popc (ro &&& (sl (8 * k + k1) ^^^ (-1)))))), (9, .long (ro &&& ((sl ((8 * k) + k1)) ^^^ (-1 : Int64)))), (8, .int (nI k1)), (7, .int (nI v1)), (0, .ref (ad 0)), (1, .int (nI cs + (-1))), (2, .int (nI k)), (3, .int (nI P))]) hx hb dX0_ranked_118 hl (by decide) rfl (fun ls hl => ?_)
                  refine lv_iload hx hb dX0_ranked_120 (lv_at hl 5 rfl) ?_
                  refine lv_iconst (v := nI 1) hx hb dX0_ranked_122 (by decide) ?_
                  refine lv_iload hx hb dX0_ranked_123 (lv_at hl 4 rfl) ?_
                  refine lv_ishl hx hb dX0_ranked_125 ?_
                  refine lv_ior hx hb dX0_ranked_126 ?_
                  rw [show ((nI v1) ||| ((nI 1) <<< (nI k1 &&& 31)) : Int32) = nI (v1 + 2 ^ k1) from or_bit (by omega) hI]
                  refine lv_istore (lv' := [(7, .int (nI (v1 + 2 ^ k1))), (4, .long (ro &&& (sl ((8 * k) + k1)))), (6, .int (nI (q1 - (popc (ro &&& (sl (8 * k + k1) ^^^ (-1))))))), (11, .int (nI (popc (ro &&& (sl (8 * k + k1) ^^^ (-1)))))), (9, .long (ro &&& ((sl ((8 * k) + k1)) ^^^ (-1 : Int64)))), (8, .int (nI k1)), (0, .ref (ad 0)), (1, .int (nI cs + (-1))), (2, .int (nI k)), (3, .int (nI P))]) hx hb dX0_ranked_127 hl (by decide) rfl (fun ls hl => ?_)
                  refine lv_iinc (v := nI k1 + (-1)) (lv' := [(8, .int (nI k1 + (-1))), (7, .int (nI (v1 + 2 ^ k1))), (4, .long (ro &&& (sl ((8 * k) + k1)))), (6, .int (nI (q1 - (popc (ro &&& (sl (8 * k + k1) ^^^ (-1))))))), (11, .int (nI (popc (ro &&& (sl (8 * k + k1) ^^^ (-1)))))), (9, .long (ro &&& ((sl ((8 * k) + k1)) ^^^ (-1 : Int64)))), (0, .ref (ad 0)), (1, .int (nI cs + (-1))), (2, .int (nI k)), (3, .int (nI P))]) hx hb dX0_ranked_129 hl (k := 5) rfl rfl (by decide) rfl (fun ls hl => ?_)
                  refine lv_goto (tgt := 49) hx hb dX0_ranked_132 (by decide) ?_
                  exact ih k1 _ _ _ (by omega) (by omega) (rkI_o (by omega) hI hbit c6) _ _ _ hP hS (lv_sub hl [0, 1, 3, 2, 6, 7, 8, 9] rfl)
                · have _h : True := trivial
                  refine lv_lload hx hb dX0_ranked_89 (lv_at hl 1 rfl) ?_
                  refine lv_lstore (lv' := [(4, .long (ro &&& ((sl ((8 * k) + k1)) ^^^ (-1 : Int64)))), (11, .int (nI (popc (ro &&& (sl (8 * k + k1) ^^^ (-1)))))), (9, .long (ro &&& ((sl ((8 * k) + k1)) ^^^ (-1 : Int64)))), (8, .int (nI k1)), (7, .int (nI v1)), (6, .int (nI q1)), (0, .ref (ad 0)), (1, .int (nI cs + (-1))), (2, .int (nI k)), (3, .int (nI P))]) hx hb dX0_ranked_91 hl (by decide) rfl (fun ls hl => ?_)
                  refine lv_goto (tgt := 129) hx hb dX0_ranked_93 (by decide) ?_
                  refine lv_iinc (v := nI k1 + (-1)) (lv' := [(8, .int (nI k1 + (-1))), (4, .long (ro &&& ((sl ((8 * k) + k1)) ^^^ (-1 : Int64)))), (11, .int (nI (popc (ro &&& (sl (8 * k + k1) ^^^ (-1)))))), (9, .long (ro &&& ((sl ((8 * k) + k1)) ^^^ (-1 : Int64)))), (7, .int (nI v1)), (6, .int (nI q1)), (0, .ref (ad 0)), (1, .int (nI cs + (-1))), (2, .int (nI k)), (3, .int (nI P))]) hx hb dX0_ranked_129 hl (k := 3) rfl rfl (by decide) rfl (fun ls hl => ?_)
                  refine lv_goto (tgt := 49) hx hb dX0_ranked_132 (by decide) ?_
                  exact ih k1 _ _ _ (by omega) (by omega) (rkI_z (by omega) hI hbit c6) _ _ _ hP hS (lv_sub hl [0, 4, 5, 1, 6, 7, 8, 9] rfl)
          exact loop 9 8 P 0 r3 (by omega) (by omega) (rkI_0 (fun i hi => (hsl i hi k (by omega)).1) hq3.1 (by rw [← popc_sel hq3.1]; exact c4)) _ _ _ hP hS (lv_sub hl [0, 1, 2, 3, 4, 5, 6, 7] rfl)
        · have _h : True := trivial
          refine lv_iconst (v := (-1)) hx hb dX0_ranked_37 (by decide) ?_
          exact hret _ u3 _ _ _ _ dX0_ranked_38 hP hS ⟨hq3.2, Or.inr ⟨cs, k, hcs, hk, rfl, rfl, Or.inl ⟨Or.inr ⟨P, hP31, rfl, by rw [← popc_sel hq3.1]; exact c4⟩, rfl⟩⟩⟩
      · have _h : True := trivial
        refine lv_iconst (v := (-1)) hx hb dX0_ranked_19 (by decide) ?_
        exact hret _ (mt, fr, tl, le, ee) _ _ _ _ dX0_ranked_20 hP hS ⟨hfr, Or.inr ⟨cs, k, hcs, hk, rfl, rfl, Or.inl ⟨Or.inl (Int32.not_le.mp c3), rfl⟩⟩⟩
end
section
/-! plain facts: sets of rows split by digits -/
/-- n sets, each all the chosen rows of one value of f (that of its row rep k); each chosen row is in one -/
def ptI (p : Nat → Bool) (f : Nat → Nat) (n : Nat) (ss : Nat → Int64) (rep : Nat → Nat) : Prop :=
  (∀ k, k < n → rep k < 64 ∧ p (rep k) = true ∧ ∀ i, i < 64 → lb (ss k) i = (p i && decide (f i = f (rep k)))) ∧ (∀ j k, j < k → k < n → f (rep j) ≠ f (rep k)) ∧ (∀ i, i < 64 → p i = true → ∃ k, k < n ∧ f i = f (rep k))
theorem pt_le {p : Nat → Bool} {f : Nat → Nat} {n : Nat} {ss : Nat → Int64} {rep : Nat → Nat} (h : ptI p f n ss rep) : n ≤ 64 := fb_holes 64 n rep (fun i hi => (h.1 i hi).1) (fun i j hij hj e => h.2.1 i j hij hj (by rw [e]))
def hvI (p : Nat → Bool) (g : Nat → Nat) (C : Nat → Prop) (m : Nat) (hv : Nat → Int64) (rq : Nat → Nat) : Prop :=
  (∀ q, q < m → rq q < 64 ∧ p (rq q) = true ∧ C (rq q) ∧ ∀ i, i < 64 → lb (hv q) i = (p i && decide (g i = g (rq q)))) ∧ (∀ j q, j < q → q < m → g (rq j) ≠ g (rq q)) ∧ (∀ i, i < 64 → p i = true → C i → ∃ q, q < m ∧ g i = g (rq q))
theorem hv_le {p : Nat → Bool} {g : Nat → Nat} {C : Nat → Prop} {m : Nat} {hv : Nat → Int64} {rq : Nat → Nat} (h : hvI p g C m hv rq) : m ≤ 64 := fb_holes 64 m rq (fun i hi => (h.1 i hi).1) (fun i j hij hj e => h.2.1 i j hij hj (by rw [e]))
theorem hv_0 {p : Nat → Bool} {g : Nat → Nat} {C : Nat → Prop} {hv : Nat → Int64} {rq : Nat → Nat} (hC : ∀ i, i < 64 → ¬ C i) : hvI p g C 0 hv rq :=
  ⟨fun q hq => absurd hq (Nat.not_lt_zero _), fun j q _ hq => absurd hq (Nat.not_lt_zero _), fun i hi _ hc => absurd hc (hC i hi)⟩
theorem lb_ne0 {x : Int64} (h : ¬ x = 0) : ∃ i, i < 64 ∧ lb x i = true := by
  refine Classical.byContradiction fun q => h (lb_ext (fun i hi => ?_))
  rw [lb_0]
  cases e : lb x i with
  | false => rfl
  | true => exact absurd ⟨i, hi, e⟩ q
theorem hv_skip {p : Nat → Bool} {g : Nat → Nat} {C E : Nat → Prop} {m : Nat} {hv : Nat → Int64} {rq : Nat → Nat} {x : Int64} (h : hvI p g C m hv rq) (hx : x = 0) (hb : ∀ i, i < 64 → (lb x i = true ↔ (p i = true ∧ E i))) : hvI p g (fun i => C i ∨ E i) m hv rq := by
  obtain ⟨h1, h2, h3⟩ := h
  refine ⟨fun q hq => ⟨(h1 q hq).1, (h1 q hq).2.1, Or.inl (h1 q hq).2.2.1, (h1 q hq).2.2.2⟩, h2, fun i hi hp hc => ?_⟩
  rcases hc with hc | hc
  · exact h3 i hi hp hc
  · have := (hb i hi).mpr ⟨hp, hc⟩
    rw [hx, lb_0] at this
    cases this
theorem hv_add {p : Nat → Bool} {g : Nat → Nat} {C E : Nat → Prop} {m : Nat} {hv : Nat → Int64} {rq : Nat → Nat} {x : Int64} (h : hvI p g C m hv rq) (hx : ¬ x = 0) (hb : ∀ i, i < 64 → (lb x i = true ↔ (p i = true ∧ E i))) (hE : ∀ i j, i < 64 → j < 64 → E i → (g j = g i ↔ E j)) (hCE : ∀ i, i < 64 → C i → ¬ E i) : ∃ rq2, hvI p g (fun i => C i ∨ E i) (m + 1) (vp_updL hv m x) rq2 := by
  obtain ⟨h1, h2, h3⟩ := h
  obtain ⟨r, hr, hl⟩ := lb_ne0 hx
  obtain ⟨hpr, hEr⟩ := (hb r hr).mp hl
  obtain ⟨rq2, hm, ho⟩ : ∃ rq2 : Nat → Nat, rq2 m = r ∧ ∀ q, q ≠ m → rq2 q = rq q := ⟨fun q => if q = m then r else rq q, if_pos rfl, fun q e => if_neg e⟩
  refine ⟨rq2, fun q hq => ?_, fun j q hj hq => ?_, fun i hi hp hc => ?_⟩
  · by_cases e : q = m
    · subst e
      rw [hm]
      refine ⟨hr, hpr, Or.inr hEr, fun i hi => ?_⟩
      rw [pk_uLs, Bool.eq_iff_iff, hb i hi]
      simp only [Bool.and_eq_true, decide_eq_true_eq]
      rw [hE r i hr hi hEr]
    · rw [ho q e, pk_uLn e]
      have := h1 q (by omega)
      exact ⟨this.1, this.2.1, Or.inl this.2.2.1, this.2.2.2⟩
  · by_cases e : q = m
    · subst e
      rw [hm, ho j (by omega)]
      intro e2
      have t := h1 j hj
      exact hCE (rq j) t.1 t.2.2.1 ((hE r (rq j) hr t.1 hEr).mp e2)
    · rw [ho q e, ho j (by omega)]
      exact h2 j q hj (by omega)
  · rcases hc with hc | hc
    · obtain ⟨q, hq, e⟩ := h3 i hi hp hc
      exact ⟨q, by omega, by rw [ho q (by omega)]; exact e⟩
    · exact ⟨m, by omega, by rw [hm]; exact (hE r i hr hi hEr).mpr hc⟩
theorem hv_iff {p : Nat → Bool} {g : Nat → Nat} {C C' : Nat → Prop} {m : Nat} {hv : Nat → Int64} {rq : Nat → Nat} (h : hvI p g C m hv rq) (e : ∀ i, i < 64 → (C i ↔ C' i)) : hvI p g C' m hv rq :=
  ⟨fun q hq => ⟨(h.1 q hq).1, (h.1 q hq).2.1, (e _ (h.1 q hq).1).mp (h.1 q hq).2.2.1, (h.1 q hq).2.2.2⟩, h.2.1, fun i hi hp hc => h.2.2 i hi hp ((e i hi).mpr hc)⟩
/-- the rows that the first k sets hold -/
def cvd (f : Nat → Nat) (rep : Nat → Nat) (k : Nat) : Nat → Prop := fun i => ∃ q, q < k ∧ f i = f (rep q)
def e1C (f : Nat → Nat) (rep : Nat → Nat) (dg : Int64) (k : Nat) : Nat → Prop := fun i => f i = f (rep k) ∧ lb dg i = true
def e0C (f : Nat → Nat) (rep : Nat → Nat) (dg : Int64) (k : Nat) : Nat → Prop := fun i => f i = f (rep k) ∧ lb dg i = false
/-- g tells apart what f and the digit tell apart -/
def gOK (f g : Nat → Nat) (dg : Int64) : Prop := ∀ i j, i < 64 → j < 64 → (g i = g j ↔ (f i = f j ∧ lb dg i = lb dg j))
section SP
variable {p : Nat → Bool} {f g : Nat → Nat} {nn : Nat} {ss : Nat → Int64} {rep : Nat → Nat} {dg : Int64} {k m : Nat} {hv : Nat → Int64} {rq : Nat → Nat}
theorem sp_b1 (h : ptI p f nn ss rep) (hk : k < nn) : ∀ i, i < 64 → (lb (ss k &&& dg) i = true ↔ (p i = true ∧ e1C f rep dg k i)) := by
  intro i hi
  rw [lb_and, (h.1 k hk).2.2 i hi]
  simp only [Bool.and_eq_true, decide_eq_true_eq, e1C, and_assoc]
theorem sp_b0 (h : ptI p f nn ss rep) (hk : k < nn) : ∀ i, i < 64 → (lb (ss k &&& (dg ^^^ (-1))) i = true ↔ (p i = true ∧ e0C f rep dg k i)) := by
  intro i hi
  rw [lb_and, lb_not _ hi, (h.1 k hk).2.2 i hi]
  simp only [Bool.and_eq_true, decide_eq_true_eq, e0C, and_assoc, Bool.not_eq_true']
theorem sp_E1 (hg : gOK f g dg) : ∀ i j, i < 64 → j < 64 → e1C f rep dg k i → (g j = g i ↔ e1C f rep dg k j) := by
  intro i j hi hj he
  rw [hg j i hj hi]
  unfold e1C at *
  rw [he.1, he.2]
theorem sp_E0 (hg : gOK f g dg) : ∀ i j, i < 64 → j < 64 → e0C f rep dg k i → (g j = g i ↔ e0C f rep dg k j) := by
  intro i j hi hj he
  rw [hg j i hj hi]
  unfold e0C at *
  rw [he.1, he.2]
theorem sp_C1 (h : ptI p f nn ss rep) (hk : k < nn) : ∀ i, i < 64 → cvd f rep k i → ¬ e1C f rep dg k i := by
  intro i _ ⟨q, hq, e⟩ he
  exact h.2.1 q k hq hk (by rw [← e, ← he.1])
theorem sp_C0 (h : ptI p f nn ss rep) (hk : k < nn) : ∀ i, i < 64 → (cvd f rep k i ∨ e1C f rep dg k i) → ¬ e0C f rep dg k i := by
  intro i _ hc he
  rcases hc with ⟨q, hq, e⟩ | hc
  · exact h.2.1 q k hq hk (by rw [← e, ← he.1])
  · have := hc.2.symm.trans he.2
    cases this
theorem sp_next (hI : hvI p g (fun i => (cvd f rep k i ∨ e1C f rep dg k i) ∨ e0C f rep dg k i) m hv rq) : hvI p g (cvd f rep (k + 1)) m hv rq := by
  refine hv_iff hI (fun i hi => ?_)
  constructor
  · intro h
    rcases h with (⟨q, hq, e⟩ | h) | h
    · exact ⟨q, by omega, e⟩
    · exact ⟨k, by omega, h.1⟩
    · exact ⟨k, by omega, h.1⟩
  · rintro ⟨q, hq, e⟩
    by_cases t : q = k
    · subst t
      cases hd : lb dg i with
      | true => exact Or.inl (Or.inr ⟨e, hd⟩)
      | false => exact Or.inr ⟨e, hd⟩
    · exact Or.inl (Or.inl ⟨q, by omega, e⟩)
theorem sp_end {s1 : Nat → Int64} (h : ptI p f nn ss rep) (hI : hvI p g (cvd f rep nn) m hv rq) (hs : ∀ j, j < m → s1 j = hv j) : ptI p g m s1 rq := by
  refine ⟨fun q hq => ⟨(hI.1 q hq).1, (hI.1 q hq).2.1, fun i hi => ?_⟩, hI.2.1, fun i hi hp => hI.2.2 i hi hp (h.2.2 i hi hp)⟩
  rw [hs q hq]
  exact (hI.1 q hq).2.2.2 i hi
end SP
theorem cp_step {s1 hv : Nat → Int64} {i : Nat} (h : ∀ j, j < i → s1 j = hv j) : ∀ j, j < i + 1 → vp_updL s1 i (hv i) j = hv j := by
  intro j hj
  by_cases e : j = i
  · subst e
    rw [pk_uLs]
  · rw [pk_uLn e]
    exact h j (by omega)
theorem pt_0 {p : Nat → Bool} {v : Nat → Nat} {r : Int64} {ss : Nat → Int64} (hr : ∀ i, i < 64 → lb r i = p i) (h0 : r = 0) : ptI p (fun i => v i % 2 ^ 0) 0 (vp_updL ss 0 r) (fun _ => 0) := by
  refine ⟨fun k hk => absurd hk (Nat.not_lt_zero _), fun j k _ hk => absurd hk (Nat.not_lt_zero _), fun i hi hp => ?_⟩
  have := hr i hi
  rw [h0, lb_0, hp] at this
  cases this
theorem pt_1 {p : Nat → Bool} {v : Nat → Nat} {r : Int64} {ss : Nat → Int64} (hr : ∀ i, i < 64 → lb r i = p i) (h0 : ¬ r = 0) : ∃ rep, ptI p (fun i => v i % 2 ^ 0) 1 (vp_updL ss 0 r) rep := by
  obtain ⟨q, hq, hl⟩ := lb_ne0 h0
  rw [hr q hq] at hl
  refine ⟨fun _ => q, fun k hk => ⟨hq, hl, fun i hi => ?_⟩, fun j k hj hk => by omega, fun i hi hp => ⟨0, by omega, ?_⟩⟩
  · obtain rfl : k = 0 := by omega
    rw [pk_uLs, hr i hi]
    simp [Nat.mod_one]
  · simp [Nat.mod_one]
theorem gOK_mod {v : Nat → Nat} {b : Nat} {dg : Int64} (hd : ∀ i, i < 64 → lb dg i = (v i).testBit b) : gOK (fun i => v i % 2 ^ b) (fun i => v i % 2 ^ (b + 1)) dg := by
  intro i j hi hj
  dsimp only
  have m1 := md_eq (v i) b
  have m2 := md_eq (v j) b
  have p0 : 0 < 2 ^ b := Nat.two_pow_pos b
  have r1 := Nat.mod_lt (v i) p0
  have r2 := Nat.mod_lt (v j) p0
  rw [hd i hi, hd j hj, tb_eq, tb_eq, m1, m2]
  have e1 : v i / 2 ^ b % 2 = 0 ∨ v i / 2 ^ b % 2 = 1 := by omega
  have e2 : v j / 2 ^ b % 2 = 0 ∨ v j / 2 ^ b % 2 = 1 := by omega
  rcases e1 with e1 | e1 <;> rcases e2 with e2 | e2 <;> rw [e1, e2] <;> simp <;> omega
theorem ct_img {M : Nat} : ∀ (n : Nat) (key : Nat → Nat) (q : Nat → Bool), (∀ k, k < n → key k < M) → (∀ j k, j < k → k < n → key j ≠ key k) → (∀ w, w < M → (q w = true ↔ ∃ k, k < n ∧ key k = w)) → fb_ct q M = n
  | 0, key, q, _, _, h3 => fb_ct_zero.mpr (fun w hw => by
    cases e : q w with
    | false => rfl
    | true =>
      obtain ⟨k, hk, -⟩ := (h3 w hw).mp e
      exact absurd hk (Nat.not_lt_zero _))
  | n + 1, key, q, h1, h2, h3 => by
    have hkn := h1 n (by omega)
    have hq : q (key n) = true := (h3 (key n) hkn).mpr ⟨n, by omega, rfl⟩
    have ih := ct_img n key (fun w => if w = key n then false else q w) (fun k hk => h1 k (by omega)) (fun j k hj hk => h2 j k hj (by omega)) (fun w hw => by
      by_cases e : w = key n
      · rw [if_pos e]
        constructor
        · intro t; cases t
        · rintro ⟨k, hk, e2⟩
          exact absurd (e2.trans e) (h2 k n hk (by omega))
      · rw [if_neg e, h3 w hw]
        constructor
        · rintro ⟨k, hk, e2⟩
          have : k ≠ n := fun t => e (by rw [← e2, t])
          exact ⟨k, by omega, e2⟩
        · rintro ⟨k, hk, e2⟩
          exact ⟨k, by omega, e2⟩)
    have u := fb_ct_upd q false hkn
    rw [ih, hq] at u
    simp at u
    omega
theorem pt_end {p : Nat → Bool} {v : Nat → Nat} {n : Nat} {ss : Nat → Int64} {rep : Nat → Nat} (hv : ∀ i, i < 64 → v i < 256) (h : ptI p (fun i => v i % 2 ^ 8) n ss rep) : n = dfA p v := by
  obtain ⟨h1, h2, h3⟩ := h
  have e : ∀ i, i < 64 → v i % 2 ^ 8 = v i := fun i hi => Nat.mod_eq_of_lt (hv i hi)
  refine (ct_img n (fun k => v (rep k)) _ (fun k hk => hv _ (h1 k hk).1) (fun j k hj hk t => ?_) (fun w hw => ?_)).symm
  · have := h2 j k hj hk
    dsimp only at this
    rw [e _ (h1 j (by omega)).1, e _ (h1 k hk).1] at this
    exact this t
  · rw [decide_eq_true_eq, hvA, fb_ct_pos]
    constructor
    · rintro ⟨i, hi, t⟩
      simp only [Bool.and_eq_true, decide_eq_true_eq] at t
      obtain ⟨k, hk, t2⟩ := h3 i hi t.2
      dsimp only at t2
      rw [e i hi, e _ (h1 k hk).1] at t2
      exact ⟨k, hk, by rw [← t2]; exact t.1⟩
    · rintro ⟨k, hk, t⟩
      exact ⟨rep k, (h1 k hk).1, by simp only [Bool.and_eq_true, decide_eq_true_eq]; exact ⟨t, (h1 k hk).2.1⟩⟩
end
section
abbrev S7 : Type := (Nat → Int64) × (Nat → Int32) × (Nat → Int64) × Int64 × Int64 × (Nat → Int64) × (Nat → Int64)
set_option maxHeartbeats 4000000 in
set_option maxRecDepth 100000 in
theorem metX0_splitSets {l : Launch} {D : va_G} {ad : Nat → Nat} {cA : Nat → ClassId} {pr : Int64} {sl : Nat → Int64} {cn : Int32} {so fi se ho co : Nat → Int32} {mt : Nat → Int64} {fr : Nat → Int32} {tl : Nat → Int64} {le ee : Int64} {ss hv : Nat → Int64} (ha : apt 12 ad) {pq : Nat → Bool} {ff gg : Nat → Nat} {nn : Nat} {rep : Nat → Nat} (hpt : ptI pq ff nn ss rep) {dg : Int64} (hg : gOK ff gg dg) : Met l yX0_splitSets (ws_ yX0_splitSets cX0_splitSets 10 (some .int)) (rmK 0) (PcW D (tX cA) (wX ad cA pr sl cn so fi se ho co mt fr tl le ee ss hv) [.ref (ad 0), .int (nI nn), .long dg]) (va_Qi (fun (r : Int32) (u : (Nat → Int64) × (Nat → Int64)) => ∃ mm rq, r = nI mm ∧ ptI pq gg mm u.1 rq) (fun u t => va_P D vwCl (wX ad cA pr sl cn so fi se ho co mt fr tl le ee u.1 u.2) t.heap) (AdX 12 ad)) 0 0 (AdX 12 ad) := by
  refine en_i (own := RX0) (by decide) rfl (Nat.le_of_ble_eq_true rfl) ?_
  intro p e s m below meth c R Q ls hR hC hK hP hl hret
  subst hR
  obtain ⟨hx, hb, hml, hown, hts, hr, hlocks⟩ := id hC
  have hS : va_S (AdX 12 ad) s.heap s.heap [] := va_S.rf
  have hl : lv_has ls 10 [(0, .ref (ad 0)), (1, .int (nI nn)), (2, .long dg)] := hl
  have hnn := pt_le hpt
  refine lv_iconst (v := nI 0) hx hb dX0_splitSets_0 (by decide) ?_
  refine lv_istore (lv' := [(4, .int (nI 0)), (0, .ref (ad 0)), (1, .int (nI nn)), (2, .long dg)]) hx hb dX0_splitSets_1 hl (by decide) rfl (fun ls hl => ?_)
  refine lv_iconst (v := nI 0) hx hb dX0_splitSets_3 (by decide) ?_
  refine lv_istore (lv' := [(5, .int (nI 0)), (4, .int (nI 0)), (0, .ref (ad 0)), (1, .int (nI nn)), (2, .long dg)]) hx hb dX0_splitSets_4 hl (by decide) rfl (fun ls hl => ?_)
  have loop : ∀ (n0 : Nat) (k mm : Nat) (h1 : Nat → Int64) (rq : Nat → Nat), k ≤ nn → nn < k + n0 → hvI pq gg (cvd ff rep k) mm h1 rq → ∀ (H : Heap) (locs : List Loc) (ls : Array Slot), va_P D vwCl (wX ad cA pr sl cn so fi se ho co mt fr tl le ee ss h1) H → va_S (AdX 12 ad) s.heap H locs → lv_has ls 10 [(5, .int (nI k)), (4, .int (nI mm)), (0, .ref (ad 0)), (1, .int (nI nn)), (2, .long dg)] → W p l e (rmK 0) s m ([.ref (ad 0), .int (nI nn), .long dg] : List Value).toArray below meth c H locs 0 0 Q (F0 m 6 ls []) := by
    intro n0
    induction n0 with
    | zero => intro k mm h1 rq q1 q2; exact absurd q2 (by omega)
    | succ n0 ih =>
      intro k mm h1 rq hi hin hI H locs ls hP hS hl
      have hm := hv_le hI
      refine lv_iload hx hb dX0_splitSets_6 (lv_at hl 0 rfl) ?_
      refine lv_iload_n hx hb dX0_splitSets_8 rfl (lv_at hl 3 rfl) ?_
      refine ra_icmp_ge (tgt := 82) hx hb (by omega) (by omega) dX0_splitSets_9 (by decide) (fun c1 => ?_) (fun c1 => ?_)
      · have _h : True := trivial
        obtain rfl : k = nn := by omega
        refine lv_iconst (v := nI 0) hx hb dX0_splitSets_82 (by decide) ?_
        refine lv_istore (lv' := [(5, .int (nI 0)), (4, .int (nI mm)), (0, .ref (ad 0)), (1, .int (nI k)), (2, .long dg)]) hx hb dX0_splitSets_83 hl (by decide) rfl (fun ls hl => ?_)
        have loop : ∀ (n0 : Nat) (i : Nat) (s1 : Nat → Int64), i ≤ mm → mm < i + n0 → (∀ j, j < i → s1 j = h1 j) → ∀ (H : Heap) (locs : List Loc) (ls : Array Slot), va_P D vwCl (wX ad cA pr sl cn so fi se ho co mt fr tl le ee s1 h1) H → va_S (AdX 12 ad) s.heap H locs → lv_has ls 10 [(5, .int (nI i)), (4, .int (nI mm)), (0, .ref (ad 0))] → W p l e (rmK 0) s m ([.ref (ad 0), .int (nI k), .long dg] : List Value).toArray below meth c H locs 0 0 Q (F0 m 85 ls []) := by
          intro n1
          induction n1 with
          | zero => intro i s1 q1 q2; exact absurd q2 (by omega)
          | succ n1 ih2 =>
            intro i s1 hi2 hin2 hs1 H locs ls hP hS hl
            refine lv_iload hx hb dX0_splitSets_85 (lv_at hl 0 rfl) ?_
            refine lv_iload hx hb dX0_splitSets_87 (lv_at hl 1 rfl) ?_
            refine ra_icmp_ge (tgt := 112) hx hb (by omega) (by omega) dX0_splitSets_89 (by decide) (fun c2 => ?_) (fun c2 => ?_)
            · have _h : True := trivial
              refine lv_iload hx hb dX0_splitSets_112 (lv_at hl 1 rfl) ?_
              exact hret _ (s1, h1) _ _ _ _ dX0_splitSets_114 hP hS ⟨mm, rq, rfl, sp_end hpt hI (fun j hj => hs1 j (by omega))⟩
            · have _h : True := trivial
              refine lv_aload_n hx hb dX0_splitSets_92 rfl (lv_at hl 2 rfl) ?_
              refine va_get (D := D) (ci := 0) (v := .ref (ad 10)) (C := RX0) (T := TX0) (N := 15) hx hb hts in_X0 hown hK hP 0 rfl rfl 13 (by decide) (hts _ q40) (fun _ h9 => h9) rfl dX0_splitSets_93 ?_
              refine lv_iload hx hb dX0_splitSets_96 (lv_at hl 0 rfl) ?_
              refine lv_aload_n hx hb dX0_splitSets_98 rfl (lv_at hl 2 rfl) ?_
              refine va_get (D := D) (ci := 0) (v := .ref (ad 11)) (C := RX0) (T := TX0) (N := 15) hx hb hts in_X0 hown hK hP 0 rfl rfl 14 (by decide) (hts _ q41) (fun _ h9 => h9) rfl dX0_splitSets_99 ?_
              refine lv_iload hx hb dX0_splitSets_102 (lv_at hl 0 rfl) ?_
              refine ra_lald hx hb hK hP 11 10 rfl rfl (by omega) (by decide) dX0_splitSets_104 ?_
              refine ra_last hx hb hK hP (dX ha) hS 10 9 rfl rfl (by omega) (by decide) dX0_splitSets_105 (fun H locs hP hS => ?_)
              have hP : va_P D vwCl (wX ad cA pr sl cn so fi se ho co mt fr tl le ee (vp_updL s1 i (h1 i)) h1) H := hP
              refine lv_iinc (v := nI (i + 1)) (lv' := [(5, .int (nI (i + 1))), (4, .int (nI mm)), (0, .ref (ad 0))]) hx hb dX0_splitSets_106 hl (k := 0) rfl (nI_1 _) (by decide) rfl (fun ls hl => ?_)
              refine lv_goto (tgt := 85) hx hb dX0_splitSets_109 (by decide) ?_
              exact ih2 (i + 1) _ (by omega) (by omega) (cp_step hs1) _ _ _ hP hS (lv_sub hl [0, 1, 2] rfl)
        exact loop (mm + 1) 0 ss (by omega) (by omega) (fun j hj => absurd hj (Nat.not_lt_zero _)) _ _ _ hP hS (lv_sub hl [0, 1, 2] rfl)
      · have _h : True := trivial
        refine lv_aload_n hx hb dX0_splitSets_12 rfl (lv_at hl 2 rfl) ?_
        refine va_get (D := D) (ci := 0) (v := .ref (ad 10)) (C := RX0) (T := TX0) (N := 15) hx hb hts in_X0 hown hK hP 0 rfl rfl 13 (by decide) (hts _ q40) (fun _ h9 => h9) rfl dX0_splitSets_13 ?_
        refine lv_iload hx hb dX0_splitSets_16 (lv_at hl 0 rfl) ?_
        refine ra_lald hx hb hK hP 10 9 rfl rfl (by omega) (by decide) dX0_splitSets_18 ?_
        refine lv_lload_n hx hb dX0_splitSets_19 rfl (lv_at hl 4 rfl) ?_
        refine lv_land hx hb dX0_splitSets_20 ?_
        refine lv_lstore (lv' := [(6, .long ((ss k) &&& dg)), (5, .int (nI k)), (4, .int (nI mm)), (0, .ref (ad 0)), (1, .int (nI nn)), (2, .long dg)]) hx hb dX0_splitSets_21 hl (by decide) rfl (fun ls hl => ?_)
        refine lv_aload_n hx hb dX0_splitSets_23 rfl (lv_at hl 3 rfl) ?_
        refine va_get (D := D) (ci := 0) (v := .ref (ad 10)) (C := RX0) (T := TX0) (N := 15) hx hb hts in_X0 hown hK hP 0 rfl rfl 13 (by decide) (hts _ q40) (fun _ h9 => h9) rfl dX0_splitSets_24 ?_
        refine lv_iload hx hb dX0_splitSets_27 (lv_at hl 1 rfl) ?_
        refine ra_lald hx hb hK hP 10 9 rfl rfl (by omega) (by decide) dX0_splitSets_29 ?_
        refine lv_lload_n hx hb dX0_splitSets_30 rfl (lv_at hl 5 rfl) ?_
        refine lv_ldc2 hx hb hown (hts _ q84) dX0_splitSets_31 ?_
        refine lv_lxor hx hb dX0_splitSets_34 ?_
        refine lv_land hx hb dX0_splitSets_35 ?_
        refine lv_lstore (lv' := [(8, .long ((ss k) &&& (dg ^^^ (-1 : Int64)))), (6, .long ((ss k) &&& dg)), (5, .int (nI k)), (4, .int (nI mm)), (0, .ref (ad 0)), (1, .int (nI nn)), (2, .long dg)]) hx hb dX0_splitSets_36 hl (by decide) rfl (fun ls hl => ?_)
        refine lv_lload hx hb dX0_splitSets_38 (lv_at hl 1 rfl) ?_
        refine lv_lconst (v := 0) hx hb dX0_splitSets_40 (by decide) ?_
        refine W.lcmp hx hb dX0_splitSets_41 ?_
        refine lv_if_eq (tgt := 57) hx hb dX0_splitSets_42 (by decide) (fun c3 => ?_) (fun c3 => ?_)
        · have _h : True := trivial
          have hI1 := hv_skip hI ((lg_cmp_eq _ _).mp c3) (sp_b1 (dg := dg) hpt c1)
          refine lv_lload hx hb dX0_splitSets_57 (lv_at hl 0 rfl) ?_
          refine lv_lconst (v := 0) hx hb dX0_splitSets_59 (by decide) ?_
          refine W.lcmp hx hb dX0_splitSets_60 ?_
          refine lv_if_eq (tgt := 76) hx hb dX0_splitSets_61 (by decide) (fun c4 => ?_) (fun c4 => ?_)
          · have _h : True := trivial
            have hI2 := hv_skip hI1 ((lg_cmp_eq _ _).mp c4) (sp_b0 (dg := dg) hpt c1)
            refine lv_iinc (v := nI (k + 1)) (lv' := [(5, .int (nI (k + 1))), (8, .long ((ss k) &&& (dg ^^^ (-1 : Int64)))), (6, .long ((ss k) &&& dg)), (4, .int (nI mm)), (0, .ref (ad 0)), (1, .int (nI nn)), (2, .long dg)]) hx hb dX0_splitSets_76 hl (k := 2) rfl (nI_1 _) (by decide) rfl (fun ls hl => ?_)
            refine lv_goto (tgt := 6) hx hb dX0_splitSets_79 (by decide) ?_
            exact ih (k + 1) _ _ _ (by omega) (by omega) (sp_next hI2) _ _ _ hP hS (lv_sub hl [0, 3, 4, 5, 6] rfl)
          · have _h : True := trivial
            obtain ⟨rq2, hI2⟩ := hv_add hI1 (fun q => c4 ((lg_cmp_eq _ _).mpr q)) (sp_b0 (dg := dg) hpt c1) (sp_E0 hg) (sp_C0 hpt c1)
            have hm2 := hv_le hI2
            refine lv_aload_n hx hb dX0_splitSets_64 rfl (lv_at hl 4 rfl) ?_
            refine va_get (D := D) (ci := 0) (v := .ref (ad 11)) (C := RX0) (T := TX0) (N := 15) hx hb hts in_X0 hown hK hP 0 rfl rfl 14 (by decide) (hts _ q41) (fun _ h9 => h9) rfl dX0_splitSets_65 ?_
            refine lv_iload hx hb dX0_splitSets_68 (lv_at hl 3 rfl) ?_
            refine lv_lload hx hb dX0_splitSets_70 (lv_at hl 0 rfl) ?_
            refine ra_last hx hb hK hP (dX ha) hS 11 10 rfl rfl (by omega) (by decide) dX0_splitSets_72 (fun H locs hP hS => ?_)
            have hP : va_P D vwCl (wX ad cA pr sl cn so fi se ho co mt fr tl le ee ss (vp_updL h1 mm ((ss k) &&& (dg ^^^ (-1 : Int64))))) H := hP
            refine lv_iinc (v := nI (mm + 1)) (lv' := [(4, .int (nI (mm + 1))), (8, .long ((ss k) &&& (dg ^^^ (-1 : Int64)))), (6, .long ((ss k) &&& dg)), (5, .int (nI k)), (0, .ref (ad 0)), (1, .int (nI nn)), (2, .long dg)]) hx hb dX0_splitSets_73 hl (k := 3) rfl (nI_1 _) (by decide) rfl (fun ls hl => ?_)
            refine lv_iinc (v := nI (k + 1)) (lv' := [(5, .int (nI (k + 1))), (4, .int (nI (mm + 1))), (8, .long ((ss k) &&& (dg ^^^ (-1 : Int64)))), (6, .long ((ss k) &&& dg)), (0, .ref (ad 0)), (1, .int (nI nn)), (2, .long dg)]) hx hb dX0_splitSets_76 hl (k := 3) rfl (nI_1 _) (by decide) rfl (fun ls hl => ?_)
            refine lv_goto (tgt := 6) hx hb dX0_splitSets_79 (by decide) ?_
            exact ih (k + 1) _ _ _ (by omega) (by omega) (sp_next hI2) _ _ _ hP hS (lv_sub hl [0, 1, 4, 5, 6] rfl)
        · have _h : True := trivial
          obtain ⟨rq1, hI1⟩ := hv_add hI (fun q => c3 ((lg_cmp_eq _ _).mpr q)) (sp_b1 (dg := dg) hpt c1) (sp_E1 hg) (sp_C1 hpt c1)
          have hm1 := hv_le hI1
          refine lv_aload_n hx hb dX0_splitSets_45 rfl (lv_at hl 4 rfl) ?_
          refine va_get (D := D) (ci := 0) (v := .ref (ad 11)) (C := RX0) (T := TX0) (N := 15) hx hb hts in_X0 hown hK hP 0 rfl rfl 14 (by decide) (hts _ q41) (fun _ h9 => h9) rfl dX0_splitSets_46 ?_
          refine lv_iload hx hb dX0_splitSets_49 (lv_at hl 3 rfl) ?_
          refine lv_lload hx hb dX0_splitSets_51 (lv_at hl 1 rfl) ?_
          refine ra_last hx hb hK hP (dX ha) hS 11 10 rfl rfl (by omega) (by decide) dX0_splitSets_53 (fun H locs hP hS => ?_)
          have hP : va_P D vwCl (wX ad cA pr sl cn so fi se ho co mt fr tl le ee ss (vp_updL h1 mm ((ss k) &&& dg))) H := hP
          refine lv_iinc (v := nI (mm + 1)) (lv' := [(4, .int (nI (mm + 1))), (8, .long ((ss k) &&& (dg ^^^ (-1 : Int64)))), (6, .long ((ss k) &&& dg)), (5, .int (nI k)), (0, .ref (ad 0)), (1, .int (nI nn)), (2, .long dg)]) hx hb dX0_splitSets_54 hl (k := 3) rfl (nI_1 _) (by decide) rfl (fun ls hl => ?_)
          refine lv_lload hx hb dX0_splitSets_57 (lv_at hl 1 rfl) ?_
          refine lv_lconst (v := 0) hx hb dX0_splitSets_59 (by decide) ?_
          refine W.lcmp hx hb dX0_splitSets_60 ?_
          refine lv_if_eq (tgt := 76) hx hb dX0_splitSets_61 (by decide) (fun c4 => ?_) (fun c4 => ?_)
          · have _h : True := trivial
            have hI2 := hv_skip hI1 ((lg_cmp_eq _ _).mp c4) (sp_b0 (dg := dg) hpt c1)
            refine lv_iinc (v := nI (k + 1)) (lv' := [(5, .int (nI (k + 1))), (4, .int (nI (mm + 1))), (8, .long ((ss k) &&& (dg ^^^ (-1 : Int64)))), (6, .long ((ss k) &&& dg)), (0, .ref (ad 0)), (1, .int (nI nn)), (2, .long dg)]) hx hb dX0_splitSets_76 hl (k := 3) rfl (nI_1 _) (by decide) rfl (fun ls hl => ?_)
            refine lv_goto (tgt := 6) hx hb dX0_splitSets_79 (by decide) ?_
            exact ih (k + 1) _ _ _ (by omega) (by omega) (sp_next hI2) _ _ _ hP hS (lv_sub hl [0, 1, 4, 5, 6] rfl)
          · have _h : True := trivial
            obtain ⟨rq2, hI2⟩ := hv_add hI1 (fun q => c4 ((lg_cmp_eq _ _).mpr q)) (sp_b0 (dg := dg) hpt c1) (sp_E0 hg) (sp_C0 hpt c1)
            have hm2 := hv_le hI2
            refine lv_aload_n hx hb dX0_splitSets_64 rfl (lv_at hl 4 rfl) ?_
            refine va_get (D := D) (ci := 0) (v := .ref (ad 11)) (C := RX0) (T := TX0) (N := 15) hx hb hts in_X0 hown hK hP 0 rfl rfl 14 (by decide) (hts _ q41) (fun _ h9 => h9) rfl dX0_splitSets_65 ?_
            refine lv_iload hx hb dX0_splitSets_68 (lv_at hl 0 rfl) ?_
            refine lv_lload hx hb dX0_splitSets_70 (lv_at hl 1 rfl) ?_
            refine ra_last hx hb hK hP (dX ha) hS 11 10 rfl rfl (by omega) (by decide) dX0_splitSets_72 (fun H locs hP hS => ?_)
            have hP : va_P D vwCl (wX ad cA pr sl cn so fi se ho co mt fr tl le ee ss (vp_updL (vp_updL h1 mm ((ss k) &&& dg)) (mm + 1) ((ss k) &&& (dg ^^^ (-1 : Int64))))) H := hP
            refine lv_iinc (v := nI ((mm + 1) + 1)) (lv' := [(4, .int (nI ((mm + 1) + 1))), (8, .long ((ss k) &&& (dg ^^^ (-1 : Int64)))), (6, .long ((ss k) &&& dg)), (5, .int (nI k)), (0, .ref (ad 0)), (1, .int (nI nn)), (2, .long dg)]) hx hb dX0_splitSets_73 hl (k := 0) rfl (nI_1 _) (by decide) rfl (fun ls hl => ?_)
            refine lv_iinc (v := nI (k + 1)) (lv' := [(5, .int (nI (k + 1))), (4, .int (nI ((mm + 1) + 1))), (8, .long ((ss k) &&& (dg ^^^ (-1 : Int64)))), (6, .long ((ss k) &&& dg)), (0, .ref (ad 0)), (1, .int (nI nn)), (2, .long dg)]) hx hb dX0_splitSets_76 hl (k := 3) rfl (nI_1 _) (by decide) rfl (fun ls hl => ?_)
            refine lv_goto (tgt := 6) hx hb dX0_splitSets_79 (by decide) ?_
            exact ih (k + 1) _ _ _ (by omega) (by omega) (sp_next hI2) _ _ _ hP hS (lv_sub hl [0, 1, 4, 5, 6] rfl)
  exact loop (nn + 1) 0 0 hv (fun _ => 0) (by omega) (by omega) (hv_0 (fun i _ => by rintro ⟨q, hq, -⟩; exact absurd hq (Nat.not_lt_zero _))) _ _ _ hP hS (lv_sub hl [0, 1, 2, 3, 4] rfl)
set_option maxHeartbeats 4000000 in
set_option maxRecDepth 100000 in
theorem metX0_different {l : Launch} {D : va_G} {ad : Nat → Nat} {cA : Nat → ClassId} {pr : Int64} {sl : Nat → Int64}  {so fi se ho co : Nat → Int32} {mt : Nat → Int64} {fr : Nat → Int32} {tl : Nat → Int64} {le ee : Int64} {ss hv : Nat → Int64} (ha : apt 12 ad) {vl : Nat → Nat → Nat} (hsl : SLok vl sl) {n : Nat} {cd : cdT} (hcd : CDok n cd so fi se ho co) (hvd : CDv n cd) {th : Nat → Bool} (hpr : ∀ i, i < 64 → lb pr i = th i) (hfr : FRok th vl n cd mt fr) (x y : Int32) : Met l yX0_different (ws_ yX0_different cX0_different 5 (some .int)) (rmK 3) (PcW D (tX cA) (wX ad cA pr sl (nI n) so fi se ho co mt fr tl le ee ss hv) [.ref (ad 0), .int x, .int y]) (va_Qi (fun (r : Int32) (u : S7) => FRok th vl n cd u.1 u.2.1 ∧ ((¬ (okQ n x ∧ okCol y) ∧ r = (-1)) ∨ (∃ cs k, cs ≤ n ∧ k ≤ 2 ∧ x = nI cs + (-1) ∧ y = nI k ∧ r = nI (dfA (selB th vl cd cs) (fun i => vl i k))))) (fun u t => va_P D vwCl (wX ad cA pr sl (nI n) so fi se ho co u.1 u.2.1 u.2.2.1 u.2.2.2.1 u.2.2.2.2.1 u.2.2.2.2.2.1 u.2.2.2.2.2.2) t.heap) (AdX 12 ad)) 0 0 (AdX 12 ad) := by
  refine en_i (own := RX0) (by decide) rfl (Nat.le_of_ble_eq_true rfl) ?_
  intro p e s m below meth c R Q ls hR hC hK hP hl hret
  subst hR
  obtain ⟨hx, hb, hml, hown, hts, hr, hlocks⟩ := id hC
  have hS : va_S (AdX 12 ad) s.heap s.heap [] := va_S.rf
  have hl : lv_has ls 5 [(0, .ref (ad 0)), (1, .int x), (2, .int y)] := hl
  have hn16 : n ≤ 16 := hvd.1
  refine lv_iload_n hx hb dX0_different_0 rfl (lv_at hl 2 rfl) ?_
  refine cs_i (As := [.int y]) (rest := []) hC (metX0_isColumn y) (va_cwS 1 hts (lw_S q97 q98 q17 q99) rfl rfl rfl (by decide +kernel) ⟨Nat.le_of_ble_eq_true rfl, Nat.le_of_ble_eq_true rfl⟩) hK rfl hl.1 rfl (Nat.le_of_ble_eq_true rfl) dX0_different_1 ⟨Nat.zero_le _, Nat.zero_le _⟩ hS hP (fun r1 H locs hq1 hP hS => ?_)
  rcases hq1 with ⟨rfl, hb1⟩ | ⟨rfl, k, hk, rfl⟩
  · have _h : True := trivial
    refine ra_if_eq (tgt := 15) hx hb (by omega) dX0_different_4 (by decide) (fun c1 => ?_) (fun c1 => (by omega : False).elim)
    refine lv_iconst (v := (-1)) hx hb dX0_different_15 (by decide) ?_
    exact hret _ (mt, fr, tl, le, ee, ss, hv) _ _ _ _ dX0_different_16 hP hS ⟨hfr, Or.inl ⟨fun q => hb1 q.2, rfl⟩⟩
  · have _h : True := trivial
    refine ra_if_eq (tgt := 15) hx hb (by omega) dX0_different_4 (by decide) (fun c1 => (by omega : False).elim) (fun c1 => ?_)
    refine lv_aload_n hx hb dX0_different_7 rfl (lv_at hl 0 rfl) ?_
    refine lv_iload_n hx hb dX0_different_8 rfl (lv_at hl 1 rfl) ?_
    refine ca_i (As := [.int x]) (rest := []) hC (metX0_isCondition ha hn16 rfl x) (cwV 1 hts (lw_V q124 q126 qs3 q17 q127) rfl rfl rfl (by decide +kernel) ⟨Nat.le_of_ble_eq_true rfl, Nat.le_of_ble_eq_true rfl⟩) hK hP (va_recv hK hP (ci := 0) (q0 := 0) rfl rfl) rfl hl.1 rfl (Nat.le_of_ble_eq_true rfl) dX0_different_9 ⟨Nat.zero_le _, Nat.zero_le _⟩ hS (fun _ h => h) (fun r2 u2 H locs hq2 hP hk2 hS => ?_)
    rcases hq2 with ⟨rfl, hb2⟩ | ⟨rfl, cs, hcs, rfl⟩
    · have _h : True := trivial
      refine ra_if_ne (tgt := 17) hx hb (by omega) dX0_different_12 (by decide) (fun c2 => (by omega : False).elim) (fun c2 => ?_)
      refine lv_iconst (v := (-1)) hx hb dX0_different_15 (by decide) ?_
      exact hret _ (mt, fr, tl, le, ee, ss, hv) _ _ _ _ dX0_different_16 hP hS ⟨hfr, Or.inl ⟨fun q => hb2 q.1, rfl⟩⟩
    · have _h : True := trivial
      refine ra_if_ne (tgt := 17) hx hb (by omega) dX0_different_12 (by decide) (fun c2 => ?_) (fun c2 => (by omega : False).elim)
      refine lv_aload_n hx hb dX0_different_17 rfl (lv_at hl 0 rfl) ?_
      refine va_get (D := D) (ci := 0) (v := .ref (ad 10)) (C := RX0) (T := TX0) (N := 15) hx hb hts in_X0 hown hK hP 0 rfl rfl 13 (by decide) (hts _ q40) (fun _ h9 => h9) rfl dX0_different_18 ?_
      refine lv_iconst (v := nI 0) hx hb dX0_different_21 (by decide) ?_
      refine lv_aload_n hx hb dX0_different_22 rfl (lv_at hl 0 rfl) ?_
      refine lv_iload_n hx hb dX0_different_23 rfl (lv_at hl 1 rfl) ?_
      refine ca_l (As := [.int (nI cs + (-1))]) (rest := [.int (nI 0), .ref (ad 10)]) hC (metX0_rowsOf ha hsl hcd hvd hpr hfr hcs rfl) (cwV 1 hts (lw_V q128 q130 qs4 q17 q131) rfl rfl rfl (by decide +kernel) ⟨Nat.le_of_ble_eq_true rfl, Nat.le_of_ble_eq_true rfl⟩) hK hP (va_recv hK hP (ci := 0) (q0 := 0) rfl rfl) rfl hl.1 rfl (Nat.le_of_ble_eq_true rfl) dX0_different_24 ⟨Nat.zero_le _, Nat.zero_le _⟩ hS (fun _ h => h) (fun r3 u3 H locs hq3 hP hk3 hS => ?_)
      have hP : va_P D vwCl (wX ad cA pr sl (nI n) so fi se ho co u3.1 u3.2.1 u3.2.2.1 u3.2.2.2.1 u3.2.2.2.2 ss hv) H := hP
      refine ra_last hx hb hK hP (dX ha) hS 10 9 rfl rfl (by omega) (by decide) dX0_different_27 (fun H locs hP hS => ?_)
      have hP : va_P D vwCl (wX ad cA pr sl (nI n) so fi se ho co u3.1 u3.2.1 u3.2.2.1 u3.2.2.2.1 u3.2.2.2.2 (vp_updL ss 0 r3) hv) H := hP
      refine lv_aload_n hx hb dX0_different_28 rfl (lv_at hl 0 rfl) ?_
      refine va_get (D := D) (ci := 0) (v := .ref (ad 10)) (C := RX0) (T := TX0) (N := 15) hx hb hts in_X0 hown hK hP 0 rfl rfl 13 (by decide) (hts _ q40) (fun _ h9 => h9) rfl dX0_different_29 ?_
      refine lv_iconst (v := nI 0) hx hb dX0_different_32 (by decide) ?_
      refine ra_lald hx hb hK hP 10 9 rfl rfl (by omega) (by decide) dX0_different_33 ?_
      rw [show ((vp_updL ss 0 r3) 0 : Int64) = r3 from pk_uLs]
      refine lv_lconst (v := 0) hx hb dX0_different_34 (by decide) ?_
      refine W.lcmp hx hb dX0_different_35 ?_
      have loop : ∀ (n0 b nn : Nat) (s1 h1 : Nat → Int64) (rep : Nat → Nat), b ≤ 8 → 8 < b + n0 → ptI (selB th vl cd cs) (fun i => vl i k % 2 ^ b) nn s1 rep → ∀ (H : Heap) (locs : List Loc) (ls : Array Slot), va_P D vwCl (wX ad cA pr sl (nI n) so fi se ho co u3.1 u3.2.1 u3.2.2.1 u3.2.2.2.1 u3.2.2.2.2 s1 h1) H → va_S (AdX 12 ad) s.heap H locs → lv_has ls 5 [(4, .int (nI b)), (3, .int (nI nn)), (0, .ref (ad 0)), (1, .int (nI cs + (-1))), (2, .int (nI k))] → W p l e (rmK 3) s m ([.ref (ad 0), .int (nI cs + (-1)), .int (nI k)] : List Value).toArray below meth c H locs 0 0 Q (F0 m 48 ls []) := by
        intro n0
        induction n0 with
        | zero => intro b nn s1 h1 rep q1 q2; exact absurd q2 (by omega)
        | succ n0 ih =>
          intro b nn s1 h1 rep hi hin hI H locs ls hP hS hl
          refine lv_iload hx hb dX0_different_48 (lv_at hl 0 rfl) ?_
          refine lv_bipush (v := nI 8) hx hb dX0_different_50 (by decide) ?_
          refine ra_icmp_ge (tgt := 79) hx hb (by omega) (by omega) dX0_different_52 (by decide) (fun c4 => ?_) (fun c4 => ?_)
          · have _h : True := trivial
            obtain rfl : b = 8 := by omega
            refine lv_iload_n hx hb dX0_different_79 rfl (lv_at hl 1 rfl) ?_
            exact hret _ (u3.1, u3.2.1, u3.2.2.1, u3.2.2.2.1, u3.2.2.2.2, s1, h1) _ _ _ _ dX0_different_80 hP hS ⟨hq3.2, Or.inr ⟨cs, k, hcs, hk, rfl, rfl, by rw [pt_end (fun i hi => (hsl i hi k (by omega)).1) hI]⟩⟩
          · have _h : True := trivial
            refine lv_aload_n hx hb dX0_different_55 rfl (lv_at hl 2 rfl) ?_
            refine lv_iload_n hx hb dX0_different_56 rfl (lv_at hl 1 rfl) ?_
            refine lv_aload_n hx hb dX0_different_57 rfl (lv_at hl 2 rfl) ?_
            refine va_get (D := D) (ci := 0) (v := .ref (ad 1)) (C := RX0) (T := TX0) (N := 15) hx hb hts in_X0 hown hK hP 0 rfl rfl 1 (by decide) (hts _ q28) (fun _ h9 => h9) rfl dX0_different_58 ?_
            refine lv_bipush (v := nI 8) hx hb dX0_different_61 (by decide) ?_
            refine lv_iload_n hx hb dX0_different_63 rfl (lv_at hl 4 rfl) ?_
            refine ra_imul hx hb dX0_different_64 ?_
            refine lv_iload hx hb dX0_different_65 (lv_at hl 0 rfl) ?_
            refine ra_iadd hx hb dX0_different_67 ?_
            refine ra_lald hx hb hK hP 1 0 rfl rfl (by omega) (by decide) dX0_different_68 ?_
            refine ca_i (As := [.int (nI nn), .long (sl ((8 * k) + b))]) (rest := []) hC (metX0_splitSets ha hI (gOK_mod (v := fun i => vl i k) (b := b) (fun q hq => (hsl q hq k (by omega)).2 b (by omega)))) (cwV 2 hts (lw_V q179 q181 qs11 q17 q182) rfl rfl rfl (by decide +kernel) ⟨Nat.le_of_ble_eq_true rfl, Nat.le_of_ble_eq_true rfl⟩) hK hP (va_recv hK hP (ci := 0) (q0 := 0) rfl rfl) rfl hl.1 rfl (Nat.le_of_ble_eq_true rfl) dX0_different_69 ⟨Nat.zero_le _, Nat.zero_le _⟩ hS (fun _ h => h) (fun r4 u4 H locs hq4 hP hk4 hS => ?_)
            have hP : va_P D vwCl (wX ad cA pr sl (nI n) so fi se ho co u3.1 u3.2.1 u3.2.2.1 u3.2.2.2.1 u3.2.2.2.2 u4.1 u4.2) H := hP
            obtain ⟨mm, rq, rfl, hI4⟩ := hq4
            refine lv_istore_n (lv' := [(3, .int (nI mm)), (4, .int (nI b)), (0, .ref (ad 0)), (1, .int (nI cs + (-1))), (2, .int (nI k))]) hx hb dX0_different_72 rfl hl (by decide) rfl (fun ls hl => ?_)
            refine lv_iinc (v := nI (b + 1)) (lv' := [(4, .int (nI (b + 1))), (3, .int (nI mm)), (0, .ref (ad 0)), (1, .int (nI cs + (-1))), (2, .int (nI k))]) hx hb dX0_different_73 hl (k := 1) rfl (nI_1 _) (by decide) rfl (fun ls hl => ?_)
            refine lv_goto (tgt := 48) hx hb dX0_different_76 (by decide) ?_
            exact ih (b + 1) mm _ _ rq (by omega) (by omega) hI4 _ _ _ hP hS (lv_sub hl [0, 1, 2, 3, 4] rfl)
      refine lv_if_ne (tgt := 43) hx hb dX0_different_36 (by decide) (fun c3 => ?_) (fun c3 => ?_)
      · have _h : True := trivial
        refine lv_iconst (v := nI 1) hx hb dX0_different_43 (by decide) ?_
        refine lv_istore_n (lv' := [(3, .int (nI 1)), (0, .ref (ad 0)), (1, .int (nI cs + (-1))), (2, .int (nI k))]) hx hb dX0_different_44 rfl hl (by decide) rfl (fun ls hl => ?_)
        refine lv_iconst (v := nI 0) hx hb dX0_different_45 (by decide) ?_
        refine lv_istore (lv' := [(4, .int (nI 0)), (3, .int (nI 1)), (0, .ref (ad 0)), (1, .int (nI cs + (-1))), (2, .int (nI k))]) hx hb dX0_different_46 hl (by decide) rfl (fun ls hl => ?_)
        obtain ⟨rep, hI⟩ := pt_1 (v := fun i => vl i k) (ss := ss) hq3.1 (fun q => c3 ((lg_cmp_eq _ _).mpr q))
        exact loop 9 0 1 _ _ rep (by omega) (by omega) hI _ _ _ hP hS (lv_sub hl [0, 1, 2, 3, 4] rfl)
      · have _h : True := trivial
        refine lv_iconst (v := nI 0) hx hb dX0_different_39 (by decide) ?_
        refine lv_goto (tgt := 44) hx hb dX0_different_40 (by decide) ?_
        refine lv_istore_n (lv' := [(3, .int (nI 0)), (0, .ref (ad 0)), (1, .int (nI cs + (-1))), (2, .int (nI k))]) hx hb dX0_different_44 rfl hl (by decide) rfl (fun ls hl => ?_)
        refine lv_iconst (v := nI 0) hx hb dX0_different_45 (by decide) ?_
        refine lv_istore (lv' := [(4, .int (nI 0)), (3, .int (nI 0)), (0, .ref (ad 0)), (1, .int (nI cs + (-1))), (2, .int (nI k))]) hx hb dX0_different_46 hl (by decide) rfl (fun ls hl => ?_)
        exact loop 9 0 0 _ _ (fun _ => 0) (by omega) (by omega) (pt_0 (v := fun i => vl i k) (ss := ss) hq3.1 ((lg_cmp_eq _ _).mp c3)) _ _ _ hP hS (lv_sub hl [0, 1, 2, 3, 4] rfl)
end
section
/-! plain facts: the model's side -/
def bN (b : Bool) : Nat := if b then 1 else 0
theorem bN_t {b : Bool} (h : b = true) : bN b = 1 := by rw [h]; rfl
theorem bN_f {b : Bool} (h : b = false) : bN b = 0 := by rw [h]; rfl
theorem bN_0 {b : Bool} (h : bN b = 0) : b = false := by cases b with | false => rfl | true => cases h
theorem bN_1 {b : Bool} (h : bN b ≠ 0) : b = true := by cases b with | false => exact absurd rfl h | true => rfl
theorem bN_lt (b : Bool) : bN b < 2 ^ 31 := by cases b <;> decide
theorem bN_nar (b : Bool) : vp_nar .boolean (nI (bN b)) = nI (bN b) := by cases b <;> rfl
theorem bN_fit (b : Bool) : narrow .boolean (.int (nI (bN b))) = .int (nI (bN b)) := by cases b <;> rfl
def THok (th : Nat → Bool) (tm : Nat → Int32) : Prop := ∀ i, i < 64 → tm i = nI (bN (th i))
def VMok (vl : Nat → Nat → Nat) (va : Nat → Int32) : Prop := ∀ i, i < 64 → ∀ c, c < 3 → vl i c < 256 ∧ va (3 * i + c) = nI (vl i c)
theorem cm_0 {x y : Int32} (h : x = y) : nI 1 = nI (bN (cmpB x.toInt y.toInt 0)) := by rw [bN_t]; simp [cmpB, h]
theorem cm_0' {x y : Int32} (h : ¬ x = y) : nI 0 = nI (bN (cmpB x.toInt y.toInt 0)) := by rw [bN_f]; simp [cmpB]; exact fun q => h (Int32.toInt_inj.mp q)
theorem cm_1 {x y : Int32} (h : ¬ y ≤ x) : nI 1 = nI (bN (cmpB x.toInt y.toInt 1)) := by rw [bN_t]; rw [Int32.le_iff_toInt_le] at h; simp [cmpB]; omega
theorem cm_1' {x y : Int32} (h : y ≤ x) : nI 0 = nI (bN (cmpB x.toInt y.toInt 1)) := by rw [bN_f]; rw [Int32.le_iff_toInt_le] at h; simp [cmpB]; omega
theorem cm_2 {x y : Int32} (h : ¬ y < x) : nI 1 = nI (bN (cmpB x.toInt y.toInt 2)) := by rw [bN_t]; rw [Int32.lt_iff_toInt_lt] at h; simp [cmpB]; omega
theorem cm_2' {x y : Int32} (h : y < x) : nI 0 = nI (bN (cmpB x.toInt y.toInt 2)) := by rw [bN_f]; rw [Int32.lt_iff_toInt_lt] at h; simp [cmpB]; omega
theorem cm_3 {x y : Int32} (h : ¬ x = y) : nI 1 = nI (bN (cmpB x.toInt y.toInt 3)) := by rw [bN_t]; simp [cmpB]; exact fun q => h (Int32.toInt_inj.mp q)
theorem cm_3' {x y : Int32} (h : x = y) : nI 0 = nI (bN (cmpB x.toInt y.toInt 3)) := by rw [bN_f]; simp [cmpB, h]
theorem cm_4 {x y : Int32} (h : ¬ x < y) : nI 1 = nI (bN (cmpB x.toInt y.toInt 4)) := by rw [bN_t]; rw [Int32.lt_iff_toInt_lt] at h; simp [cmpB]; omega
theorem cm_4' {x y : Int32} (h : x < y) : nI 0 = nI (bN (cmpB x.toInt y.toInt 4)) := by rw [bN_f]; rw [Int32.lt_iff_toInt_lt] at h; simp [cmpB]; omega
theorem cm_5 {x y : Int32} {w : Nat} (h0 : w ≠ 0) (h1 : w ≠ 1) (h2 : w ≠ 2) (h3 : w ≠ 3) (h4 : w ≠ 4) (h : ¬ x ≤ y) : nI 1 = nI (bN (cmpB x.toInt y.toInt w)) := by rw [bN_t]; rw [Int32.le_iff_toInt_le] at h; simp [cmpB, h0, h1, h2, h3, h4]; omega
theorem cm_5' {x y : Int32} {w : Nat} (h0 : w ≠ 0) (h1 : w ≠ 1) (h2 : w ≠ 2) (h3 : w ≠ 3) (h4 : w ≠ 4) (h : x ≤ y) : nI 0 = nI (bN (cmpB x.toInt y.toInt w)) := by rw [bN_f]; rw [Int32.le_iff_toInt_le] at h; simp [cmpB, h0, h1, h2, h3, h4]; omega
theorem ms_step {cd : cdT} {val : Nat → Nat} {m1 : Nat → Int32} {i : Nat} {b : Bool} (h : ∀ j, j < i → m1 j = nI (bN (EB cd val j))) (hb : b = EB cd val i) : ∀ j, j < i + 1 → upd m1 i (nI (bN b)) j = nI (bN (EB cd val j)) := by
  intro j hj
  by_cases e : j = i
  · subst e
    rw [pk_us, hb]
  · rw [pk_un e]
    exact h j (by omega)
theorem me_0 {cd : cdT} {val : Nat → Nat} {i lf rt hw : Nat} {ks : Int32} (hq : cd i = (0, lf, rt, hw, ks)) (h2 : lf ≤ 2) (hv : val lf < 256) : cmpB (nI (val (lf % 3))).toInt ks.toInt hw = EB cd val i := by
  rw [EB_eq, hq, Nat.mod_eq_of_lt (by omega), nI_toInt (by omega)]
  rfl
theorem me_1 {cd : cdT} {val : Nat → Nat} {i lf rt hw : Nat} {ks : Int32} (hq : cd i = (1, lf, rt, hw, ks)) (h2 : lf ≤ 2) (h3 : rt ≤ 2) (hv : val lf < 256) (hr : val rt < 256) : cmpB (nI (val (lf % 3))).toInt (nI (val (rt % 3))).toInt hw = EB cd val i := by
  rw [EB_eq, hq, Nat.mod_eq_of_lt (show lf < 3 by omega), Nat.mod_eq_of_lt (show rt < 3 by omega), nI_toInt (by omega), nI_toInt (by omega)]
  rfl
theorem me_2 {cd : cdT} {val : Nat → Nat} {i lf rt hw : Nat} {ks : Int32} (hq : cd i = (2, lf, rt, hw, ks)) (h2 : lf ≤ 2) (h3 : rt ≤ 2) (hv : val lf < 256) (hr : val rt < 256) : cmpB (nI (val (lf % 3) + val (rt % 3))).toInt ks.toInt hw = EB cd val i := by
  rw [EB_eq, hq, Nat.mod_eq_of_lt (show lf < 3 by omega), Nat.mod_eq_of_lt (show rt < 3 by omega), nI_toInt (by omega)]
  rfl
theorem me_3 {cd : cdT} {val : Nat → Nat} {i lf rt hw : Nat} {ks : Int32} (hq : cd i = (3, lf, rt, hw, ks)) (h2 : lf < i) (h3 : rt < i) : jnB (EB cd val lf) (EB cd val rt) hw = EB cd val i := by
  rw [EB_eq cd val i, hq, ← TB_lt cd val i lf h2, ← TB_lt cd val i rt h3]
  rfl
theorem jn_0 {a b : Bool} : jnB a b 0 = (a && b) := rfl
theorem jn_1 {a b : Bool} : jnB a b 1 = (a || b) := rfl
theorem jn_2 {a b : Bool} : jnB a b 2 = (a ^^ b) := rfl
theorem jn_3 {a b : Bool} {h : Nat} (h0 : h ≠ 0) (h1 : h ≠ 1) (h2 : h ≠ 2) : jnB a b h = (a && !b) := by simp [jnB, h0, h1, h2]
theorem bN_eq {a b : Bool} (h : bN a = bN b) : a = b := by cases a <;> cases b <;> first | rfl | cases h
theorem ct_y {p : Nat → Bool} {i : Nat} (h : p i = true) : fb_ct p i + 1 = fb_ct p (i + 1) := by rw [fb_ct_succ, h]; rfl
theorem ct_n {p : Nat → Bool} {i : Nat} (h : p i = false) : fb_ct p i = fb_ct p (i + 1) := by rw [fb_ct_succ, h]; rfl
theorem sm_y {p : Nat → Bool} {v : Nat → Nat} {i : Nat} (h : p i = true) : fb_sm (fun i => if p i then v i else 0) i + v i = fb_sm (fun i => if p i then v i else 0) (i + 1) := by rw [fb_sm_succ, h]; rfl
theorem sm_n {p : Nat → Bool} {v : Nat → Nat} {i : Nat} (h : p i = false) : fb_sm (fun i => if p i then v i else 0) i = fb_sm (fun i => if p i then v i else 0) (i + 1) := by rw [fb_sm_succ, h]; rfl
theorem hv_lt (p : Nat → Bool) (v : Nat → Nat) (w : Nat) : ltA p v w + hvA p v w = ltA p v (w + 1) := by
  rw [ltA_succ, hvA]
  congr 1
  exact fb_ct_cong (fun i _ => by rw [Bool.and_comm])
theorem ltA_0 (p : Nat → Bool) (v : Nat → Nat) : ltA p v 0 = 0 := fb_ct_zero.mpr (fun i _ => by simp)
theorem ltA_256 {p : Nat → Bool} {v : Nat → Nat} (hv : ∀ i, i < 64 → v i < 256) : ltA p v 256 = fb_ct p 64 := fb_ct_cong (fun i hi => by simp [hv i hi])
theorem ltA_le (p : Nat → Bool) (v : Nat → Nat) (w : Nat) : ltA p v w ≤ 64 := fb_ct_le _ _
theorem hvA_le (p : Nat → Bool) (v : Nat → Nat) (w : Nat) : hvA p v w ≤ 64 := fb_ct_le _ _
/-- making a condition in the model -/
abbrev mmS : Type := Int32 × (Nat → Int32) × (Nat → Int32) × (Nat → Int32) × (Nat → Int32) × (Nat → Int32)
def mmP (n : Nat) (kd lf rt ho co : Nat → Int32) (k l h r' c : Int32) (r : Int32) (u : mmS) : Prop :=
  (n = 16 ∧ r = (-1) ∧ u = (nI n, kd, lf, rt, ho, co)) ∨ (n < 16 ∧ r = nI n ∧ u = (nI (n + 1), upd kd n k, upd lf n l, upd rt n r', upd ho n h, upd co n c))
theorem row_ne {p : Nat → Bool} {pl : Int32} {i : Nat} (h : ∀ j, j < i → p j = true → pl ≠ nI (fb_ct p j)) (hi : p i = true → pl ≠ nI (fb_ct p i)) : ∀ j, j < i + 1 → p j = true → pl ≠ nI (fb_ct p j) := by
  intro j hj hp
  by_cases e : j = i
  · subst e
    exact hi hp
  · exact h j (by omega) hp
end
section
set_option maxHeartbeats 4000000 in
set_option maxRecDepth 100000 in
theorem metX1_badColumn {l : Launch} {D : va_G}  (x : Int32) : Met l yX1_badColumn (ws_ yX1_badColumn cX1_badColumn 1 (some .boolean)) (rmK 0) (PcW D [] [] [.int x]) (va_Qi (fun (r : Int32) (_ : Unit) => (r = nI 1 ∧ ¬ okCol x) ∨ (r = nI 0 ∧ okCol x)) (fun _ t => va_P D vwCl [] t.heap) (fun _ => False)) 0 0 (fun _ => False) := by
  refine en_z (own := RX1) (by decide) rfl (Nat.le_of_ble_eq_true rfl) ?_
  intro p e s m below meth c R Q ls hR hC hK hP hl hret
  subst hR
  obtain ⟨hx, hb, hml, hown, hts, hr, hlocks⟩ := id hC
  have hS : va_S (fun _ => False) s.heap s.heap [] := va_S.rf
  have hl : lv_has ls 1 [(0, .int x)] := hl
  refine lv_iload_n hx hb dX1_badColumn_0 rfl (lv_at hl 0 rfl) ?_
  refine lv_if_lt (tgt := 9) hx hb dX1_badColumn_1 (by decide) (fun c1 => ?_) (fun c1 => ?_)
  · have _h : True := trivial
    refine lv_iconst (v := nI 1) hx hb dX1_badColumn_9 (by decide) ?_
    refine lv_goto (tgt := 14) hx hb dX1_badColumn_10 (by decide) ?_
    exact hret _ () _ _ _ _ dX1_badColumn_14 rfl hP hS (Or.inl ⟨rfl, no_neg (by decide) c1⟩)
  · have _h : True := trivial
    refine lv_iload_n hx hb dX1_badColumn_4 rfl (lv_at hl 0 rfl) ?_
    refine lv_iconst (v := nI 2) hx hb dX1_badColumn_5 (by decide) ?_
    refine lv_icmp_le (tgt := 13) hx hb dX1_badColumn_6 (by decide) (fun c2 => ?_) (fun c2 => ?_)
    · have _h : True := trivial
      refine lv_iconst (v := nI 0) hx hb dX1_badColumn_13 (by decide) ?_
      exact hret _ () _ _ _ _ dX1_badColumn_14 rfl hP hS (Or.inr ⟨rfl, inK 2 (by decide) c1 c2⟩)
    · have _h : True := trivial
      refine lv_iconst (v := nI 1) hx hb dX1_badColumn_9 (by decide) ?_
      refine lv_goto (tgt := 14) hx hb dX1_badColumn_10 (by decide) ?_
      exact hret _ () _ _ _ _ dX1_badColumn_14 rfl hP hS (Or.inl ⟨rfl, no_nle (by decide) c2⟩)
set_option maxHeartbeats 4000000 in
set_option maxRecDepth 100000 in
theorem metX1_missing {l : Launch} {D : va_G} {ad : Nat → Nat} {cA : Nat → ClassId} {th va : Nat → Int32}  {kd lf rt ho co mt : Nat → Int32} (ha : apt 9 ad) {n : Nat} (hn : n ≤ 16) (x : Int32) : Met l yX1_missing (ws_ yX1_missing cX1_missing 2 (some .boolean)) (rmK 0) (PcW D (tM cA) (wM ad cA th va (nI n) kd lf rt ho co mt) [.ref (ad 0), .int x]) (va_Qi (fun (r : Int32) (_ : Unit) => (r = nI 1 ∧ ¬ okQ n x) ∨ (r = nI 0 ∧ okQ n x)) (fun u t => va_P D vwCl (wM ad cA th va (nI n) kd lf rt ho co mt) t.heap) (AdX 9 ad)) 0 0 (AdX 9 ad) := by
  refine en_z (own := RX1) (by decide) rfl (Nat.le_of_ble_eq_true rfl) ?_
  intro p e s m below meth c R Q ls hR hC hK hP hl hret
  subst hR
  obtain ⟨hx, hb, hml, hown, hts, hr, hlocks⟩ := id hC
  have hS : va_S (AdX 9 ad) s.heap s.heap [] := va_S.rf
  have hl : lv_has ls 2 [(0, .ref (ad 0)), (1, .int x)] := hl
  refine lv_iload_n hx hb dX1_missing_0 rfl (lv_at hl 1 rfl) ?_
  refine lv_iconst (v := (-1)) hx hb dX1_missing_1 (by decide) ?_
  refine lv_icmp_lt (tgt := 13) hx hb dX1_missing_2 (by decide) (fun c1 => ?_) (fun c1 => ?_)
  · have _h : True := trivial
    refine lv_iconst (v := nI 1) hx hb dX1_missing_13 (by decide) ?_
    refine lv_goto (tgt := 18) hx hb dX1_missing_14 (by decide) ?_
    exact hret _ () _ _ _ _ dX1_missing_18 rfl hP hS (Or.inl ⟨rfl, cs_no hn (Or.inl c1)⟩)
  · have _h : True := trivial
    refine lv_iload_n hx hb dX1_missing_5 rfl (lv_at hl 1 rfl) ?_
    refine lv_aload_n hx hb dX1_missing_6 rfl (lv_at hl 0 rfl) ?_
    refine va_get (D := D) (ci := 1) (v := .int (nI n)) (C := RX1) (T := TX1) (N := 9) hx hb hts in_X1 hown hK hP 0 rfl rfl 2 (by decide) (hts _ q191) (fun _ h9 => h9) rfl dX1_missing_7 ?_
    refine lv_icmp_lt (tgt := 17) hx hb dX1_missing_10 (by decide) (fun c2 => ?_) (fun c2 => ?_)
    · have _h : True := trivial
      refine lv_iconst (v := nI 0) hx hb dX1_missing_17 (by decide) ?_
      exact hret _ () _ _ _ _ dX1_missing_18 rfl hP hS (Or.inr ⟨rfl, cs_of hn c1 (Int32.not_le.mpr c2)⟩)
    · have _h : True := trivial
      refine lv_iconst (v := nI 1) hx hb dX1_missing_13 (by decide) ?_
      refine lv_goto (tgt := 18) hx hb dX1_missing_14 (by decide) ?_
      exact hret _ () _ _ _ _ dX1_missing_18 rfl hP hS (Or.inl ⟨rfl, cs_no hn (Or.inr (Int32.not_lt.mp c2))⟩)
set_option maxHeartbeats 4000000 in
set_option maxRecDepth 100000 in
theorem metX1_put {l : Launch} {D : va_G} {ad : Nat → Nat} {cA : Nat → ClassId} {th va : Nat → Int32} {cn : Int32} {kd lf rt ho co mt : Nat → Int32} (ha : apt 9 ad) (x a b d : Int32) : Met l yX1_put (ws_ yX1_put cX1_put 5 (some .int)) (rmK 0) (PcW D (tM cA) (wM ad cA th va cn kd lf rt ho co mt) [.ref (ad 0), .int x, .int a, .int b, .int d]) (va_Qi (fun (r : Int32) (u : (Nat → Int32) × (Nat → Int32)) => (¬ okRow x ∧ r = (-1) ∧ u = (th, va)) ∨ (∃ j, j ≤ 63 ∧ x = nI j ∧ r = nI 0 ∧ u.1 = upd th j (nI 1) ∧ u.2 = upd (upd (upd va (3 * j) (nI (wv a))) (3 * j + 1) (nI (wv b))) (3 * j + 2) (nI (wv d)))) (fun u t => va_P D vwCl (wM ad cA u.1 u.2 cn kd lf rt ho co mt) t.heap) (AdX 9 ad)) 0 0 (AdX 9 ad) := by
  refine en_i (own := RX1) (by decide) rfl (Nat.le_of_ble_eq_true rfl) ?_
  intro p e s m below meth c R Q ls hR hC hK hP hl hret
  subst hR
  obtain ⟨hx, hb, hml, hown, hts, hr, hlocks⟩ := id hC
  have hS : va_S (AdX 9 ad) s.heap s.heap [] := va_S.rf
  have hl : lv_has ls 5 [(0, .ref (ad 0)), (1, .int x), (2, .int a), (3, .int b), (4, .int d)] := hl
  refine lv_iload_n hx hb dX1_put_0 rfl (lv_at hl 1 rfl) ?_
  refine lv_if_lt (tgt := 10) hx hb dX1_put_1 (by decide) (fun c1 => ?_) (fun c1 => ?_)
  · have _h : True := trivial
    refine lv_iconst (v := (-1)) hx hb dX1_put_10 (by decide) ?_
    exact hret _ (th, va) _ _ _ _ dX1_put_11 hP hS (Or.inl ⟨no_neg (by decide) c1, rfl, rfl⟩)
  · have _h : True := trivial
    refine lv_iload_n hx hb dX1_put_4 rfl (lv_at hl 1 rfl) ?_
    refine lv_bipush (v := nI 63) hx hb dX1_put_5 (by decide) ?_
    refine lv_icmp_le (tgt := 12) hx hb dX1_put_7 (by decide) (fun c2 => ?_) (fun c2 => ?_)
    · have _h : True := trivial
      obtain ⟨j, hj, rfl⟩ := in64 c1 c2
      refine lv_aload_n hx hb dX1_put_12 rfl (lv_at hl 0 rfl) ?_
      refine va_get (D := D) (ci := 1) (v := .ref (ad 1)) (C := RX1) (T := TX1) (N := 9) hx hb hts in_X1 hown hK hP 0 rfl rfl 0 (by decide) (hts _ q189) (fun _ h9 => h9) rfl dX1_put_13 ?_
      refine lv_iload_n hx hb dX1_put_16 rfl (lv_at hl 1 rfl) ?_
      refine lv_iconst (v := nI 1) hx hb dX1_put_17 (by decide) ?_
      refine ra_zast hx hb hK hP (dM ha) hS 1 0 rfl rfl (by omega) (by decide) rfl dX1_put_18 (fun H locs hP hS => ?_)
      have hP : va_P D vwCl (wM ad cA (upd th j (nI 1)) va cn kd lf rt ho co mt) H := hP
      refine lv_aload_n hx hb dX1_put_19 rfl (lv_at hl 0 rfl) ?_
      refine va_get (D := D) (ci := 1) (v := .ref (ad 2)) (C := RX1) (T := TX1) (N := 9) hx hb hts in_X1 hown hK hP 0 rfl rfl 1 (by decide) (hts _ q190) (fun _ h9 => h9) rfl dX1_put_20 ?_
      refine lv_iconst (v := nI 3) hx hb dX1_put_23 (by decide) ?_
      refine lv_iload_n hx hb dX1_put_24 rfl (lv_at hl 1 rfl) ?_
      refine ra_imul hx hb dX1_put_25 ?_
      refine lv_iload_n hx hb dX1_put_26 rfl (lv_at hl 2 rfl) ?_
      refine lv_sipush (v := nI 255) hx hb dX1_put_27 (by decide) ?_
      refine lv_iand hx hb dX1_put_30 ?_
      rw [show (a &&& (nI 255) : Int32) = nI (wv a) from wv_and a]
      refine ra_iast hx hb hK hP (dM ha) hS 2 1 rfl rfl (by omega) (by decide) dX1_put_31 (fun H locs hP hS => ?_)
      have hP : va_P D vwCl (wM ad cA (upd th j (nI 1)) (upd va (3 * j) (nI (wv a))) cn kd lf rt ho co mt) H := hP
      refine lv_aload_n hx hb dX1_put_32 rfl (lv_at hl 0 rfl) ?_
      refine va_get (D := D) (ci := 1) (v := .ref (ad 2)) (C := RX1) (T := TX1) (N := 9) hx hb hts in_X1 hown hK hP 0 rfl rfl 1 (by decide) (hts _ q190) (fun _ h9 => h9) rfl dX1_put_33 ?_
      refine lv_iconst (v := nI 3) hx hb dX1_put_36 (by decide) ?_
      refine lv_iload_n hx hb dX1_put_37 rfl (lv_at hl 1 rfl) ?_
      refine ra_imul hx hb dX1_put_38 ?_
      refine lv_iconst (v := nI 1) hx hb dX1_put_39 (by decide) ?_
      refine ra_iadd hx hb dX1_put_40 ?_
      refine lv_iload_n hx hb dX1_put_41 rfl (lv_at hl 3 rfl) ?_
      refine lv_sipush (v := nI 255) hx hb dX1_put_42 (by decide) ?_
      refine lv_iand hx hb dX1_put_45 ?_
      rw [show (b &&& (nI 255) : Int32) = nI (wv b) from wv_and b]
      refine ra_iast hx hb hK hP (dM ha) hS 2 1 rfl rfl (by omega) (by decide) dX1_put_46 (fun H locs hP hS => ?_)
      have hP : va_P D vwCl (wM ad cA (upd th j (nI 1)) (upd (upd va (3 * j) (nI (wv a))) ((3 * j) + 1) (nI (wv b))) cn kd lf rt ho co mt) H := hP
      refine lv_aload_n hx hb dX1_put_47 rfl (lv_at hl 0 rfl) ?_
      refine va_get (D := D) (ci := 1) (v := .ref (ad 2)) (C := RX1) (T := TX1) (N := 9) hx hb hts in_X1 hown hK hP 0 rfl rfl 1 (by decide) (hts _ q190) (fun _ h9 => h9) rfl dX1_put_48 ?_
      refine lv_iconst (v := nI 3) hx hb dX1_put_51 (by decide) ?_
      refine lv_iload_n hx hb dX1_put_52 rfl (lv_at hl 1 rfl) ?_
      refine ra_imul hx hb dX1_put_53 ?_
      refine lv_iconst (v := nI 2) hx hb dX1_put_54 (by decide) ?_
      refine ra_iadd hx hb dX1_put_55 ?_
      refine lv_iload hx hb dX1_put_56 (lv_at hl 4 rfl) ?_
      refine lv_sipush (v := nI 255) hx hb dX1_put_58 (by decide) ?_
      refine lv_iand hx hb dX1_put_61 ?_
      rw [show (d &&& (nI 255) : Int32) = nI (wv d) from wv_and d]
      refine ra_iast hx hb hK hP (dM ha) hS 2 1 rfl rfl (by omega) (by decide) dX1_put_62 (fun H locs hP hS => ?_)
      have hP : va_P D vwCl (wM ad cA (upd th j (nI 1)) (upd (upd (upd va (3 * j) (nI (wv a))) ((3 * j) + 1) (nI (wv b))) ((3 * j) + 2) (nI (wv d))) cn kd lf rt ho co mt) H := hP
      refine lv_iconst (v := nI 0) hx hb dX1_put_63 (by decide) ?_
      exact hret _ (upd th j (nI 1), upd (upd (upd va (3 * j) (nI (wv a))) ((3 * j) + 1) (nI (wv b))) ((3 * j) + 2) (nI (wv d))) _ _ _ _ dX1_put_64 hP hS (Or.inr ⟨j, hj, rfl, rfl, rfl, rfl⟩)
    · have _h : True := trivial
      refine lv_iconst (v := (-1)) hx hb dX1_put_10 (by decide) ?_
      exact hret _ (th, va) _ _ _ _ dX1_put_11 hP hS (Or.inl ⟨no_nle (by decide) c2, rfl, rfl⟩)
set_option maxHeartbeats 4000000 in
set_option maxRecDepth 100000 in
theorem metX1_drop {l : Launch} {D : va_G} {ad : Nat → Nat} {cA : Nat → ClassId} {th va : Nat → Int32} {cn : Int32} {kd lf rt ho co mt : Nat → Int32} (ha : apt 9 ad) (x : Int32) : Met l yX1_drop (ws_ yX1_drop cX1_drop 3 (some .int)) (rmK 0) (PcW D (tM cA) (wM ad cA th va cn kd lf rt ho co mt) [.ref (ad 0), .int x]) (va_Qi (fun (r : Int32) (u : Nat → Int32) => (¬ okRow x ∧ r = (-1) ∧ u = th) ∨ (∃ j, j ≤ 63 ∧ x = nI j ∧ r = (if th j = 0 then nI 0 else nI 1) ∧ u = upd th j (nI 0))) (fun u t => va_P D vwCl (wM ad cA u va cn kd lf rt ho co mt) t.heap) (AdX 9 ad)) 0 0 (AdX 9 ad) := by
  refine en_i (own := RX1) (by decide) rfl (Nat.le_of_ble_eq_true rfl) ?_
  intro p e s m below meth c R Q ls hR hC hK hP hl hret
  subst hR
  obtain ⟨hx, hb, hml, hown, hts, hr, hlocks⟩ := id hC
  have hS : va_S (AdX 9 ad) s.heap s.heap [] := va_S.rf
  have hl : lv_has ls 3 [(0, .ref (ad 0)), (1, .int x)] := hl
  refine lv_iload_n hx hb dX1_drop_0 rfl (lv_at hl 1 rfl) ?_
  refine lv_if_lt (tgt := 10) hx hb dX1_drop_1 (by decide) (fun c1 => ?_) (fun c1 => ?_)
  · have _h : True := trivial
    refine lv_iconst (v := (-1)) hx hb dX1_drop_10 (by decide) ?_
    exact hret _ th _ _ _ _ dX1_drop_11 hP hS (Or.inl ⟨no_neg (by decide) c1, rfl, rfl⟩)
  · have _h : True := trivial
    refine lv_iload_n hx hb dX1_drop_4 rfl (lv_at hl 1 rfl) ?_
    refine lv_bipush (v := nI 63) hx hb dX1_drop_5 (by decide) ?_
    refine lv_icmp_le (tgt := 12) hx hb dX1_drop_7 (by decide) (fun c2 => ?_) (fun c2 => ?_)
    · have _h : True := trivial
      obtain ⟨j, hj, rfl⟩ := in64 c1 c2
      refine lv_aload_n hx hb dX1_drop_12 rfl (lv_at hl 0 rfl) ?_
      refine va_get (D := D) (ci := 1) (v := .ref (ad 1)) (C := RX1) (T := TX1) (N := 9) hx hb hts in_X1 hown hK hP 0 rfl rfl 0 (by decide) (hts _ q189) (fun _ h9 => h9) rfl dX1_drop_13 ?_
      refine lv_iload_n hx hb dX1_drop_16 rfl (lv_at hl 1 rfl) ?_
      refine ra_zald hx hb hK hP 1 0 rfl rfl (by omega) (by decide) dX1_drop_17 ?_
      refine lv_if_eq (tgt := 25) hx hb dX1_drop_18 (by decide) (fun c3 => ?_) (fun c3 => ?_)
      · have _h : True := trivial
        refine lv_iconst (v := nI 0) hx hb dX1_drop_25 (by decide) ?_
        refine lv_istore_n (lv' := [(2, .int (nI 0)), (0, .ref (ad 0)), (1, .int (nI j))]) hx hb dX1_drop_26 rfl hl (by decide) rfl (fun ls hl => ?_)
        refine lv_aload_n hx hb dX1_drop_27 rfl (lv_at hl 1 rfl) ?_
        refine va_get (D := D) (ci := 1) (v := .ref (ad 1)) (C := RX1) (T := TX1) (N := 9) hx hb hts in_X1 hown hK hP 0 rfl rfl 0 (by decide) (hts _ q189) (fun _ h9 => h9) rfl dX1_drop_28 ?_
        refine lv_iload_n hx hb dX1_drop_31 rfl (lv_at hl 2 rfl) ?_
        refine lv_iconst (v := nI 0) hx hb dX1_drop_32 (by decide) ?_
        refine ra_zast hx hb hK hP (dM ha) hS 1 0 rfl rfl (by omega) (by decide) rfl dX1_drop_33 (fun H locs hP hS => ?_)
        have hP : va_P D vwCl (wM ad cA (upd th j (nI 0)) va cn kd lf rt ho co mt) H := hP
        refine lv_iload_n hx hb dX1_drop_34 rfl (lv_at hl 0 rfl) ?_
        exact hret _ (upd th j (nI 0)) _ _ _ _ dX1_drop_35 hP hS (Or.inr ⟨j, hj, rfl, by rw [if_pos c3], rfl⟩)
      · have _h : True := trivial
        refine lv_iconst (v := nI 1) hx hb dX1_drop_21 (by decide) ?_
        refine lv_goto (tgt := 26) hx hb dX1_drop_22 (by decide) ?_
        refine lv_istore_n (lv' := [(2, .int (nI 1)), (0, .ref (ad 0)), (1, .int (nI j))]) hx hb dX1_drop_26 rfl hl (by decide) rfl (fun ls hl => ?_)
        refine lv_aload_n hx hb dX1_drop_27 rfl (lv_at hl 1 rfl) ?_
        refine va_get (D := D) (ci := 1) (v := .ref (ad 1)) (C := RX1) (T := TX1) (N := 9) hx hb hts in_X1 hown hK hP 0 rfl rfl 0 (by decide) (hts _ q189) (fun _ h9 => h9) rfl dX1_drop_28 ?_
        refine lv_iload_n hx hb dX1_drop_31 rfl (lv_at hl 2 rfl) ?_
        refine lv_iconst (v := nI 0) hx hb dX1_drop_32 (by decide) ?_
        refine ra_zast hx hb hK hP (dM ha) hS 1 0 rfl rfl (by omega) (by decide) rfl dX1_drop_33 (fun H locs hP hS => ?_)
        have hP : va_P D vwCl (wM ad cA (upd th j (nI 0)) va cn kd lf rt ho co mt) H := hP
        refine lv_iload_n hx hb dX1_drop_34 rfl (lv_at hl 0 rfl) ?_
        exact hret _ (upd th j (nI 0)) _ _ _ _ dX1_drop_35 hP hS (Or.inr ⟨j, hj, rfl, by rw [if_neg c3], rfl⟩)
    · have _h : True := trivial
      refine lv_iconst (v := (-1)) hx hb dX1_drop_10 (by decide) ?_
      exact hret _ th _ _ _ _ dX1_drop_11 hP hS (Or.inl ⟨no_nle (by decide) c2, rfl, rfl⟩)
set_option maxHeartbeats 4000000 in
set_option maxRecDepth 100000 in
theorem metX1_clear {l : Launch} {D : va_G} {ad : Nat → Nat} {cA : Nat → ClassId} {th va : Nat → Int32} {cn : Int32} {kd lf rt ho co mt : Nat → Int32} (ha : apt 9 ad)  : Met l yX1_clear (ws_ yX1_clear cX1_clear 1 (none)) (rmK 0) (PcW D (tM cA) (wM ad cA th va cn kd lf rt ho co mt) [.ref (ad 0)]) (va_Qv (fun (u : Int32) => u = nI 0) (fun u t => va_P D vwCl (wM ad cA th va u kd lf rt ho co mt) t.heap) (AdX 9 ad)) 0 0 (AdX 9 ad) := by
  refine en_v (own := RX1) (by decide) rfl (Nat.le_of_ble_eq_true rfl) ?_
  intro p e s m below meth c R Q ls hR hC hK hP hl hret
  subst hR
  obtain ⟨hx, hb, hml, hown, hts, hr, hlocks⟩ := id hC
  have hS : va_S (AdX 9 ad) s.heap s.heap [] := va_S.rf
  have hl : lv_has ls 1 [(0, .ref (ad 0))] := hl
  refine lv_aload_n hx hb dX1_clear_0 rfl (lv_at hl 0 rfl) ?_
  refine lv_iconst (v := nI 0) hx hb dX1_clear_1 (by decide) ?_
  refine va_put (D := D) (ci := 1) (v := .int (nI 0)) (ty := .int) (C := RX1) (T := TX1) (N := 9) hx hb hts in_X1 tyX1 tyX1_ok nmX1 hown hK hP (dM ha) hS 0 rfl rfl 2 (by decide) (hts _ q191) (fun _ h9 => h9) rfl (by decide +kernel) rfl rfl (Nat.le_of_ble_eq_true rfl) dX1_clear_2 (fun H locs hP _ hS => ?_)
  have hP : va_P D vwCl (wM ad cA th va (nI 0) kd lf rt ho co mt) H := hP
  exact hret (nI 0) _ _ _ _ dX1_clear_5 hP hS rfl
set_option maxHeartbeats 4000000 in
set_option maxRecDepth 100000 in
theorem metX1_make {l : Launch} {D : va_G} {ad : Nat → Nat} {cA : Nat → ClassId} {th va : Nat → Int32}  {kd lf rt ho co mt : Nat → Int32} (ha : apt 9 ad) {n : Nat} (hn : n ≤ 16) (k l' h r' c' : Int32) : Met l yX1_make (ws_ yX1_make cX1_make 6 (some .int)) (rmK 0) (PcW D (tM cA) (wM ad cA th va (nI n) kd lf rt ho co mt) [.ref (ad 0), .int k, .int l', .int h, .int r', .int c']) (va_Qi (fun (r : Int32) (u : mmS) => mmP n kd lf rt ho co k l' h r' c' r u) (fun u t => va_P D vwCl (wM ad cA th va u.1 u.2.1 u.2.2.1 u.2.2.2.1 u.2.2.2.2.1 u.2.2.2.2.2 mt) t.heap) (AdX 9 ad)) 0 0 (AdX 9 ad) := by
  refine en_i (own := RX1) (by decide) rfl (Nat.le_of_ble_eq_true rfl) ?_
  intro p e s m below meth c R Q ls hR hC hK hP hl hret
  subst hR
  obtain ⟨hx, hb, hml, hown, hts, hr, hlocks⟩ := id hC
  have hS : va_S (AdX 9 ad) s.heap s.heap [] := va_S.rf
  have hl : lv_has ls 6 [(0, .ref (ad 0)), (1, .int k), (2, .int l'), (3, .int h), (4, .int r'), (5, .int c')] := hl
  refine lv_aload_n hx hb dX1_make_0 rfl (lv_at hl 0 rfl) ?_
  refine va_get (D := D) (ci := 1) (v := .int (nI n)) (C := RX1) (T := TX1) (N := 9) hx hb hts in_X1 hown hK hP 0 rfl rfl 2 (by decide) (hts _ q191) (fun _ h9 => h9) rfl dX1_make_1 ?_
  refine lv_bipush (v := nI 16) hx hb dX1_make_4 (by decide) ?_
  refine ra_icmp_ne (tgt := 11) hx hb (by omega) (by omega) dX1_make_6 (by decide) (fun c1 => ?_) (fun c1 => ?_)
  · have _h : True := trivial
    have hn16 : n < 16 := by omega
    refine lv_aload_n hx hb dX1_make_11 rfl (lv_at hl 0 rfl) ?_
    refine va_get (D := D) (ci := 1) (v := .ref (ad 3)) (C := RX1) (T := TX1) (N := 9) hx hb hts in_X1 hown hK hP 0 rfl rfl 3 (by decide) (hts _ q192) (fun _ h9 => h9) rfl dX1_make_12 ?_
    refine lv_aload_n hx hb dX1_make_15 rfl (lv_at hl 0 rfl) ?_
    refine va_get (D := D) (ci := 1) (v := .int (nI n)) (C := RX1) (T := TX1) (N := 9) hx hb hts in_X1 hown hK hP 0 rfl rfl 2 (by decide) (hts _ q191) (fun _ h9 => h9) rfl dX1_make_16 ?_
    refine lv_iload_n hx hb dX1_make_19 rfl (lv_at hl 1 rfl) ?_
    refine ra_iast hx hb hK hP (dM ha) hS 3 2 rfl rfl (by omega) (by decide) dX1_make_20 (fun H locs hP hS => ?_)
    have hP : va_P D vwCl (wM ad cA th va (nI n) (upd kd n k) lf rt ho co mt) H := hP
    refine lv_aload_n hx hb dX1_make_21 rfl (lv_at hl 0 rfl) ?_
    refine va_get (D := D) (ci := 1) (v := .ref (ad 4)) (C := RX1) (T := TX1) (N := 9) hx hb hts in_X1 hown hK hP 0 rfl rfl 4 (by decide) (hts _ q193) (fun _ h9 => h9) rfl dX1_make_22 ?_
    refine lv_aload_n hx hb dX1_make_25 rfl (lv_at hl 0 rfl) ?_
    refine va_get (D := D) (ci := 1) (v := .int (nI n)) (C := RX1) (T := TX1) (N := 9) hx hb hts in_X1 hown hK hP 0 rfl rfl 2 (by decide) (hts _ q191) (fun _ h9 => h9) rfl dX1_make_26 ?_
    refine lv_iload_n hx hb dX1_make_29 rfl (lv_at hl 2 rfl) ?_
    refine ra_iast hx hb hK hP (dM ha) hS 4 3 rfl rfl (by omega) (by decide) dX1_make_30 (fun H locs hP hS => ?_)
    have hP : va_P D vwCl (wM ad cA th va (nI n) (upd kd n k) (upd lf n l') rt ho co mt) H := hP
    refine lv_aload_n hx hb dX1_make_31 rfl (lv_at hl 0 rfl) ?_
    refine va_get (D := D) (ci := 1) (v := .ref (ad 6)) (C := RX1) (T := TX1) (N := 9) hx hb hts in_X1 hown hK hP 0 rfl rfl 6 (by decide) (hts _ q195) (fun _ h9 => h9) rfl dX1_make_32 ?_
    refine lv_aload_n hx hb dX1_make_35 rfl (lv_at hl 0 rfl) ?_
    refine va_get (D := D) (ci := 1) (v := .int (nI n)) (C := RX1) (T := TX1) (N := 9) hx hb hts in_X1 hown hK hP 0 rfl rfl 2 (by decide) (hts _ q191) (fun _ h9 => h9) rfl dX1_make_36 ?_
    refine lv_iload_n hx hb dX1_make_39 rfl (lv_at hl 3 rfl) ?_
    refine ra_iast hx hb hK hP (dM ha) hS 6 5 rfl rfl (by omega) (by decide) dX1_make_40 (fun H locs hP hS => ?_)
    have hP : va_P D vwCl (wM ad cA th va (nI n) (upd kd n k) (upd lf n l') rt (upd ho n h) co mt) H := hP
    refine lv_aload_n hx hb dX1_make_41 rfl (lv_at hl 0 rfl) ?_
    refine va_get (D := D) (ci := 1) (v := .ref (ad 5)) (C := RX1) (T := TX1) (N := 9) hx hb hts in_X1 hown hK hP 0 rfl rfl 5 (by decide) (hts _ q194) (fun _ h9 => h9) rfl dX1_make_42 ?_
    refine lv_aload_n hx hb dX1_make_45 rfl (lv_at hl 0 rfl) ?_
    refine va_get (D := D) (ci := 1) (v := .int (nI n)) (C := RX1) (T := TX1) (N := 9) hx hb hts in_X1 hown hK hP 0 rfl rfl 2 (by decide) (hts _ q191) (fun _ h9 => h9) rfl dX1_make_46 ?_
    refine lv_iload hx hb dX1_make_49 (lv_at hl 4 rfl) ?_
    refine ra_iast hx hb hK hP (dM ha) hS 5 4 rfl rfl (by omega) (by decide) dX1_make_51 (fun H locs hP hS => ?_)
    have hP : va_P D vwCl (wM ad cA th va (nI n) (upd kd n k) (upd lf n l') (upd rt n r') (upd ho n h) co mt) H := hP
    refine lv_aload_n hx hb dX1_make_52 rfl (lv_at hl 0 rfl) ?_
    refine va_get (D := D) (ci := 1) (v := .ref (ad 7)) (C := RX1) (T := TX1) (N := 9) hx hb hts in_X1 hown hK hP 0 rfl rfl 7 (by decide) (hts _ q196) (fun _ h9 => h9) rfl dX1_make_53 ?_
    refine lv_aload_n hx hb dX1_make_56 rfl (lv_at hl 0 rfl) ?_
    refine va_get (D := D) (ci := 1) (v := .int (nI n)) (C := RX1) (T := TX1) (N := 9) hx hb hts in_X1 hown hK hP 0 rfl rfl 2 (by decide) (hts _ q191) (fun _ h9 => h9) rfl dX1_make_57 ?_
    refine lv_iload hx hb dX1_make_60 (lv_at hl 5 rfl) ?_
    refine ra_iast hx hb hK hP (dM ha) hS 7 6 rfl rfl (by omega) (by decide) dX1_make_62 (fun H locs hP hS => ?_)
    have hP : va_P D vwCl (wM ad cA th va (nI n) (upd kd n k) (upd lf n l') (upd rt n r') (upd ho n h) (upd co n c') mt) H := hP
    refine lv_aload_n hx hb dX1_make_63 rfl (lv_at hl 0 rfl) ?_
    refine lv_dup hx hb dX1_make_64 rfl ?_
    refine va_get (D := D) (ci := 1) (v := .int (nI n)) (C := RX1) (T := TX1) (N := 9) hx hb hts in_X1 hown hK hP 0 rfl rfl 2 (by decide) (hts _ q191) (fun _ h9 => h9) rfl dX1_make_65 ?_
    refine lv_iconst (v := nI 1) hx hb dX1_make_68 (by decide) ?_
    refine ra_iadd hx hb dX1_make_69 ?_
    refine va_put (D := D) (ci := 1) (v := .int (nI (n + 1))) (ty := .int) (C := RX1) (T := TX1) (N := 9) hx hb hts in_X1 tyX1 tyX1_ok nmX1 hown hK hP (dM ha) hS 0 rfl rfl 2 (by decide) (hts _ q191) (fun _ h9 => h9) rfl (by decide +kernel) rfl rfl (Nat.le_of_ble_eq_true rfl) dX1_make_70 (fun H locs hP _ hS => ?_)
    have hP : va_P D vwCl (wM ad cA th va (nI (n + 1)) (upd kd n k) (upd lf n l') (upd rt n r') (upd ho n h) (upd co n c') mt) H := hP
    refine lv_aload_n hx hb dX1_make_73 rfl (lv_at hl 0 rfl) ?_
    refine va_get (D := D) (ci := 1) (v := .int (nI (n + 1))) (C := RX1) (T := TX1) (N := 9) hx hb hts in_X1 hown hK hP 0 rfl rfl 2 (by decide) (hts _ q191) (fun _ h9 => h9) rfl dX1_make_74 ?_
    refine lv_iconst (v := nI 1) hx hb dX1_make_77 (by decide) ?_
    refine ra_isub hx hb (by omega) dX1_make_78 ?_
    exact hret _ (nI (n + 1), upd kd n k, upd lf n l', upd rt n r', upd ho n h, upd co n c') _ _ _ _ dX1_make_79 hP hS (Or.inr ⟨hn16, rfl, rfl⟩)
  · have _h : True := trivial
    refine lv_iconst (v := (-1)) hx hb dX1_make_9 (by decide) ?_
    exact hret _ (nI n, kd, lf, rt, ho, co) _ _ _ _ dX1_make_10 hP hS (Or.inl ⟨c1, rfl, rfl⟩)
set_option maxHeartbeats 4000000 in
set_option maxRecDepth 100000 in
theorem metX1_compare {l : Launch} {D : va_G} {ad : Nat → Nat} {cA : Nat → ClassId} {th va : Nat → Int32}  {kd lf rt ho co mt : Nat → Int32} (ha : apt 9 ad) {n : Nat} (hn : n ≤ 16) (x h k : Int32) : Met l yX1_compare (ws_ yX1_compare cX1_compare 4 (some .int)) (rmK 1) (PcW D (tM cA) (wM ad cA th va (nI n) kd lf rt ho co mt) [.ref (ad 0), .int x, .int h, .int k]) (va_Qi (fun (r : Int32) (u : mmS) => (¬ okCmp x h ∧ r = (-1) ∧ u = (nI n, kd, lf, rt, ho, co)) ∨ (∃ j d, j ≤ 2 ∧ d ≤ 5 ∧ x = nI j ∧ h = nI d ∧ mmP n kd lf rt ho co (nI 0) (nI j) (nI d) (nI 0) k r u)) (fun u t => va_P D vwCl (wM ad cA th va u.1 u.2.1 u.2.2.1 u.2.2.2.1 u.2.2.2.2.1 u.2.2.2.2.2 mt) t.heap) (AdX 9 ad)) 0 0 (AdX 9 ad) := by
  refine en_i (own := RX1) (by decide) rfl (Nat.le_of_ble_eq_true rfl) ?_
  intro p e s m below meth c R Q ls hR hC hK hP hl hret
  subst hR
  obtain ⟨hx, hb, hml, hown, hts, hr, hlocks⟩ := id hC
  have hS : va_S (AdX 9 ad) s.heap s.heap [] := va_S.rf
  have hl : lv_has ls 4 [(0, .ref (ad 0)), (1, .int x), (2, .int h), (3, .int k)] := hl
  refine lv_iload_n hx hb dX1_compare_0 rfl (lv_at hl 1 rfl) ?_
  refine cs_i (As := [.int x]) (rest := []) hC (metX1_badColumn x) (va_cwS 1 hts (lw_S q229 q230 q18 q231) rfl rfl rfl (by decide +kernel) ⟨Nat.le_of_ble_eq_true rfl, Nat.le_of_ble_eq_true rfl⟩) hK rfl hl.1 rfl (Nat.le_of_ble_eq_true rfl) dX1_compare_1 ⟨Nat.zero_le _, Nat.zero_le _⟩ hS hP (fun r1 H locs hq1 hP hS => ?_)
  rcases hq1 with ⟨rfl, hb1⟩ | ⟨rfl, j1, hj1, rfl⟩
  · have _h : True := trivial
    refine ra_if_ne (tgt := 16) hx hb (by omega) dX1_compare_4 (by decide) (fun c1 => ?_) (fun c1 => (by omega : False).elim)
    refine lv_iconst (v := (-1)) hx hb dX1_compare_16 (by decide) ?_
    exact hret _ (nI n, kd, lf, rt, ho, co) _ _ _ _ dX1_compare_17 hP hS (Or.inl ⟨fun ⟨j, d, hj, hd, e1, e2⟩ => hb1 ⟨j, hj, e1⟩, rfl, rfl⟩)
  · have _h : True := trivial
    refine ra_if_ne (tgt := 16) hx hb (by omega) dX1_compare_4 (by decide) (fun c1 => (by omega : False).elim) (fun c1 => ?_)
    refine lv_iload_n hx hb dX1_compare_7 rfl (lv_at hl 2 rfl) ?_
    refine lv_if_lt (tgt := 16) hx hb dX1_compare_8 (by decide) (fun c2 => ?_) (fun c2 => ?_)
    · have _h : True := trivial
      refine lv_iconst (v := (-1)) hx hb dX1_compare_16 (by decide) ?_
      exact hret _ (nI n, kd, lf, rt, ho, co) _ _ _ _ dX1_compare_17 hP hS (Or.inl ⟨fun ⟨j, d, hj, hd, e1, e2⟩ => no_neg (K := 5) (by decide) c2 ⟨d, hd, e2⟩, rfl, rfl⟩)
    · have _h : True := trivial
      refine lv_iload_n hx hb dX1_compare_11 rfl (lv_at hl 2 rfl) ?_
      refine lv_iconst (v := nI 5) hx hb dX1_compare_12 (by decide) ?_
      refine lv_icmp_le (tgt := 18) hx hb dX1_compare_13 (by decide) (fun c3 => ?_) (fun c3 => ?_)
      · have _h : True := trivial
        obtain ⟨d, hd, rfl⟩ := inK 5 (by decide) c2 c3
        refine lv_aload_n hx hb dX1_compare_18 rfl (lv_at hl 0 rfl) ?_
        refine lv_iconst (v := nI 0) hx hb dX1_compare_19 (by decide) ?_
        refine lv_iload_n hx hb dX1_compare_20 rfl (lv_at hl 1 rfl) ?_
        refine lv_iload_n hx hb dX1_compare_21 rfl (lv_at hl 2 rfl) ?_
        refine lv_iconst (v := nI 0) hx hb dX1_compare_22 (by decide) ?_
        refine lv_iload_n hx hb dX1_compare_23 rfl (lv_at hl 3 rfl) ?_
        refine ca_i (As := [.int (nI 0), .int (nI j1), .int (nI d), .int (nI 0), .int k]) (rest := []) hC (metX1_make ha hn (nI 0) (nI j1) (nI d) (nI 0) k) (cwV 5 hts (lw_V q232 q234 qs12 q18 q235) rfl rfl rfl (by decide +kernel) ⟨Nat.le_of_ble_eq_true rfl, Nat.le_of_ble_eq_true rfl⟩) hK hP (va_recv hK hP (ci := 1) (q0 := 0) rfl rfl) rfl hl.1 rfl (Nat.le_of_ble_eq_true rfl) dX1_compare_24 ⟨Nat.zero_le _, Nat.zero_le _⟩ hS (fun _ h => h) (fun r2 u2 H locs hq2 hP hk2 hS => ?_)
        exact hret _ u2 _ _ _ _ dX1_compare_27 hP hS (Or.inr ⟨j1, d, hj1, hd, rfl, rfl, hq2⟩)
      · have _h : True := trivial
        refine lv_iconst (v := (-1)) hx hb dX1_compare_16 (by decide) ?_
        exact hret _ (nI n, kd, lf, rt, ho, co) _ _ _ _ dX1_compare_17 hP hS (Or.inl ⟨fun ⟨j, d, hj, hd, e1, e2⟩ => no_nle (K := 5) (by decide) c3 ⟨d, hd, e2⟩, rfl, rfl⟩)
set_option maxHeartbeats 4000000 in
set_option maxRecDepth 100000 in
theorem metX1_columns {l : Launch} {D : va_G} {ad : Nat → Nat} {cA : Nat → ClassId} {th va : Nat → Int32}  {kd lf rt ho co mt : Nat → Int32} (ha : apt 9 ad) {n : Nat} (hn : n ≤ 16) (x h y : Int32) : Met l yX1_columns (ws_ yX1_columns cX1_columns 4 (some .int)) (rmK 1) (PcW D (tM cA) (wM ad cA th va (nI n) kd lf rt ho co mt) [.ref (ad 0), .int x, .int h, .int y]) (va_Qi (fun (r : Int32) (u : mmS) => (¬ okCols x h y ∧ r = (-1) ∧ u = (nI n, kd, lf, rt, ho, co)) ∨ (∃ j d q, j ≤ 2 ∧ d ≤ 5 ∧ q ≤ 2 ∧ x = nI j ∧ h = nI d ∧ y = nI q ∧ mmP n kd lf rt ho co (nI 1) (nI j) (nI d) (nI q) (nI 0) r u)) (fun u t => va_P D vwCl (wM ad cA th va u.1 u.2.1 u.2.2.1 u.2.2.2.1 u.2.2.2.2.1 u.2.2.2.2.2 mt) t.heap) (AdX 9 ad)) 0 0 (AdX 9 ad) := by
  refine en_i (own := RX1) (by decide) rfl (Nat.le_of_ble_eq_true rfl) ?_
  intro p e s m below meth c R Q ls hR hC hK hP hl hret
  subst hR
  obtain ⟨hx, hb, hml, hown, hts, hr, hlocks⟩ := id hC
  have hS : va_S (AdX 9 ad) s.heap s.heap [] := va_S.rf
  have hl : lv_has ls 4 [(0, .ref (ad 0)), (1, .int x), (2, .int h), (3, .int y)] := hl
  refine lv_iload_n hx hb dX1_columns_0 rfl (lv_at hl 1 rfl) ?_
  refine cs_i (As := [.int x]) (rest := []) hC (metX1_badColumn x) (va_cwS 1 hts (lw_S q229 q230 q18 q231) rfl rfl rfl (by decide +kernel) ⟨Nat.le_of_ble_eq_true rfl, Nat.le_of_ble_eq_true rfl⟩) hK rfl hl.1 rfl (Nat.le_of_ble_eq_true rfl) dX1_columns_1 ⟨Nat.zero_le _, Nat.zero_le _⟩ hS hP (fun r1 H locs hq1 hP hS => ?_)
  rcases hq1 with ⟨rfl, hb1⟩ | ⟨rfl, j1, hj1, rfl⟩
  · have _h : True := trivial
    refine ra_if_ne (tgt := 23) hx hb (by omega) dX1_columns_4 (by decide) (fun c1 => ?_) (fun c1 => (by omega : False).elim)
    refine lv_iconst (v := (-1)) hx hb dX1_columns_23 (by decide) ?_
    exact hret _ (nI n, kd, lf, rt, ho, co) _ _ _ _ dX1_columns_24 hP hS (Or.inl ⟨fun ⟨j, d, q, hj, hd, hq, e1, e2, e3⟩ => hb1 ⟨j, hj, e1⟩, rfl, rfl⟩)
  · have _h : True := trivial
    refine ra_if_ne (tgt := 23) hx hb (by omega) dX1_columns_4 (by decide) (fun c1 => (by omega : False).elim) (fun c1 => ?_)
    refine lv_iload_n hx hb dX1_columns_7 rfl (lv_at hl 3 rfl) ?_
    refine cs_i (As := [.int y]) (rest := []) hC (metX1_badColumn y) (va_cwS 1 hts (lw_S q229 q230 q18 q231) rfl rfl rfl (by decide +kernel) ⟨Nat.le_of_ble_eq_true rfl, Nat.le_of_ble_eq_true rfl⟩) hK rfl hl.1 rfl (Nat.le_of_ble_eq_true rfl) dX1_columns_8 ⟨Nat.zero_le _, Nat.zero_le _⟩ hS hP (fun r2 H locs hq2 hP hS => ?_)
    rcases hq2 with ⟨rfl, hb2⟩ | ⟨rfl, j2, hj2, rfl⟩
    · have _h : True := trivial
      refine ra_if_ne (tgt := 23) hx hb (by omega) dX1_columns_11 (by decide) (fun c2 => ?_) (fun c2 => (by omega : False).elim)
      refine lv_iconst (v := (-1)) hx hb dX1_columns_23 (by decide) ?_
      exact hret _ (nI n, kd, lf, rt, ho, co) _ _ _ _ dX1_columns_24 hP hS (Or.inl ⟨fun ⟨j, d, q, hj, hd, hq, e1, e2, e3⟩ => hb2 ⟨q, hq, e3⟩, rfl, rfl⟩)
    · have _h : True := trivial
      refine ra_if_ne (tgt := 23) hx hb (by omega) dX1_columns_11 (by decide) (fun c2 => (by omega : False).elim) (fun c2 => ?_)
      refine lv_iload_n hx hb dX1_columns_14 rfl (lv_at hl 2 rfl) ?_
      refine lv_if_lt (tgt := 23) hx hb dX1_columns_15 (by decide) (fun c3 => ?_) (fun c3 => ?_)
      · have _h : True := trivial
        refine lv_iconst (v := (-1)) hx hb dX1_columns_23 (by decide) ?_
        exact hret _ (nI n, kd, lf, rt, ho, co) _ _ _ _ dX1_columns_24 hP hS (Or.inl ⟨fun ⟨j, d, q, hj, hd, hq, e1, e2, e3⟩ => no_neg (K := 5) (by decide) c3 ⟨d, hd, e2⟩, rfl, rfl⟩)
      · have _h : True := trivial
        refine lv_iload_n hx hb dX1_columns_18 rfl (lv_at hl 2 rfl) ?_
        refine lv_iconst (v := nI 5) hx hb dX1_columns_19 (by decide) ?_
        refine lv_icmp_le (tgt := 25) hx hb dX1_columns_20 (by decide) (fun c4 => ?_) (fun c4 => ?_)
        · have _h : True := trivial
          obtain ⟨d, hd, rfl⟩ := inK 5 (by decide) c3 c4
          refine lv_aload_n hx hb dX1_columns_25 rfl (lv_at hl 0 rfl) ?_
          refine lv_iconst (v := nI 1) hx hb dX1_columns_26 (by decide) ?_
          refine lv_iload_n hx hb dX1_columns_27 rfl (lv_at hl 1 rfl) ?_
          refine lv_iload_n hx hb dX1_columns_28 rfl (lv_at hl 2 rfl) ?_
          refine lv_iload_n hx hb dX1_columns_29 rfl (lv_at hl 3 rfl) ?_
          refine lv_iconst (v := nI 0) hx hb dX1_columns_30 (by decide) ?_
          refine ca_i (As := [.int (nI 1), .int (nI j1), .int (nI d), .int (nI j2), .int (nI 0)]) (rest := []) hC (metX1_make ha hn (nI 1) (nI j1) (nI d) (nI j2) (nI 0)) (cwV 5 hts (lw_V q232 q234 qs12 q18 q235) rfl rfl rfl (by decide +kernel) ⟨Nat.le_of_ble_eq_true rfl, Nat.le_of_ble_eq_true rfl⟩) hK hP (va_recv hK hP (ci := 1) (q0 := 0) rfl rfl) rfl hl.1 rfl (Nat.le_of_ble_eq_true rfl) dX1_columns_31 ⟨Nat.zero_le _, Nat.zero_le _⟩ hS (fun _ h => h) (fun r3 u3 H locs hq3 hP hk3 hS => ?_)
          exact hret _ u3 _ _ _ _ dX1_columns_34 hP hS (Or.inr ⟨j1, d, j2, hj1, hd, hj2, rfl, rfl, rfl, hq3⟩)
        · have _h : True := trivial
          refine lv_iconst (v := (-1)) hx hb dX1_columns_23 (by decide) ?_
          exact hret _ (nI n, kd, lf, rt, ho, co) _ _ _ _ dX1_columns_24 hP hS (Or.inl ⟨fun ⟨j, d, q, hj, hd, hq, e1, e2, e3⟩ => no_nle (K := 5) (by decide) c4 ⟨d, hd, e2⟩, rfl, rfl⟩)
set_option maxHeartbeats 4000000 in
set_option maxRecDepth 100000 in
theorem metX1_sums {l : Launch} {D : va_G} {ad : Nat → Nat} {cA : Nat → ClassId} {th va : Nat → Int32}  {kd lf rt ho co mt : Nat → Int32} (ha : apt 9 ad) {n : Nat} (hn : n ≤ 16) (x y h k : Int32) : Met l yX1_sums (ws_ yX1_sums cX1_sums 5 (some .int)) (rmK 1) (PcW D (tM cA) (wM ad cA th va (nI n) kd lf rt ho co mt) [.ref (ad 0), .int x, .int y, .int h, .int k]) (va_Qi (fun (r : Int32) (u : mmS) => (¬ okCols x h y ∧ r = (-1) ∧ u = (nI n, kd, lf, rt, ho, co)) ∨ (∃ j d q, j ≤ 2 ∧ d ≤ 5 ∧ q ≤ 2 ∧ x = nI j ∧ h = nI d ∧ y = nI q ∧ mmP n kd lf rt ho co (nI 2) (nI j) (nI d) (nI q) k r u)) (fun u t => va_P D vwCl (wM ad cA th va u.1 u.2.1 u.2.2.1 u.2.2.2.1 u.2.2.2.2.1 u.2.2.2.2.2 mt) t.heap) (AdX 9 ad)) 0 0 (AdX 9 ad) := by
  refine en_i (own := RX1) (by decide) rfl (Nat.le_of_ble_eq_true rfl) ?_
  intro p e s m below meth c R Q ls hR hC hK hP hl hret
  subst hR
  obtain ⟨hx, hb, hml, hown, hts, hr, hlocks⟩ := id hC
  have hS : va_S (AdX 9 ad) s.heap s.heap [] := va_S.rf
  have hl : lv_has ls 5 [(0, .ref (ad 0)), (1, .int x), (2, .int y), (3, .int h), (4, .int k)] := hl
  refine lv_iload_n hx hb dX1_sums_0 rfl (lv_at hl 1 rfl) ?_
  refine cs_i (As := [.int x]) (rest := []) hC (metX1_badColumn x) (va_cwS 1 hts (lw_S q229 q230 q18 q231) rfl rfl rfl (by decide +kernel) ⟨Nat.le_of_ble_eq_true rfl, Nat.le_of_ble_eq_true rfl⟩) hK rfl hl.1 rfl (Nat.le_of_ble_eq_true rfl) dX1_sums_1 ⟨Nat.zero_le _, Nat.zero_le _⟩ hS hP (fun r1 H locs hq1 hP hS => ?_)
  rcases hq1 with ⟨rfl, hb1⟩ | ⟨rfl, j1, hj1, rfl⟩
  · have _h : True := trivial
    refine ra_if_ne (tgt := 23) hx hb (by omega) dX1_sums_4 (by decide) (fun c1 => ?_) (fun c1 => (by omega : False).elim)
    refine lv_iconst (v := (-1)) hx hb dX1_sums_23 (by decide) ?_
    exact hret _ (nI n, kd, lf, rt, ho, co) _ _ _ _ dX1_sums_24 hP hS (Or.inl ⟨fun ⟨j, d, q, hj, hd, hq, e1, e2, e3⟩ => hb1 ⟨j, hj, e1⟩, rfl, rfl⟩)
  · have _h : True := trivial
    refine ra_if_ne (tgt := 23) hx hb (by omega) dX1_sums_4 (by decide) (fun c1 => (by omega : False).elim) (fun c1 => ?_)
    refine lv_iload_n hx hb dX1_sums_7 rfl (lv_at hl 2 rfl) ?_
    refine cs_i (As := [.int y]) (rest := []) hC (metX1_badColumn y) (va_cwS 1 hts (lw_S q229 q230 q18 q231) rfl rfl rfl (by decide +kernel) ⟨Nat.le_of_ble_eq_true rfl, Nat.le_of_ble_eq_true rfl⟩) hK rfl hl.1 rfl (Nat.le_of_ble_eq_true rfl) dX1_sums_8 ⟨Nat.zero_le _, Nat.zero_le _⟩ hS hP (fun r2 H locs hq2 hP hS => ?_)
    rcases hq2 with ⟨rfl, hb2⟩ | ⟨rfl, j2, hj2, rfl⟩
    · have _h : True := trivial
      refine ra_if_ne (tgt := 23) hx hb (by omega) dX1_sums_11 (by decide) (fun c2 => ?_) (fun c2 => (by omega : False).elim)
      refine lv_iconst (v := (-1)) hx hb dX1_sums_23 (by decide) ?_
      exact hret _ (nI n, kd, lf, rt, ho, co) _ _ _ _ dX1_sums_24 hP hS (Or.inl ⟨fun ⟨j, d, q, hj, hd, hq, e1, e2, e3⟩ => hb2 ⟨q, hq, e3⟩, rfl, rfl⟩)
    · have _h : True := trivial
      refine ra_if_ne (tgt := 23) hx hb (by omega) dX1_sums_11 (by decide) (fun c2 => (by omega : False).elim) (fun c2 => ?_)
      refine lv_iload_n hx hb dX1_sums_14 rfl (lv_at hl 3 rfl) ?_
      refine lv_if_lt (tgt := 23) hx hb dX1_sums_15 (by decide) (fun c3 => ?_) (fun c3 => ?_)
      · have _h : True := trivial
        refine lv_iconst (v := (-1)) hx hb dX1_sums_23 (by decide) ?_
        exact hret _ (nI n, kd, lf, rt, ho, co) _ _ _ _ dX1_sums_24 hP hS (Or.inl ⟨fun ⟨j, d, q, hj, hd, hq, e1, e2, e3⟩ => no_neg (K := 5) (by decide) c3 ⟨d, hd, e2⟩, rfl, rfl⟩)
      · have _h : True := trivial
        refine lv_iload_n hx hb dX1_sums_18 rfl (lv_at hl 3 rfl) ?_
        refine lv_iconst (v := nI 5) hx hb dX1_sums_19 (by decide) ?_
        refine lv_icmp_le (tgt := 25) hx hb dX1_sums_20 (by decide) (fun c4 => ?_) (fun c4 => ?_)
        · have _h : True := trivial
          obtain ⟨d, hd, rfl⟩ := inK 5 (by decide) c3 c4
          refine lv_aload_n hx hb dX1_sums_25 rfl (lv_at hl 0 rfl) ?_
          refine lv_iconst (v := nI 2) hx hb dX1_sums_26 (by decide) ?_
          refine lv_iload_n hx hb dX1_sums_27 rfl (lv_at hl 1 rfl) ?_
          refine lv_iload_n hx hb dX1_sums_28 rfl (lv_at hl 3 rfl) ?_
          refine lv_iload_n hx hb dX1_sums_29 rfl (lv_at hl 2 rfl) ?_
          refine lv_iload hx hb dX1_sums_30 (lv_at hl 4 rfl) ?_
          refine ca_i (As := [.int (nI 2), .int (nI j1), .int (nI d), .int (nI j2), .int k]) (rest := []) hC (metX1_make ha hn (nI 2) (nI j1) (nI d) (nI j2) k) (cwV 5 hts (lw_V q232 q234 qs12 q18 q235) rfl rfl rfl (by decide +kernel) ⟨Nat.le_of_ble_eq_true rfl, Nat.le_of_ble_eq_true rfl⟩) hK hP (va_recv hK hP (ci := 1) (q0 := 0) rfl rfl) rfl hl.1 rfl (Nat.le_of_ble_eq_true rfl) dX1_sums_32 ⟨Nat.zero_le _, Nat.zero_le _⟩ hS (fun _ h => h) (fun r3 u3 H locs hq3 hP hk3 hS => ?_)
          exact hret _ u3 _ _ _ _ dX1_sums_35 hP hS (Or.inr ⟨j1, d, j2, hj1, hd, hj2, rfl, rfl, rfl, hq3⟩)
        · have _h : True := trivial
          refine lv_iconst (v := (-1)) hx hb dX1_sums_23 (by decide) ?_
          exact hret _ (nI n, kd, lf, rt, ho, co) _ _ _ _ dX1_sums_24 hP hS (Or.inl ⟨fun ⟨j, d, q, hj, hd, hq, e1, e2, e3⟩ => no_nle (K := 5) (by decide) c4 ⟨d, hd, e2⟩, rfl, rfl⟩)
set_option maxHeartbeats 4000000 in
set_option maxRecDepth 100000 in
theorem metX1_join {l : Launch} {D : va_G} {ad : Nat → Nat} {cA : Nat → ClassId} {th va : Nat → Int32}  {kd lf rt ho co mt : Nat → Int32} (ha : apt 9 ad) {n : Nat} (hn : n ≤ 16) (x h y : Int32) : Met l yX1_join (ws_ yX1_join cX1_join 4 (some .int)) (rmK 1) (PcW D (tM cA) (wM ad cA th va (nI n) kd lf rt ho co mt) [.ref (ad 0), .int x, .int h, .int y]) (va_Qi (fun (r : Int32) (u : mmS) => (¬ okJoin n x h y ∧ r = (-1) ∧ u = (nI n, kd, lf, rt, ho, co)) ∨ (∃ j d q, j < n ∧ d ≤ 3 ∧ q < n ∧ x = nI j ∧ h = nI d ∧ y = nI q ∧ mmP n kd lf rt ho co (nI 3) (nI j) (nI d) (nI q) (nI 0) r u)) (fun u t => va_P D vwCl (wM ad cA th va u.1 u.2.1 u.2.2.1 u.2.2.2.1 u.2.2.2.2.1 u.2.2.2.2.2 mt) t.heap) (AdX 9 ad)) 0 0 (AdX 9 ad) := by
  refine en_i (own := RX1) (by decide) rfl (Nat.le_of_ble_eq_true rfl) ?_
  intro p e s m below meth c R Q ls hR hC hK hP hl hret
  subst hR
  obtain ⟨hx, hb, hml, hown, hts, hr, hlocks⟩ := id hC
  have hS : va_S (AdX 9 ad) s.heap s.heap [] := va_S.rf
  have hl : lv_has ls 4 [(0, .ref (ad 0)), (1, .int x), (2, .int h), (3, .int y)] := hl
  refine lv_iload_n hx hb dX1_join_0 rfl (lv_at hl 1 rfl) ?_
  refine lv_if_lt (tgt := 33) hx hb dX1_join_1 (by decide) (fun c1 => ?_) (fun c1 => ?_)
  · have _h : True := trivial
    refine lv_iconst (v := (-1)) hx hb dX1_join_33 (by decide) ?_
    exact hret _ (nI n, kd, lf, rt, ho, co) _ _ _ _ dX1_join_34 hP hS (Or.inl ⟨fun ⟨j, d, q, hj, hd, hq, e1, e2, e3⟩ => no_neg' (n := n) (by omega) c1 ⟨j, hj, e1⟩, rfl, rfl⟩)
  · have _h : True := trivial
    refine lv_iload_n hx hb dX1_join_4 rfl (lv_at hl 1 rfl) ?_
    refine lv_aload_n hx hb dX1_join_5 rfl (lv_at hl 0 rfl) ?_
    refine va_get (D := D) (ci := 1) (v := .int (nI n)) (C := RX1) (T := TX1) (N := 9) hx hb hts in_X1 hown hK hP 0 rfl rfl 2 (by decide) (hts _ q191) (fun _ h9 => h9) rfl dX1_join_6 ?_
    refine lv_icmp_ge (tgt := 33) hx hb dX1_join_9 (by decide) (fun c2 => ?_) (fun c2 => ?_)
    · have _h : True := trivial
      refine lv_iconst (v := (-1)) hx hb dX1_join_33 (by decide) ?_
      exact hret _ (nI n, kd, lf, rt, ho, co) _ _ _ _ dX1_join_34 hP hS (Or.inl ⟨fun ⟨j, d, q, hj, hd, hq, e1, e2, e3⟩ => no_ge (n := n) (by omega) c2 ⟨j, hj, e1⟩, rfl, rfl⟩)
    · have _h : True := trivial
      refine lv_iload_n hx hb dX1_join_12 rfl (lv_at hl 3 rfl) ?_
      refine lv_if_lt (tgt := 33) hx hb dX1_join_13 (by decide) (fun c3 => ?_) (fun c3 => ?_)
      · have _h : True := trivial
        refine lv_iconst (v := (-1)) hx hb dX1_join_33 (by decide) ?_
        exact hret _ (nI n, kd, lf, rt, ho, co) _ _ _ _ dX1_join_34 hP hS (Or.inl ⟨fun ⟨j, d, q, hj, hd, hq, e1, e2, e3⟩ => no_neg' (n := n) (by omega) c3 ⟨q, hq, e3⟩, rfl, rfl⟩)
      · have _h : True := trivial
        refine lv_iload_n hx hb dX1_join_16 rfl (lv_at hl 3 rfl) ?_
        refine lv_aload_n hx hb dX1_join_17 rfl (lv_at hl 0 rfl) ?_
        refine va_get (D := D) (ci := 1) (v := .int (nI n)) (C := RX1) (T := TX1) (N := 9) hx hb hts in_X1 hown hK hP 0 rfl rfl 2 (by decide) (hts _ q191) (fun _ h9 => h9) rfl dX1_join_18 ?_
        refine lv_icmp_ge (tgt := 33) hx hb dX1_join_21 (by decide) (fun c4 => ?_) (fun c4 => ?_)
        · have _h : True := trivial
          refine lv_iconst (v := (-1)) hx hb dX1_join_33 (by decide) ?_
          exact hret _ (nI n, kd, lf, rt, ho, co) _ _ _ _ dX1_join_34 hP hS (Or.inl ⟨fun ⟨j, d, q, hj, hd, hq, e1, e2, e3⟩ => no_ge (n := n) (by omega) c4 ⟨q, hq, e3⟩, rfl, rfl⟩)
        · have _h : True := trivial
          refine lv_iload_n hx hb dX1_join_24 rfl (lv_at hl 2 rfl) ?_
          refine lv_if_lt (tgt := 33) hx hb dX1_join_25 (by decide) (fun c5 => ?_) (fun c5 => ?_)
          · have _h : True := trivial
            refine lv_iconst (v := (-1)) hx hb dX1_join_33 (by decide) ?_
            exact hret _ (nI n, kd, lf, rt, ho, co) _ _ _ _ dX1_join_34 hP hS (Or.inl ⟨fun ⟨j, d, q, hj, hd, hq, e1, e2, e3⟩ => no_neg (K := 3) (by decide) c5 ⟨d, hd, e2⟩, rfl, rfl⟩)
          · have _h : True := trivial
            refine lv_iload_n hx hb dX1_join_28 rfl (lv_at hl 2 rfl) ?_
            refine lv_iconst (v := nI 3) hx hb dX1_join_29 (by decide) ?_
            refine lv_icmp_le (tgt := 35) hx hb dX1_join_30 (by decide) (fun c6 => ?_) (fun c6 => ?_)
            · have _h : True := trivial
              obtain ⟨j, hj, rfl⟩ := inN (n := n) (by omega) c1 c2
              obtain ⟨q, hq, rfl⟩ := inN (n := n) (by omega) c3 c4
              obtain ⟨d, hd, rfl⟩ := inK 3 (by decide) c5 c6
              refine lv_aload_n hx hb dX1_join_35 rfl (lv_at hl 0 rfl) ?_
              refine lv_iconst (v := nI 3) hx hb dX1_join_36 (by decide) ?_
              refine lv_iload_n hx hb dX1_join_37 rfl (lv_at hl 1 rfl) ?_
              refine lv_iload_n hx hb dX1_join_38 rfl (lv_at hl 2 rfl) ?_
              refine lv_iload_n hx hb dX1_join_39 rfl (lv_at hl 3 rfl) ?_
              refine lv_iconst (v := nI 0) hx hb dX1_join_40 (by decide) ?_
              refine ca_i (As := [.int (nI 3), .int (nI j), .int (nI d), .int (nI q), .int (nI 0)]) (rest := []) hC (metX1_make ha hn (nI 3) (nI j) (nI d) (nI q) (nI 0)) (cwV 5 hts (lw_V q232 q234 qs12 q18 q235) rfl rfl rfl (by decide +kernel) ⟨Nat.le_of_ble_eq_true rfl, Nat.le_of_ble_eq_true rfl⟩) hK hP (va_recv hK hP (ci := 1) (q0 := 0) rfl rfl) rfl hl.1 rfl (Nat.le_of_ble_eq_true rfl) dX1_join_41 ⟨Nat.zero_le _, Nat.zero_le _⟩ hS (fun _ h => h) (fun r2 u2 H locs hq2 hP hk2 hS => ?_)
              exact hret _ u2 _ _ _ _ dX1_join_44 hP hS (Or.inr ⟨j, d, q, hj, hd, hq, rfl, rfl, rfl, hq2⟩)
            · have _h : True := trivial
              refine lv_iconst (v := (-1)) hx hb dX1_join_33 (by decide) ?_
              exact hret _ (nI n, kd, lf, rt, ho, co) _ _ _ _ dX1_join_34 hP hS (Or.inl ⟨fun ⟨j, d, q, hj, hd, hq, e1, e2, e3⟩ => no_nle (K := 3) (by decide) c6 ⟨d, hd, e2⟩, rfl, rfl⟩)
set_option maxHeartbeats 4000000 in
set_option maxRecDepth 100000 in
theorem metX1_compared {l : Launch} {D : va_G}  (x : Int32) (h : Nat) (hh : h ≤ 5) (y : Int32) : Met l yX1_compared (ws_ yX1_compared cX1_compared 3 (some .boolean)) (rmK 0) (PcW D [] [] [.int x, .int (nI h), .int y]) (va_Qi (fun (r : Int32) (_ : Unit) => r = nI (bN (cmpB x.toInt y.toInt h))) (fun _ t => va_P D vwCl [] t.heap) (fun _ => False)) 0 0 (fun _ => False) := by
  refine en_z (own := RX1) (by decide) rfl (Nat.le_of_ble_eq_true rfl) ?_
  intro p e s m below meth c R Q ls hR hC hK hP hl hret
  subst hR
  obtain ⟨hx, hb, hml, hown, hts, hr, hlocks⟩ := id hC
  have hS : va_S (fun _ => False) s.heap s.heap [] := va_S.rf
  have hl : lv_has ls 3 [(0, .int x), (1, .int (nI h)), (2, .int y)] := hl
  refine lv_iload_n hx hb dX1_compared_0 rfl (lv_at hl 1 rfl) ?_
  refine ra_if_ne (tgt := 15) hx hb (by omega) dX1_compared_1 (by decide) (fun c0 => ?_) (fun c0 => ?_)
  · have _h : True := trivial
    refine lv_iload_n hx hb dX1_compared_15 rfl (lv_at hl 1 rfl) ?_
    refine lv_iconst (v := nI 1) hx hb dX1_compared_16 (by decide) ?_
    refine ra_icmp_ne (tgt := 31) hx hb (by omega) (by omega) dX1_compared_17 (by decide) (fun c1 => ?_) (fun c1 => ?_)
    · have _h : True := trivial
      refine lv_iload_n hx hb dX1_compared_31 rfl (lv_at hl 1 rfl) ?_
      refine lv_iconst (v := nI 2) hx hb dX1_compared_32 (by decide) ?_
      refine ra_icmp_ne (tgt := 47) hx hb (by omega) (by omega) dX1_compared_33 (by decide) (fun c2 => ?_) (fun c2 => ?_)
      · have _h : True := trivial
        refine lv_iload_n hx hb dX1_compared_47 rfl (lv_at hl 1 rfl) ?_
        refine lv_iconst (v := nI 3) hx hb dX1_compared_48 (by decide) ?_
        refine ra_icmp_ne (tgt := 63) hx hb (by omega) (by omega) dX1_compared_49 (by decide) (fun c3 => ?_) (fun c3 => ?_)
        · have _h : True := trivial
          refine lv_iload_n hx hb dX1_compared_63 rfl (lv_at hl 1 rfl) ?_
          refine lv_iconst (v := nI 4) hx hb dX1_compared_64 (by decide) ?_
          refine ra_icmp_ne (tgt := 79) hx hb (by omega) (by omega) dX1_compared_65 (by decide) (fun c4 => ?_) (fun c4 => ?_)
          · have _h : True := trivial
            refine lv_iload_n hx hb dX1_compared_79 rfl (lv_at hl 0 rfl) ?_
            refine lv_iload_n hx hb dX1_compared_80 rfl (lv_at hl 2 rfl) ?_
            refine lv_icmp_le (tgt := 88) hx hb dX1_compared_81 (by decide) (fun d => ?_) (fun d => ?_)
            · have _h : True := trivial
              refine lv_iconst (v := nI 0) hx hb dX1_compared_88 (by decide) ?_
              exact hret _ () _ _ _ _ dX1_compared_89 rfl hP hS (cm_5' c0 c1 c2 c3 c4 d)
            · have _h : True := trivial
              refine lv_iconst (v := nI 1) hx hb dX1_compared_84 (by decide) ?_
              refine lv_goto (tgt := 89) hx hb dX1_compared_85 (by decide) ?_
              exact hret _ () _ _ _ _ dX1_compared_89 rfl hP hS (cm_5 c0 c1 c2 c3 c4 d)
          · have _h : True := trivial
            subst c4
            refine lv_iload_n hx hb dX1_compared_68 rfl (lv_at hl 0 rfl) ?_
            refine lv_iload_n hx hb dX1_compared_69 rfl (lv_at hl 2 rfl) ?_
            refine lv_icmp_lt (tgt := 77) hx hb dX1_compared_70 (by decide) (fun d => ?_) (fun d => ?_)
            · have _h : True := trivial
              refine lv_iconst (v := nI 0) hx hb dX1_compared_77 (by decide) ?_
              exact hret _ () _ _ _ _ dX1_compared_78 rfl hP hS (cm_4' d)
            · have _h : True := trivial
              refine lv_iconst (v := nI 1) hx hb dX1_compared_73 (by decide) ?_
              refine lv_goto (tgt := 78) hx hb dX1_compared_74 (by decide) ?_
              exact hret _ () _ _ _ _ dX1_compared_78 rfl hP hS (cm_4 d)
        · have _h : True := trivial
          subst c3
          refine lv_iload_n hx hb dX1_compared_52 rfl (lv_at hl 0 rfl) ?_
          refine lv_iload_n hx hb dX1_compared_53 rfl (lv_at hl 2 rfl) ?_
          refine lv_icmp_eq (tgt := 61) hx hb dX1_compared_54 (by decide) (fun d => ?_) (fun d => ?_)
          · have _h : True := trivial
            refine lv_iconst (v := nI 0) hx hb dX1_compared_61 (by decide) ?_
            exact hret _ () _ _ _ _ dX1_compared_62 rfl hP hS (cm_3' d)
          · have _h : True := trivial
            refine lv_iconst (v := nI 1) hx hb dX1_compared_57 (by decide) ?_
            refine lv_goto (tgt := 62) hx hb dX1_compared_58 (by decide) ?_
            exact hret _ () _ _ _ _ dX1_compared_62 rfl hP hS (cm_3 d)
      · have _h : True := trivial
        subst c2
        refine lv_iload_n hx hb dX1_compared_36 rfl (lv_at hl 0 rfl) ?_
        refine lv_iload_n hx hb dX1_compared_37 rfl (lv_at hl 2 rfl) ?_
        refine lv_icmp_gt (tgt := 45) hx hb dX1_compared_38 (by decide) (fun d => ?_) (fun d => ?_)
        · have _h : True := trivial
          refine lv_iconst (v := nI 0) hx hb dX1_compared_45 (by decide) ?_
          exact hret _ () _ _ _ _ dX1_compared_46 rfl hP hS (cm_2' d)
        · have _h : True := trivial
          refine lv_iconst (v := nI 1) hx hb dX1_compared_41 (by decide) ?_
          refine lv_goto (tgt := 46) hx hb dX1_compared_42 (by decide) ?_
          exact hret _ () _ _ _ _ dX1_compared_46 rfl hP hS (cm_2 d)
    · have _h : True := trivial
      subst c1
      refine lv_iload_n hx hb dX1_compared_20 rfl (lv_at hl 0 rfl) ?_
      refine lv_iload_n hx hb dX1_compared_21 rfl (lv_at hl 2 rfl) ?_
      refine lv_icmp_ge (tgt := 29) hx hb dX1_compared_22 (by decide) (fun d => ?_) (fun d => ?_)
      · have _h : True := trivial
        refine lv_iconst (v := nI 0) hx hb dX1_compared_29 (by decide) ?_
        exact hret _ () _ _ _ _ dX1_compared_30 rfl hP hS (cm_1' d)
      · have _h : True := trivial
        refine lv_iconst (v := nI 1) hx hb dX1_compared_25 (by decide) ?_
        refine lv_goto (tgt := 30) hx hb dX1_compared_26 (by decide) ?_
        exact hret _ () _ _ _ _ dX1_compared_30 rfl hP hS (cm_1 d)
  · have _h : True := trivial
    subst c0
    refine lv_iload_n hx hb dX1_compared_4 rfl (lv_at hl 0 rfl) ?_
    refine lv_iload_n hx hb dX1_compared_5 rfl (lv_at hl 2 rfl) ?_
    refine lv_icmp_ne (tgt := 13) hx hb dX1_compared_6 (by decide) (fun d => ?_) (fun d => ?_)
    · have _h : True := trivial
      refine lv_iconst (v := nI 0) hx hb dX1_compared_13 (by decide) ?_
      exact hret _ () _ _ _ _ dX1_compared_14 rfl hP hS (cm_0' d)
    · have _h : True := trivial
      refine lv_iconst (v := nI 1) hx hb dX1_compared_9 (by decide) ?_
      refine lv_goto (tgt := 14) hx hb dX1_compared_10 (by decide) ?_
      exact hret _ () _ _ _ _ dX1_compared_14 rfl hP hS (cm_0 d)
set_option maxHeartbeats 4000000 in
set_option maxRecDepth 100000 in
theorem metX1_joined {l : Launch} {D : va_G}  (a : Bool) (h : Nat) (hh : h ≤ 3) (b : Bool) : Met l yX1_joined (ws_ yX1_joined cX1_joined 3 (some .boolean)) (rmK 0) (PcW D [] [] [.int (nI (bN a)), .int (nI h), .int (nI (bN b))]) (va_Qi (fun (r : Int32) (_ : Unit) => r = nI (bN (jnB a b h))) (fun _ t => va_P D vwCl [] t.heap) (fun _ => False)) 0 0 (fun _ => False) := by
  refine en_z (own := RX1) (by decide) rfl (Nat.le_of_ble_eq_true rfl) ?_
  intro p e s m below meth c R Q ls hR hC hK hP hl hret
  subst hR
  obtain ⟨hx, hb, hml, hown, hts, hr, hlocks⟩ := id hC
  have hS : va_S (fun _ => False) s.heap s.heap [] := va_S.rf
  have hl : lv_has ls 3 [(0, .int (nI (bN a))), (1, .int (nI h)), (2, .int (nI (bN b)))] := hl
  have ha := bN_lt a
  have hbb := bN_lt b
  refine lv_iload_n hx hb dX1_joined_0 rfl (lv_at hl 1 rfl) ?_
  refine ra_if_ne (tgt := 18) hx hb (by omega) dX1_joined_1 (by decide) (fun c0 => ?_) (fun c0 => ?_)
  · have _h : True := trivial
    refine lv_iload_n hx hb dX1_joined_18 rfl (lv_at hl 1 rfl) ?_
    refine lv_iconst (v := nI 1) hx hb dX1_joined_19 (by decide) ?_
    refine ra_icmp_ne (tgt := 37) hx hb (by omega) (by omega) dX1_joined_20 (by decide) (fun c1 => ?_) (fun c1 => ?_)
    · have _h : True := trivial
      refine lv_iload_n hx hb dX1_joined_37 rfl (lv_at hl 1 rfl) ?_
      refine lv_iconst (v := nI 2) hx hb dX1_joined_38 (by decide) ?_
      refine ra_icmp_ne (tgt := 53) hx hb (by omega) (by omega) dX1_joined_39 (by decide) (fun c2 => ?_) (fun c2 => ?_)
      · have _h : True := trivial
        refine lv_iload_n hx hb dX1_joined_53 rfl (lv_at hl 0 rfl) ?_
        refine ra_if_eq (tgt := 65) hx hb (by omega) dX1_joined_54 (by decide) (fun d1 => ?_) (fun d1 => ?_)
        · have _h : True := trivial
          refine lv_iconst (v := nI 0) hx hb dX1_joined_65 (by decide) ?_
          exact hret _ () _ _ _ _ dX1_joined_66 rfl hP hS (by rw [jn_3 c0 c1 c2, bN_0 d1]; rfl)
        · have _h : True := trivial
          refine lv_iload_n hx hb dX1_joined_57 rfl (lv_at hl 2 rfl) ?_
          refine ra_if_ne (tgt := 65) hx hb (by omega) dX1_joined_58 (by decide) (fun d2 => ?_) (fun d2 => ?_)
          · have _h : True := trivial
            refine lv_iconst (v := nI 0) hx hb dX1_joined_65 (by decide) ?_
            exact hret _ () _ _ _ _ dX1_joined_66 rfl hP hS (by rw [jn_3 c0 c1 c2, bN_1 d1, bN_1 d2]; rfl)
          · have _h : True := trivial
            refine lv_iconst (v := nI 1) hx hb dX1_joined_61 (by decide) ?_
            refine lv_goto (tgt := 66) hx hb dX1_joined_62 (by decide) ?_
            exact hret _ () _ _ _ _ dX1_joined_66 rfl hP hS (by rw [jn_3 c0 c1 c2, bN_1 d1, bN_0 d2]; rfl)
      · have _h : True := trivial
        subst c2
        refine lv_iload_n hx hb dX1_joined_42 rfl (lv_at hl 0 rfl) ?_
        refine lv_iload_n hx hb dX1_joined_43 rfl (lv_at hl 2 rfl) ?_
        refine ra_icmp_eq (tgt := 51) hx hb (by omega) (by omega) dX1_joined_44 (by decide) (fun d1 => ?_) (fun d1 => ?_)
        · have _h : True := trivial
          refine lv_iconst (v := nI 0) hx hb dX1_joined_51 (by decide) ?_
          exact hret _ () _ _ _ _ dX1_joined_52 rfl hP hS (by rw [jn_2, bN_eq d1]; cases b <;> rfl)
        · have _h : True := trivial
          refine lv_iconst (v := nI 1) hx hb dX1_joined_47 (by decide) ?_
          refine lv_goto (tgt := 52) hx hb dX1_joined_48 (by decide) ?_
          exact hret _ () _ _ _ _ dX1_joined_52 rfl hP hS (by rw [jn_2]; cases a <;> cases b <;> first | rfl | exact absurd rfl d1)
    · have _h : True := trivial
      subst c1
      refine lv_iload_n hx hb dX1_joined_23 rfl (lv_at hl 0 rfl) ?_
      refine ra_if_ne (tgt := 31) hx hb (by omega) dX1_joined_24 (by decide) (fun d1 => ?_) (fun d1 => ?_)
      · have _h : True := trivial
        refine lv_iconst (v := nI 1) hx hb dX1_joined_31 (by decide) ?_
        refine lv_goto (tgt := 36) hx hb dX1_joined_32 (by decide) ?_
        exact hret _ () _ _ _ _ dX1_joined_36 rfl hP hS (by rw [jn_1, bN_1 d1]; rfl)
      · have _h : True := trivial
        refine lv_iload_n hx hb dX1_joined_27 rfl (lv_at hl 2 rfl) ?_
        refine ra_if_eq (tgt := 35) hx hb (by omega) dX1_joined_28 (by decide) (fun d2 => ?_) (fun d2 => ?_)
        · have _h : True := trivial
          refine lv_iconst (v := nI 0) hx hb dX1_joined_35 (by decide) ?_
          exact hret _ () _ _ _ _ dX1_joined_36 rfl hP hS (by rw [jn_1, bN_0 d1, bN_0 d2]; rfl)
        · have _h : True := trivial
          refine lv_iconst (v := nI 1) hx hb dX1_joined_31 (by decide) ?_
          refine lv_goto (tgt := 36) hx hb dX1_joined_32 (by decide) ?_
          exact hret _ () _ _ _ _ dX1_joined_36 rfl hP hS (by rw [jn_1, bN_0 d1, bN_1 d2]; rfl)
  · have _h : True := trivial
    subst c0
    refine lv_iload_n hx hb dX1_joined_4 rfl (lv_at hl 0 rfl) ?_
    refine ra_if_eq (tgt := 16) hx hb (by omega) dX1_joined_5 (by decide) (fun d1 => ?_) (fun d1 => ?_)
    · have _h : True := trivial
      refine lv_iconst (v := nI 0) hx hb dX1_joined_16 (by decide) ?_
      exact hret _ () _ _ _ _ dX1_joined_17 rfl hP hS (by rw [jn_0, bN_0 d1]; rfl)
    · have _h : True := trivial
      refine lv_iload_n hx hb dX1_joined_8 rfl (lv_at hl 2 rfl) ?_
      refine ra_if_eq (tgt := 16) hx hb (by omega) dX1_joined_9 (by decide) (fun d2 => ?_) (fun d2 => ?_)
      · have _h : True := trivial
        refine lv_iconst (v := nI 0) hx hb dX1_joined_16 (by decide) ?_
        exact hret _ () _ _ _ _ dX1_joined_17 rfl hP hS (by rw [jn_0, bN_1 d1, bN_0 d2]; rfl)
      · have _h : True := trivial
        refine lv_iconst (v := nI 1) hx hb dX1_joined_12 (by decide) ?_
        refine lv_goto (tgt := 17) hx hb dX1_joined_13 (by decide) ?_
        exact hret _ () _ _ _ _ dX1_joined_17 rfl hP hS (by rw [jn_0, bN_1 d1, bN_1 d2]; rfl)
end
section
set_option maxHeartbeats 4000000 in
set_option maxRecDepth 100000 in
theorem metX1_meets {l : Launch} {D : va_G} {ad : Nat → Nat} {cA : Nat → ClassId} {th va : Nat → Int32} {cn : Int32} {kd lf rt ho co mt : Nat → Int32} (ha : apt 9 ad) {tb : Nat → Bool} (hth : THok tb th) {vl : Nat → Nat → Nat} (hva : VMok vl va) {n : Nat} {cd : cdT} (hcd : CDok n cd kd lf rt ho co) (hvd : CDv n cd) {i0 cs : Nat} (hi0 : i0 < 64) (hcs : cs ≤ n) {x : Int32} (hxe : x = nI cs + (-1)) : Met l yX1_meets (ws_ yX1_meets cX1_meets 6 (some .boolean)) (rmK 1) (PcW D (tM cA) (wM ad cA th va cn kd lf rt ho co mt) [.ref (ad 0), .int (nI i0), .int x]) (va_Qi (fun (r : Int32) (u : Nat → Int32) => r = nI (bN (selB tb vl cd cs i0))) (fun u t => va_P D vwCl (wM ad cA th va cn kd lf rt ho co u) t.heap) (AdX 9 ad)) 0 0 (AdX 9 ad) := by
  refine en_z (own := RX1) (by decide) rfl (Nat.le_of_ble_eq_true rfl) ?_
  intro p e s m below meth c R Q ls hR hC hK hP hl hret
  subst hR
  obtain ⟨hx, hb, hml, hown, hts, hr, hlocks⟩ := id hC
  have hS : va_S (AdX 9 ad) s.heap s.heap [] := va_S.rf
  have hl : lv_has ls 6 [(0, .ref (ad 0)), (1, .int (nI i0)), (2, .int x)] := hl
  have hn16 : n ≤ 16 := hvd.1
  refine lv_aload_n hx hb dX1_meets_0 rfl (lv_at hl 0 rfl) ?_
  refine va_get (D := D) (ci := 1) (v := .ref (ad 1)) (C := RX1) (T := TX1) (N := 9) hx hb hts in_X1 hown hK hP 0 rfl rfl 0 (by decide) (hts _ q189) (fun _ h9 => h9) rfl dX1_meets_1 ?_
  refine lv_iload_n hx hb dX1_meets_4 rfl (lv_at hl 1 rfl) ?_
  refine ra_zald hx hb hK hP 1 0 rfl rfl (by omega) (by decide) dX1_meets_5 ?_
  rw [show (th i0 : Int32) = nI (bN (tb i0)) from hth i0 hi0]
  refine ra_if_ne (tgt := 11) hx hb (bN_lt _) dX1_meets_6 (by decide) (fun c1 => ?_) (fun c1 => ?_)
  · have _h : True := trivial
    have ht0 : tb i0 = true := bN_1 c1
    cases cs with
    | zero =>
      subst hxe
      refine lv_iconst (v := nI 0) hx hb dX1_meets_11 (by decide) ?_
      refine lv_istore_n (lv' := [(3, .int (nI 0)), (0, .ref (ad 0)), (1, .int (nI i0)), (2, .int (nI 0 + (-1)))]) hx hb dX1_meets_12 rfl hl (by decide) rfl (fun ls hl => ?_)
      refine lv_iload_n hx hb dX1_meets_13 rfl (lv_at hl 0 rfl) ?_
      refine lv_iload_n hx hb dX1_meets_14 rfl (lv_at hl 3 rfl) ?_
      refine lv_icmp_gt (tgt := 206) hx hb dX1_meets_15 (by decide) (fun c2 => ?_) (fun c2 => absurd (by decide) c2)
      refine lv_iload_n hx hb dX1_meets_206 rfl (lv_at hl 3 rfl) ?_
      refine lv_if_lt (tgt := 219) hx hb dX1_meets_207 (by decide) (fun c3 => ?_) (fun c3 => absurd (by decide) c3)
      refine lv_iconst (v := nI 1) hx hb dX1_meets_219 (by decide) ?_
      refine lv_goto (tgt := 224) hx hb dX1_meets_220 (by decide) ?_
      exact hret _ mt _ _ _ _ dX1_meets_224 rfl hP hS (by rw [bN_t (show selB tb vl cd 0 i0 = true by simp [selB, ht0])])
    | succ k =>
      rw [pk_m1] at hxe
      subst hxe
      refine lv_iconst (v := nI 0) hx hb dX1_meets_11 (by decide) ?_
      refine lv_istore_n (lv' := [(3, .int (nI 0)), (0, .ref (ad 0)), (1, .int (nI i0)), (2, .int (nI k))]) hx hb dX1_meets_12 rfl hl (by decide) rfl (fun ls hl => ?_)
      have loop : ∀ (n0 : Nat) (i : Nat) (m1 : Nat → Int32), i ≤ k + 1 → k + 1 < i + n0 → (∀ j, j < i → m1 j = nI (bN (EB cd (vl i0) j))) → ∀ (H : Heap) (locs : List Loc) (ls : Array Slot), va_P D vwCl (wM ad cA th va cn kd lf rt ho co m1) H → va_S (AdX 9 ad) s.heap H locs → lv_has ls 6 [(3, .int (nI i)), (0, .ref (ad 0)), (1, .int (nI i0)), (2, .int (nI k))] → W p l e (rmK 1) s m ([.ref (ad 0), .int (nI i0), .int (nI k)] : List Value).toArray below meth c H locs 0 0 Q (F0 m 13 ls []) := by
        intro n0
        induction n0 with
        | zero => intro i m1 h1 h2; exact absurd h2 (by omega)
        | succ n0 ih =>
          intro i m1 hi hin hf H locs ls hP hS hl
          refine lv_iload_n hx hb dX1_meets_13 rfl (lv_at hl 0 rfl) ?_
          refine lv_iload_n hx hb dX1_meets_14 rfl (lv_at hl 3 rfl) ?_
          refine ra_icmp_gt (tgt := 206) hx hb (by omega) (by omega) dX1_meets_15 (by decide) (fun c2 => ?_) (fun c2 => ?_)
          · have _h : True := trivial
            refine lv_iload_n hx hb dX1_meets_206 rfl (lv_at hl 3 rfl) ?_
            refine lv_if_lt (tgt := 219) hx hb dX1_meets_207 (by decide) (fun c3 => absurd c3 (nI_pos (by omega))) (fun c3 => ?_)
            refine lv_aload_n hx hb dX1_meets_210 rfl (lv_at hl 1 rfl) ?_
            refine va_get (D := D) (ci := 1) (v := .ref (ad 8)) (C := RX1) (T := TX1) (N := 9) hx hb hts in_X1 hown hK hP 0 rfl rfl 8 (by decide) (hts _ q197) (fun _ h9 => h9) rfl dX1_meets_211 ?_
            refine lv_iload_n hx hb dX1_meets_214 rfl (lv_at hl 3 rfl) ?_
            refine ra_zald hx hb hK hP 8 7 rfl rfl (by omega) (by decide) dX1_meets_215 ?_
            rw [show (m1 k : Int32) = nI (bN (EB cd (vl i0) k)) from hf k (by omega)]
            refine ra_if_eq (tgt := 223) hx hb (bN_lt _) dX1_meets_216 (by decide) (fun c4 => ?_) (fun c4 => ?_)
            · have _h : True := trivial
              refine lv_iconst (v := nI 0) hx hb dX1_meets_223 (by decide) ?_
              exact hret _ m1 _ _ _ _ dX1_meets_224 rfl hP hS (by rw [bN_f (show selB tb vl cd (k + 1) i0 = false by show (tb i0 && EB cd (vl i0) k) = false; rw [bN_0 c4, Bool.and_false])])
            · have _h : True := trivial
              refine lv_iconst (v := nI 1) hx hb dX1_meets_219 (by decide) ?_
              refine lv_goto (tgt := 224) hx hb dX1_meets_220 (by decide) ?_
              exact hret _ m1 _ _ _ _ dX1_meets_224 rfl hP hS (by rw [bN_t (show selB tb vl cd (k + 1) i0 = true by show (tb i0 && EB cd (vl i0) k) = true; rw [bN_1 c4, ht0]; rfl)])
          · have _h : True := trivial
            obtain ⟨kdv, lfv, rtv, hw, ks, hq⟩ : ∃ kdv lfv rtv hw ks, cd i = (kdv, lfv, rtv, hw, ks) := ⟨_, _, _, _, _, rfl⟩
            have he := hcd i (by omega)
            have hvk := hvd.2 i (by omega)
            rw [hq] at he hvk
            obtain ⟨e1, e2, e3, e4, e5⟩ := he
            have e1 : kd i = nI kdv := e1
            have e2 : lf i = nI lfv := e2
            have e3 : rt i = nI rtv := e3
            have e4 : ho i = nI hw := e4
            have e5 : co i = ks := e5
            dsimp only at hvk
            have hvl := hva i0 hi0 (lfv % 3) (by omega)
            have hvr := hva i0 hi0 (rtv % 3) (by omega)
            refine lv_aload_n hx hb dX1_meets_18 rfl (lv_at hl 1 rfl) ?_
            refine va_get (D := D) (ci := 1) (v := .ref (ad 2)) (C := RX1) (T := TX1) (N := 9) hx hb hts in_X1 hown hK hP 0 rfl rfl 1 (by decide) (hts _ q190) (fun _ h9 => h9) rfl dX1_meets_19 ?_
            refine lv_iconst (v := nI 3) hx hb dX1_meets_22 (by decide) ?_
            refine lv_iload_n hx hb dX1_meets_23 rfl (lv_at hl 2 rfl) ?_
            refine ra_imul hx hb dX1_meets_24 ?_
            refine lv_aload_n hx hb dX1_meets_25 rfl (lv_at hl 1 rfl) ?_
            refine va_get (D := D) (ci := 1) (v := .ref (ad 4)) (C := RX1) (T := TX1) (N := 9) hx hb hts in_X1 hown hK hP 0 rfl rfl 4 (by decide) (hts _ q193) (fun _ h9 => h9) rfl dX1_meets_26 ?_
            refine lv_iload_n hx hb dX1_meets_29 rfl (lv_at hl 0 rfl) ?_
            refine ra_iald hx hb hK hP 4 3 rfl rfl (by omega) (by decide) dX1_meets_30 ?_
            rw [show (lf i : Int32) = nI lfv from e2]
            refine lv_iconst (v := nI 3) hx hb dX1_meets_31 (by decide) ?_
            refine ra_irem hx hb (by omega) (by decide) (by decide) dX1_meets_32 ?_
            refine ra_iadd hx hb dX1_meets_33 ?_
            refine ra_iald hx hb hK hP 2 1 rfl rfl (by omega) (by decide) dX1_meets_34 ?_
            rw [show (va ((3 * i0) + (lfv % 3)) : Int32) = nI (vl i0 (lfv % 3)) from hvl.2]
            refine lv_istore (lv' := [(4, .int (nI (vl i0 (lfv % 3)))), (3, .int (nI i)), (0, .ref (ad 0)), (1, .int (nI i0)), (2, .int (nI k))]) hx hb dX1_meets_35 hl (by decide) rfl (fun ls hl => ?_)
            refine lv_aload_n hx hb dX1_meets_37 rfl (lv_at hl 2 rfl) ?_
            refine va_get (D := D) (ci := 1) (v := .ref (ad 2)) (C := RX1) (T := TX1) (N := 9) hx hb hts in_X1 hown hK hP 0 rfl rfl 1 (by decide) (hts _ q190) (fun _ h9 => h9) rfl dX1_meets_38 ?_
            refine lv_iconst (v := nI 3) hx hb dX1_meets_41 (by decide) ?_
            refine lv_iload_n hx hb dX1_meets_42 rfl (lv_at hl 3 rfl) ?_
            refine ra_imul hx hb dX1_meets_43 ?_
            refine lv_aload_n hx hb dX1_meets_44 rfl (lv_at hl 2 rfl) ?_
            refine va_get (D := D) (ci := 1) (v := .ref (ad 5)) (C := RX1) (T := TX1) (N := 9) hx hb hts in_X1 hown hK hP 0 rfl rfl 5 (by decide) (hts _ q194) (fun _ h9 => h9) rfl dX1_meets_45 ?_
            refine lv_iload_n hx hb dX1_meets_48 rfl (lv_at hl 1 rfl) ?_
            refine ra_iald hx hb hK hP 5 4 rfl rfl (by omega) (by decide) dX1_meets_49 ?_
            rw [show (rt i : Int32) = nI rtv from e3]
            refine lv_iconst (v := nI 3) hx hb dX1_meets_50 (by decide) ?_
            refine ra_irem hx hb (by omega) (by decide) (by decide) dX1_meets_51 ?_
            refine ra_iadd hx hb dX1_meets_52 ?_
            refine ra_iald hx hb hK hP 2 1 rfl rfl (by omega) (by decide) dX1_meets_53 ?_
            rw [show (va ((3 * i0) + (rtv % 3)) : Int32) = nI (vl i0 (rtv % 3)) from hvr.2]
            refine lv_istore (lv' := [(5, .int (nI (vl i0 (rtv % 3)))), (4, .int (nI (vl i0 (lfv % 3)))), (3, .int (nI i)), (0, .ref (ad 0)), (1, .int (nI i0)), (2, .int (nI k))]) hx hb dX1_meets_54 hl (by decide) rfl (fun ls hl => ?_)
            refine lv_aload_n hx hb dX1_meets_56 rfl (lv_at hl 3 rfl) ?_
            refine va_get (D := D) (ci := 1) (v := .ref (ad 3)) (C := RX1) (T := TX1) (N := 9) hx hb hts in_X1 hown hK hP 0 rfl rfl 3 (by decide) (hts _ q192) (fun _ h9 => h9) rfl dX1_meets_57 ?_
            refine lv_iload_n hx hb dX1_meets_60 rfl (lv_at hl 2 rfl) ?_
            refine ra_iald hx hb hK hP 3 2 rfl rfl (by omega) (by decide) dX1_meets_61 ?_
            rw [show (kd i : Int32) = nI kdv from e1]
            have hkd : kdv = 0 ∨ kdv = 1 ∨ kdv = 2 ∨ kdv = 3 := by omega
            rcases hkd with rfl | rfl | rfl | rfl
            · have _h : True := trivial
              have hj : lfv ≤ 2 ∧ rtv ≤ 2 ∧ hw ≤ 5 := by omega
              have hl2 := (hva i0 hi0 lfv (by omega)).1
              have hr2 := (hva i0 hi0 rtv (by omega)).1
              refine ra_if_ne (tgt := 88) hx hb (by omega) dX1_meets_62 (by decide) (fun d0 => (by omega : False).elim) (fun d0 => ?_)
              refine lv_aload_n hx hb dX1_meets_65 rfl (lv_at hl 3 rfl) ?_
              refine va_get (D := D) (ci := 1) (v := .ref (ad 8)) (C := RX1) (T := TX1) (N := 9) hx hb hts in_X1 hown hK hP 0 rfl rfl 8 (by decide) (hts _ q197) (fun _ h9 => h9) rfl dX1_meets_66 ?_
              refine lv_iload_n hx hb dX1_meets_69 rfl (lv_at hl 2 rfl) ?_
              refine lv_iload hx hb dX1_meets_70 (lv_at hl 1 rfl) ?_
              refine lv_aload_n hx hb dX1_meets_72 rfl (lv_at hl 3 rfl) ?_
              refine va_get (D := D) (ci := 1) (v := .ref (ad 6)) (C := RX1) (T := TX1) (N := 9) hx hb hts in_X1 hown hK hP 0 rfl rfl 6 (by decide) (hts _ q195) (fun _ h9 => h9) rfl dX1_meets_73 ?_
              refine lv_iload_n hx hb dX1_meets_76 rfl (lv_at hl 2 rfl) ?_
              refine ra_iald hx hb hK hP 6 5 rfl rfl (by omega) (by decide) dX1_meets_77 ?_
              rw [show (ho i : Int32) = nI hw from e4]
              refine lv_aload_n hx hb dX1_meets_78 rfl (lv_at hl 3 rfl) ?_
              refine va_get (D := D) (ci := 1) (v := .ref (ad 7)) (C := RX1) (T := TX1) (N := 9) hx hb hts in_X1 hown hK hP 0 rfl rfl 7 (by decide) (hts _ q196) (fun _ h9 => h9) rfl dX1_meets_79 ?_
              refine lv_iload_n hx hb dX1_meets_82 rfl (lv_at hl 2 rfl) ?_
              refine ra_iald hx hb hK hP 7 6 rfl rfl (by omega) (by decide) dX1_meets_83 ?_
              rw [show (co i : Int32) = ks from e5]
              refine cs_i (As := [.int (nI (vl i0 (lfv % 3))), .int (nI hw), .int ks]) (rest := [.int (nI i), .ref (ad 8)]) hC (metX1_compared (nI (vl i0 (lfv % 3))) hw hj.2.2 ks) (va_cwS 3 hts (lw_S q264 q265 q18 q266) rfl rfl rfl (by decide +kernel) ⟨Nat.le_of_ble_eq_true rfl, Nat.le_of_ble_eq_true rfl⟩) hK rfl hl.1 rfl (Nat.le_of_ble_eq_true rfl) dX1_meets_84 ⟨Nat.zero_le _, Nat.zero_le _⟩ hS hP (fun r5 H locs hq5 hP hS => ?_)
              subst hq5
              refine ra_zast hx hb hK hP (dM ha) hS 8 7 rfl rfl (by omega) (by decide) (bN_nar _) dX1_meets_87 (fun H locs hP hS => ?_)
              have hP : va_P D vwCl (wM ad cA th va cn kd lf rt ho co (upd m1 i (nI (bN (cmpB (nI (vl i0 (lfv % 3))).toInt ks.toInt hw))))) H := hP
              refine lv_aload_n hx hb dX1_meets_88 rfl (lv_at hl 3 rfl) ?_
              refine va_get (D := D) (ci := 1) (v := .ref (ad 3)) (C := RX1) (T := TX1) (N := 9) hx hb hts in_X1 hown hK hP 0 rfl rfl 3 (by decide) (hts _ q192) (fun _ h9 => h9) rfl dX1_meets_89 ?_
              refine lv_iload_n hx hb dX1_meets_92 rfl (lv_at hl 2 rfl) ?_
              refine ra_iald hx hb hK hP 3 2 rfl rfl (by omega) (by decide) dX1_meets_93 ?_
              rw [show (kd i : Int32) = nI 0 from e1]
              refine lv_iconst (v := nI 1) hx hb dX1_meets_94 (by decide) ?_
              refine ra_icmp_ne (tgt := 117) hx hb (by omega) (by omega) dX1_meets_95 (by decide) (fun d1 => ?_) (fun d1 => (by omega : False).elim)
              refine lv_aload_n hx hb dX1_meets_117 rfl (lv_at hl 3 rfl) ?_
              refine va_get (D := D) (ci := 1) (v := .ref (ad 3)) (C := RX1) (T := TX1) (N := 9) hx hb hts in_X1 hown hK hP 0 rfl rfl 3 (by decide) (hts _ q192) (fun _ h9 => h9) rfl dX1_meets_118 ?_
              refine lv_iload_n hx hb dX1_meets_121 rfl (lv_at hl 2 rfl) ?_
              refine ra_iald hx hb hK hP 3 2 rfl rfl (by omega) (by decide) dX1_meets_122 ?_
              rw [show (kd i : Int32) = nI 0 from e1]
              refine lv_iconst (v := nI 2) hx hb dX1_meets_123 (by decide) ?_
              refine ra_icmp_ne (tgt := 153) hx hb (by omega) (by omega) dX1_meets_124 (by decide) (fun d2 => ?_) (fun d2 => (by omega : False).elim)
              refine lv_aload_n hx hb dX1_meets_153 rfl (lv_at hl 3 rfl) ?_
              refine va_get (D := D) (ci := 1) (v := .ref (ad 3)) (C := RX1) (T := TX1) (N := 9) hx hb hts in_X1 hown hK hP 0 rfl rfl 3 (by decide) (hts _ q192) (fun _ h9 => h9) rfl dX1_meets_154 ?_
              refine lv_iload_n hx hb dX1_meets_157 rfl (lv_at hl 2 rfl) ?_
              refine ra_iald hx hb hK hP 3 2 rfl rfl (by omega) (by decide) dX1_meets_158 ?_
              rw [show (kd i : Int32) = nI 0 from e1]
              refine lv_iconst (v := nI 3) hx hb dX1_meets_159 (by decide) ?_
              refine ra_icmp_ne (tgt := 200) hx hb (by omega) (by omega) dX1_meets_160 (by decide) (fun d3 => ?_) (fun d3 => (by omega : False).elim)
              refine lv_iinc (v := nI (i + 1)) (lv' := [(3, .int (nI (i + 1))), (5, .int (nI (vl i0 (rtv % 3)))), (4, .int (nI (vl i0 (lfv % 3)))), (0, .ref (ad 0)), (1, .int (nI i0)), (2, .int (nI k))]) hx hb dX1_meets_200 hl (k := 2) rfl (nI_1 _) (by decide) rfl (fun ls hl => ?_)
              refine lv_goto (tgt := 13) hx hb dX1_meets_203 (by decide) ?_
              exact ih (i + 1) _ (by omega) (by omega) (ms_step hf (me_0 hq hj.1 hl2)) _ _ _ hP hS (lv_sub hl [0, 3, 4, 5] rfl)
            · have _h : True := trivial
              have hj : lfv ≤ 2 ∧ rtv ≤ 2 ∧ hw ≤ 5 := by omega
              have hl2 := (hva i0 hi0 lfv (by omega)).1
              have hr2 := (hva i0 hi0 rtv (by omega)).1
              refine ra_if_ne (tgt := 88) hx hb (by omega) dX1_meets_62 (by decide) (fun d0 => ?_) (fun d0 => (by omega : False).elim)
              refine lv_aload_n hx hb dX1_meets_88 rfl (lv_at hl 3 rfl) ?_
              refine va_get (D := D) (ci := 1) (v := .ref (ad 3)) (C := RX1) (T := TX1) (N := 9) hx hb hts in_X1 hown hK hP 0 rfl rfl 3 (by decide) (hts _ q192) (fun _ h9 => h9) rfl dX1_meets_89 ?_
              refine lv_iload_n hx hb dX1_meets_92 rfl (lv_at hl 2 rfl) ?_
              refine ra_iald hx hb hK hP 3 2 rfl rfl (by omega) (by decide) dX1_meets_93 ?_
              rw [show (kd i : Int32) = nI 1 from e1]
              refine lv_iconst (v := nI 1) hx hb dX1_meets_94 (by decide) ?_
              refine ra_icmp_ne (tgt := 117) hx hb (by omega) (by omega) dX1_meets_95 (by decide) (fun d1 => (by omega : False).elim) (fun d1 => ?_)
              refine lv_aload_n hx hb dX1_meets_98 rfl (lv_at hl 3 rfl) ?_
              refine va_get (D := D) (ci := 1) (v := .ref (ad 8)) (C := RX1) (T := TX1) (N := 9) hx hb hts in_X1 hown hK hP 0 rfl rfl 8 (by decide) (hts _ q197) (fun _ h9 => h9) rfl dX1_meets_99 ?_
              refine lv_iload_n hx hb dX1_meets_102 rfl (lv_at hl 2 rfl) ?_
              refine lv_iload hx hb dX1_meets_103 (lv_at hl 1 rfl) ?_
              refine lv_aload_n hx hb dX1_meets_105 rfl (lv_at hl 3 rfl) ?_
              refine va_get (D := D) (ci := 1) (v := .ref (ad 6)) (C := RX1) (T := TX1) (N := 9) hx hb hts in_X1 hown hK hP 0 rfl rfl 6 (by decide) (hts _ q195) (fun _ h9 => h9) rfl dX1_meets_106 ?_
              refine lv_iload_n hx hb dX1_meets_109 rfl (lv_at hl 2 rfl) ?_
              refine ra_iald hx hb hK hP 6 5 rfl rfl (by omega) (by decide) dX1_meets_110 ?_
              rw [show (ho i : Int32) = nI hw from e4]
              refine lv_iload hx hb dX1_meets_111 (lv_at hl 0 rfl) ?_
              refine cs_i (As := [.int (nI (vl i0 (lfv % 3))), .int (nI hw), .int (nI (vl i0 (rtv % 3)))]) (rest := [.int (nI i), .ref (ad 8)]) hC (metX1_compared (nI (vl i0 (lfv % 3))) hw hj.2.2 (nI (vl i0 (rtv % 3)))) (va_cwS 3 hts (lw_S q264 q265 q18 q266) rfl rfl rfl (by decide +kernel) ⟨Nat.le_of_ble_eq_true rfl, Nat.le_of_ble_eq_true rfl⟩) hK rfl hl.1 rfl (Nat.le_of_ble_eq_true rfl) dX1_meets_113 ⟨Nat.zero_le _, Nat.zero_le _⟩ hS hP (fun r5 H locs hq5 hP hS => ?_)
              subst hq5
              refine ra_zast hx hb hK hP (dM ha) hS 8 7 rfl rfl (by omega) (by decide) (bN_nar _) dX1_meets_116 (fun H locs hP hS => ?_)
              have hP : va_P D vwCl (wM ad cA th va cn kd lf rt ho co (upd m1 i (nI (bN (cmpB (nI (vl i0 (lfv % 3))).toInt (nI (vl i0 (rtv % 3))).toInt hw))))) H := hP
              refine lv_aload_n hx hb dX1_meets_117 rfl (lv_at hl 3 rfl) ?_
              refine va_get (D := D) (ci := 1) (v := .ref (ad 3)) (C := RX1) (T := TX1) (N := 9) hx hb hts in_X1 hown hK hP 0 rfl rfl 3 (by decide) (hts _ q192) (fun _ h9 => h9) rfl dX1_meets_118 ?_
              refine lv_iload_n hx hb dX1_meets_121 rfl (lv_at hl 2 rfl) ?_
              refine ra_iald hx hb hK hP 3 2 rfl rfl (by omega) (by decide) dX1_meets_122 ?_
              rw [show (kd i : Int32) = nI 1 from e1]
              refine lv_iconst (v := nI 2) hx hb dX1_meets_123 (by decide) ?_
              refine ra_icmp_ne (tgt := 153) hx hb (by omega) (by omega) dX1_meets_124 (by decide) (fun d2 => ?_) (fun d2 => (by omega : False).elim)
              refine lv_aload_n hx hb dX1_meets_153 rfl (lv_at hl 3 rfl) ?_
              refine va_get (D := D) (ci := 1) (v := .ref (ad 3)) (C := RX1) (T := TX1) (N := 9) hx hb hts in_X1 hown hK hP 0 rfl rfl 3 (by decide) (hts _ q192) (fun _ h9 => h9) rfl dX1_meets_154 ?_
              refine lv_iload_n hx hb dX1_meets_157 rfl (lv_at hl 2 rfl) ?_
              refine ra_iald hx hb hK hP 3 2 rfl rfl (by omega) (by decide) dX1_meets_158 ?_
              rw [show (kd i : Int32) = nI 1 from e1]
              refine lv_iconst (v := nI 3) hx hb dX1_meets_159 (by decide) ?_
              refine ra_icmp_ne (tgt := 200) hx hb (by omega) (by omega) dX1_meets_160 (by decide) (fun d3 => ?_) (fun d3 => (by omega : False).elim)
              refine lv_iinc (v := nI (i + 1)) (lv' := [(3, .int (nI (i + 1))), (5, .int (nI (vl i0 (rtv % 3)))), (4, .int (nI (vl i0 (lfv % 3)))), (0, .ref (ad 0)), (1, .int (nI i0)), (2, .int (nI k))]) hx hb dX1_meets_200 hl (k := 2) rfl (nI_1 _) (by decide) rfl (fun ls hl => ?_)
              refine lv_goto (tgt := 13) hx hb dX1_meets_203 (by decide) ?_
              exact ih (i + 1) _ (by omega) (by omega) (ms_step hf (me_1 hq hj.1 hj.2.1 hl2 hr2)) _ _ _ hP hS (lv_sub hl [0, 3, 4, 5] rfl)
            · have _h : True := trivial
              have hj : lfv ≤ 2 ∧ rtv ≤ 2 ∧ hw ≤ 5 := by omega
              have hl2 := (hva i0 hi0 lfv (by omega)).1
              have hr2 := (hva i0 hi0 rtv (by omega)).1
              refine ra_if_ne (tgt := 88) hx hb (by omega) dX1_meets_62 (by decide) (fun d0 => ?_) (fun d0 => (by omega : False).elim)
              refine lv_aload_n hx hb dX1_meets_88 rfl (lv_at hl 3 rfl) ?_
              refine va_get (D := D) (ci := 1) (v := .ref (ad 3)) (C := RX1) (T := TX1) (N := 9) hx hb hts in_X1 hown hK hP 0 rfl rfl 3 (by decide) (hts _ q192) (fun _ h9 => h9) rfl dX1_meets_89 ?_
              refine lv_iload_n hx hb dX1_meets_92 rfl (lv_at hl 2 rfl) ?_
              refine ra_iald hx hb hK hP 3 2 rfl rfl (by omega) (by decide) dX1_meets_93 ?_
              rw [show (kd i : Int32) = nI 2 from e1]
              refine lv_iconst (v := nI 1) hx hb dX1_meets_94 (by decide) ?_
              refine ra_icmp_ne (tgt := 117) hx hb (by omega) (by omega) dX1_meets_95 (by decide) (fun d1 => ?_) (fun d1 => (by omega : False).elim)
              refine lv_aload_n hx hb dX1_meets_117 rfl (lv_at hl 3 rfl) ?_
              refine va_get (D := D) (ci := 1) (v := .ref (ad 3)) (C := RX1) (T := TX1) (N := 9) hx hb hts in_X1 hown hK hP 0 rfl rfl 3 (by decide) (hts _ q192) (fun _ h9 => h9) rfl dX1_meets_118 ?_
              refine lv_iload_n hx hb dX1_meets_121 rfl (lv_at hl 2 rfl) ?_
              refine ra_iald hx hb hK hP 3 2 rfl rfl (by omega) (by decide) dX1_meets_122 ?_
              rw [show (kd i : Int32) = nI 2 from e1]
              refine lv_iconst (v := nI 2) hx hb dX1_meets_123 (by decide) ?_
              refine ra_icmp_ne (tgt := 153) hx hb (by omega) (by omega) dX1_meets_124 (by decide) (fun d2 => (by omega : False).elim) (fun d2 => ?_)
              refine lv_aload_n hx hb dX1_meets_127 rfl (lv_at hl 3 rfl) ?_
              refine va_get (D := D) (ci := 1) (v := .ref (ad 8)) (C := RX1) (T := TX1) (N := 9) hx hb hts in_X1 hown hK hP 0 rfl rfl 8 (by decide) (hts _ q197) (fun _ h9 => h9) rfl dX1_meets_128 ?_
              refine lv_iload_n hx hb dX1_meets_131 rfl (lv_at hl 2 rfl) ?_
              refine lv_iload hx hb dX1_meets_132 (lv_at hl 1 rfl) ?_
              refine lv_iload hx hb dX1_meets_134 (lv_at hl 0 rfl) ?_
              refine ra_iadd hx hb dX1_meets_136 ?_
              refine lv_aload_n hx hb dX1_meets_137 rfl (lv_at hl 3 rfl) ?_
              refine va_get (D := D) (ci := 1) (v := .ref (ad 6)) (C := RX1) (T := TX1) (N := 9) hx hb hts in_X1 hown hK hP 0 rfl rfl 6 (by decide) (hts _ q195) (fun _ h9 => h9) rfl dX1_meets_138 ?_
              refine lv_iload_n hx hb dX1_meets_141 rfl (lv_at hl 2 rfl) ?_
              refine ra_iald hx hb hK hP 6 5 rfl rfl (by omega) (by decide) dX1_meets_142 ?_
              rw [show (ho i : Int32) = nI hw from e4]
              refine lv_aload_n hx hb dX1_meets_143 rfl (lv_at hl 3 rfl) ?_
              refine va_get (D := D) (ci := 1) (v := .ref (ad 7)) (C := RX1) (T := TX1) (N := 9) hx hb hts in_X1 hown hK hP 0 rfl rfl 7 (by decide) (hts _ q196) (fun _ h9 => h9) rfl dX1_meets_144 ?_
              refine lv_iload_n hx hb dX1_meets_147 rfl (lv_at hl 2 rfl) ?_
              refine ra_iald hx hb hK hP 7 6 rfl rfl (by omega) (by decide) dX1_meets_148 ?_
              rw [show (co i : Int32) = ks from e5]
              refine cs_i (As := [.int (nI ((vl i0 (lfv % 3)) + (vl i0 (rtv % 3)))), .int (nI hw), .int ks]) (rest := [.int (nI i), .ref (ad 8)]) hC (metX1_compared (nI (vl i0 (lfv % 3) + vl i0 (rtv % 3))) hw hj.2.2 ks) (va_cwS 3 hts (lw_S q264 q265 q18 q266) rfl rfl rfl (by decide +kernel) ⟨Nat.le_of_ble_eq_true rfl, Nat.le_of_ble_eq_true rfl⟩) hK rfl hl.1 rfl (Nat.le_of_ble_eq_true rfl) dX1_meets_149 ⟨Nat.zero_le _, Nat.zero_le _⟩ hS hP (fun r5 H locs hq5 hP hS => ?_)
              subst hq5
              refine ra_zast hx hb hK hP (dM ha) hS 8 7 rfl rfl (by omega) (by decide) (bN_nar _) dX1_meets_152 (fun H locs hP hS => ?_)
              have hP : va_P D vwCl (wM ad cA th va cn kd lf rt ho co (upd m1 i (nI (bN (cmpB (nI (vl i0 (lfv % 3) + vl i0 (rtv % 3))).toInt ks.toInt hw))))) H := hP
              refine lv_aload_n hx hb dX1_meets_153 rfl (lv_at hl 3 rfl) ?_
              refine va_get (D := D) (ci := 1) (v := .ref (ad 3)) (C := RX1) (T := TX1) (N := 9) hx hb hts in_X1 hown hK hP 0 rfl rfl 3 (by decide) (hts _ q192) (fun _ h9 => h9) rfl dX1_meets_154 ?_
              refine lv_iload_n hx hb dX1_meets_157 rfl (lv_at hl 2 rfl) ?_
              refine ra_iald hx hb hK hP 3 2 rfl rfl (by omega) (by decide) dX1_meets_158 ?_
              rw [show (kd i : Int32) = nI 2 from e1]
              refine lv_iconst (v := nI 3) hx hb dX1_meets_159 (by decide) ?_
              refine ra_icmp_ne (tgt := 200) hx hb (by omega) (by omega) dX1_meets_160 (by decide) (fun d3 => ?_) (fun d3 => (by omega : False).elim)
              refine lv_iinc (v := nI (i + 1)) (lv' := [(3, .int (nI (i + 1))), (5, .int (nI (vl i0 (rtv % 3)))), (4, .int (nI (vl i0 (lfv % 3)))), (0, .ref (ad 0)), (1, .int (nI i0)), (2, .int (nI k))]) hx hb dX1_meets_200 hl (k := 2) rfl (nI_1 _) (by decide) rfl (fun ls hl => ?_)
              refine lv_goto (tgt := 13) hx hb dX1_meets_203 (by decide) ?_
              exact ih (i + 1) _ (by omega) (by omega) (ms_step hf (me_2 hq hj.1 hj.2.1 hl2 hr2)) _ _ _ hP hS (lv_sub hl [0, 3, 4, 5] rfl)
            · have _h : True := trivial
              have hj : lfv < i ∧ rtv < i ∧ hw ≤ 3 := by omega
              refine ra_if_ne (tgt := 88) hx hb (by omega) dX1_meets_62 (by decide) (fun d0 => ?_) (fun d0 => (by omega : False).elim)
              refine lv_aload_n hx hb dX1_meets_88 rfl (lv_at hl 3 rfl) ?_
              refine va_get (D := D) (ci := 1) (v := .ref (ad 3)) (C := RX1) (T := TX1) (N := 9) hx hb hts in_X1 hown hK hP 0 rfl rfl 3 (by decide) (hts _ q192) (fun _ h9 => h9) rfl dX1_meets_89 ?_
              refine lv_iload_n hx hb dX1_meets_92 rfl (lv_at hl 2 rfl) ?_
              refine ra_iald hx hb hK hP 3 2 rfl rfl (by omega) (by decide) dX1_meets_93 ?_
              rw [show (kd i : Int32) = nI 3 from e1]
              refine lv_iconst (v := nI 1) hx hb dX1_meets_94 (by decide) ?_
              refine ra_icmp_ne (tgt := 117) hx hb (by omega) (by omega) dX1_meets_95 (by decide) (fun d1 => ?_) (fun d1 => (by omega : False).elim)
              refine lv_aload_n hx hb dX1_meets_117 rfl (lv_at hl 3 rfl) ?_
              refine va_get (D := D) (ci := 1) (v := .ref (ad 3)) (C := RX1) (T := TX1) (N := 9) hx hb hts in_X1 hown hK hP 0 rfl rfl 3 (by decide) (hts _ q192) (fun _ h9 => h9) rfl dX1_meets_118 ?_
              refine lv_iload_n hx hb dX1_meets_121 rfl (lv_at hl 2 rfl) ?_
              refine ra_iald hx hb hK hP 3 2 rfl rfl (by omega) (by decide) dX1_meets_122 ?_
              rw [show (kd i : Int32) = nI 3 from e1]
              refine lv_iconst (v := nI 2) hx hb dX1_meets_123 (by decide) ?_
              refine ra_icmp_ne (tgt := 153) hx hb (by omega) (by omega) dX1_meets_124 (by decide) (fun d2 => ?_) (fun d2 => (by omega : False).elim)
              refine lv_aload_n hx hb dX1_meets_153 rfl (lv_at hl 3 rfl) ?_
              refine va_get (D := D) (ci := 1) (v := .ref (ad 3)) (C := RX1) (T := TX1) (N := 9) hx hb hts in_X1 hown hK hP 0 rfl rfl 3 (by decide) (hts _ q192) (fun _ h9 => h9) rfl dX1_meets_154 ?_
              refine lv_iload_n hx hb dX1_meets_157 rfl (lv_at hl 2 rfl) ?_
              refine ra_iald hx hb hK hP 3 2 rfl rfl (by omega) (by decide) dX1_meets_158 ?_
              rw [show (kd i : Int32) = nI 3 from e1]
              refine lv_iconst (v := nI 3) hx hb dX1_meets_159 (by decide) ?_
              refine ra_icmp_ne (tgt := 200) hx hb (by omega) (by omega) dX1_meets_160 (by decide) (fun d3 => (by omega : False).elim) (fun d3 => ?_)
              refine lv_aload_n hx hb dX1_meets_163 rfl (lv_at hl 3 rfl) ?_
              refine va_get (D := D) (ci := 1) (v := .ref (ad 8)) (C := RX1) (T := TX1) (N := 9) hx hb hts in_X1 hown hK hP 0 rfl rfl 8 (by decide) (hts _ q197) (fun _ h9 => h9) rfl dX1_meets_164 ?_
              refine lv_iload_n hx hb dX1_meets_167 rfl (lv_at hl 2 rfl) ?_
              refine lv_aload_n hx hb dX1_meets_168 rfl (lv_at hl 3 rfl) ?_
              refine va_get (D := D) (ci := 1) (v := .ref (ad 8)) (C := RX1) (T := TX1) (N := 9) hx hb hts in_X1 hown hK hP 0 rfl rfl 8 (by decide) (hts _ q197) (fun _ h9 => h9) rfl dX1_meets_169 ?_
              refine lv_aload_n hx hb dX1_meets_172 rfl (lv_at hl 3 rfl) ?_
              refine va_get (D := D) (ci := 1) (v := .ref (ad 4)) (C := RX1) (T := TX1) (N := 9) hx hb hts in_X1 hown hK hP 0 rfl rfl 4 (by decide) (hts _ q193) (fun _ h9 => h9) rfl dX1_meets_173 ?_
              refine lv_iload_n hx hb dX1_meets_176 rfl (lv_at hl 2 rfl) ?_
              refine ra_iald hx hb hK hP 4 3 rfl rfl (by omega) (by decide) dX1_meets_177 ?_
              rw [show (lf i : Int32) = nI lfv from e2]
              refine ra_zald hx hb hK hP 8 7 rfl rfl (by omega) (by decide) dX1_meets_178 ?_
              rw [show (m1 lfv : Int32) = nI (bN (EB cd (vl i0) lfv)) from hf lfv hj.1]
              refine lv_aload_n hx hb dX1_meets_179 rfl (lv_at hl 3 rfl) ?_
              refine va_get (D := D) (ci := 1) (v := .ref (ad 6)) (C := RX1) (T := TX1) (N := 9) hx hb hts in_X1 hown hK hP 0 rfl rfl 6 (by decide) (hts _ q195) (fun _ h9 => h9) rfl dX1_meets_180 ?_
              refine lv_iload_n hx hb dX1_meets_183 rfl (lv_at hl 2 rfl) ?_
              refine ra_iald hx hb hK hP 6 5 rfl rfl (by omega) (by decide) dX1_meets_184 ?_
              rw [show (ho i : Int32) = nI hw from e4]
              refine lv_aload_n hx hb dX1_meets_185 rfl (lv_at hl 3 rfl) ?_
              refine va_get (D := D) (ci := 1) (v := .ref (ad 8)) (C := RX1) (T := TX1) (N := 9) hx hb hts in_X1 hown hK hP 0 rfl rfl 8 (by decide) (hts _ q197) (fun _ h9 => h9) rfl dX1_meets_186 ?_
              refine lv_aload_n hx hb dX1_meets_189 rfl (lv_at hl 3 rfl) ?_
              refine va_get (D := D) (ci := 1) (v := .ref (ad 5)) (C := RX1) (T := TX1) (N := 9) hx hb hts in_X1 hown hK hP 0 rfl rfl 5 (by decide) (hts _ q194) (fun _ h9 => h9) rfl dX1_meets_190 ?_
              refine lv_iload_n hx hb dX1_meets_193 rfl (lv_at hl 2 rfl) ?_
              refine ra_iald hx hb hK hP 5 4 rfl rfl (by omega) (by decide) dX1_meets_194 ?_
              rw [show (rt i : Int32) = nI rtv from e3]
              refine ra_zald hx hb hK hP 8 7 rfl rfl (by omega) (by decide) dX1_meets_195 ?_
              rw [show (m1 rtv : Int32) = nI (bN (EB cd (vl i0) rtv)) from hf rtv hj.2.1]
              refine cs_i (As := [.int (nI (bN (EB cd (vl i0) lfv))), .int (nI hw), .int (nI (bN (EB cd (vl i0) rtv)))]) (rest := [.int (nI i), .ref (ad 8)]) hC (metX1_joined (EB cd (vl i0) lfv) hw hj.2.2 (EB cd (vl i0) rtv)) (va_cwS 3 hts (lw_S q267 q268 q18 q269) rfl rfl rfl (by decide +kernel) ⟨Nat.le_of_ble_eq_true rfl, Nat.le_of_ble_eq_true rfl⟩) hK rfl hl.1 rfl (Nat.le_of_ble_eq_true rfl) dX1_meets_196 ⟨Nat.zero_le _, Nat.zero_le _⟩ hS hP (fun r5 H locs hq5 hP hS => ?_)
              subst hq5
              refine ra_zast hx hb hK hP (dM ha) hS 8 7 rfl rfl (by omega) (by decide) (bN_nar _) dX1_meets_199 (fun H locs hP hS => ?_)
              have hP : va_P D vwCl (wM ad cA th va cn kd lf rt ho co (upd m1 i (nI (bN (jnB (EB cd (vl i0) lfv) (EB cd (vl i0) rtv) hw))))) H := hP
              refine lv_iinc (v := nI (i + 1)) (lv' := [(3, .int (nI (i + 1))), (5, .int (nI (vl i0 (rtv % 3)))), (4, .int (nI (vl i0 (lfv % 3)))), (0, .ref (ad 0)), (1, .int (nI i0)), (2, .int (nI k))]) hx hb dX1_meets_200 hl (k := 2) rfl (nI_1 _) (by decide) rfl (fun ls hl => ?_)
              refine lv_goto (tgt := 13) hx hb dX1_meets_203 (by decide) ?_
              exact ih (i + 1) _ (by omega) (by omega) (ms_step hf (me_3 hq hj.1 hj.2.1)) _ _ _ hP hS (lv_sub hl [0, 3, 4, 5] rfl)
      exact loop (k + 2) 0 _ (by omega) (by omega) (fun j hj => absurd hj (Nat.not_lt_zero _)) _ _ _ hP hS hl
  · have _h : True := trivial
    refine lv_iconst (v := nI 0) hx hb dX1_meets_9 (by decide) ?_
    exact hret _ mt _ _ _ _ dX1_meets_10 rfl hP hS (by rw [bN_f (show selB tb vl cd cs i0 = false by unfold selB; rw [bN_0 c1]; rfl)])
end
section
set_option maxHeartbeats 4000000 in
set_option maxRecDepth 100000 in
theorem metX1_count {l : Launch} {D : va_G} {ad : Nat → Nat} {cA : Nat → ClassId} {th va : Nat → Int32}  {kd lf rt ho co mt : Nat → Int32} (ha : apt 9 ad) {tb : Nat → Bool} (hth : THok tb th) {vl : Nat → Nat → Nat} (hva : VMok vl va) {n : Nat} {cd : cdT} (hcd : CDok n cd kd lf rt ho co) (hvd : CDv n cd) (x : Int32) : Met l yX1_count (ws_ yX1_count cX1_count 4 (some .int)) (rmK 3) (PcW D (tM cA) (wM ad cA th va (nI n) kd lf rt ho co mt) [.ref (ad 0), .int x]) (va_Qi (fun (r : Int32) (u : Nat → Int32) => (¬ okQ n x ∧ r = (-1)) ∨ (∃ cs, cs ≤ n ∧ x = nI cs + (-1) ∧ r = nI (fb_ct (selB tb vl cd cs) 64))) (fun u t => va_P D vwCl (wM ad cA th va (nI n) kd lf rt ho co u) t.heap) (AdX 9 ad)) 0 0 (AdX 9 ad) := by
  refine en_i (own := RX1) (by decide) rfl (Nat.le_of_ble_eq_true rfl) ?_
  intro p e s m below meth c R Q ls hR hC hK hP hl hret
  subst hR
  obtain ⟨hx, hb, hml, hown, hts, hr, hlocks⟩ := id hC
  have hS : va_S (AdX 9 ad) s.heap s.heap [] := va_S.rf
  have hl : lv_has ls 4 [(0, .ref (ad 0)), (1, .int x)] := hl
  have hn16 : n ≤ 16 := hvd.1
  refine lv_aload_n hx hb dX1_count_0 rfl (lv_at hl 0 rfl) ?_
  refine lv_iload_n hx hb dX1_count_1 rfl (lv_at hl 1 rfl) ?_
  refine ca_i (As := [.int x]) (rest := []) hC (metX1_missing ha hn16 x) (cwV 1 hts (lw_V q256 q258 qs13 q18 q259) rfl rfl rfl (by decide +kernel) ⟨Nat.le_of_ble_eq_true rfl, Nat.le_of_ble_eq_true rfl⟩) hK hP (va_recv hK hP (ci := 1) (q0 := 0) rfl rfl) rfl hl.1 rfl (Nat.le_of_ble_eq_true rfl) dX1_count_2 ⟨Nat.zero_le _, Nat.zero_le _⟩ hS (fun _ h => h) (fun r1 u1 H locs hq1 hP hk1 hS => ?_)
  rcases hq1 with ⟨rfl, hb1⟩ | ⟨rfl, cs, hcs, rfl⟩
  · have _h : True := trivial
    refine ra_if_eq (tgt := 10) hx hb (by omega) dX1_count_5 (by decide) (fun c1 => (by omega : False).elim) (fun c1 => ?_)
    refine lv_iconst (v := (-1)) hx hb dX1_count_8 (by decide) ?_
    exact hret _ mt _ _ _ _ dX1_count_9 hP hS (Or.inl ⟨hb1, rfl⟩)
  · have _h : True := trivial
    refine ra_if_eq (tgt := 10) hx hb (by omega) dX1_count_5 (by decide) (fun c1 => ?_) (fun c1 => (by omega : False).elim)
    refine lv_iconst (v := nI 0) hx hb dX1_count_10 (by decide) ?_
    refine lv_istore_n (lv' := [(2, .int (nI 0)), (0, .ref (ad 0)), (1, .int (nI cs + (-1)))]) hx hb dX1_count_11 rfl hl (by decide) rfl (fun ls hl => ?_)
    refine lv_iconst (v := nI 0) hx hb dX1_count_12 (by decide) ?_
    refine lv_istore_n (lv' := [(3, .int (nI 0)), (2, .int (nI 0)), (0, .ref (ad 0)), (1, .int (nI cs + (-1)))]) hx hb dX1_count_13 rfl hl (by decide) rfl (fun ls hl => ?_)
    have loop : ∀ (n0 : Nat) (i ct : Nat) (m1 : Nat → Int32), i ≤ 64 → 64 < i + n0 → ct = fb_ct (selB tb vl cd cs) i → ∀ (H : Heap) (locs : List Loc) (ls : Array Slot), va_P D vwCl (wM ad cA th va (nI n) kd lf rt ho co m1) H → va_S (AdX 9 ad) s.heap H locs → lv_has ls 4 [(3, .int (nI i)), (2, .int (nI ct)), (0, .ref (ad 0)), (1, .int (nI cs + (-1)))] → W p l e (rmK 3) s m ([.ref (ad 0), .int (nI cs + (-1))] : List Value).toArray below meth c H locs 0 0 Q (F0 m 14 ls []) := by
      intro n0
      induction n0 with
      | zero => intro i ct m1 h1 h2; exact absurd h2 (by omega)
      | succ n0 ih =>
        intro i ct m1 hi hin hf H locs ls hP hS hl
        refine lv_iload_n hx hb dX1_count_14 rfl (lv_at hl 0 rfl) ?_
        refine lv_bipush (v := nI 64) hx hb dX1_count_15 (by decide) ?_
        refine ra_icmp_ge (tgt := 38) hx hb (by omega) (by omega) dX1_count_17 (by decide) (fun c2 => ?_) (fun c2 => ?_)
        · have _h : True := trivial
          obtain rfl : i = 64 := by omega
          refine lv_iload_n hx hb dX1_count_38 rfl (lv_at hl 1 rfl) ?_
          exact hret _ m1 _ _ _ _ dX1_count_39 hP hS (Or.inr ⟨cs, hcs, rfl, by rw [hf]⟩)
        · have _h : True := trivial
          refine lv_aload_n hx hb dX1_count_20 rfl (lv_at hl 2 rfl) ?_
          refine lv_iload_n hx hb dX1_count_21 rfl (lv_at hl 0 rfl) ?_
          refine lv_iload_n hx hb dX1_count_22 rfl (lv_at hl 3 rfl) ?_
          refine ca_i (As := [.int (nI i), .int (nI cs + (-1))]) (rest := []) hC (metX1_meets ha hth hva hcd hvd (i0 := i) (by omega) hcs rfl) (cwV 2 hts (lw_V q260 q262 qs14 q18 q263) rfl rfl rfl (by decide +kernel) ⟨Nat.le_of_ble_eq_true rfl, Nat.le_of_ble_eq_true rfl⟩) hK hP (va_recv hK hP (ci := 1) (q0 := 0) rfl rfl) rfl hl.1 rfl (Nat.le_of_ble_eq_true rfl) dX1_count_23 ⟨Nat.zero_le _, Nat.zero_le _⟩ hS (fun _ h => h) (fun r2 u2 H locs hq2 hP hk2 hS => ?_)
          have hP : va_P D vwCl (wM ad cA th va (nI n) kd lf rt ho co u2) H := hP
          subst hq2
          refine ra_if_eq (tgt := 32) hx hb (bN_lt _) dX1_count_26 (by decide) (fun c3 => ?_) (fun c3 => ?_)
          · have _h : True := trivial
            refine lv_iinc (v := nI (i + 1)) (lv' := [(3, .int (nI (i + 1))), (2, .int (nI ct)), (0, .ref (ad 0)), (1, .int (nI cs + (-1)))]) hx hb dX1_count_32 hl (k := 0) rfl (nI_1 _) (by decide) rfl (fun ls hl => ?_)
            refine lv_goto (tgt := 14) hx hb dX1_count_35 (by decide) ?_
            exact ih (i + 1) _ _ (by omega) (by omega) (by rw [hf]; exact ct_n (bN_0 c3)) _ _ _ hP hS (lv_sub hl [0, 1, 2, 3] rfl)
          · have _h : True := trivial
            refine lv_iinc (v := nI (ct + 1)) (lv' := [(2, .int (nI (ct + 1))), (3, .int (nI i)), (0, .ref (ad 0)), (1, .int (nI cs + (-1)))]) hx hb dX1_count_29 hl (k := 1) rfl (nI_1 _) (by decide) rfl (fun ls hl => ?_)
            refine lv_iinc (v := nI (i + 1)) (lv' := [(3, .int (nI (i + 1))), (2, .int (nI (ct + 1))), (0, .ref (ad 0)), (1, .int (nI cs + (-1)))]) hx hb dX1_count_32 hl (k := 1) rfl (nI_1 _) (by decide) rfl (fun ls hl => ?_)
            refine lv_goto (tgt := 14) hx hb dX1_count_35 (by decide) ?_
            exact ih (i + 1) _ _ (by omega) (by omega) (by rw [hf]; exact ct_y (bN_1 c3)) _ _ _ hP hS (lv_sub hl [0, 1, 2, 3] rfl)
    exact loop 65 0 0 mt (by omega) (by omega) rfl _ _ _ hP hS (lv_sub hl [0, 1, 2, 3] rfl)
set_option maxHeartbeats 4000000 in
set_option maxRecDepth 100000 in
theorem metX1_row {l : Launch} {D : va_G} {ad : Nat → Nat} {cA : Nat → ClassId} {th va : Nat → Int32}  {kd lf rt ho co mt : Nat → Int32} (ha : apt 9 ad) {tb : Nat → Bool} (hth : THok tb th) {vl : Nat → Nat → Nat} (hva : VMok vl va) {n : Nat} {cd : cdT} (hcd : CDok n cd kd lf rt ho co) (hvd : CDv n cd) (x pl : Int32) : Met l yX1_row (ws_ yX1_row cX1_row 5 (some .int)) (rmK 3) (PcW D (tM cA) (wM ad cA th va (nI n) kd lf rt ho co mt) [.ref (ad 0), .int x, .int pl]) (va_Qi (fun (r : Int32) (u : Nat → Int32) => (¬ okQ n x ∧ r = (-1)) ∨ (∃ cs, cs ≤ n ∧ x = nI cs + (-1) ∧ rowA (selB tb vl cd cs) pl r)) (fun u t => va_P D vwCl (wM ad cA th va (nI n) kd lf rt ho co u) t.heap) (AdX 9 ad)) 0 0 (AdX 9 ad) := by
  refine en_i (own := RX1) (by decide) rfl (Nat.le_of_ble_eq_true rfl) ?_
  intro p e s m below meth c R Q ls hR hC hK hP hl hret
  subst hR
  obtain ⟨hx, hb, hml, hown, hts, hr, hlocks⟩ := id hC
  have hS : va_S (AdX 9 ad) s.heap s.heap [] := va_S.rf
  have hl : lv_has ls 5 [(0, .ref (ad 0)), (1, .int x), (2, .int pl)] := hl
  have hn16 : n ≤ 16 := hvd.1
  refine lv_aload_n hx hb dX1_row_0 rfl (lv_at hl 0 rfl) ?_
  refine lv_iload_n hx hb dX1_row_1 rfl (lv_at hl 1 rfl) ?_
  refine ca_i (As := [.int x]) (rest := []) hC (metX1_missing ha hn16 x) (cwV 1 hts (lw_V q256 q258 qs13 q18 q259) rfl rfl rfl (by decide +kernel) ⟨Nat.le_of_ble_eq_true rfl, Nat.le_of_ble_eq_true rfl⟩) hK hP (va_recv hK hP (ci := 1) (q0 := 0) rfl rfl) rfl hl.1 rfl (Nat.le_of_ble_eq_true rfl) dX1_row_2 ⟨Nat.zero_le _, Nat.zero_le _⟩ hS (fun _ h => h) (fun r1 u1 H locs hq1 hP hk1 hS => ?_)
  rcases hq1 with ⟨rfl, hb1⟩ | ⟨rfl, cs, hcs, rfl⟩
  · have _h : True := trivial
    refine ra_if_eq (tgt := 10) hx hb (by omega) dX1_row_5 (by decide) (fun c1 => (by omega : False).elim) (fun c1 => ?_)
    refine lv_iconst (v := (-1)) hx hb dX1_row_8 (by decide) ?_
    exact hret _ mt _ _ _ _ dX1_row_9 hP hS (Or.inl ⟨hb1, rfl⟩)
  · have _h : True := trivial
    refine ra_if_eq (tgt := 10) hx hb (by omega) dX1_row_5 (by decide) (fun c1 => ?_) (fun c1 => (by omega : False).elim)
    refine lv_iconst (v := nI 0) hx hb dX1_row_10 (by decide) ?_
    refine lv_istore_n (lv' := [(3, .int (nI 0)), (0, .ref (ad 0)), (1, .int (nI cs + (-1))), (2, .int pl)]) hx hb dX1_row_11 rfl hl (by decide) rfl (fun ls hl => ?_)
    refine lv_iconst (v := nI 0) hx hb dX1_row_12 (by decide) ?_
    refine lv_istore (lv' := [(4, .int (nI 0)), (3, .int (nI 0)), (0, .ref (ad 0)), (1, .int (nI cs + (-1))), (2, .int pl)]) hx hb dX1_row_13 hl (by decide) rfl (fun ls hl => ?_)
    have loop : ∀ (n0 : Nat) (i ct : Nat) (m1 : Nat → Int32), i ≤ 64 → 64 < i + n0 → ct = fb_ct (selB tb vl cd cs) i → (∀ j, j < i → selB tb vl cd cs j = true → pl ≠ nI (fb_ct (selB tb vl cd cs) j)) → ∀ (H : Heap) (locs : List Loc) (ls : Array Slot), va_P D vwCl (wM ad cA th va (nI n) kd lf rt ho co m1) H → va_S (AdX 9 ad) s.heap H locs → lv_has ls 5 [(4, .int (nI i)), (3, .int (nI ct)), (0, .ref (ad 0)), (1, .int (nI cs + (-1))), (2, .int pl)] → W p l e (rmK 3) s m ([.ref (ad 0), .int (nI cs + (-1)), .int pl] : List Value).toArray below meth c H locs 0 0 Q (F0 m 15 ls []) := by
      intro n0
      induction n0 with
      | zero => intro i ct m1 h1 h2; exact absurd h2 (by omega)
      | succ n0 ih =>
        intro i ct m1 hi hin hf hno H locs ls hP hS hl
        refine lv_iload hx hb dX1_row_15 (lv_at hl 0 rfl) ?_
        refine lv_bipush (v := nI 64) hx hb dX1_row_17 (by decide) ?_
        refine ra_icmp_ge (tgt := 49) hx hb (by omega) (by omega) dX1_row_19 (by decide) (fun c2 => ?_) (fun c2 => ?_)
        · have _h : True := trivial
          obtain rfl : i = 64 := by omega
          refine lv_iconst (v := (-1)) hx hb dX1_row_49 (by decide) ?_
          exact hret _ m1 _ _ _ _ dX1_row_50 hP hS (Or.inr ⟨cs, hcs, rfl, Or.inl ⟨hno, rfl⟩⟩)
        · have _h : True := trivial
          refine lv_aload_n hx hb dX1_row_22 rfl (lv_at hl 2 rfl) ?_
          refine lv_iload hx hb dX1_row_23 (lv_at hl 0 rfl) ?_
          refine lv_iload_n hx hb dX1_row_25 rfl (lv_at hl 3 rfl) ?_
          refine ca_i (As := [.int (nI i), .int (nI cs + (-1))]) (rest := []) hC (metX1_meets ha hth hva hcd hvd (i0 := i) (by omega) hcs rfl) (cwV 2 hts (lw_V q260 q262 qs14 q18 q263) rfl rfl rfl (by decide +kernel) ⟨Nat.le_of_ble_eq_true rfl, Nat.le_of_ble_eq_true rfl⟩) hK hP (va_recv hK hP (ci := 1) (q0 := 0) rfl rfl) rfl hl.1 rfl (Nat.le_of_ble_eq_true rfl) dX1_row_26 ⟨Nat.zero_le _, Nat.zero_le _⟩ hS (fun _ h => h) (fun r2 u2 H locs hq2 hP hk2 hS => ?_)
          have hP : va_P D vwCl (wM ad cA th va (nI n) kd lf rt ho co u2) H := hP
          subst hq2
          refine ra_if_eq (tgt := 43) hx hb (bN_lt _) dX1_row_29 (by decide) (fun c3 => ?_) (fun c3 => ?_)
          · have _h : True := trivial
            refine lv_iinc (v := nI (i + 1)) (lv' := [(4, .int (nI (i + 1))), (3, .int (nI ct)), (0, .ref (ad 0)), (1, .int (nI cs + (-1))), (2, .int pl)]) hx hb dX1_row_43 hl (k := 0) rfl (nI_1 _) (by decide) rfl (fun ls hl => ?_)
            refine lv_goto (tgt := 15) hx hb dX1_row_46 (by decide) ?_
            exact ih (i + 1) _ _ (by omega) (by omega) (by rw [hf]; exact ct_n (bN_0 c3)) (row_ne hno (fun q => by rw [bN_0 c3] at q; cases q)) _ _ _ hP hS (lv_sub hl [0, 1, 2, 3, 4] rfl)
          · have _h : True := trivial
            refine lv_iload_n hx hb dX1_row_32 rfl (lv_at hl 1 rfl) ?_
            refine lv_iload_n hx hb dX1_row_33 rfl (lv_at hl 4 rfl) ?_
            refine lv_icmp_ne (tgt := 40) hx hb dX1_row_34 (by decide) (fun c4 => ?_) (fun c4 => ?_)
            · have _h : True := trivial
              refine lv_iinc (v := nI (ct + 1)) (lv' := [(3, .int (nI (ct + 1))), (4, .int (nI i)), (0, .ref (ad 0)), (1, .int (nI cs + (-1))), (2, .int pl)]) hx hb dX1_row_40 hl (k := 1) rfl (nI_1 _) (by decide) rfl (fun ls hl => ?_)
              refine lv_iinc (v := nI (i + 1)) (lv' := [(4, .int (nI (i + 1))), (3, .int (nI (ct + 1))), (0, .ref (ad 0)), (1, .int (nI cs + (-1))), (2, .int pl)]) hx hb dX1_row_43 hl (k := 1) rfl (nI_1 _) (by decide) rfl (fun ls hl => ?_)
              refine lv_goto (tgt := 15) hx hb dX1_row_46 (by decide) ?_
              exact ih (i + 1) _ _ (by omega) (by omega) (by rw [hf]; exact ct_y (bN_1 c3)) (row_ne hno (fun _ q => c4 (by rw [hf]; exact q.symm))) _ _ _ hP hS (lv_sub hl [0, 1, 2, 3, 4] rfl)
            · have _h : True := trivial
              refine lv_iload hx hb dX1_row_37 (lv_at hl 0 rfl) ?_
              exact hret _ u2 _ _ _ _ dX1_row_39 hP hS (Or.inr ⟨cs, hcs, rfl, Or.inr ⟨i, c2, bN_1 c3, by rw [← hf]; exact c4.symm, rfl⟩⟩)
    exact loop 65 0 0 mt (by omega) (by omega) rfl (fun j hj => absurd hj (Nat.not_lt_zero _)) _ _ _ hP hS (lv_sub hl [0, 1, 2, 3, 4] rfl)
set_option maxHeartbeats 4000000 in
set_option maxRecDepth 100000 in
theorem metX1_sum {l : Launch} {D : va_G} {ad : Nat → Nat} {cA : Nat → ClassId} {th va : Nat → Int32}  {kd lf rt ho co mt : Nat → Int32} (ha : apt 9 ad) {tb : Nat → Bool} (hth : THok tb th) {vl : Nat → Nat → Nat} (hva : VMok vl va) {n : Nat} {cd : cdT} (hcd : CDok n cd kd lf rt ho co) (hvd : CDv n cd) (x y : Int32) : Met l yX1_sum (ws_ yX1_sum cX1_sum 5 (some .int)) (rmK 3) (PcW D (tM cA) (wM ad cA th va (nI n) kd lf rt ho co mt) [.ref (ad 0), .int x, .int y]) (va_Qi (fun (r : Int32) (u : Nat → Int32) => (¬ (okQ n x ∧ okCol y) ∧ r = (-1)) ∨ (∃ cs k, cs ≤ n ∧ k ≤ 2 ∧ x = nI cs + (-1) ∧ y = nI k ∧ r = nI (smA (selB tb vl cd cs) (fun i => vl i k)))) (fun u t => va_P D vwCl (wM ad cA th va (nI n) kd lf rt ho co u) t.heap) (AdX 9 ad)) 0 0 (AdX 9 ad) := by
  refine en_i (own := RX1) (by decide) rfl (Nat.le_of_ble_eq_true rfl) ?_
  intro p e s m below meth c R Q ls hR hC hK hP hl hret
  subst hR
  obtain ⟨hx, hb, hml, hown, hts, hr, hlocks⟩ := id hC
  have hS : va_S (AdX 9 ad) s.heap s.heap [] := va_S.rf
  have hl : lv_has ls 5 [(0, .ref (ad 0)), (1, .int x), (2, .int y)] := hl
  have hn16 : n ≤ 16 := hvd.1
  refine lv_aload_n hx hb dX1_sum_0 rfl (lv_at hl 0 rfl) ?_
  refine lv_iload_n hx hb dX1_sum_1 rfl (lv_at hl 1 rfl) ?_
  refine ca_i (As := [.int x]) (rest := []) hC (metX1_missing ha hn16 x) (cwV 1 hts (lw_V q256 q258 qs13 q18 q259) rfl rfl rfl (by decide +kernel) ⟨Nat.le_of_ble_eq_true rfl, Nat.le_of_ble_eq_true rfl⟩) hK hP (va_recv hK hP (ci := 1) (q0 := 0) rfl rfl) rfl hl.1 rfl (Nat.le_of_ble_eq_true rfl) dX1_sum_2 ⟨Nat.zero_le _, Nat.zero_le _⟩ hS (fun _ h => h) (fun r1 u1 H locs hq1 hP hk1 hS => ?_)
  rcases hq1 with ⟨rfl, hb1⟩ | ⟨rfl, cs, hcs, rfl⟩
  · have _h : True := trivial
    refine ra_if_ne (tgt := 15) hx hb (by omega) dX1_sum_5 (by decide) (fun c1 => ?_) (fun c1 => (by omega : False).elim)
    refine lv_iconst (v := (-1)) hx hb dX1_sum_15 (by decide) ?_
    exact hret _ mt _ _ _ _ dX1_sum_16 hP hS (Or.inl ⟨fun q => hb1 q.1, rfl⟩)
  · have _h : True := trivial
    refine ra_if_ne (tgt := 15) hx hb (by omega) dX1_sum_5 (by decide) (fun c1 => (by omega : False).elim) (fun c1 => ?_)
    refine lv_iload_n hx hb dX1_sum_8 rfl (lv_at hl 2 rfl) ?_
    refine cs_i (As := [.int y]) (rest := []) hC (metX1_badColumn y) (va_cwS 1 hts (lw_S q229 q230 q18 q231) rfl rfl rfl (by decide +kernel) ⟨Nat.le_of_ble_eq_true rfl, Nat.le_of_ble_eq_true rfl⟩) hK rfl hl.1 rfl (Nat.le_of_ble_eq_true rfl) dX1_sum_9 ⟨Nat.zero_le _, Nat.zero_le _⟩ hS hP (fun r2 H locs hq2 hP hS => ?_)
    rcases hq2 with ⟨rfl, hb2⟩ | ⟨rfl, k, hk, rfl⟩
    · have _h : True := trivial
      refine ra_if_eq (tgt := 17) hx hb (by omega) dX1_sum_12 (by decide) (fun c2 => (by omega : False).elim) (fun c2 => ?_)
      refine lv_iconst (v := (-1)) hx hb dX1_sum_15 (by decide) ?_
      exact hret _ mt _ _ _ _ dX1_sum_16 hP hS (Or.inl ⟨fun q => hb2 q.2, rfl⟩)
    · have _h : True := trivial
      refine ra_if_eq (tgt := 17) hx hb (by omega) dX1_sum_12 (by decide) (fun c2 => ?_) (fun c2 => (by omega : False).elim)
      refine lv_iconst (v := nI 0) hx hb dX1_sum_17 (by decide) ?_
      refine lv_istore_n (lv' := [(3, .int (nI 0)), (0, .ref (ad 0)), (1, .int (nI cs + (-1))), (2, .int (nI k))]) hx hb dX1_sum_18 rfl hl (by decide) rfl (fun ls hl => ?_)
      refine lv_iconst (v := nI 0) hx hb dX1_sum_19 (by decide) ?_
      refine lv_istore (lv' := [(4, .int (nI 0)), (3, .int (nI 0)), (0, .ref (ad 0)), (1, .int (nI cs + (-1))), (2, .int (nI k))]) hx hb dX1_sum_20 hl (by decide) rfl (fun ls hl => ?_)
      have loop : ∀ (n0 : Nat) (i sm : Nat) (m1 : Nat → Int32), i ≤ 64 → 64 < i + n0 → sm = fb_sm (fun i => if selB tb vl cd cs i then (fun i => vl i k) i else 0) i → ∀ (H : Heap) (locs : List Loc) (ls : Array Slot), va_P D vwCl (wM ad cA th va (nI n) kd lf rt ho co m1) H → va_S (AdX 9 ad) s.heap H locs → lv_has ls 5 [(4, .int (nI i)), (3, .int (nI sm)), (0, .ref (ad 0)), (1, .int (nI cs + (-1))), (2, .int (nI k))] → W p l e (rmK 3) s m ([.ref (ad 0), .int (nI cs + (-1)), .int (nI k)] : List Value).toArray below meth c H locs 0 0 Q (F0 m 22 ls []) := by
        intro n0
        induction n0 with
        | zero => intro i sm m1 h1 h2; exact absurd h2 (by omega)
        | succ n0 ih =>
          intro i sm m1 hi hin hf H locs ls hP hS hl
          refine lv_iload hx hb dX1_sum_22 (lv_at hl 0 rfl) ?_
          refine lv_bipush (v := nI 64) hx hb dX1_sum_24 (by decide) ?_
          refine ra_icmp_ge (tgt := 59) hx hb (by omega) (by omega) dX1_sum_26 (by decide) (fun c3 => ?_) (fun c3 => ?_)
          · have _h : True := trivial
            obtain rfl : i = 64 := by omega
            refine lv_iload_n hx hb dX1_sum_59 rfl (lv_at hl 1 rfl) ?_
            exact hret _ m1 _ _ _ _ dX1_sum_60 hP hS (Or.inr ⟨cs, k, hcs, hk, rfl, rfl, by rw [hf]; rfl⟩)
          · have _h : True := trivial
            refine lv_aload_n hx hb dX1_sum_29 rfl (lv_at hl 2 rfl) ?_
            refine lv_iload hx hb dX1_sum_30 (lv_at hl 0 rfl) ?_
            refine lv_iload_n hx hb dX1_sum_32 rfl (lv_at hl 3 rfl) ?_
            refine ca_i (As := [.int (nI i), .int (nI cs + (-1))]) (rest := []) hC (metX1_meets ha hth hva hcd hvd (i0 := i) (by omega) hcs rfl) (cwV 2 hts (lw_V q260 q262 qs14 q18 q263) rfl rfl rfl (by decide +kernel) ⟨Nat.le_of_ble_eq_true rfl, Nat.le_of_ble_eq_true rfl⟩) hK hP (va_recv hK hP (ci := 1) (q0 := 0) rfl rfl) rfl hl.1 rfl (Nat.le_of_ble_eq_true rfl) dX1_sum_33 ⟨Nat.zero_le _, Nat.zero_le _⟩ hS (fun _ h => h) (fun r3 u3 H locs hq3 hP hk3 hS => ?_)
            have hP : va_P D vwCl (wM ad cA th va (nI n) kd lf rt ho co u3) H := hP
            subst hq3
            refine ra_if_eq (tgt := 53) hx hb (bN_lt _) dX1_sum_36 (by decide) (fun c4 => ?_) (fun c4 => ?_)
            · have _h : True := trivial
              refine lv_iinc (v := nI (i + 1)) (lv' := [(4, .int (nI (i + 1))), (3, .int (nI sm)), (0, .ref (ad 0)), (1, .int (nI cs + (-1))), (2, .int (nI k))]) hx hb dX1_sum_53 hl (k := 0) rfl (nI_1 _) (by decide) rfl (fun ls hl => ?_)
              refine lv_goto (tgt := 22) hx hb dX1_sum_56 (by decide) ?_
              exact ih (i + 1) _ _ (by omega) (by omega) (by rw [hf]; exact sm_n (bN_0 c4)) _ _ _ hP hS (lv_sub hl [0, 1, 2, 3, 4] rfl)
            · have _h : True := trivial
              refine lv_iload_n hx hb dX1_sum_39 rfl (lv_at hl 1 rfl) ?_
              refine lv_aload_n hx hb dX1_sum_40 rfl (lv_at hl 2 rfl) ?_
              refine va_get (D := D) (ci := 1) (v := .ref (ad 2)) (C := RX1) (T := TX1) (N := 9) hx hb hts in_X1 hown hK hP 0 rfl rfl 1 (by decide) (hts _ q190) (fun _ h9 => h9) rfl dX1_sum_41 ?_
              refine lv_iconst (v := nI 3) hx hb dX1_sum_44 (by decide) ?_
              refine lv_iload hx hb dX1_sum_45 (lv_at hl 0 rfl) ?_
              refine ra_imul hx hb dX1_sum_47 ?_
              refine lv_iload_n hx hb dX1_sum_48 rfl (lv_at hl 4 rfl) ?_
              refine ra_iadd hx hb dX1_sum_49 ?_
              refine ra_iald hx hb hK hP 2 1 rfl rfl (by omega) (by decide) dX1_sum_50 ?_
              rw [show (va ((3 * i) + k) : Int32) = nI (vl i k) from (hva i c3 k (by omega)).2]
              refine ra_iadd hx hb dX1_sum_51 ?_
              refine lv_istore_n (lv' := [(3, .int (nI (sm + (vl i k)))), (4, .int (nI i)), (0, .ref (ad 0)), (1, .int (nI cs + (-1))), (2, .int (nI k))]) hx hb dX1_sum_52 rfl hl (by decide) rfl (fun ls hl => ?_)
              refine lv_iinc (v := nI (i + 1)) (lv' := [(4, .int (nI (i + 1))), (3, .int (nI (sm + (vl i k)))), (0, .ref (ad 0)), (1, .int (nI cs + (-1))), (2, .int (nI k))]) hx hb dX1_sum_53 hl (k := 1) rfl (nI_1 _) (by decide) rfl (fun ls hl => ?_)
              refine lv_goto (tgt := 22) hx hb dX1_sum_56 (by decide) ?_
              exact ih (i + 1) _ _ (by omega) (by omega) (by rw [hf]; exact sm_y (v := fun i => vl i k) (bN_1 c4)) _ _ _ hP hS (lv_sub hl [0, 1, 2, 3, 4] rfl)
      exact loop 65 0 0 mt (by omega) (by omega) rfl _ _ _ hP hS (lv_sub hl [0, 1, 2, 3, 4] rfl)
set_option maxHeartbeats 4000000 in
set_option maxRecDepth 100000 in
theorem metX1_having {l : Launch} {D : va_G} {ad : Nat → Nat} {cA : Nat → ClassId} {th va : Nat → Int32} {cn : Int32} {kd lf rt ho co mt : Nat → Int32} (ha : apt 9 ad) {tb : Nat → Bool} (hth : THok tb th) {vl : Nat → Nat → Nat} (hva : VMok vl va) {n : Nat} {cd : cdT} (hcd : CDok n cd kd lf rt ho co) (hvd : CDv n cd) {cs k w : Nat} (hcs : cs ≤ n) {x : Int32} (hxe : x = nI cs + (-1)) (hk : k ≤ 2) (hw : w < 256) : Met l yX1_having (ws_ yX1_having cX1_having 6 (some .int)) (rmK 2) (PcW D (tM cA) (wM ad cA th va cn kd lf rt ho co mt) [.ref (ad 0), .int x, .int (nI k), .int (nI w)]) (va_Qi (fun (r : Int32) (u : Nat → Int32) => r = nI (hvA (selB tb vl cd cs) (fun i => vl i k) w)) (fun u t => va_P D vwCl (wM ad cA th va cn kd lf rt ho co u) t.heap) (AdX 9 ad)) 0 0 (AdX 9 ad) := by
  refine en_i (own := RX1) (by decide) rfl (Nat.le_of_ble_eq_true rfl) ?_
  intro p e s m below meth c R Q ls hR hC hK hP hl hret
  subst hR
  obtain ⟨hx, hb, hml, hown, hts, hr, hlocks⟩ := id hC
  have hS : va_S (AdX 9 ad) s.heap s.heap [] := va_S.rf
  have hl : lv_has ls 6 [(0, .ref (ad 0)), (1, .int x), (2, .int (nI k)), (3, .int (nI w))] := hl
  subst hxe
  have hn16 : n ≤ 16 := hvd.1
  refine lv_iconst (v := nI 0) hx hb dX1_having_0 (by decide) ?_
  refine lv_istore (lv' := [(4, .int (nI 0)), (0, .ref (ad 0)), (1, .int (nI cs + (-1))), (2, .int (nI k)), (3, .int (nI w))]) hx hb dX1_having_1 hl (by decide) rfl (fun ls hl => ?_)
  refine lv_iconst (v := nI 0) hx hb dX1_having_3 (by decide) ?_
  refine lv_istore (lv' := [(5, .int (nI 0)), (4, .int (nI 0)), (0, .ref (ad 0)), (1, .int (nI cs + (-1))), (2, .int (nI k)), (3, .int (nI w))]) hx hb dX1_having_4 hl (by decide) rfl (fun ls hl => ?_)
  have loop : ∀ (n0 : Nat) (i ct : Nat) (m1 : Nat → Int32), i ≤ 64 → 64 < i + n0 → ct = fb_ct (fun i => decide ((fun i => vl i k) i = w) && selB tb vl cd cs i) i → ∀ (H : Heap) (locs : List Loc) (ls : Array Slot), va_P D vwCl (wM ad cA th va cn kd lf rt ho co m1) H → va_S (AdX 9 ad) s.heap H locs → lv_has ls 6 [(5, .int (nI i)), (4, .int (nI ct)), (0, .ref (ad 0)), (1, .int (nI cs + (-1))), (2, .int (nI k)), (3, .int (nI w))] → W p l e (rmK 2) s m ([.ref (ad 0), .int (nI cs + (-1)), .int (nI k), .int (nI w)] : List Value).toArray below meth c H locs 0 0 Q (F0 m 6 ls []) := by
    intro n0
    induction n0 with
    | zero => intro i ct m1 h1 h2; exact absurd h2 (by omega)
    | succ n0 ih =>
      intro i ct m1 hi hin hf H locs ls hP hS hl
      refine lv_iload hx hb dX1_having_6 (lv_at hl 0 rfl) ?_
      refine lv_bipush (v := nI 64) hx hb dX1_having_8 (by decide) ?_
      refine ra_icmp_ge (tgt := 47) hx hb (by omega) (by omega) dX1_having_10 (by decide) (fun c1 => ?_) (fun c1 => ?_)
      · have _h : True := trivial
        obtain rfl : i = 64 := by omega
        refine lv_iload hx hb dX1_having_47 (lv_at hl 1 rfl) ?_
        exact hret _ m1 _ _ _ _ dX1_having_49 hP hS (by rw [hf]; rfl)
      · have _h : True := trivial
        have hv1 := hva i c1 k (by omega)
        refine lv_aload_n hx hb dX1_having_13 rfl (lv_at hl 2 rfl) ?_
        refine va_get (D := D) (ci := 1) (v := .ref (ad 2)) (C := RX1) (T := TX1) (N := 9) hx hb hts in_X1 hown hK hP 0 rfl rfl 1 (by decide) (hts _ q190) (fun _ h9 => h9) rfl dX1_having_14 ?_
        refine lv_iconst (v := nI 3) hx hb dX1_having_17 (by decide) ?_
        refine lv_iload hx hb dX1_having_18 (lv_at hl 0 rfl) ?_
        refine ra_imul hx hb dX1_having_20 ?_
        refine lv_iload_n hx hb dX1_having_21 rfl (lv_at hl 4 rfl) ?_
        refine ra_iadd hx hb dX1_having_22 ?_
        refine ra_iald hx hb hK hP 2 1 rfl rfl (by omega) (by decide) dX1_having_23 ?_
        rw [show (va ((3 * i) + k) : Int32) = nI (vl i k) from hv1.2]
        refine lv_iload_n hx hb dX1_having_24 rfl (lv_at hl 5 rfl) ?_
        refine ra_icmp_ne (tgt := 41) hx hb (by omega) (by omega) dX1_having_25 (by decide) (fun c2 => ?_) (fun c2 => ?_)
        · have _h : True := trivial
          refine lv_iinc (v := nI (i + 1)) (lv' := [(5, .int (nI (i + 1))), (4, .int (nI ct)), (0, .ref (ad 0)), (1, .int (nI cs + (-1))), (2, .int (nI k)), (3, .int (nI w))]) hx hb dX1_having_41 hl (k := 0) rfl (nI_1 _) (by decide) rfl (fun ls hl => ?_)
          refine lv_goto (tgt := 6) hx hb dX1_having_44 (by decide) ?_
          exact ih (i + 1) _ _ (by omega) (by omega) (by rw [hf]; exact ct_n (p := fun i => decide ((fun i => vl i k) i = w) && selB tb vl cd cs i) (by simp [c2])) _ _ _ hP hS (lv_sub hl [0, 1, 2, 3, 4, 5] rfl)
        · have _h : True := trivial
          refine lv_aload_n hx hb dX1_having_28 rfl (lv_at hl 2 rfl) ?_
          refine lv_iload hx hb dX1_having_29 (lv_at hl 0 rfl) ?_
          refine lv_iload_n hx hb dX1_having_31 rfl (lv_at hl 3 rfl) ?_
          refine ca_i (As := [.int (nI i), .int (nI cs + (-1))]) (rest := []) hC (metX1_meets ha hth hva hcd hvd (i0 := i) (by omega) hcs rfl) (cwV 2 hts (lw_V q260 q262 qs14 q18 q263) rfl rfl rfl (by decide +kernel) ⟨Nat.le_of_ble_eq_true rfl, Nat.le_of_ble_eq_true rfl⟩) hK hP (va_recv hK hP (ci := 1) (q0 := 0) rfl rfl) rfl hl.1 rfl (Nat.le_of_ble_eq_true rfl) dX1_having_32 ⟨Nat.zero_le _, Nat.zero_le _⟩ hS (fun _ h => h) (fun r3 u3 H locs hq3 hP hk3 hS => ?_)
          have hP : va_P D vwCl (wM ad cA th va cn kd lf rt ho co u3) H := hP
          subst hq3
          refine ra_if_eq (tgt := 41) hx hb (bN_lt _) dX1_having_35 (by decide) (fun c3 => ?_) (fun c3 => ?_)
          · have _h : True := trivial
            refine lv_iinc (v := nI (i + 1)) (lv' := [(5, .int (nI (i + 1))), (4, .int (nI ct)), (0, .ref (ad 0)), (1, .int (nI cs + (-1))), (2, .int (nI k)), (3, .int (nI w))]) hx hb dX1_having_41 hl (k := 0) rfl (nI_1 _) (by decide) rfl (fun ls hl => ?_)
            refine lv_goto (tgt := 6) hx hb dX1_having_44 (by decide) ?_
            exact ih (i + 1) _ _ (by omega) (by omega) (by rw [hf]; exact ct_n (p := fun i => decide ((fun i => vl i k) i = w) && selB tb vl cd cs i) (by rw [bN_0 c3, Bool.and_false])) _ _ _ hP hS (lv_sub hl [0, 1, 2, 3, 4, 5] rfl)
          · have _h : True := trivial
            refine lv_iinc (v := nI (ct + 1)) (lv' := [(4, .int (nI (ct + 1))), (5, .int (nI i)), (0, .ref (ad 0)), (1, .int (nI cs + (-1))), (2, .int (nI k)), (3, .int (nI w))]) hx hb dX1_having_38 hl (k := 1) rfl (nI_1 _) (by decide) rfl (fun ls hl => ?_)
            refine lv_iinc (v := nI (i + 1)) (lv' := [(5, .int (nI (i + 1))), (4, .int (nI (ct + 1))), (0, .ref (ad 0)), (1, .int (nI cs + (-1))), (2, .int (nI k)), (3, .int (nI w))]) hx hb dX1_having_41 hl (k := 1) rfl (nI_1 _) (by decide) rfl (fun ls hl => ?_)
            refine lv_goto (tgt := 6) hx hb dX1_having_44 (by decide) ?_
            exact ih (i + 1) _ _ (by omega) (by omega) (by rw [hf]; exact ct_y (p := fun i => decide ((fun i => vl i k) i = w) && selB tb vl cd cs i) (by rw [bN_1 c3]; simp [c2])) _ _ _ hP hS (lv_sub hl [0, 1, 2, 3, 4, 5] rfl)
  exact loop 65 0 0 mt (by omega) (by omega) rfl _ _ _ hP hS (lv_sub hl [0, 1, 2, 3, 4, 5] rfl)
set_option maxHeartbeats 4000000 in
set_option maxRecDepth 100000 in
theorem metX1_ranked {l : Launch} {D : va_G} {ad : Nat → Nat} {cA : Nat → ClassId} {th va : Nat → Int32}  {kd lf rt ho co mt : Nat → Int32} (ha : apt 9 ad) {tb : Nat → Bool} (hth : THok tb th) {vl : Nat → Nat → Nat} (hva : VMok vl va) {n : Nat} {cd : cdT} (hcd : CDok n cd kd lf rt ho co) (hvd : CDv n cd) (x y pl : Int32) : Met l yX1_ranked (ws_ yX1_ranked cX1_ranked 6 (some .int)) (rmK 3) (PcW D (tM cA) (wM ad cA th va (nI n) kd lf rt ho co mt) [.ref (ad 0), .int x, .int y, .int pl]) (va_Qi (fun (r : Int32) (u : Nat → Int32) => (¬ (okQ n x ∧ okCol y) ∧ r = (-1)) ∨ (∃ cs k, cs ≤ n ∧ k ≤ 2 ∧ x = nI cs + (-1) ∧ y = nI k ∧ rkA (selB tb vl cd cs) (fun i => vl i k) pl r)) (fun u t => va_P D vwCl (wM ad cA th va (nI n) kd lf rt ho co u) t.heap) (AdX 9 ad)) 0 0 (AdX 9 ad) := by
  refine en_i (own := RX1) (by decide) rfl (Nat.le_of_ble_eq_true rfl) ?_
  intro p e s m below meth c R Q ls hR hC hK hP hl hret
  subst hR
  obtain ⟨hx, hb, hml, hown, hts, hr, hlocks⟩ := id hC
  have hS : va_S (AdX 9 ad) s.heap s.heap [] := va_S.rf
  have hl : lv_has ls 6 [(0, .ref (ad 0)), (1, .int x), (2, .int y), (3, .int pl)] := hl
  have hn16 : n ≤ 16 := hvd.1
  refine lv_aload_n hx hb dX1_ranked_0 rfl (lv_at hl 0 rfl) ?_
  refine lv_iload_n hx hb dX1_ranked_1 rfl (lv_at hl 1 rfl) ?_
  refine ca_i (As := [.int x]) (rest := []) hC (metX1_missing ha hn16 x) (cwV 1 hts (lw_V q256 q258 qs13 q18 q259) rfl rfl rfl (by decide +kernel) ⟨Nat.le_of_ble_eq_true rfl, Nat.le_of_ble_eq_true rfl⟩) hK hP (va_recv hK hP (ci := 1) (q0 := 0) rfl rfl) rfl hl.1 rfl (Nat.le_of_ble_eq_true rfl) dX1_ranked_2 ⟨Nat.zero_le _, Nat.zero_le _⟩ hS (fun _ h => h) (fun r1 u1 H locs hq1 hP hk1 hS => ?_)
  rcases hq1 with ⟨rfl, hb1⟩ | ⟨rfl, cs, hcs, rfl⟩
  · have _h : True := trivial
    refine ra_if_ne (tgt := 19) hx hb (by omega) dX1_ranked_5 (by decide) (fun c1 => ?_) (fun c1 => (by omega : False).elim)
    refine lv_iconst (v := (-1)) hx hb dX1_ranked_19 (by decide) ?_
    exact hret _ mt _ _ _ _ dX1_ranked_20 hP hS (Or.inl ⟨fun q => hb1 q.1, rfl⟩)
  · have _h : True := trivial
    refine ra_if_ne (tgt := 19) hx hb (by omega) dX1_ranked_5 (by decide) (fun c1 => (by omega : False).elim) (fun c1 => ?_)
    refine lv_iload_n hx hb dX1_ranked_8 rfl (lv_at hl 2 rfl) ?_
    refine cs_i (As := [.int y]) (rest := []) hC (metX1_badColumn y) (va_cwS 1 hts (lw_S q229 q230 q18 q231) rfl rfl rfl (by decide +kernel) ⟨Nat.le_of_ble_eq_true rfl, Nat.le_of_ble_eq_true rfl⟩) hK rfl hl.1 rfl (Nat.le_of_ble_eq_true rfl) dX1_ranked_9 ⟨Nat.zero_le _, Nat.zero_le _⟩ hS hP (fun r2 H locs hq2 hP hS => ?_)
    rcases hq2 with ⟨rfl, hb2⟩ | ⟨rfl, k, hk, rfl⟩
    · have _h : True := trivial
      refine ra_if_ne (tgt := 19) hx hb (by omega) dX1_ranked_12 (by decide) (fun c2 => ?_) (fun c2 => (by omega : False).elim)
      refine lv_iconst (v := (-1)) hx hb dX1_ranked_19 (by decide) ?_
      exact hret _ mt _ _ _ _ dX1_ranked_20 hP hS (Or.inl ⟨fun q => hb2 q.2, rfl⟩)
    · have _h : True := trivial
      refine ra_if_ne (tgt := 19) hx hb (by omega) dX1_ranked_12 (by decide) (fun c2 => (by omega : False).elim) (fun c2 => ?_)
      refine lv_iload_n hx hb dX1_ranked_15 rfl (lv_at hl 3 rfl) ?_
      refine lv_if_ge (tgt := 21) hx hb dX1_ranked_16 (by decide) (fun c3 => ?_) (fun c3 => ?_)
      · have _h : True := trivial
        obtain ⟨P, hP31, rfl⟩ := nI_of (Int32.not_lt.mpr c3)
        refine lv_iconst (v := nI 0) hx hb dX1_ranked_21 (by decide) ?_
        refine lv_istore (lv' := [(4, .int (nI 0)), (0, .ref (ad 0)), (1, .int (nI cs + (-1))), (2, .int (nI k)), (3, .int (nI P))]) hx hb dX1_ranked_22 hl (by decide) rfl (fun ls hl => ?_)
        refine lv_iconst (v := nI 0) hx hb dX1_ranked_24 (by decide) ?_
        refine lv_istore (lv' := [(5, .int (nI 0)), (4, .int (nI 0)), (0, .ref (ad 0)), (1, .int (nI cs + (-1))), (2, .int (nI k)), (3, .int (nI P))]) hx hb dX1_ranked_25 hl (by decide) rfl (fun ls hl => ?_)
        have loop : ∀ (n0 : Nat) (w bf : Nat) (m1 : Nat → Int32), w ≤ 256 → 256 < w + n0 → bf = ltA (selB tb vl cd cs) (fun i => vl i k) w → ltA (selB tb vl cd cs) (fun i => vl i k) w ≤ P → ∀ (H : Heap) (locs : List Loc) (ls : Array Slot), va_P D vwCl (wM ad cA th va (nI n) kd lf rt ho co m1) H → va_S (AdX 9 ad) s.heap H locs → lv_has ls 6 [(5, .int (nI w)), (4, .int (nI bf)), (0, .ref (ad 0)), (1, .int (nI cs + (-1))), (2, .int (nI k)), (3, .int (nI P))] → W p l e (rmK 3) s m ([.ref (ad 0), .int (nI cs + (-1)), .int (nI k), .int (nI P)] : List Value).toArray below meth c H locs 0 0 Q (F0 m 27 ls []) := by
          intro n0
          induction n0 with
          | zero => intro w bf m1 h1 h2; exact absurd h2 (by omega)
          | succ n0 ih =>
            intro w bf m1 hi hin hf hle H locs ls hP hS hl
            have hbf := ltA_le (selB tb vl cd cs) (fun i => vl i k) w
            rw [← hf] at hbf
            refine lv_iload hx hb dX1_ranked_27 (lv_at hl 0 rfl) ?_
            refine lv_sipush (v := nI 256) hx hb dX1_ranked_29 (by decide) ?_
            refine ra_icmp_ge (tgt := 63) hx hb (by omega) (by omega) dX1_ranked_32 (by decide) (fun c4 => ?_) (fun c4 => ?_)
            · have _h : True := trivial
              obtain rfl : w = 256 := by omega
              refine lv_iconst (v := (-1)) hx hb dX1_ranked_63 (by decide) ?_
              exact hret _ m1 _ _ _ _ dX1_ranked_64 hP hS (Or.inr ⟨cs, k, hcs, hk, rfl, rfl, Or.inl ⟨Or.inr ⟨P, hP31, rfl, by rw [← ltA_256 (v := fun i => vl i k) (fun i hi => (hva i hi k (by omega)).1)]; exact hle⟩, rfl⟩⟩)
            · have _h : True := trivial
              refine lv_iload hx hb dX1_ranked_35 (lv_at hl 1 rfl) ?_
              refine lv_aload_n hx hb dX1_ranked_37 rfl (lv_at hl 2 rfl) ?_
              refine lv_iload_n hx hb dX1_ranked_38 rfl (lv_at hl 3 rfl) ?_
              refine lv_iload_n hx hb dX1_ranked_39 rfl (lv_at hl 4 rfl) ?_
              refine lv_iload hx hb dX1_ranked_40 (lv_at hl 0 rfl) ?_
              refine ca_i (As := [.int (nI cs + (-1)), .int (nI k), .int (nI w)]) (rest := [.int (nI bf)]) hC (metX1_having ha hth hva hcd hvd (cs := cs) (k := k) (w := w) hcs rfl hk (by omega)) (cwV 3 hts (lw_V q282 q284 qs15 q18 q285) rfl rfl rfl (by decide +kernel) ⟨Nat.le_of_ble_eq_true rfl, Nat.le_of_ble_eq_true rfl⟩) hK hP (va_recv hK hP (ci := 1) (q0 := 0) rfl rfl) rfl hl.1 rfl (Nat.le_of_ble_eq_true rfl) dX1_ranked_42 ⟨Nat.zero_le _, Nat.zero_le _⟩ hS (fun _ h => h) (fun r4 u4 H locs hq4 hP hk4 hS => ?_)
              have hP : va_P D vwCl (wM ad cA th va (nI n) kd lf rt ho co u4) H := hP
              have hle4 := hvA_le (selB tb vl cd cs) (fun i => vl i k) w
              subst hq4
              have hsum := hv_lt (selB tb vl cd cs) (fun i => vl i k) w
              refine ra_iadd hx hb dX1_ranked_45 ?_
              refine lv_istore (lv' := [(4, .int (nI (bf + (hvA (selB tb vl cd cs) (fun i => vl i k) w)))), (5, .int (nI w)), (0, .ref (ad 0)), (1, .int (nI cs + (-1))), (2, .int (nI k)), (3, .int (nI P))]) hx hb dX1_ranked_46 hl (by decide) rfl (fun ls hl => ?_)
              refine lv_iload_n hx hb dX1_ranked_48 rfl (lv_at hl 5 rfl) ?_
              refine lv_iload hx hb dX1_ranked_49 (lv_at hl 0 rfl) ?_
              refine ra_icmp_ge (tgt := 57) hx hb (by omega) (by omega) dX1_ranked_51 (by decide) (fun c5 => ?_) (fun c5 => ?_)
              · have _h : True := trivial
                refine lv_iinc (v := nI (w + 1)) (lv' := [(5, .int (nI (w + 1))), (4, .int (nI (bf + (hvA (selB tb vl cd cs) (fun i => vl i k) w)))), (0, .ref (ad 0)), (1, .int (nI cs + (-1))), (2, .int (nI k)), (3, .int (nI P))]) hx hb dX1_ranked_57 hl (k := 1) rfl (nI_1 _) (by decide) rfl (fun ls hl => ?_)
                refine lv_goto (tgt := 27) hx hb dX1_ranked_60 (by decide) ?_
                exact ih (w + 1) _ _ (by omega) (by omega) (by rw [hf]; exact hsum) (by rw [← hsum, ← hf]; exact c5) _ _ _ hP hS (lv_sub hl [0, 1, 2, 3, 4, 5] rfl)
              · have _h : True := trivial
                refine lv_iload hx hb dX1_ranked_54 (lv_at hl 1 rfl) ?_
                exact hret _ u4 _ _ _ _ dX1_ranked_56 hP hS (Or.inr ⟨cs, k, hcs, hk, rfl, rfl, Or.inr ⟨P, w, hP31, rfl, c4, hle, by rw [← hsum, ← hf]; exact c5, rfl⟩⟩)
        exact loop 257 0 0 mt (by omega) (by omega) (ltA_0 _ _).symm (by rw [ltA_0]; omega) _ _ _ hP hS (lv_sub hl [0, 1, 2, 3, 4, 5] rfl)
      · have _h : True := trivial
        refine lv_iconst (v := (-1)) hx hb dX1_ranked_19 (by decide) ?_
        exact hret _ mt _ _ _ _ dX1_ranked_20 hP hS (Or.inr ⟨cs, k, hcs, hk, rfl, rfl, Or.inl ⟨Or.inl (Int32.not_le.mp c3), rfl⟩⟩)
set_option maxHeartbeats 4000000 in
set_option maxRecDepth 100000 in
theorem metX1_different {l : Launch} {D : va_G} {ad : Nat → Nat} {cA : Nat → ClassId} {th va : Nat → Int32}  {kd lf rt ho co mt : Nat → Int32} (ha : apt 9 ad) {tb : Nat → Bool} (hth : THok tb th) {vl : Nat → Nat → Nat} (hva : VMok vl va) {n : Nat} {cd : cdT} (hcd : CDok n cd kd lf rt ho co) (hvd : CDv n cd) (x y : Int32) : Met l yX1_different (ws_ yX1_different cX1_different 5 (some .int)) (rmK 3) (PcW D (tM cA) (wM ad cA th va (nI n) kd lf rt ho co mt) [.ref (ad 0), .int x, .int y]) (va_Qi (fun (r : Int32) (u : Nat → Int32) => (¬ (okQ n x ∧ okCol y) ∧ r = (-1)) ∨ (∃ cs k, cs ≤ n ∧ k ≤ 2 ∧ x = nI cs + (-1) ∧ y = nI k ∧ r = nI (dfA (selB tb vl cd cs) (fun i => vl i k)))) (fun u t => va_P D vwCl (wM ad cA th va (nI n) kd lf rt ho co u) t.heap) (AdX 9 ad)) 0 0 (AdX 9 ad) := by
  refine en_i (own := RX1) (by decide) rfl (Nat.le_of_ble_eq_true rfl) ?_
  intro p e s m below meth c R Q ls hR hC hK hP hl hret
  subst hR
  obtain ⟨hx, hb, hml, hown, hts, hr, hlocks⟩ := id hC
  have hS : va_S (AdX 9 ad) s.heap s.heap [] := va_S.rf
  have hl : lv_has ls 5 [(0, .ref (ad 0)), (1, .int x), (2, .int y)] := hl
  have hn16 : n ≤ 16 := hvd.1
  refine lv_aload_n hx hb dX1_different_0 rfl (lv_at hl 0 rfl) ?_
  refine lv_iload_n hx hb dX1_different_1 rfl (lv_at hl 1 rfl) ?_
  refine ca_i (As := [.int x]) (rest := []) hC (metX1_missing ha hn16 x) (cwV 1 hts (lw_V q256 q258 qs13 q18 q259) rfl rfl rfl (by decide +kernel) ⟨Nat.le_of_ble_eq_true rfl, Nat.le_of_ble_eq_true rfl⟩) hK hP (va_recv hK hP (ci := 1) (q0 := 0) rfl rfl) rfl hl.1 rfl (Nat.le_of_ble_eq_true rfl) dX1_different_2 ⟨Nat.zero_le _, Nat.zero_le _⟩ hS (fun _ h => h) (fun r1 u1 H locs hq1 hP hk1 hS => ?_)
  rcases hq1 with ⟨rfl, hb1⟩ | ⟨rfl, cs, hcs, rfl⟩
  · have _h : True := trivial
    refine ra_if_ne (tgt := 15) hx hb (by omega) dX1_different_5 (by decide) (fun c1 => ?_) (fun c1 => (by omega : False).elim)
    refine lv_iconst (v := (-1)) hx hb dX1_different_15 (by decide) ?_
    exact hret _ mt _ _ _ _ dX1_different_16 hP hS (Or.inl ⟨fun q => hb1 q.1, rfl⟩)
  · have _h : True := trivial
    refine ra_if_ne (tgt := 15) hx hb (by omega) dX1_different_5 (by decide) (fun c1 => (by omega : False).elim) (fun c1 => ?_)
    refine lv_iload_n hx hb dX1_different_8 rfl (lv_at hl 2 rfl) ?_
    refine cs_i (As := [.int y]) (rest := []) hC (metX1_badColumn y) (va_cwS 1 hts (lw_S q229 q230 q18 q231) rfl rfl rfl (by decide +kernel) ⟨Nat.le_of_ble_eq_true rfl, Nat.le_of_ble_eq_true rfl⟩) hK rfl hl.1 rfl (Nat.le_of_ble_eq_true rfl) dX1_different_9 ⟨Nat.zero_le _, Nat.zero_le _⟩ hS hP (fun r2 H locs hq2 hP hS => ?_)
    rcases hq2 with ⟨rfl, hb2⟩ | ⟨rfl, k, hk, rfl⟩
    · have _h : True := trivial
      refine ra_if_eq (tgt := 17) hx hb (by omega) dX1_different_12 (by decide) (fun c2 => (by omega : False).elim) (fun c2 => ?_)
      refine lv_iconst (v := (-1)) hx hb dX1_different_15 (by decide) ?_
      exact hret _ mt _ _ _ _ dX1_different_16 hP hS (Or.inl ⟨fun q => hb2 q.2, rfl⟩)
    · have _h : True := trivial
      refine ra_if_eq (tgt := 17) hx hb (by omega) dX1_different_12 (by decide) (fun c2 => ?_) (fun c2 => (by omega : False).elim)
      refine lv_iconst (v := nI 0) hx hb dX1_different_17 (by decide) ?_
      refine lv_istore_n (lv' := [(3, .int (nI 0)), (0, .ref (ad 0)), (1, .int (nI cs + (-1))), (2, .int (nI k))]) hx hb dX1_different_18 rfl hl (by decide) rfl (fun ls hl => ?_)
      refine lv_iconst (v := nI 0) hx hb dX1_different_19 (by decide) ?_
      refine lv_istore (lv' := [(4, .int (nI 0)), (3, .int (nI 0)), (0, .ref (ad 0)), (1, .int (nI cs + (-1))), (2, .int (nI k))]) hx hb dX1_different_20 hl (by decide) rfl (fun ls hl => ?_)
      have loop : ∀ (n0 : Nat) (w ct : Nat) (m1 : Nat → Int32), w ≤ 256 → 256 < w + n0 → ct = fb_ct (fun w => decide (0 < hvA (selB tb vl cd cs) (fun i => vl i k) w)) w → ∀ (H : Heap) (locs : List Loc) (ls : Array Slot), va_P D vwCl (wM ad cA th va (nI n) kd lf rt ho co m1) H → va_S (AdX 9 ad) s.heap H locs → lv_has ls 5 [(4, .int (nI w)), (3, .int (nI ct)), (0, .ref (ad 0)), (1, .int (nI cs + (-1))), (2, .int (nI k))] → W p l e (rmK 3) s m ([.ref (ad 0), .int (nI cs + (-1)), .int (nI k)] : List Value).toArray below meth c H locs 0 0 Q (F0 m 22 ls []) := by
        intro n0
        induction n0 with
        | zero => intro w ct m1 h1 h2; exact absurd h2 (by omega)
        | succ n0 ih =>
          intro w ct m1 hi hin hf H locs ls hP hS hl
          refine lv_iload hx hb dX1_different_22 (lv_at hl 0 rfl) ?_
          refine lv_sipush (v := nI 256) hx hb dX1_different_24 (by decide) ?_
          refine ra_icmp_ge (tgt := 50) hx hb (by omega) (by omega) dX1_different_27 (by decide) (fun c3 => ?_) (fun c3 => ?_)
          · have _h : True := trivial
            obtain rfl : w = 256 := by omega
            refine lv_iload_n hx hb dX1_different_50 rfl (lv_at hl 1 rfl) ?_
            exact hret _ m1 _ _ _ _ dX1_different_51 hP hS (Or.inr ⟨cs, k, hcs, hk, rfl, rfl, by rw [hf]; rfl⟩)
          · have _h : True := trivial
            refine lv_aload_n hx hb dX1_different_30 rfl (lv_at hl 2 rfl) ?_
            refine lv_iload_n hx hb dX1_different_31 rfl (lv_at hl 3 rfl) ?_
            refine lv_iload_n hx hb dX1_different_32 rfl (lv_at hl 4 rfl) ?_
            refine lv_iload hx hb dX1_different_33 (lv_at hl 0 rfl) ?_
            refine ca_i (As := [.int (nI cs + (-1)), .int (nI k), .int (nI w)]) (rest := []) hC (metX1_having ha hth hva hcd hvd (cs := cs) (k := k) (w := w) hcs rfl hk (by omega)) (cwV 3 hts (lw_V q282 q284 qs15 q18 q285) rfl rfl rfl (by decide +kernel) ⟨Nat.le_of_ble_eq_true rfl, Nat.le_of_ble_eq_true rfl⟩) hK hP (va_recv hK hP (ci := 1) (q0 := 0) rfl rfl) rfl hl.1 rfl (Nat.le_of_ble_eq_true rfl) dX1_different_35 ⟨Nat.zero_le _, Nat.zero_le _⟩ hS (fun _ h => h) (fun r4 u4 H locs hq4 hP hk4 hS => ?_)
            have hP : va_P D vwCl (wM ad cA th va (nI n) kd lf rt ho co u4) H := hP
            have hle4 := hvA_le (selB tb vl cd cs) (fun i => vl i k) w
            subst hq4
            refine ra_if_le (tgt := 44) hx hb (by omega) dX1_different_38 (by decide) (fun c4 => ?_) (fun c4 => ?_)
            · have _h : True := trivial
              refine lv_iinc (v := nI (w + 1)) (lv' := [(4, .int (nI (w + 1))), (3, .int (nI ct)), (0, .ref (ad 0)), (1, .int (nI cs + (-1))), (2, .int (nI k))]) hx hb dX1_different_44 hl (k := 0) rfl (nI_1 _) (by decide) rfl (fun ls hl => ?_)
              refine lv_goto (tgt := 22) hx hb dX1_different_47 (by decide) ?_
              exact ih (w + 1) _ _ (by omega) (by omega) (by rw [hf]; exact ct_n (p := fun w => decide (0 < hvA (selB tb vl cd cs) (fun i => vl i k) w)) (by rw [c4]; rfl)) _ _ _ hP hS (lv_sub hl [0, 1, 2, 3, 4] rfl)
            · have _h : True := trivial
              refine lv_iinc (v := nI (ct + 1)) (lv' := [(3, .int (nI (ct + 1))), (4, .int (nI w)), (0, .ref (ad 0)), (1, .int (nI cs + (-1))), (2, .int (nI k))]) hx hb dX1_different_41 hl (k := 1) rfl (nI_1 _) (by decide) rfl (fun ls hl => ?_)
              refine lv_iinc (v := nI (w + 1)) (lv' := [(4, .int (nI (w + 1))), (3, .int (nI (ct + 1))), (0, .ref (ad 0)), (1, .int (nI cs + (-1))), (2, .int (nI k))]) hx hb dX1_different_44 hl (k := 1) rfl (nI_1 _) (by decide) rfl (fun ls hl => ?_)
              refine lv_goto (tgt := 22) hx hb dX1_different_47 (by decide) ?_
              exact ih (w + 1) _ _ (by omega) (by omega) (by rw [hf]; exact ct_y (p := fun w => decide (0 < hvA (selB tb vl cd cs) (fun i => vl i k) w)) (by simp [c4])) _ _ _ hP hS (lv_sub hl [0, 1, 2, 3, 4] rfl)
      exact loop 257 0 0 mt (by omega) (by omega) rfl _ _ _ hP hS (lv_sub hl [0, 1, 2, 3, 4] rfl)
end
section
/-! plain facts: what both objects hold, and that their answers agree -/
def LI (th : Nat → Bool) (vl : Nat → Nat → Nat) (n : Nat) (cd : cdT) (pr : Int64) (sl : Nat → Int64) (so fi se ho co : Nat → Int32) (mt : Nat → Int64) (fr tm vm km lm rm hm cm : Nat → Int32) : Prop :=
  CDv n cd ∧ (∀ i, i < 64 → lb pr i = th i) ∧ SLok vl sl ∧ CDok n cd so fi se ho co ∧ FRok th vl n cd mt fr ∧ THok th tm ∧ VMok vl vm ∧ CDok n cd km lm rm hm cm
def thS (th : Nat → Bool) (j : Nat) (b : Bool) : Nat → Bool := fun i => if i = j then b else th i
theorem FR_0 {th : Nat → Bool} {vl : Nat → Nat → Nat} {n : Nat} {cd : cdT} {mt : Nat → Int64} {fr : Nat → Int32} (hn : n ≤ 16) (h : ∀ k, k < 16 → fr k = 0) : FRok th vl n cd mt fr := fun k hk hf => absurd (h k (by omega)) hf
section L1
variable {th : Nat → Bool} {vl : Nat → Nat → Nat} {n : Nat} {cd : cdT} {pr : Int64} {sl : Nat → Int64} {so fi se ho co : Nat → Int32} {mt : Nat → Int64} {fr tm vm km lm rm hm cm : Nat → Int32}
theorem TH_up {j : Nat} (b : Bool) (h : THok th tm) : THok (thS th j b) (upd tm j (nI (bN b))) := by
  intro i hi
  unfold thS
  by_cases e : i = j
  · subst e
    rw [pk_us, if_pos rfl]
  · rw [pk_un e, if_neg e]
    exact h i hi
theorem VM_put {j : Nat} (a b d : Int32) (hj : j ≤ 63) (h : VMok vl vm) : VMok (vput vl j a b d) (upd (upd (upd vm (3 * j) (nI (wv a))) (3 * j + 1) (nI (wv b))) (3 * j + 2) (nI (wv d))) := by
  intro i hi c hc
  obtain ⟨h1, h2⟩ := h i hi c hc
  unfold vput
  by_cases e : i = j
  · subst e
    rw [if_pos rfl]
    have hc3 : c = 0 ∨ c = 1 ∨ c = 2 := by omega
    rcases hc3 with rfl | rfl | rfl
    · rw [pk_un (by omega), pk_un (by omega)]
      exact ⟨wv_lt a, pk_us⟩
    · rw [pk_un (by omega)]
      exact ⟨wv_lt b, pk_us⟩
    · exact ⟨wv_lt d, pk_us⟩
  · rw [if_neg e, pk_un (by omega), pk_un (by omega), pk_un (by omega)]
    exact ⟨h1, h2⟩
theorem LI_put {j : Nat} {a b d : Int32} {f2 : Nat → Int32} {p2 : Int64} {s2 t2 v2 : Nat → _} (hj : j ≤ 63) (h : LI th vl n cd pr sl so fi se ho co mt fr tm vm km lm rm hm cm) (hp : p2 = pr ||| ((1 : Int64) <<< ((nI j).toInt64 &&& 63))) (hs : s2 = stc j 2 d (stc j 1 b (stc j 0 a sl 8) 8) 8) (hf : ∀ k, k < 16 → f2 k = 0) (ht : t2 = upd tm j (nI 1)) (hv : v2 = upd (upd (upd vm (3 * j) (nI (wv a))) (3 * j + 1) (nI (wv b))) (3 * j + 2) (nI (wv d))) :
    LI (thS th j true) (vput vl j a b d) n cd p2 s2 so fi se ho co mt f2 t2 v2 km lm rm hm cm := by
  obtain ⟨h1, h2, h3, h4, h5, h6, h7, h8⟩ := h
  subst hp; subst hs; subst ht; subst hv
  refine ⟨h1, fun i hi => ?_, put_SL a b d (by omega) h3, h4, FR_0 h1.1 hf, TH_up true h6, VM_put a b d hj h7, h8⟩
  rw [lb_or, h2 i hi, lb_bit j i (by omega) hi]
  unfold thS
  by_cases e : i = j
  · subst e; simp
  · simp [e]
theorem LI_drop {j : Nat} {f2 : Nat → Int32} {p2 : Int64} {t2 : Nat → Int32} (hj : j ≤ 63) (h : LI th vl n cd pr sl so fi se ho co mt fr tm vm km lm rm hm cm) (hp : p2 = pr &&& (((1 : Int64) <<< ((nI j).toInt64 &&& 63)) ^^^ (-1))) (hf : ∀ k, k < 16 → f2 k = 0) (ht : t2 = upd tm j (nI 0)) :
    LI (thS th j false) vl n cd p2 sl so fi se ho co mt f2 t2 vm km lm rm hm cm := by
  obtain ⟨h1, h2, h3, h4, h5, h6, h7, h8⟩ := h
  subst hp; subst ht
  refine ⟨h1, fun i hi => ?_, h3, h4, FR_0 h1.1 hf, TH_up false h6, h7, h8⟩
  rw [lb_and, lb_not _ hi, h2 i hi, lb_bit j i (by omega) hi]
  unfold thS
  by_cases e : i = j
  · subst e; simp
  · simp [e]
theorem LI_clear {f2 : Nat → Int32} (h : LI th vl n cd pr sl so fi se ho co mt fr tm vm km lm rm hm cm) (hf : ∀ k, k < 16 → f2 k = 0) : LI th vl 0 cd pr sl so fi se ho co mt f2 tm vm km lm rm hm cm := by
  obtain ⟨h1, h2, h3, h4, h5, h6, h7, h8⟩ := h
  exact ⟨⟨by omega, fun k hk => absurd hk (Nat.not_lt_zero _)⟩, h2, h3, fun k hk => absurd hk (Nat.not_lt_zero _), FR_0 (by omega) hf, h6, h7, fun k hk => absurd hk (Nat.not_lt_zero _)⟩
theorem LI_make {a b c d : Nat} {x : Int32} (h : LI th vl n cd pr sl so fi se ho co mt fr tm vm km lm rm hm cm) (hn : n < 16) (hc : (a ≤ 2 ∧ b ≤ 2 ∧ c ≤ 2 ∧ d ≤ 5) ∨ (a = 3 ∧ b < n ∧ c < n ∧ d ≤ 3)) :
    LI th vl (n + 1) (cdUp cd n (a, b, c, d, x)) pr sl (upd so n (nI a)) (upd fi n (nI b)) (upd se n (nI c)) (upd ho n (nI d)) (upd co n x) mt (upd fr n (nI 0)) tm vm (upd km n (nI a)) (upd lm n (nI b)) (upd rm n (nI c)) (upd hm n (nI d)) (upd cm n x) := by
  obtain ⟨h1, h2, h3, h4, h5, h6, h7, h8⟩ := h
  refine ⟨CDv_up h1 hn hc, h2, h3, CDok_up h4 a b c d x, fun k hk hf i hi => ?_, h6, h7, CDok_up h8 a b c d x⟩
  by_cases e : k = n
  · subst e
    rw [pk_us] at hf
    exact absurd rfl hf
  · rw [pk_un e] at hf
    rw [EB_up (by omega)]
    exact h5 k (by omega) hf i hi
theorem LI_q {m2 : Nat → Int64} {f2 : Nat → Int32} (h : LI th vl n cd pr sl so fi se ho co mt fr tm vm km lm rm hm cm) (hF : FRok th vl n cd m2 f2) : LI th vl n cd pr sl so fi se ho co m2 f2 tm vm km lm rm hm cm := by
  obtain ⟨h1, h2, h3, h4, h5, h6, h7, h8⟩ := h
  exact ⟨h1, h2, h3, h4, hF, h6, h7, h8⟩
end L1
theorem tI_and1 (x : Int64) : x.toInt32 &&& nI 1 = nI (uN x % 2) := by
  have e : x.toInt32 = nI (uN x) := by
    have := lN_i (uN x)
    rw [lN_uN] at this
    exact this
  rw [e, pk_and _ (m := nI 1) 1 rfl]
  congr 1
  show (BitVec.ofNat 32 (uN x)).toNat % 2 = _
  rw [BitVec.toNat_ofNat]
  omega
/-- the answers of drop -/
theorem drop_eq {th : Nat → Bool} {pr : Int64} {tm : Nat → Int32} {j : Nat} (hj : j ≤ 63) (h : ∀ i, i < 64 → lb pr i = th i) (ht : THok th tm) : (((pr.toUInt64 >>> ((nI j).toInt64.toUInt64 &&& Int64.toUInt64 63)).toInt64).toInt32 &&& nI 1) = (if tm j = 0 then nI 0 else nI 1) := by
  have e := h j (by omega)
  rw [lb_uN, tb_eq] at e
  rw [tI_and1, uN_sk pr (by omega), ht j (by omega)]
  cases q : th j with
  | false =>
    rw [q] at e
    have e : ¬ uN pr / 2 ^ j % 2 = 1 := of_decide_eq_false e
    rw [if_pos (by rfl), show uN pr / 2 ^ j % 2 = 0 by omega]
  | true =>
    rw [q] at e
    have e : uN pr / 2 ^ j % 2 = 1 := of_decide_eq_true e
    rw [if_neg (by decide), e]
theorem row_one {p : Nat → Bool} {pl r r' : Int32} (h : rowA p pl r) (h' : rowA p pl r') : r = r' := by
  rcases h with ⟨h1, h2⟩ | ⟨i, hi, hp, e, hr⟩ <;> rcases h' with ⟨h1', h2'⟩ | ⟨i', hi', hp', e', hr'⟩
  · rw [h2, h2']
  · exact absurd e' (h1 i' hi' hp')
  · exact absurd e (h1' i hi hp)
  · have b1 := fb_ct_le p i
    have b2 := fb_ct_le p i'
    have := fb_ct_kth_one hp hp' (nI_inj (by omega) (by omega) (e.symm.trans e'))
    rw [hr, hr', this]
theorem ltA_mono (p : Nat → Bool) (v : Nat → Nat) {w w' : Nat} (h : w ≤ w') : ltA p v w ≤ ltA p v w' := fb_ct_sub (fun k _ hk => by
  simp only [Bool.and_eq_true, decide_eq_true_eq] at hk ⊢
  exact ⟨hk.1, by omega⟩)
theorem ltA_tot (p : Nat → Bool) (v : Nat → Nat) (w : Nat) : ltA p v w ≤ fb_ct p 64 := fb_ct_sub (fun k _ hk => by
  simp only [Bool.and_eq_true] at hk
  exact hk.1)
theorem rk_one {p : Nat → Bool} {v : Nat → Nat} {pl r r' : Int32} (h : rkA p v pl r) (h' : rkA p v pl r') : r = r' := by
  have key : ∀ {s s' : Int32}, ((pl < 0 ∨ ∃ q, q < 2 ^ 31 ∧ pl = nI q ∧ fb_ct p 64 ≤ q) ∧ s = (-1)) → (∃ q w, q < 2 ^ 31 ∧ pl = nI q ∧ w < 256 ∧ ltA p v w ≤ q ∧ q < ltA p v (w + 1) ∧ s' = nI w) → False := by
    rintro s s' ⟨a, -⟩ ⟨q, w, hq, e, hw, b1, b2, -⟩
    have t := ltA_tot p v (w + 1)
    rcases a with a | ⟨q', hq', e', a⟩
    · rw [e] at a
      exact nI_pos hq a
    · have := nI_inj hq hq' (e.symm.trans e')
      omega
  rcases h with h | h <;> rcases h' with h' | h'
  · rw [h.2, h'.2]
  · exact (key h h').elim
  · exact (key h' h).elim
  · obtain ⟨q, w, hq, e, hw, b1, b2, hr⟩ := h
    obtain ⟨q', w', hq', e', hw', b1', b2', hr'⟩ := h'
    have t := nI_inj hq hq' (e.symm.trans e')
    subst t
    have : w = w' := by
      rcases Nat.lt_trichotomy w w' with c | c | c
      · have := ltA_mono p v (show w + 1 ≤ w' from c)
        omega
      · exact c
      · have := ltA_mono p v (show w' + 1 ≤ w from c)
        omega
    rw [hr, hr', this]
theorem q1_eq {n : Nat} {x r r' : Int32} {F : Nat → Int32 → Prop} (hn : n ≤ 16) (hu : ∀ cs s s', F cs s → F cs s' → s = s') (h : (¬ okQ n x ∧ r = (-1)) ∨ (∃ cs, cs ≤ n ∧ x = nI cs + (-1) ∧ F cs r)) (h' : (¬ okQ n x ∧ r' = (-1)) ∨ (∃ cs, cs ≤ n ∧ x = nI cs + (-1) ∧ F cs r')) : r = r' := by
  rcases h with ⟨a, b⟩ | ⟨cs, a, b, c⟩ <;> rcases h' with ⟨a', b'⟩ | ⟨cs', a', b', c'⟩
  · rw [b, b']
  · exact absurd ⟨cs', a', b'⟩ a
  · exact absurd ⟨cs, a, b⟩ a'
  · have := cs_one (by omega) (by omega) (b.symm.trans b')
    subst this
    exact hu cs _ _ c c'
theorem q2_eq {n : Nat} {x y r r' : Int32} {F : Nat → Nat → Int32 → Prop} (hn : n ≤ 16) (hu : ∀ cs k s s', F cs k s → F cs k s' → s = s') (h : (¬ (okQ n x ∧ okCol y) ∧ r = (-1)) ∨ (∃ cs k, cs ≤ n ∧ k ≤ 2 ∧ x = nI cs + (-1) ∧ y = nI k ∧ F cs k r)) (h' : (¬ (okQ n x ∧ okCol y) ∧ r' = (-1)) ∨ (∃ cs k, cs ≤ n ∧ k ≤ 2 ∧ x = nI cs + (-1) ∧ y = nI k ∧ F cs k r')) : r = r' := by
  rcases h with ⟨a, b⟩ | ⟨cs, k, a, b, c, d, f⟩ <;> rcases h' with ⟨a', b'⟩ | ⟨cs', k', a', b', c', d', f'⟩
  · rw [b, b']
  · exact absurd ⟨⟨cs', a', c'⟩, ⟨k', b', d'⟩⟩ a
  · exact absurd ⟨⟨cs, a, c⟩, ⟨k, b, d⟩⟩ a'
  · have t1 := cs_one (by omega) (by omega) (c.symm.trans c')
    have t2 := nI_inj (by omega) (by omega) (d.symm.trans d')
    subst t1
    subst t2
    exact hu cs k _ _ f f'
/-- both objects make a condition, or neither -/
theorem mk_both {th : Nat → Bool} {vl : Nat → Nat → Nat} {n : Nat} {cd : cdT} {pr : Int64} {sl : Nat → Int64} {so fi se ho co : Nat → Int32} {mt : Nat → Int64} {fr tm vm km lm rm hm cm : Nat → Int32} {a b c d : Nat} {x r r' : Int32} {u : mkS} {u' : mmS} (h : LI th vl n cd pr sl so fi se ho co mt fr tm vm km lm rm hm cm) (hc : (a ≤ 2 ∧ b ≤ 2 ∧ c ≤ 2 ∧ d ≤ 5) ∨ (a = 3 ∧ b < n ∧ c < n ∧ d ≤ 3)) (h1 : mkP n so fi se ho co fr (nI a) (nI b) (nI c) (nI d) x r u) (h2 : mmP n km lm rm hm cm (nI a) (nI b) (nI d) (nI c) x r' u') :
    r = r' ∧ ∃ n' cd', u.1 = nI n' ∧ u'.1 = nI n' ∧ LI th vl n' cd' pr sl u.2.1 u.2.2.1 u.2.2.2.1 u.2.2.2.2.1 u.2.2.2.2.2.1 mt u.2.2.2.2.2.2 tm vm u'.2.1 u'.2.2.1 u'.2.2.2.1 u'.2.2.2.2.1 u'.2.2.2.2.2 := by
  rcases h1 with ⟨a1, a2, a3⟩ | ⟨a1, a2, a3⟩ <;> rcases h2 with ⟨b1, b2, b3⟩ | ⟨b1, b2, b3⟩
  · subst a3; subst b3
    exact ⟨by rw [a2, b2], n, cd, rfl, rfl, h⟩
  · omega
  · omega
  · subst a3; subst b3
    exact ⟨by rw [a2, b2], n + 1, _, rfl, rfl, LI_make h a1 hc⟩
theorem mk_same {th : Nat → Bool} {vl : Nat → Nat → Nat} {n : Nat} {cd : cdT} {pr : Int64} {sl : Nat → Int64} {so fi se ho co : Nat → Int32} {mt : Nat → Int64} {fr tm vm km lm rm hm cm : Nat → Int32} {r r' : Int32} {u : mkS} {u' : mmS} (h : LI th vl n cd pr sl so fi se ho co mt fr tm vm km lm rm hm cm) (h1 : r = (-1) ∧ u = (nI n, so, fi, se, ho, co, fr)) (h2 : r' = (-1) ∧ u' = (nI n, km, lm, rm, hm, cm)) :
    r = r' ∧ ∃ n' cd', u.1 = nI n' ∧ u'.1 = nI n' ∧ LI th vl n' cd' pr sl u.2.1 u.2.2.1 u.2.2.2.1 u.2.2.2.2.1 u.2.2.2.2.2.1 mt u.2.2.2.2.2.2 tm vm u'.2.1 u'.2.2.1 u'.2.2.2.1 u'.2.2.2.2.1 u'.2.2.2.2.2 := by
  obtain ⟨a2, a3⟩ := h1
  obtain ⟨b2, b3⟩ := h2
  subst a3; subst b3
  exact ⟨by rw [a2, b2], n, cd, rfl, rfl, h⟩
section L2
variable {th : Nat → Bool} {vl : Nat → Nat → Nat} {n : Nat} {cd : cdT} {pr : Int64} {sl : Nat → Int64} {so fi se ho co : Nat → Int32} {mt : Nat → Int64} {fr tm vm km lm rm hm cm : Nat → Int32} {x h y k r r' : Int32} {u : mkS} {u' : mmS}
theorem cmp_both (hL : LI th vl n cd pr sl so fi se ho co mt fr tm vm km lm rm hm cm) (h1 : (¬ okCmp x h ∧ r = (-1) ∧ u = (nI n, so, fi, se, ho, co, fr)) ∨ (∃ j d, j ≤ 2 ∧ d ≤ 5 ∧ x = nI j ∧ h = nI d ∧ mkP n so fi se ho co fr (nI 0) (nI j) (nI 0) (nI d) k r u)) (h2 : (¬ okCmp x h ∧ r' = (-1) ∧ u' = (nI n, km, lm, rm, hm, cm)) ∨ (∃ j d, j ≤ 2 ∧ d ≤ 5 ∧ x = nI j ∧ h = nI d ∧ mmP n km lm rm hm cm (nI 0) (nI j) (nI d) (nI 0) k r' u')) :
    r = r' ∧ ∃ n' cd', u.1 = nI n' ∧ u'.1 = nI n' ∧ LI th vl n' cd' pr sl u.2.1 u.2.2.1 u.2.2.2.1 u.2.2.2.2.1 u.2.2.2.2.2.1 mt u.2.2.2.2.2.2 tm vm u'.2.1 u'.2.2.1 u'.2.2.2.1 u'.2.2.2.2.1 u'.2.2.2.2.2 := by
  rcases h1 with ⟨a, b⟩ | ⟨j, d, a1, a2, a3, a4, a5⟩ <;> rcases h2 with ⟨a', b'⟩ | ⟨j', d', b1, b2, b3, b4, b5⟩
  · exact mk_same hL b b'
  · exact absurd ⟨j', d', b1, b2, b3, b4⟩ a
  · exact absurd ⟨j, d, a1, a2, a3, a4⟩ a'
  · have t1 := nI_inj (by omega) (by omega) (a3.symm.trans b3)
    have t2 := nI_inj (by omega) (by omega) (a4.symm.trans b4)
    subst t1; subst t2
    exact mk_both hL (Or.inl ⟨by omega, a1, by omega, a2⟩) a5 b5
theorem cols_both {K : Nat} {k1 : Int32} (hK : K ≤ 2) (hL : LI th vl n cd pr sl so fi se ho co mt fr tm vm km lm rm hm cm) (h1 : (¬ okCols x h y ∧ r = (-1) ∧ u = (nI n, so, fi, se, ho, co, fr)) ∨ (∃ j d q, j ≤ 2 ∧ d ≤ 5 ∧ q ≤ 2 ∧ x = nI j ∧ h = nI d ∧ y = nI q ∧ mkP n so fi se ho co fr (nI K) (nI j) (nI q) (nI d) k1 r u)) (h2 : (¬ okCols x h y ∧ r' = (-1) ∧ u' = (nI n, km, lm, rm, hm, cm)) ∨ (∃ j d q, j ≤ 2 ∧ d ≤ 5 ∧ q ≤ 2 ∧ x = nI j ∧ h = nI d ∧ y = nI q ∧ mmP n km lm rm hm cm (nI K) (nI j) (nI d) (nI q) k1 r' u')) :
    r = r' ∧ ∃ n' cd', u.1 = nI n' ∧ u'.1 = nI n' ∧ LI th vl n' cd' pr sl u.2.1 u.2.2.1 u.2.2.2.1 u.2.2.2.2.1 u.2.2.2.2.2.1 mt u.2.2.2.2.2.2 tm vm u'.2.1 u'.2.2.1 u'.2.2.2.1 u'.2.2.2.2.1 u'.2.2.2.2.2 := by
  rcases h1 with ⟨a, b⟩ | ⟨j, d, q, a1, a2, a3, a4, a5, a6, a7⟩ <;> rcases h2 with ⟨a', b'⟩ | ⟨j', d', q', b1, b2, b3, b4, b5, b6, b7⟩
  · exact mk_same hL b b'
  · exact absurd ⟨j', d', q', b1, b2, b3, b4, b5, b6⟩ a
  · exact absurd ⟨j, d, q, a1, a2, a3, a4, a5, a6⟩ a'
  · have t1 := nI_inj (by omega) (by omega) (a4.symm.trans b4)
    have t2 := nI_inj (by omega) (by omega) (a5.symm.trans b5)
    have t3 := nI_inj (by omega) (by omega) (a6.symm.trans b6)
    subst t1; subst t2; subst t3
    exact mk_both hL (Or.inl ⟨hK, a1, a3, a2⟩) a7 b7
theorem join_both (hL : LI th vl n cd pr sl so fi se ho co mt fr tm vm km lm rm hm cm) (h1 : (¬ okJoin n x h y ∧ r = (-1) ∧ u = (nI n, so, fi, se, ho, co, fr)) ∨ (∃ j d q, j < n ∧ d ≤ 3 ∧ q < n ∧ x = nI j ∧ h = nI d ∧ y = nI q ∧ mkP n so fi se ho co fr (nI 3) (nI j) (nI q) (nI d) (nI 0) r u)) (h2 : (¬ okJoin n x h y ∧ r' = (-1) ∧ u' = (nI n, km, lm, rm, hm, cm)) ∨ (∃ j d q, j < n ∧ d ≤ 3 ∧ q < n ∧ x = nI j ∧ h = nI d ∧ y = nI q ∧ mmP n km lm rm hm cm (nI 3) (nI j) (nI d) (nI q) (nI 0) r' u')) :
    r = r' ∧ ∃ n' cd', u.1 = nI n' ∧ u'.1 = nI n' ∧ LI th vl n' cd' pr sl u.2.1 u.2.2.1 u.2.2.2.1 u.2.2.2.2.1 u.2.2.2.2.2.1 mt u.2.2.2.2.2.2 tm vm u'.2.1 u'.2.2.1 u'.2.2.2.1 u'.2.2.2.2.1 u'.2.2.2.2.2 := by
  have hn : n ≤ 16 := hL.1.1
  rcases h1 with ⟨a, b⟩ | ⟨j, d, q, a1, a2, a3, a4, a5, a6, a7⟩ <;> rcases h2 with ⟨a', b'⟩ | ⟨j', d', q', b1, b2, b3, b4, b5, b6, b7⟩
  · exact mk_same hL b b'
  · exact absurd ⟨j', d', q', b1, b2, b3, b4, b5, b6⟩ a
  · exact absurd ⟨j, d, q, a1, a2, a3, a4, a5, a6⟩ a'
  · have t1 := nI_inj (by omega) (by omega) (a4.symm.trans b4)
    have t2 := nI_inj (by omega) (by omega) (a5.symm.trans b5)
    have t3 := nI_inj (by omega) (by omega) (a6.symm.trans b6)
    subst t1; subst t2; subst t3
    exact mk_both hL (Or.inr ⟨rfl, a1, a3, a2⟩) a7 b7
end L2
/-- the loop's test -/
theorem lp_no {L i : Nat} (hL : L ≤ 320) (hi : i ≤ L) (h : ¬ nI L - nI 5 < nI i) : i + 5 ≤ L := by
  rw [Int32.lt_iff_toInt_lt, pk_sub_toInt (by omega) (by decide), nI_toInt (by omega)] at h
  omega
section L3
variable {th : Nat → Bool} {vl : Nat → Nat → Nat} {n : Nat} {cd : cdT} {pr : Int64} {sl : Nat → Int64} {so fi se ho co : Nat → Int32} {mt : Nat → Int64} {fr tm vm km lm rm hm cm : Nat → Int32}
theorem put_both {x a b d r r' : Int32} {u : Int64 × (Nat → Int64) × (Nat → Int32)} {u' : (Nat → Int32) × (Nat → Int32)} (hL : LI th vl n cd pr sl so fi se ho co mt fr tm vm km lm rm hm cm) (h1 : (¬ okRow x ∧ r = (-1) ∧ u = (pr, sl, fr)) ∨ (∃ j, j ≤ 63 ∧ x = nI j ∧ r = nI 0 ∧ u.1 = pr ||| ((1 : Int64) <<< ((nI j).toInt64 &&& 63)) ∧ u.2.1 = stc j 2 d (stc j 1 b (stc j 0 a sl 8) 8) 8 ∧ ∀ k, k < 16 → u.2.2 k = 0)) (h2 : (¬ okRow x ∧ r' = (-1) ∧ u' = (tm, vm)) ∨ (∃ j, j ≤ 63 ∧ x = nI j ∧ r' = nI 0 ∧ u'.1 = upd tm j (nI 1) ∧ u'.2 = upd (upd (upd vm (3 * j) (nI (wv a))) (3 * j + 1) (nI (wv b))) (3 * j + 2) (nI (wv d)))) :
    r = r' ∧ ∃ th' vl', LI th' vl' n cd u.1 u.2.1 so fi se ho co mt u.2.2 u'.1 u'.2 km lm rm hm cm := by
  rcases h1 with ⟨a1, a2, a3⟩ | ⟨j, a1, a2, a3, a4, a5, a6⟩ <;> rcases h2 with ⟨b1, b2, b3⟩ | ⟨j', b1, b2, b3, b4, b5⟩
  · subst a3; subst b3
    exact ⟨by rw [a2, b2], th, vl, hL⟩
  · exact absurd ⟨j', b1, b2⟩ a1
  · exact absurd ⟨j, a1, a2⟩ b1
  · have t := nI_inj (by omega) (by omega) (a2.symm.trans b2)
    subst t
    exact ⟨by rw [a3, b3], _, _, LI_put a1 hL a4 a5 a6 b4 b5⟩
theorem drop_both {x r r' : Int32} {u : Int64 × (Nat → Int32)} {u' : Nat → Int32} (hL : LI th vl n cd pr sl so fi se ho co mt fr tm vm km lm rm hm cm) (h1 : (¬ okRow x ∧ r = (-1) ∧ u = (pr, fr)) ∨ (∃ j, j ≤ 63 ∧ x = nI j ∧ r = (((pr.toUInt64 >>> ((nI j).toInt64.toUInt64 &&& Int64.toUInt64 63)).toInt64).toInt32 &&& nI 1) ∧ u.1 = pr &&& (((1 : Int64) <<< ((nI j).toInt64 &&& 63)) ^^^ (-1)) ∧ ∀ k, k < 16 → u.2 k = 0)) (h2 : (¬ okRow x ∧ r' = (-1) ∧ u' = tm) ∨ (∃ j, j ≤ 63 ∧ x = nI j ∧ r' = (if tm j = 0 then nI 0 else nI 1) ∧ u' = upd tm j (nI 0))) :
    r = r' ∧ ∃ th', LI th' vl n cd u.1 sl so fi se ho co mt u.2 u' vm km lm rm hm cm := by
  rcases h1 with ⟨a1, a2, a3⟩ | ⟨j, a1, a2, a3, a4, a5⟩ <;> rcases h2 with ⟨b1, b2, b3⟩ | ⟨j', b1, b2, b3, b4⟩
  · subst a3; subst b3
    exact ⟨by rw [a2, b2], th, hL⟩
  · exact absurd ⟨j', b1, b2⟩ a1
  · exact absurd ⟨j, a1, a2⟩ b1
  · have t := nI_inj (by omega) (by omega) (a2.symm.trans b2)
    subst t
    exact ⟨by rw [a3, b3]; exact drop_eq a1 hL.2.1 hL.2.2.2.2.2.1, _, LI_drop a1 hL a4 a5 b4⟩
end L3
/-- at the start -/
theorem LI_0 : LI (fun _ => false) (fun _ _ => 0) 0 (fun _ => (0, 0, 0, 0, 0)) 0 (fun _ => 0) (fun _ => 0) (fun _ => 0) (fun _ => 0) (fun _ => 0) (fun _ => 0) (fun _ => 0) (fun _ => 0) (fun _ => 0) (fun _ => 0) (fun _ => 0) (fun _ => 0) (fun _ => 0) (fun _ => 0) (fun _ => 0) :=
  ⟨⟨by decide, fun k hk => absurd hk (Nat.not_lt_zero _)⟩, fun i _ => lb_0 i, fun i _ c _ => ⟨Nat.zero_lt_succ _, fun b _ => by rw [lb_0]; simp⟩, fun k hk => absurd hk (Nat.not_lt_zero _), fun k hk => absurd hk (Nat.not_lt_zero _), fun i _ => rfl, fun i _ c _ => ⟨Nat.zero_lt_succ _, rfl⟩, fun k hk => absurd hk (Nat.not_lt_zero _)⟩
end
section
theorem one_D {A : Nat → Prop} {h0 : Nat} {e : va_E} (h : A h0) : va_D A [(h0, e)] := by
  refine ⟨fun i j p q hi hj _ => ?_, fun k q hk => ?_⟩
  · have h1 := (List.getElem?_eq_some_iff.mp hi).1
    have h2 := (List.getElem?_eq_some_iff.mp hj).1
    simp only [List.length_cons, List.length_nil] at h1 h2
    omega
  · have h1 := (List.getElem?_eq_some_iff.mp hk).1
    simp only [List.length_cons, List.length_nil] at h1
    obtain rfl : k = 0 := by omega
    cases hk
    exact h
theorem ad_at {n : Nat} {ad : Nat → Nat} {ws : va_W} (e : ws.map (fun q => q.1) = (List.range n).map ad) {k : Nat} (hk : k < n) : ∃ q, ws[k]? = some q ∧ q.1 = ad k := by
  have h1 : (ws.map (fun q => q.1))[k]? = some (ad k) := by
    rw [e, List.getElem?_map, List.getElem?_range hk]
    rfl
  rw [List.getElem?_map] at h1
  cases hq : ws[k]? with
  | none => rw [hq] at h1; cases h1
  | some q => rw [hq] at h1; exact ⟨q, rfl, Option.some.inj h1⟩
theorem ad_apt {A : Nat → Prop} {n : Nat} {ad : Nat → Nat} {ws : va_W} (hD : va_D A ws) (e : ws.map (fun q => q.1) = (List.range n).map ad) : apt n ad ∧ ∀ k, k < n → A (ad k) := by
  constructor
  · intro i j hi hj h
    obtain ⟨p, h1, h2⟩ := ad_at e hi
    obtain ⟨q, h3, h4⟩ := ad_at e hj
    exact hD.1 i j p q h1 h3 (by rw [h2, h4]; exact h)
  · intro k hk
    obtain ⟨p, h1, h2⟩ := ad_at e hk
    rw [← h2]
    exact hD.2 k p h1
abbrev fsX0 : List Value := [.long 0, .null, .int 0, .null, .null, .null, .null, .null, .null, .null, .null, .long 0, .long 0, .null, .null]
set_option maxHeartbeats 4000000 in
set_option maxRecDepth 100000 in
theorem metX0_init {l : Launch} {D : va_G} (h0 sz : Nat) : Met l yX0_init (ws_ yX0_init cX0_init 1 none) ({ frames := 1, cells := 11, slots := 273, locals := 30 } : Room) (va_Pc [.ref h0] (fun U => U.heap.size = sz ∧ va_K D vwCl [] U ∧ va_P D vwCl [(h0, .inr (0, fsX0))] U.heap)) (va_Qv (fun (u : (Nat → Nat) × (Nat → ClassId)) => u.1 0 = h0 ∧ apt 12 u.1 ∧ ∀ k, 0 < k → k < 12 → sz ≤ u.1 k) (fun u t => va_P D vwCl (wX u.1 u.2 0 (fun _ => 0) 0 (fun _ => 0) (fun _ => 0) (fun _ => 0) (fun _ => 0) (fun _ => 0) (fun _ => 0) (fun _ => 0) (fun _ => 0) 0 0 (fun _ => 0) (fun _ => 0)) t.heap ∧ va_K D vwCl (tX u.2) t) (fun q => q = h0 ∨ sz ≤ q)) 11 273 (fun q => q = h0 ∨ sz ≤ q) := by
  refine Met.ofW (cc := cX0_init) (maxL := 1) (ret := none) (by decide) rfl ?_
  intro p e s m args below meth c s₁ B hml hv
  obtain ⟨rfl, hsz, hK, hP⟩ := hv
  have hx := B.exec
  have hb := B.bytes
  have hr := B.returns
  have hts0 := atoms_spec (ws := ws_ yX0_init cX0_init 1 none) B.pre
  have hts : ∀ w ∈ lw_all, w.before _ s = true := fun w h => hts0 w (List.mem_cons_of_mem _ h)
  have hown : s.vm.findClass RX0 = some m.cls := findClass_of_methodNamed B.named
  have hlocks := B.notSynchronized
  have hin : meth.name = "<init>" := (name_of_methodNamed B.named B.method).1
  subst hsz
  obtain ⟨A, hAe⟩ : ∃ A : Nat → Prop, A = (fun q => q = h0 ∨ s.heap.size ≤ q) := ⟨_, rfl⟩
  rw [← hAe]
  have hA : ∀ q : Nat, s.heap.size ≤ q → A q := fun q h => by rw [hAe]; exact Or.inr h
  have hS : va_S A s.heap s.heap [] := va_S.rf
  have hD : va_D A [(h0, .inr (0, fsX0))] := one_D (by rw [hAe]; exact Or.inl rfl)
  have hl := lv_entry ([.ref h0]) (n := 1) (Nat.le_of_ble_eq_true rfl)
  rw [lg_entry_eq]
  generalize (lg_sl ([.ref h0]) ++ List.replicate (1 - (lg_sl ([.ref h0])).length) Slot.unset).toArray = ls at hl ⊢
  have hl : lv_has ls 1 [(0, .ref h0)] := hl
  refine lv_aload_n hx hb dX0_init_0 rfl (lv_at hl 0 rfl) ?_
  refine W.objInit hx hb hown (hts _ q24) (hts _ q25) (hts _ q26) rfl (by rw [hml]; exact hl.1) rfl dX0_init_1 (Nat.le_of_ble_eq_true rfl) (Nat.le_of_ble_eq_true rfl) ?_
  refine W.eq (g2 := F0 m 4 ls []) rfl ?_
  refine lv_aload_n hx hb dX0_init_4 rfl (lv_at hl 0 rfl) ?_
  refine lv_bipush (v := nI 24) hx hb dX0_init_5 (by decide) ?_
  refine va_newa (atype := .long) (ty := .long) (a0 := (24, .inr (.inl (fun _ => 0)))) (N' := 24) hx hb (hts _ q73) rfl hK hP hD hS hA (fun _ => rfl) (by decide) (by decide) (by decide) (Nat.le_of_ble_eq_true rfl) (Nat.le_of_ble_eq_true rfl) dX0_init_7 (fun q1 c1 H hK hP hD hS => ?_)
  have hK : va_K D vwCl [(c1, .long)] s := hK
  have hP : va_P D vwCl [(h0, .inr (0, [.long 0, .null, .int 0, .null, .null, .null, .null, .null, .null, .null, .null, .long 0, .long 0, .null, .null])), (q1, .inl (c1, (24, .inr (.inl (fun _ => 0)))))] H := hP
  have hD : va_D A [(h0, .inr (0, [.long 0, .null, .int 0, .null, .null, .null, .null, .null, .null, .null, .null, .long 0, .long 0, .null, .null])), (q1, .inl (c1, (24, .inr (.inl (fun _ => 0)))))] := hD
  refine va_putF (D := D) (ci := 0) (v := .ref q1) (ty := .array .long) (C := RX0) (T := TX0) (N := 15) hx hb hts in_X0 tyX0 tyX0_ok nmX0 hown hK hP hD hS 0 rfl rfl 1 (by decide) (hts _ q28) (fun _ h9 => h9) rfl hin rfl (by decide +kernel) rfl rfl (Nat.le_of_ble_eq_true rfl) dX0_init_9 (fun H locs hP hD hS => ?_)
  have hP : va_P D vwCl [(h0, .inr (0, [.long 0, .ref q1, .int 0, .null, .null, .null, .null, .null, .null, .null, .null, .long 0, .long 0, .null, .null])), (q1, .inl (c1, (24, .inr (.inl (fun _ => 0)))))] H := hP
  have hD : va_D A [(h0, .inr (0, [.long 0, .ref q1, .int 0, .null, .null, .null, .null, .null, .null, .null, .null, .long 0, .long 0, .null, .null])), (q1, .inl (c1, (24, .inr (.inl (fun _ => 0)))))] := hD
  refine lv_aload_n hx hb dX0_init_12 rfl (lv_at hl 0 rfl) ?_
  refine lv_bipush (v := nI 16) hx hb dX0_init_13 (by decide) ?_
  refine va_newa (atype := .int) (ty := .int) (a0 := (16, .inl (fun _ => 0))) (N' := 16) hx hb (hts _ q74) rfl hK hP hD hS hA (fun _ => rfl) (by decide) (by decide) (by decide) (Nat.le_of_ble_eq_true rfl) (Nat.le_of_ble_eq_true rfl) dX0_init_15 (fun q2 c2 H hK hP hD hS => ?_)
  have hK : va_K D vwCl [(c1, .long), (c2, .int)] s := hK
  have hP : va_P D vwCl [(h0, .inr (0, [.long 0, .ref q1, .int 0, .null, .null, .null, .null, .null, .null, .null, .null, .long 0, .long 0, .null, .null])), (q1, .inl (c1, (24, .inr (.inl (fun _ => 0))))), (q2, .inl (c2, (16, .inl (fun _ => 0))))] H := hP
  have hD : va_D A [(h0, .inr (0, [.long 0, .ref q1, .int 0, .null, .null, .null, .null, .null, .null, .null, .null, .long 0, .long 0, .null, .null])), (q1, .inl (c1, (24, .inr (.inl (fun _ => 0))))), (q2, .inl (c2, (16, .inl (fun _ => 0))))] := hD
  refine va_putF (D := D) (ci := 0) (v := .ref q2) (ty := .array .int) (C := RX0) (T := TX0) (N := 15) hx hb hts in_X0 tyX0 tyX0_ok nmX0 hown hK hP hD hS 0 rfl rfl 3 (by decide) (hts _ q30) (fun _ h9 => h9) rfl hin rfl (by decide +kernel) rfl rfl (Nat.le_of_ble_eq_true rfl) dX0_init_17 (fun H locs hP hD hS => ?_)
  have hP : va_P D vwCl [(h0, .inr (0, [.long 0, .ref q1, .int 0, .ref q2, .null, .null, .null, .null, .null, .null, .null, .long 0, .long 0, .null, .null])), (q1, .inl (c1, (24, .inr (.inl (fun _ => 0))))), (q2, .inl (c2, (16, .inl (fun _ => 0))))] H := hP
  have hD : va_D A [(h0, .inr (0, [.long 0, .ref q1, .int 0, .ref q2, .null, .null, .null, .null, .null, .null, .null, .long 0, .long 0, .null, .null])), (q1, .inl (c1, (24, .inr (.inl (fun _ => 0))))), (q2, .inl (c2, (16, .inl (fun _ => 0))))] := hD
  refine lv_aload_n hx hb dX0_init_20 rfl (lv_at hl 0 rfl) ?_
  refine lv_bipush (v := nI 16) hx hb dX0_init_21 (by decide) ?_
  refine va_newa (atype := .int) (ty := .int) (a0 := (16, .inl (fun _ => 0))) (N' := 16) hx hb (hts _ q74) rfl hK hP hD hS hA (fun _ => rfl) (by decide) (by decide) (by decide) (Nat.le_of_ble_eq_true rfl) (Nat.le_of_ble_eq_true rfl) dX0_init_23 (fun q3 c3 H hK hP hD hS => ?_)
  have hK : va_K D vwCl [(c1, .long), (c2, .int), (c3, .int)] s := hK
  have hP : va_P D vwCl [(h0, .inr (0, [.long 0, .ref q1, .int 0, .ref q2, .null, .null, .null, .null, .null, .null, .null, .long 0, .long 0, .null, .null])), (q1, .inl (c1, (24, .inr (.inl (fun _ => 0))))), (q2, .inl (c2, (16, .inl (fun _ => 0)))), (q3, .inl (c3, (16, .inl (fun _ => 0))))] H := hP
  have hD : va_D A [(h0, .inr (0, [.long 0, .ref q1, .int 0, .ref q2, .null, .null, .null, .null, .null, .null, .null, .long 0, .long 0, .null, .null])), (q1, .inl (c1, (24, .inr (.inl (fun _ => 0))))), (q2, .inl (c2, (16, .inl (fun _ => 0)))), (q3, .inl (c3, (16, .inl (fun _ => 0))))] := hD
  refine va_putF (D := D) (ci := 0) (v := .ref q3) (ty := .array .int) (C := RX0) (T := TX0) (N := 15) hx hb hts in_X0 tyX0 tyX0_ok nmX0 hown hK hP hD hS 0 rfl rfl 4 (by decide) (hts _ q31) (fun _ h9 => h9) rfl hin rfl (by decide +kernel) rfl rfl (Nat.le_of_ble_eq_true rfl) dX0_init_25 (fun H locs hP hD hS => ?_)
  have hP : va_P D vwCl [(h0, .inr (0, [.long 0, .ref q1, .int 0, .ref q2, .ref q3, .null, .null, .null, .null, .null, .null, .long 0, .long 0, .null, .null])), (q1, .inl (c1, (24, .inr (.inl (fun _ => 0))))), (q2, .inl (c2, (16, .inl (fun _ => 0)))), (q3, .inl (c3, (16, .inl (fun _ => 0))))] H := hP
  have hD : va_D A [(h0, .inr (0, [.long 0, .ref q1, .int 0, .ref q2, .ref q3, .null, .null, .null, .null, .null, .null, .long 0, .long 0, .null, .null])), (q1, .inl (c1, (24, .inr (.inl (fun _ => 0))))), (q2, .inl (c2, (16, .inl (fun _ => 0)))), (q3, .inl (c3, (16, .inl (fun _ => 0))))] := hD
  refine lv_aload_n hx hb dX0_init_28 rfl (lv_at hl 0 rfl) ?_
  refine lv_bipush (v := nI 16) hx hb dX0_init_29 (by decide) ?_
  refine va_newa (atype := .int) (ty := .int) (a0 := (16, .inl (fun _ => 0))) (N' := 16) hx hb (hts _ q74) rfl hK hP hD hS hA (fun _ => rfl) (by decide) (by decide) (by decide) (Nat.le_of_ble_eq_true rfl) (Nat.le_of_ble_eq_true rfl) dX0_init_31 (fun q4 c4 H hK hP hD hS => ?_)
  have hK : va_K D vwCl [(c1, .long), (c2, .int), (c3, .int), (c4, .int)] s := hK
  have hP : va_P D vwCl [(h0, .inr (0, [.long 0, .ref q1, .int 0, .ref q2, .ref q3, .null, .null, .null, .null, .null, .null, .long 0, .long 0, .null, .null])), (q1, .inl (c1, (24, .inr (.inl (fun _ => 0))))), (q2, .inl (c2, (16, .inl (fun _ => 0)))), (q3, .inl (c3, (16, .inl (fun _ => 0)))), (q4, .inl (c4, (16, .inl (fun _ => 0))))] H := hP
  have hD : va_D A [(h0, .inr (0, [.long 0, .ref q1, .int 0, .ref q2, .ref q3, .null, .null, .null, .null, .null, .null, .long 0, .long 0, .null, .null])), (q1, .inl (c1, (24, .inr (.inl (fun _ => 0))))), (q2, .inl (c2, (16, .inl (fun _ => 0)))), (q3, .inl (c3, (16, .inl (fun _ => 0)))), (q4, .inl (c4, (16, .inl (fun _ => 0))))] := hD
  refine va_putF (D := D) (ci := 0) (v := .ref q4) (ty := .array .int) (C := RX0) (T := TX0) (N := 15) hx hb hts in_X0 tyX0 tyX0_ok nmX0 hown hK hP hD hS 0 rfl rfl 5 (by decide) (hts _ q32) (fun _ h9 => h9) rfl hin rfl (by decide +kernel) rfl rfl (Nat.le_of_ble_eq_true rfl) dX0_init_33 (fun H locs hP hD hS => ?_)
  have hP : va_P D vwCl [(h0, .inr (0, [.long 0, .ref q1, .int 0, .ref q2, .ref q3, .ref q4, .null, .null, .null, .null, .null, .long 0, .long 0, .null, .null])), (q1, .inl (c1, (24, .inr (.inl (fun _ => 0))))), (q2, .inl (c2, (16, .inl (fun _ => 0)))), (q3, .inl (c3, (16, .inl (fun _ => 0)))), (q4, .inl (c4, (16, .inl (fun _ => 0))))] H := hP
  have hD : va_D A [(h0, .inr (0, [.long 0, .ref q1, .int 0, .ref q2, .ref q3, .ref q4, .null, .null, .null, .null, .null, .long 0, .long 0, .null, .null])), (q1, .inl (c1, (24, .inr (.inl (fun _ => 0))))), (q2, .inl (c2, (16, .inl (fun _ => 0)))), (q3, .inl (c3, (16, .inl (fun _ => 0)))), (q4, .inl (c4, (16, .inl (fun _ => 0))))] := hD
  refine lv_aload_n hx hb dX0_init_36 rfl (lv_at hl 0 rfl) ?_
  refine lv_bipush (v := nI 16) hx hb dX0_init_37 (by decide) ?_
  refine va_newa (atype := .int) (ty := .int) (a0 := (16, .inl (fun _ => 0))) (N' := 16) hx hb (hts _ q74) rfl hK hP hD hS hA (fun _ => rfl) (by decide) (by decide) (by decide) (Nat.le_of_ble_eq_true rfl) (Nat.le_of_ble_eq_true rfl) dX0_init_39 (fun q5 c5 H hK hP hD hS => ?_)
  have hK : va_K D vwCl [(c1, .long), (c2, .int), (c3, .int), (c4, .int), (c5, .int)] s := hK
  have hP : va_P D vwCl [(h0, .inr (0, [.long 0, .ref q1, .int 0, .ref q2, .ref q3, .ref q4, .null, .null, .null, .null, .null, .long 0, .long 0, .null, .null])), (q1, .inl (c1, (24, .inr (.inl (fun _ => 0))))), (q2, .inl (c2, (16, .inl (fun _ => 0)))), (q3, .inl (c3, (16, .inl (fun _ => 0)))), (q4, .inl (c4, (16, .inl (fun _ => 0)))), (q5, .inl (c5, (16, .inl (fun _ => 0))))] H := hP
  have hD : va_D A [(h0, .inr (0, [.long 0, .ref q1, .int 0, .ref q2, .ref q3, .ref q4, .null, .null, .null, .null, .null, .long 0, .long 0, .null, .null])), (q1, .inl (c1, (24, .inr (.inl (fun _ => 0))))), (q2, .inl (c2, (16, .inl (fun _ => 0)))), (q3, .inl (c3, (16, .inl (fun _ => 0)))), (q4, .inl (c4, (16, .inl (fun _ => 0)))), (q5, .inl (c5, (16, .inl (fun _ => 0))))] := hD
  refine va_putF (D := D) (ci := 0) (v := .ref q5) (ty := .array .int) (C := RX0) (T := TX0) (N := 15) hx hb hts in_X0 tyX0 tyX0_ok nmX0 hown hK hP hD hS 0 rfl rfl 6 (by decide) (hts _ q33) (fun _ h9 => h9) rfl hin rfl (by decide +kernel) rfl rfl (Nat.le_of_ble_eq_true rfl) dX0_init_41 (fun H locs hP hD hS => ?_)
  have hP : va_P D vwCl [(h0, .inr (0, [.long 0, .ref q1, .int 0, .ref q2, .ref q3, .ref q4, .ref q5, .null, .null, .null, .null, .long 0, .long 0, .null, .null])), (q1, .inl (c1, (24, .inr (.inl (fun _ => 0))))), (q2, .inl (c2, (16, .inl (fun _ => 0)))), (q3, .inl (c3, (16, .inl (fun _ => 0)))), (q4, .inl (c4, (16, .inl (fun _ => 0)))), (q5, .inl (c5, (16, .inl (fun _ => 0))))] H := hP
  have hD : va_D A [(h0, .inr (0, [.long 0, .ref q1, .int 0, .ref q2, .ref q3, .ref q4, .ref q5, .null, .null, .null, .null, .long 0, .long 0, .null, .null])), (q1, .inl (c1, (24, .inr (.inl (fun _ => 0))))), (q2, .inl (c2, (16, .inl (fun _ => 0)))), (q3, .inl (c3, (16, .inl (fun _ => 0)))), (q4, .inl (c4, (16, .inl (fun _ => 0)))), (q5, .inl (c5, (16, .inl (fun _ => 0))))] := hD
  refine lv_aload_n hx hb dX0_init_44 rfl (lv_at hl 0 rfl) ?_
  refine lv_bipush (v := nI 16) hx hb dX0_init_45 (by decide) ?_
  refine va_newa (atype := .int) (ty := .int) (a0 := (16, .inl (fun _ => 0))) (N' := 16) hx hb (hts _ q74) rfl hK hP hD hS hA (fun _ => rfl) (by decide) (by decide) (by decide) (Nat.le_of_ble_eq_true rfl) (Nat.le_of_ble_eq_true rfl) dX0_init_47 (fun q6 c6 H hK hP hD hS => ?_)
  have hK : va_K D vwCl [(c1, .long), (c2, .int), (c3, .int), (c4, .int), (c5, .int), (c6, .int)] s := hK
  have hP : va_P D vwCl [(h0, .inr (0, [.long 0, .ref q1, .int 0, .ref q2, .ref q3, .ref q4, .ref q5, .null, .null, .null, .null, .long 0, .long 0, .null, .null])), (q1, .inl (c1, (24, .inr (.inl (fun _ => 0))))), (q2, .inl (c2, (16, .inl (fun _ => 0)))), (q3, .inl (c3, (16, .inl (fun _ => 0)))), (q4, .inl (c4, (16, .inl (fun _ => 0)))), (q5, .inl (c5, (16, .inl (fun _ => 0)))), (q6, .inl (c6, (16, .inl (fun _ => 0))))] H := hP
  have hD : va_D A [(h0, .inr (0, [.long 0, .ref q1, .int 0, .ref q2, .ref q3, .ref q4, .ref q5, .null, .null, .null, .null, .long 0, .long 0, .null, .null])), (q1, .inl (c1, (24, .inr (.inl (fun _ => 0))))), (q2, .inl (c2, (16, .inl (fun _ => 0)))), (q3, .inl (c3, (16, .inl (fun _ => 0)))), (q4, .inl (c4, (16, .inl (fun _ => 0)))), (q5, .inl (c5, (16, .inl (fun _ => 0)))), (q6, .inl (c6, (16, .inl (fun _ => 0))))] := hD
  refine va_putF (D := D) (ci := 0) (v := .ref q6) (ty := .array .int) (C := RX0) (T := TX0) (N := 15) hx hb hts in_X0 tyX0 tyX0_ok nmX0 hown hK hP hD hS 0 rfl rfl 7 (by decide) (hts _ q34) (fun _ h9 => h9) rfl hin rfl (by decide +kernel) rfl rfl (Nat.le_of_ble_eq_true rfl) dX0_init_49 (fun H locs hP hD hS => ?_)
  have hP : va_P D vwCl [(h0, .inr (0, [.long 0, .ref q1, .int 0, .ref q2, .ref q3, .ref q4, .ref q5, .ref q6, .null, .null, .null, .long 0, .long 0, .null, .null])), (q1, .inl (c1, (24, .inr (.inl (fun _ => 0))))), (q2, .inl (c2, (16, .inl (fun _ => 0)))), (q3, .inl (c3, (16, .inl (fun _ => 0)))), (q4, .inl (c4, (16, .inl (fun _ => 0)))), (q5, .inl (c5, (16, .inl (fun _ => 0)))), (q6, .inl (c6, (16, .inl (fun _ => 0))))] H := hP
  have hD : va_D A [(h0, .inr (0, [.long 0, .ref q1, .int 0, .ref q2, .ref q3, .ref q4, .ref q5, .ref q6, .null, .null, .null, .long 0, .long 0, .null, .null])), (q1, .inl (c1, (24, .inr (.inl (fun _ => 0))))), (q2, .inl (c2, (16, .inl (fun _ => 0)))), (q3, .inl (c3, (16, .inl (fun _ => 0)))), (q4, .inl (c4, (16, .inl (fun _ => 0)))), (q5, .inl (c5, (16, .inl (fun _ => 0)))), (q6, .inl (c6, (16, .inl (fun _ => 0))))] := hD
  refine lv_aload_n hx hb dX0_init_52 rfl (lv_at hl 0 rfl) ?_
  refine lv_bipush (v := nI 16) hx hb dX0_init_53 (by decide) ?_
  refine va_newa (atype := .long) (ty := .long) (a0 := (16, .inr (.inl (fun _ => 0)))) (N' := 16) hx hb (hts _ q73) rfl hK hP hD hS hA (fun _ => rfl) (by decide) (by decide) (by decide) (Nat.le_of_ble_eq_true rfl) (Nat.le_of_ble_eq_true rfl) dX0_init_55 (fun q7 c7 H hK hP hD hS => ?_)
  have hK : va_K D vwCl [(c1, .long), (c2, .int), (c3, .int), (c4, .int), (c5, .int), (c6, .int), (c7, .long)] s := hK
  have hP : va_P D vwCl [(h0, .inr (0, [.long 0, .ref q1, .int 0, .ref q2, .ref q3, .ref q4, .ref q5, .ref q6, .null, .null, .null, .long 0, .long 0, .null, .null])), (q1, .inl (c1, (24, .inr (.inl (fun _ => 0))))), (q2, .inl (c2, (16, .inl (fun _ => 0)))), (q3, .inl (c3, (16, .inl (fun _ => 0)))), (q4, .inl (c4, (16, .inl (fun _ => 0)))), (q5, .inl (c5, (16, .inl (fun _ => 0)))), (q6, .inl (c6, (16, .inl (fun _ => 0)))), (q7, .inl (c7, (16, .inr (.inl (fun _ => 0)))))] H := hP
  have hD : va_D A [(h0, .inr (0, [.long 0, .ref q1, .int 0, .ref q2, .ref q3, .ref q4, .ref q5, .ref q6, .null, .null, .null, .long 0, .long 0, .null, .null])), (q1, .inl (c1, (24, .inr (.inl (fun _ => 0))))), (q2, .inl (c2, (16, .inl (fun _ => 0)))), (q3, .inl (c3, (16, .inl (fun _ => 0)))), (q4, .inl (c4, (16, .inl (fun _ => 0)))), (q5, .inl (c5, (16, .inl (fun _ => 0)))), (q6, .inl (c6, (16, .inl (fun _ => 0)))), (q7, .inl (c7, (16, .inr (.inl (fun _ => 0)))))] := hD
  refine va_putF (D := D) (ci := 0) (v := .ref q7) (ty := .array .long) (C := RX0) (T := TX0) (N := 15) hx hb hts in_X0 tyX0 tyX0_ok nmX0 hown hK hP hD hS 0 rfl rfl 8 (by decide) (hts _ q35) (fun _ h9 => h9) rfl hin rfl (by decide +kernel) rfl rfl (Nat.le_of_ble_eq_true rfl) dX0_init_57 (fun H locs hP hD hS => ?_)
  have hP : va_P D vwCl [(h0, .inr (0, [.long 0, .ref q1, .int 0, .ref q2, .ref q3, .ref q4, .ref q5, .ref q6, .ref q7, .null, .null, .long 0, .long 0, .null, .null])), (q1, .inl (c1, (24, .inr (.inl (fun _ => 0))))), (q2, .inl (c2, (16, .inl (fun _ => 0)))), (q3, .inl (c3, (16, .inl (fun _ => 0)))), (q4, .inl (c4, (16, .inl (fun _ => 0)))), (q5, .inl (c5, (16, .inl (fun _ => 0)))), (q6, .inl (c6, (16, .inl (fun _ => 0)))), (q7, .inl (c7, (16, .inr (.inl (fun _ => 0)))))] H := hP
  have hD : va_D A [(h0, .inr (0, [.long 0, .ref q1, .int 0, .ref q2, .ref q3, .ref q4, .ref q5, .ref q6, .ref q7, .null, .null, .long 0, .long 0, .null, .null])), (q1, .inl (c1, (24, .inr (.inl (fun _ => 0))))), (q2, .inl (c2, (16, .inl (fun _ => 0)))), (q3, .inl (c3, (16, .inl (fun _ => 0)))), (q4, .inl (c4, (16, .inl (fun _ => 0)))), (q5, .inl (c5, (16, .inl (fun _ => 0)))), (q6, .inl (c6, (16, .inl (fun _ => 0)))), (q7, .inl (c7, (16, .inr (.inl (fun _ => 0)))))] := hD
  refine lv_aload_n hx hb dX0_init_60 rfl (lv_at hl 0 rfl) ?_
  refine lv_bipush (v := nI 16) hx hb dX0_init_61 (by decide) ?_
  refine va_newa (atype := .boolean) (ty := .boolean) (a0 := (16, .inl (fun _ => 0))) (N' := 16) hx hb (hts _ q75) rfl hK hP hD hS hA (fun _ => rfl) (by decide) (by decide) (by decide) (Nat.le_of_ble_eq_true rfl) (Nat.le_of_ble_eq_true rfl) dX0_init_63 (fun q8 c8 H hK hP hD hS => ?_)
  have hK : va_K D vwCl [(c1, .long), (c2, .int), (c3, .int), (c4, .int), (c5, .int), (c6, .int), (c7, .long), (c8, .boolean)] s := hK
  have hP : va_P D vwCl [(h0, .inr (0, [.long 0, .ref q1, .int 0, .ref q2, .ref q3, .ref q4, .ref q5, .ref q6, .ref q7, .null, .null, .long 0, .long 0, .null, .null])), (q1, .inl (c1, (24, .inr (.inl (fun _ => 0))))), (q2, .inl (c2, (16, .inl (fun _ => 0)))), (q3, .inl (c3, (16, .inl (fun _ => 0)))), (q4, .inl (c4, (16, .inl (fun _ => 0)))), (q5, .inl (c5, (16, .inl (fun _ => 0)))), (q6, .inl (c6, (16, .inl (fun _ => 0)))), (q7, .inl (c7, (16, .inr (.inl (fun _ => 0))))), (q8, .inl (c8, (16, .inl (fun _ => 0))))] H := hP
  have hD : va_D A [(h0, .inr (0, [.long 0, .ref q1, .int 0, .ref q2, .ref q3, .ref q4, .ref q5, .ref q6, .ref q7, .null, .null, .long 0, .long 0, .null, .null])), (q1, .inl (c1, (24, .inr (.inl (fun _ => 0))))), (q2, .inl (c2, (16, .inl (fun _ => 0)))), (q3, .inl (c3, (16, .inl (fun _ => 0)))), (q4, .inl (c4, (16, .inl (fun _ => 0)))), (q5, .inl (c5, (16, .inl (fun _ => 0)))), (q6, .inl (c6, (16, .inl (fun _ => 0)))), (q7, .inl (c7, (16, .inr (.inl (fun _ => 0))))), (q8, .inl (c8, (16, .inl (fun _ => 0))))] := hD
  refine va_putF (D := D) (ci := 0) (v := .ref q8) (ty := .array .boolean) (C := RX0) (T := TX0) (N := 15) hx hb hts in_X0 tyX0 tyX0_ok nmX0 hown hK hP hD hS 0 rfl rfl 9 (by decide) (hts _ q36) (fun _ h9 => h9) rfl hin rfl (by decide +kernel) rfl rfl (Nat.le_of_ble_eq_true rfl) dX0_init_65 (fun H locs hP hD hS => ?_)
  have hP : va_P D vwCl [(h0, .inr (0, [.long 0, .ref q1, .int 0, .ref q2, .ref q3, .ref q4, .ref q5, .ref q6, .ref q7, .ref q8, .null, .long 0, .long 0, .null, .null])), (q1, .inl (c1, (24, .inr (.inl (fun _ => 0))))), (q2, .inl (c2, (16, .inl (fun _ => 0)))), (q3, .inl (c3, (16, .inl (fun _ => 0)))), (q4, .inl (c4, (16, .inl (fun _ => 0)))), (q5, .inl (c5, (16, .inl (fun _ => 0)))), (q6, .inl (c6, (16, .inl (fun _ => 0)))), (q7, .inl (c7, (16, .inr (.inl (fun _ => 0))))), (q8, .inl (c8, (16, .inl (fun _ => 0))))] H := hP
  have hD : va_D A [(h0, .inr (0, [.long 0, .ref q1, .int 0, .ref q2, .ref q3, .ref q4, .ref q5, .ref q6, .ref q7, .ref q8, .null, .long 0, .long 0, .null, .null])), (q1, .inl (c1, (24, .inr (.inl (fun _ => 0))))), (q2, .inl (c2, (16, .inl (fun _ => 0)))), (q3, .inl (c3, (16, .inl (fun _ => 0)))), (q4, .inl (c4, (16, .inl (fun _ => 0)))), (q5, .inl (c5, (16, .inl (fun _ => 0)))), (q6, .inl (c6, (16, .inl (fun _ => 0)))), (q7, .inl (c7, (16, .inr (.inl (fun _ => 0))))), (q8, .inl (c8, (16, .inl (fun _ => 0))))] := hD
  refine lv_aload_n hx hb dX0_init_68 rfl (lv_at hl 0 rfl) ?_
  refine lv_bipush (v := nI 9) hx hb dX0_init_69 (by decide) ?_
  refine va_newa (atype := .long) (ty := .long) (a0 := (9, .inr (.inl (fun _ => 0)))) (N' := 9) hx hb (hts _ q73) rfl hK hP hD hS hA (fun _ => rfl) (by decide) (by decide) (by decide) (Nat.le_of_ble_eq_true rfl) (Nat.le_of_ble_eq_true rfl) dX0_init_71 (fun q9 c9 H hK hP hD hS => ?_)
  have hK : va_K D vwCl [(c1, .long), (c2, .int), (c3, .int), (c4, .int), (c5, .int), (c6, .int), (c7, .long), (c8, .boolean), (c9, .long)] s := hK
  have hP : va_P D vwCl [(h0, .inr (0, [.long 0, .ref q1, .int 0, .ref q2, .ref q3, .ref q4, .ref q5, .ref q6, .ref q7, .ref q8, .null, .long 0, .long 0, .null, .null])), (q1, .inl (c1, (24, .inr (.inl (fun _ => 0))))), (q2, .inl (c2, (16, .inl (fun _ => 0)))), (q3, .inl (c3, (16, .inl (fun _ => 0)))), (q4, .inl (c4, (16, .inl (fun _ => 0)))), (q5, .inl (c5, (16, .inl (fun _ => 0)))), (q6, .inl (c6, (16, .inl (fun _ => 0)))), (q7, .inl (c7, (16, .inr (.inl (fun _ => 0))))), (q8, .inl (c8, (16, .inl (fun _ => 0)))), (q9, .inl (c9, (9, .inr (.inl (fun _ => 0)))))] H := hP
  have hD : va_D A [(h0, .inr (0, [.long 0, .ref q1, .int 0, .ref q2, .ref q3, .ref q4, .ref q5, .ref q6, .ref q7, .ref q8, .null, .long 0, .long 0, .null, .null])), (q1, .inl (c1, (24, .inr (.inl (fun _ => 0))))), (q2, .inl (c2, (16, .inl (fun _ => 0)))), (q3, .inl (c3, (16, .inl (fun _ => 0)))), (q4, .inl (c4, (16, .inl (fun _ => 0)))), (q5, .inl (c5, (16, .inl (fun _ => 0)))), (q6, .inl (c6, (16, .inl (fun _ => 0)))), (q7, .inl (c7, (16, .inr (.inl (fun _ => 0))))), (q8, .inl (c8, (16, .inl (fun _ => 0)))), (q9, .inl (c9, (9, .inr (.inl (fun _ => 0)))))] := hD
  refine va_putF (D := D) (ci := 0) (v := .ref q9) (ty := .array .long) (C := RX0) (T := TX0) (N := 15) hx hb hts in_X0 tyX0 tyX0_ok nmX0 hown hK hP hD hS 0 rfl rfl 10 (by decide) (hts _ q37) (fun _ h9 => h9) rfl hin rfl (by decide +kernel) rfl rfl (Nat.le_of_ble_eq_true rfl) dX0_init_73 (fun H locs hP hD hS => ?_)
  have hP : va_P D vwCl [(h0, .inr (0, [.long 0, .ref q1, .int 0, .ref q2, .ref q3, .ref q4, .ref q5, .ref q6, .ref q7, .ref q8, .ref q9, .long 0, .long 0, .null, .null])), (q1, .inl (c1, (24, .inr (.inl (fun _ => 0))))), (q2, .inl (c2, (16, .inl (fun _ => 0)))), (q3, .inl (c3, (16, .inl (fun _ => 0)))), (q4, .inl (c4, (16, .inl (fun _ => 0)))), (q5, .inl (c5, (16, .inl (fun _ => 0)))), (q6, .inl (c6, (16, .inl (fun _ => 0)))), (q7, .inl (c7, (16, .inr (.inl (fun _ => 0))))), (q8, .inl (c8, (16, .inl (fun _ => 0)))), (q9, .inl (c9, (9, .inr (.inl (fun _ => 0)))))] H := hP
  have hD : va_D A [(h0, .inr (0, [.long 0, .ref q1, .int 0, .ref q2, .ref q3, .ref q4, .ref q5, .ref q6, .ref q7, .ref q8, .ref q9, .long 0, .long 0, .null, .null])), (q1, .inl (c1, (24, .inr (.inl (fun _ => 0))))), (q2, .inl (c2, (16, .inl (fun _ => 0)))), (q3, .inl (c3, (16, .inl (fun _ => 0)))), (q4, .inl (c4, (16, .inl (fun _ => 0)))), (q5, .inl (c5, (16, .inl (fun _ => 0)))), (q6, .inl (c6, (16, .inl (fun _ => 0)))), (q7, .inl (c7, (16, .inr (.inl (fun _ => 0))))), (q8, .inl (c8, (16, .inl (fun _ => 0)))), (q9, .inl (c9, (9, .inr (.inl (fun _ => 0)))))] := hD
  refine lv_aload_n hx hb dX0_init_76 rfl (lv_at hl 0 rfl) ?_
  refine lv_bipush (v := nI 64) hx hb dX0_init_77 (by decide) ?_
  refine va_newa (atype := .long) (ty := .long) (a0 := (64, .inr (.inl (fun _ => 0)))) (N' := 64) hx hb (hts _ q73) rfl hK hP hD hS hA (fun _ => rfl) (by decide) (by decide) (by decide) (Nat.le_of_ble_eq_true rfl) (Nat.le_of_ble_eq_true rfl) dX0_init_79 (fun q10 c10 H hK hP hD hS => ?_)
  have hK : va_K D vwCl [(c1, .long), (c2, .int), (c3, .int), (c4, .int), (c5, .int), (c6, .int), (c7, .long), (c8, .boolean), (c9, .long), (c10, .long)] s := hK
  have hP : va_P D vwCl [(h0, .inr (0, [.long 0, .ref q1, .int 0, .ref q2, .ref q3, .ref q4, .ref q5, .ref q6, .ref q7, .ref q8, .ref q9, .long 0, .long 0, .null, .null])), (q1, .inl (c1, (24, .inr (.inl (fun _ => 0))))), (q2, .inl (c2, (16, .inl (fun _ => 0)))), (q3, .inl (c3, (16, .inl (fun _ => 0)))), (q4, .inl (c4, (16, .inl (fun _ => 0)))), (q5, .inl (c5, (16, .inl (fun _ => 0)))), (q6, .inl (c6, (16, .inl (fun _ => 0)))), (q7, .inl (c7, (16, .inr (.inl (fun _ => 0))))), (q8, .inl (c8, (16, .inl (fun _ => 0)))), (q9, .inl (c9, (9, .inr (.inl (fun _ => 0))))), (q10, .inl (c10, (64, .inr (.inl (fun _ => 0)))))] H := hP
  have hD : va_D A [(h0, .inr (0, [.long 0, .ref q1, .int 0, .ref q2, .ref q3, .ref q4, .ref q5, .ref q6, .ref q7, .ref q8, .ref q9, .long 0, .long 0, .null, .null])), (q1, .inl (c1, (24, .inr (.inl (fun _ => 0))))), (q2, .inl (c2, (16, .inl (fun _ => 0)))), (q3, .inl (c3, (16, .inl (fun _ => 0)))), (q4, .inl (c4, (16, .inl (fun _ => 0)))), (q5, .inl (c5, (16, .inl (fun _ => 0)))), (q6, .inl (c6, (16, .inl (fun _ => 0)))), (q7, .inl (c7, (16, .inr (.inl (fun _ => 0))))), (q8, .inl (c8, (16, .inl (fun _ => 0)))), (q9, .inl (c9, (9, .inr (.inl (fun _ => 0))))), (q10, .inl (c10, (64, .inr (.inl (fun _ => 0)))))] := hD
  refine va_putF (D := D) (ci := 0) (v := .ref q10) (ty := .array .long) (C := RX0) (T := TX0) (N := 15) hx hb hts in_X0 tyX0 tyX0_ok nmX0 hown hK hP hD hS 0 rfl rfl 13 (by decide) (hts _ q40) (fun _ h9 => h9) rfl hin rfl (by decide +kernel) rfl rfl (Nat.le_of_ble_eq_true rfl) dX0_init_81 (fun H locs hP hD hS => ?_)
  have hP : va_P D vwCl [(h0, .inr (0, [.long 0, .ref q1, .int 0, .ref q2, .ref q3, .ref q4, .ref q5, .ref q6, .ref q7, .ref q8, .ref q9, .long 0, .long 0, .ref q10, .null])), (q1, .inl (c1, (24, .inr (.inl (fun _ => 0))))), (q2, .inl (c2, (16, .inl (fun _ => 0)))), (q3, .inl (c3, (16, .inl (fun _ => 0)))), (q4, .inl (c4, (16, .inl (fun _ => 0)))), (q5, .inl (c5, (16, .inl (fun _ => 0)))), (q6, .inl (c6, (16, .inl (fun _ => 0)))), (q7, .inl (c7, (16, .inr (.inl (fun _ => 0))))), (q8, .inl (c8, (16, .inl (fun _ => 0)))), (q9, .inl (c9, (9, .inr (.inl (fun _ => 0))))), (q10, .inl (c10, (64, .inr (.inl (fun _ => 0)))))] H := hP
  have hD : va_D A [(h0, .inr (0, [.long 0, .ref q1, .int 0, .ref q2, .ref q3, .ref q4, .ref q5, .ref q6, .ref q7, .ref q8, .ref q9, .long 0, .long 0, .ref q10, .null])), (q1, .inl (c1, (24, .inr (.inl (fun _ => 0))))), (q2, .inl (c2, (16, .inl (fun _ => 0)))), (q3, .inl (c3, (16, .inl (fun _ => 0)))), (q4, .inl (c4, (16, .inl (fun _ => 0)))), (q5, .inl (c5, (16, .inl (fun _ => 0)))), (q6, .inl (c6, (16, .inl (fun _ => 0)))), (q7, .inl (c7, (16, .inr (.inl (fun _ => 0))))), (q8, .inl (c8, (16, .inl (fun _ => 0)))), (q9, .inl (c9, (9, .inr (.inl (fun _ => 0))))), (q10, .inl (c10, (64, .inr (.inl (fun _ => 0)))))] := hD
  refine lv_aload_n hx hb dX0_init_84 rfl (lv_at hl 0 rfl) ?_
  refine lv_bipush (v := nI 64) hx hb dX0_init_85 (by decide) ?_
  refine va_newa (atype := .long) (ty := .long) (a0 := (64, .inr (.inl (fun _ => 0)))) (N' := 64) hx hb (hts _ q73) rfl hK hP hD hS hA (fun _ => rfl) (by decide) (by decide) (by decide) (Nat.le_of_ble_eq_true rfl) (Nat.le_of_ble_eq_true rfl) dX0_init_87 (fun q11 c11 H hK hP hD hS => ?_)
  have hK : va_K D vwCl [(c1, .long), (c2, .int), (c3, .int), (c4, .int), (c5, .int), (c6, .int), (c7, .long), (c8, .boolean), (c9, .long), (c10, .long), (c11, .long)] s := hK
  have hP : va_P D vwCl [(h0, .inr (0, [.long 0, .ref q1, .int 0, .ref q2, .ref q3, .ref q4, .ref q5, .ref q6, .ref q7, .ref q8, .ref q9, .long 0, .long 0, .ref q10, .null])), (q1, .inl (c1, (24, .inr (.inl (fun _ => 0))))), (q2, .inl (c2, (16, .inl (fun _ => 0)))), (q3, .inl (c3, (16, .inl (fun _ => 0)))), (q4, .inl (c4, (16, .inl (fun _ => 0)))), (q5, .inl (c5, (16, .inl (fun _ => 0)))), (q6, .inl (c6, (16, .inl (fun _ => 0)))), (q7, .inl (c7, (16, .inr (.inl (fun _ => 0))))), (q8, .inl (c8, (16, .inl (fun _ => 0)))), (q9, .inl (c9, (9, .inr (.inl (fun _ => 0))))), (q10, .inl (c10, (64, .inr (.inl (fun _ => 0))))), (q11, .inl (c11, (64, .inr (.inl (fun _ => 0)))))] H := hP
  have hD : va_D A [(h0, .inr (0, [.long 0, .ref q1, .int 0, .ref q2, .ref q3, .ref q4, .ref q5, .ref q6, .ref q7, .ref q8, .ref q9, .long 0, .long 0, .ref q10, .null])), (q1, .inl (c1, (24, .inr (.inl (fun _ => 0))))), (q2, .inl (c2, (16, .inl (fun _ => 0)))), (q3, .inl (c3, (16, .inl (fun _ => 0)))), (q4, .inl (c4, (16, .inl (fun _ => 0)))), (q5, .inl (c5, (16, .inl (fun _ => 0)))), (q6, .inl (c6, (16, .inl (fun _ => 0)))), (q7, .inl (c7, (16, .inr (.inl (fun _ => 0))))), (q8, .inl (c8, (16, .inl (fun _ => 0)))), (q9, .inl (c9, (9, .inr (.inl (fun _ => 0))))), (q10, .inl (c10, (64, .inr (.inl (fun _ => 0))))), (q11, .inl (c11, (64, .inr (.inl (fun _ => 0)))))] := hD
  refine va_putF (D := D) (ci := 0) (v := .ref q11) (ty := .array .long) (C := RX0) (T := TX0) (N := 15) hx hb hts in_X0 tyX0 tyX0_ok nmX0 hown hK hP hD hS 0 rfl rfl 14 (by decide) (hts _ q41) (fun _ h9 => h9) rfl hin rfl (by decide +kernel) rfl rfl (Nat.le_of_ble_eq_true rfl) dX0_init_89 (fun H locs hP hD hS => ?_)
  have hP : va_P D vwCl [(h0, .inr (0, [.long 0, .ref q1, .int 0, .ref q2, .ref q3, .ref q4, .ref q5, .ref q6, .ref q7, .ref q8, .ref q9, .long 0, .long 0, .ref q10, .ref q11])), (q1, .inl (c1, (24, .inr (.inl (fun _ => 0))))), (q2, .inl (c2, (16, .inl (fun _ => 0)))), (q3, .inl (c3, (16, .inl (fun _ => 0)))), (q4, .inl (c4, (16, .inl (fun _ => 0)))), (q5, .inl (c5, (16, .inl (fun _ => 0)))), (q6, .inl (c6, (16, .inl (fun _ => 0)))), (q7, .inl (c7, (16, .inr (.inl (fun _ => 0))))), (q8, .inl (c8, (16, .inl (fun _ => 0)))), (q9, .inl (c9, (9, .inr (.inl (fun _ => 0))))), (q10, .inl (c10, (64, .inr (.inl (fun _ => 0))))), (q11, .inl (c11, (64, .inr (.inl (fun _ => 0)))))] H := hP
  have hD : va_D A [(h0, .inr (0, [.long 0, .ref q1, .int 0, .ref q2, .ref q3, .ref q4, .ref q5, .ref q6, .ref q7, .ref q8, .ref q9, .long 0, .long 0, .ref q10, .ref q11])), (q1, .inl (c1, (24, .inr (.inl (fun _ => 0))))), (q2, .inl (c2, (16, .inl (fun _ => 0)))), (q3, .inl (c3, (16, .inl (fun _ => 0)))), (q4, .inl (c4, (16, .inl (fun _ => 0)))), (q5, .inl (c5, (16, .inl (fun _ => 0)))), (q6, .inl (c6, (16, .inl (fun _ => 0)))), (q7, .inl (c7, (16, .inr (.inl (fun _ => 0))))), (q8, .inl (c8, (16, .inl (fun _ => 0)))), (q9, .inl (c9, (9, .inr (.inl (fun _ => 0))))), (q10, .inl (c10, (64, .inr (.inl (fun _ => 0))))), (q11, .inl (c11, (64, .inr (.inl (fun _ => 0)))))] := hD
  refine W.widen (k := 11) (n := 273) (by decide) (by decide) ?_
  obtain ⟨hap, hAd⟩ := ad_apt (n := 12) (ad := fun k => [h0, q1, q2, q3, q4, q5, q6, q7, q8, q9, q10, q11].getD k 0) hD rfl
  exact W.vret hx hb hr (fun t ht hW => ⟨⟨(fun k => [h0, q1, q2, q3, q4, q5, q6, q7, q8, q9, q10, q11].getD k 0, fun k => [c1, c1, c2, c3, c4, c5, c6, c7, c8, c9, c10, c11].getD k c1), rfl, ⟨rfl, hap, fun k hk0 hk => by have h9 := hAd k hk; rw [hAe] at h9; rcases h9 with h9 | h9; exact absurd (hap k 0 hk (by decide) h9) (by omega); exact h9⟩, by rw [ht]; exact hP, va_K.moved hW.alike hK⟩, hS.F ht⟩) hS.2.2 dX0_init_92
abbrev fsX1 : List Value := [.null, .null, .int 0, .null, .null, .null, .null, .null, .null]
set_option maxHeartbeats 4000000 in
set_option maxRecDepth 100000 in
theorem metX1_init {l : Launch} {D : va_G} (h0 sz : Nat) : Met l yX1_init (ws_ yX1_init cX1_init 1 none) ({ frames := 1, cells := 8, slots := 352, locals := 30 } : Room) (va_Pc [.ref h0] (fun U => U.heap.size = sz ∧ va_K D vwCl [] U ∧ va_P D vwCl [(h0, .inr (1, fsX1))] U.heap)) (va_Qv (fun (u : (Nat → Nat) × (Nat → ClassId)) => u.1 0 = h0 ∧ apt 9 u.1 ∧ ∀ k, 0 < k → k < 9 → sz ≤ u.1 k) (fun u t => va_P D vwCl (wM u.1 u.2 (fun _ => 0) (fun _ => 0) 0 (fun _ => 0) (fun _ => 0) (fun _ => 0) (fun _ => 0) (fun _ => 0) (fun _ => 0)) t.heap ∧ va_K D vwCl (tM u.2) t) (fun q => q = h0 ∨ sz ≤ q)) 8 352 (fun q => q = h0 ∨ sz ≤ q) := by
  refine Met.ofW (cc := cX1_init) (maxL := 1) (ret := none) (by decide) rfl ?_
  intro p e s m args below meth c s₁ B hml hv
  obtain ⟨rfl, hsz, hK, hP⟩ := hv
  have hx := B.exec
  have hb := B.bytes
  have hr := B.returns
  have hts0 := atoms_spec (ws := ws_ yX1_init cX1_init 1 none) B.pre
  have hts : ∀ w ∈ lw_all, w.before _ s = true := fun w h => hts0 w (List.mem_cons_of_mem _ h)
  have hown : s.vm.findClass RX1 = some m.cls := findClass_of_methodNamed B.named
  have hlocks := B.notSynchronized
  have hin : meth.name = "<init>" := (name_of_methodNamed B.named B.method).1
  subst hsz
  obtain ⟨A, hAe⟩ : ∃ A : Nat → Prop, A = (fun q => q = h0 ∨ s.heap.size ≤ q) := ⟨_, rfl⟩
  rw [← hAe]
  have hA : ∀ q : Nat, s.heap.size ≤ q → A q := fun q h => by rw [hAe]; exact Or.inr h
  have hS : va_S A s.heap s.heap [] := va_S.rf
  have hD : va_D A [(h0, .inr (1, fsX1))] := one_D (by rw [hAe]; exact Or.inl rfl)
  have hl := lv_entry ([.ref h0]) (n := 1) (Nat.le_of_ble_eq_true rfl)
  rw [lg_entry_eq]
  generalize (lg_sl ([.ref h0]) ++ List.replicate (1 - (lg_sl ([.ref h0])).length) Slot.unset).toArray = ls at hl ⊢
  have hl : lv_has ls 1 [(0, .ref h0)] := hl
  refine lv_aload_n hx hb dX1_init_0 rfl (lv_at hl 0 rfl) ?_
  refine W.objInit hx hb hown (hts _ q188) (hts _ q25) (hts _ q26) rfl (by rw [hml]; exact hl.1) rfl dX1_init_1 (Nat.le_of_ble_eq_true rfl) (Nat.le_of_ble_eq_true rfl) ?_
  refine W.eq (g2 := F0 m 4 ls []) rfl ?_
  refine lv_aload_n hx hb dX1_init_4 rfl (lv_at hl 0 rfl) ?_
  refine lv_bipush (v := nI 64) hx hb dX1_init_5 (by decide) ?_
  refine va_newa (atype := .boolean) (ty := .boolean) (a0 := (64, .inl (fun _ => 0))) (N' := 64) hx hb (hts _ q75) rfl hK hP hD hS hA (fun _ => rfl) (by decide) (by decide) (by decide) (Nat.le_of_ble_eq_true rfl) (Nat.le_of_ble_eq_true rfl) dX1_init_7 (fun q1 c1 H hK hP hD hS => ?_)
  have hK : va_K D vwCl [(c1, .boolean)] s := hK
  have hP : va_P D vwCl [(h0, .inr (1, [.null, .null, .int 0, .null, .null, .null, .null, .null, .null])), (q1, .inl (c1, (64, .inl (fun _ => 0))))] H := hP
  have hD : va_D A [(h0, .inr (1, [.null, .null, .int 0, .null, .null, .null, .null, .null, .null])), (q1, .inl (c1, (64, .inl (fun _ => 0))))] := hD
  refine va_putF (D := D) (ci := 1) (v := .ref q1) (ty := .array .boolean) (C := RX1) (T := TX1) (N := 9) hx hb hts in_X1 tyX1 tyX1_ok nmX1 hown hK hP hD hS 0 rfl rfl 0 (by decide) (hts _ q189) (fun _ h9 => h9) rfl hin rfl (by decide +kernel) rfl rfl (Nat.le_of_ble_eq_true rfl) dX1_init_9 (fun H locs hP hD hS => ?_)
  have hP : va_P D vwCl [(h0, .inr (1, [.ref q1, .null, .int 0, .null, .null, .null, .null, .null, .null])), (q1, .inl (c1, (64, .inl (fun _ => 0))))] H := hP
  have hD : va_D A [(h0, .inr (1, [.ref q1, .null, .int 0, .null, .null, .null, .null, .null, .null])), (q1, .inl (c1, (64, .inl (fun _ => 0))))] := hD
  refine lv_aload_n hx hb dX1_init_12 rfl (lv_at hl 0 rfl) ?_
  refine lv_sipush (v := nI 192) hx hb dX1_init_13 (by decide) ?_
  refine va_newa (atype := .int) (ty := .int) (a0 := (192, .inl (fun _ => 0))) (N' := 192) hx hb (hts _ q74) rfl hK hP hD hS hA (fun _ => rfl) (by decide) (by decide) (by decide) (Nat.le_of_ble_eq_true rfl) (Nat.le_of_ble_eq_true rfl) dX1_init_16 (fun q2 c2 H hK hP hD hS => ?_)
  have hK : va_K D vwCl [(c1, .boolean), (c2, .int)] s := hK
  have hP : va_P D vwCl [(h0, .inr (1, [.ref q1, .null, .int 0, .null, .null, .null, .null, .null, .null])), (q1, .inl (c1, (64, .inl (fun _ => 0)))), (q2, .inl (c2, (192, .inl (fun _ => 0))))] H := hP
  have hD : va_D A [(h0, .inr (1, [.ref q1, .null, .int 0, .null, .null, .null, .null, .null, .null])), (q1, .inl (c1, (64, .inl (fun _ => 0)))), (q2, .inl (c2, (192, .inl (fun _ => 0))))] := hD
  refine va_putF (D := D) (ci := 1) (v := .ref q2) (ty := .array .int) (C := RX1) (T := TX1) (N := 9) hx hb hts in_X1 tyX1 tyX1_ok nmX1 hown hK hP hD hS 0 rfl rfl 1 (by decide) (hts _ q190) (fun _ h9 => h9) rfl hin rfl (by decide +kernel) rfl rfl (Nat.le_of_ble_eq_true rfl) dX1_init_18 (fun H locs hP hD hS => ?_)
  have hP : va_P D vwCl [(h0, .inr (1, [.ref q1, .ref q2, .int 0, .null, .null, .null, .null, .null, .null])), (q1, .inl (c1, (64, .inl (fun _ => 0)))), (q2, .inl (c2, (192, .inl (fun _ => 0))))] H := hP
  have hD : va_D A [(h0, .inr (1, [.ref q1, .ref q2, .int 0, .null, .null, .null, .null, .null, .null])), (q1, .inl (c1, (64, .inl (fun _ => 0)))), (q2, .inl (c2, (192, .inl (fun _ => 0))))] := hD
  refine lv_aload_n hx hb dX1_init_21 rfl (lv_at hl 0 rfl) ?_
  refine lv_bipush (v := nI 16) hx hb dX1_init_22 (by decide) ?_
  refine va_newa (atype := .int) (ty := .int) (a0 := (16, .inl (fun _ => 0))) (N' := 16) hx hb (hts _ q74) rfl hK hP hD hS hA (fun _ => rfl) (by decide) (by decide) (by decide) (Nat.le_of_ble_eq_true rfl) (Nat.le_of_ble_eq_true rfl) dX1_init_24 (fun q3 c3 H hK hP hD hS => ?_)
  have hK : va_K D vwCl [(c1, .boolean), (c2, .int), (c3, .int)] s := hK
  have hP : va_P D vwCl [(h0, .inr (1, [.ref q1, .ref q2, .int 0, .null, .null, .null, .null, .null, .null])), (q1, .inl (c1, (64, .inl (fun _ => 0)))), (q2, .inl (c2, (192, .inl (fun _ => 0)))), (q3, .inl (c3, (16, .inl (fun _ => 0))))] H := hP
  have hD : va_D A [(h0, .inr (1, [.ref q1, .ref q2, .int 0, .null, .null, .null, .null, .null, .null])), (q1, .inl (c1, (64, .inl (fun _ => 0)))), (q2, .inl (c2, (192, .inl (fun _ => 0)))), (q3, .inl (c3, (16, .inl (fun _ => 0))))] := hD
  refine va_putF (D := D) (ci := 1) (v := .ref q3) (ty := .array .int) (C := RX1) (T := TX1) (N := 9) hx hb hts in_X1 tyX1 tyX1_ok nmX1 hown hK hP hD hS 0 rfl rfl 3 (by decide) (hts _ q192) (fun _ h9 => h9) rfl hin rfl (by decide +kernel) rfl rfl (Nat.le_of_ble_eq_true rfl) dX1_init_26 (fun H locs hP hD hS => ?_)
  have hP : va_P D vwCl [(h0, .inr (1, [.ref q1, .ref q2, .int 0, .ref q3, .null, .null, .null, .null, .null])), (q1, .inl (c1, (64, .inl (fun _ => 0)))), (q2, .inl (c2, (192, .inl (fun _ => 0)))), (q3, .inl (c3, (16, .inl (fun _ => 0))))] H := hP
  have hD : va_D A [(h0, .inr (1, [.ref q1, .ref q2, .int 0, .ref q3, .null, .null, .null, .null, .null])), (q1, .inl (c1, (64, .inl (fun _ => 0)))), (q2, .inl (c2, (192, .inl (fun _ => 0)))), (q3, .inl (c3, (16, .inl (fun _ => 0))))] := hD
  refine lv_aload_n hx hb dX1_init_29 rfl (lv_at hl 0 rfl) ?_
  refine lv_bipush (v := nI 16) hx hb dX1_init_30 (by decide) ?_
  refine va_newa (atype := .int) (ty := .int) (a0 := (16, .inl (fun _ => 0))) (N' := 16) hx hb (hts _ q74) rfl hK hP hD hS hA (fun _ => rfl) (by decide) (by decide) (by decide) (Nat.le_of_ble_eq_true rfl) (Nat.le_of_ble_eq_true rfl) dX1_init_32 (fun q4 c4 H hK hP hD hS => ?_)
  have hK : va_K D vwCl [(c1, .boolean), (c2, .int), (c3, .int), (c4, .int)] s := hK
  have hP : va_P D vwCl [(h0, .inr (1, [.ref q1, .ref q2, .int 0, .ref q3, .null, .null, .null, .null, .null])), (q1, .inl (c1, (64, .inl (fun _ => 0)))), (q2, .inl (c2, (192, .inl (fun _ => 0)))), (q3, .inl (c3, (16, .inl (fun _ => 0)))), (q4, .inl (c4, (16, .inl (fun _ => 0))))] H := hP
  have hD : va_D A [(h0, .inr (1, [.ref q1, .ref q2, .int 0, .ref q3, .null, .null, .null, .null, .null])), (q1, .inl (c1, (64, .inl (fun _ => 0)))), (q2, .inl (c2, (192, .inl (fun _ => 0)))), (q3, .inl (c3, (16, .inl (fun _ => 0)))), (q4, .inl (c4, (16, .inl (fun _ => 0))))] := hD
  refine va_putF (D := D) (ci := 1) (v := .ref q4) (ty := .array .int) (C := RX1) (T := TX1) (N := 9) hx hb hts in_X1 tyX1 tyX1_ok nmX1 hown hK hP hD hS 0 rfl rfl 4 (by decide) (hts _ q193) (fun _ h9 => h9) rfl hin rfl (by decide +kernel) rfl rfl (Nat.le_of_ble_eq_true rfl) dX1_init_34 (fun H locs hP hD hS => ?_)
  have hP : va_P D vwCl [(h0, .inr (1, [.ref q1, .ref q2, .int 0, .ref q3, .ref q4, .null, .null, .null, .null])), (q1, .inl (c1, (64, .inl (fun _ => 0)))), (q2, .inl (c2, (192, .inl (fun _ => 0)))), (q3, .inl (c3, (16, .inl (fun _ => 0)))), (q4, .inl (c4, (16, .inl (fun _ => 0))))] H := hP
  have hD : va_D A [(h0, .inr (1, [.ref q1, .ref q2, .int 0, .ref q3, .ref q4, .null, .null, .null, .null])), (q1, .inl (c1, (64, .inl (fun _ => 0)))), (q2, .inl (c2, (192, .inl (fun _ => 0)))), (q3, .inl (c3, (16, .inl (fun _ => 0)))), (q4, .inl (c4, (16, .inl (fun _ => 0))))] := hD
  refine lv_aload_n hx hb dX1_init_37 rfl (lv_at hl 0 rfl) ?_
  refine lv_bipush (v := nI 16) hx hb dX1_init_38 (by decide) ?_
  refine va_newa (atype := .int) (ty := .int) (a0 := (16, .inl (fun _ => 0))) (N' := 16) hx hb (hts _ q74) rfl hK hP hD hS hA (fun _ => rfl) (by decide) (by decide) (by decide) (Nat.le_of_ble_eq_true rfl) (Nat.le_of_ble_eq_true rfl) dX1_init_40 (fun q5 c5 H hK hP hD hS => ?_)
  have hK : va_K D vwCl [(c1, .boolean), (c2, .int), (c3, .int), (c4, .int), (c5, .int)] s := hK
  have hP : va_P D vwCl [(h0, .inr (1, [.ref q1, .ref q2, .int 0, .ref q3, .ref q4, .null, .null, .null, .null])), (q1, .inl (c1, (64, .inl (fun _ => 0)))), (q2, .inl (c2, (192, .inl (fun _ => 0)))), (q3, .inl (c3, (16, .inl (fun _ => 0)))), (q4, .inl (c4, (16, .inl (fun _ => 0)))), (q5, .inl (c5, (16, .inl (fun _ => 0))))] H := hP
  have hD : va_D A [(h0, .inr (1, [.ref q1, .ref q2, .int 0, .ref q3, .ref q4, .null, .null, .null, .null])), (q1, .inl (c1, (64, .inl (fun _ => 0)))), (q2, .inl (c2, (192, .inl (fun _ => 0)))), (q3, .inl (c3, (16, .inl (fun _ => 0)))), (q4, .inl (c4, (16, .inl (fun _ => 0)))), (q5, .inl (c5, (16, .inl (fun _ => 0))))] := hD
  refine va_putF (D := D) (ci := 1) (v := .ref q5) (ty := .array .int) (C := RX1) (T := TX1) (N := 9) hx hb hts in_X1 tyX1 tyX1_ok nmX1 hown hK hP hD hS 0 rfl rfl 5 (by decide) (hts _ q194) (fun _ h9 => h9) rfl hin rfl (by decide +kernel) rfl rfl (Nat.le_of_ble_eq_true rfl) dX1_init_42 (fun H locs hP hD hS => ?_)
  have hP : va_P D vwCl [(h0, .inr (1, [.ref q1, .ref q2, .int 0, .ref q3, .ref q4, .ref q5, .null, .null, .null])), (q1, .inl (c1, (64, .inl (fun _ => 0)))), (q2, .inl (c2, (192, .inl (fun _ => 0)))), (q3, .inl (c3, (16, .inl (fun _ => 0)))), (q4, .inl (c4, (16, .inl (fun _ => 0)))), (q5, .inl (c5, (16, .inl (fun _ => 0))))] H := hP
  have hD : va_D A [(h0, .inr (1, [.ref q1, .ref q2, .int 0, .ref q3, .ref q4, .ref q5, .null, .null, .null])), (q1, .inl (c1, (64, .inl (fun _ => 0)))), (q2, .inl (c2, (192, .inl (fun _ => 0)))), (q3, .inl (c3, (16, .inl (fun _ => 0)))), (q4, .inl (c4, (16, .inl (fun _ => 0)))), (q5, .inl (c5, (16, .inl (fun _ => 0))))] := hD
  refine lv_aload_n hx hb dX1_init_45 rfl (lv_at hl 0 rfl) ?_
  refine lv_bipush (v := nI 16) hx hb dX1_init_46 (by decide) ?_
  refine va_newa (atype := .int) (ty := .int) (a0 := (16, .inl (fun _ => 0))) (N' := 16) hx hb (hts _ q74) rfl hK hP hD hS hA (fun _ => rfl) (by decide) (by decide) (by decide) (Nat.le_of_ble_eq_true rfl) (Nat.le_of_ble_eq_true rfl) dX1_init_48 (fun q6 c6 H hK hP hD hS => ?_)
  have hK : va_K D vwCl [(c1, .boolean), (c2, .int), (c3, .int), (c4, .int), (c5, .int), (c6, .int)] s := hK
  have hP : va_P D vwCl [(h0, .inr (1, [.ref q1, .ref q2, .int 0, .ref q3, .ref q4, .ref q5, .null, .null, .null])), (q1, .inl (c1, (64, .inl (fun _ => 0)))), (q2, .inl (c2, (192, .inl (fun _ => 0)))), (q3, .inl (c3, (16, .inl (fun _ => 0)))), (q4, .inl (c4, (16, .inl (fun _ => 0)))), (q5, .inl (c5, (16, .inl (fun _ => 0)))), (q6, .inl (c6, (16, .inl (fun _ => 0))))] H := hP
  have hD : va_D A [(h0, .inr (1, [.ref q1, .ref q2, .int 0, .ref q3, .ref q4, .ref q5, .null, .null, .null])), (q1, .inl (c1, (64, .inl (fun _ => 0)))), (q2, .inl (c2, (192, .inl (fun _ => 0)))), (q3, .inl (c3, (16, .inl (fun _ => 0)))), (q4, .inl (c4, (16, .inl (fun _ => 0)))), (q5, .inl (c5, (16, .inl (fun _ => 0)))), (q6, .inl (c6, (16, .inl (fun _ => 0))))] := hD
  refine va_putF (D := D) (ci := 1) (v := .ref q6) (ty := .array .int) (C := RX1) (T := TX1) (N := 9) hx hb hts in_X1 tyX1 tyX1_ok nmX1 hown hK hP hD hS 0 rfl rfl 6 (by decide) (hts _ q195) (fun _ h9 => h9) rfl hin rfl (by decide +kernel) rfl rfl (Nat.le_of_ble_eq_true rfl) dX1_init_50 (fun H locs hP hD hS => ?_)
  have hP : va_P D vwCl [(h0, .inr (1, [.ref q1, .ref q2, .int 0, .ref q3, .ref q4, .ref q5, .ref q6, .null, .null])), (q1, .inl (c1, (64, .inl (fun _ => 0)))), (q2, .inl (c2, (192, .inl (fun _ => 0)))), (q3, .inl (c3, (16, .inl (fun _ => 0)))), (q4, .inl (c4, (16, .inl (fun _ => 0)))), (q5, .inl (c5, (16, .inl (fun _ => 0)))), (q6, .inl (c6, (16, .inl (fun _ => 0))))] H := hP
  have hD : va_D A [(h0, .inr (1, [.ref q1, .ref q2, .int 0, .ref q3, .ref q4, .ref q5, .ref q6, .null, .null])), (q1, .inl (c1, (64, .inl (fun _ => 0)))), (q2, .inl (c2, (192, .inl (fun _ => 0)))), (q3, .inl (c3, (16, .inl (fun _ => 0)))), (q4, .inl (c4, (16, .inl (fun _ => 0)))), (q5, .inl (c5, (16, .inl (fun _ => 0)))), (q6, .inl (c6, (16, .inl (fun _ => 0))))] := hD
  refine lv_aload_n hx hb dX1_init_53 rfl (lv_at hl 0 rfl) ?_
  refine lv_bipush (v := nI 16) hx hb dX1_init_54 (by decide) ?_
  refine va_newa (atype := .int) (ty := .int) (a0 := (16, .inl (fun _ => 0))) (N' := 16) hx hb (hts _ q74) rfl hK hP hD hS hA (fun _ => rfl) (by decide) (by decide) (by decide) (Nat.le_of_ble_eq_true rfl) (Nat.le_of_ble_eq_true rfl) dX1_init_56 (fun q7 c7 H hK hP hD hS => ?_)
  have hK : va_K D vwCl [(c1, .boolean), (c2, .int), (c3, .int), (c4, .int), (c5, .int), (c6, .int), (c7, .int)] s := hK
  have hP : va_P D vwCl [(h0, .inr (1, [.ref q1, .ref q2, .int 0, .ref q3, .ref q4, .ref q5, .ref q6, .null, .null])), (q1, .inl (c1, (64, .inl (fun _ => 0)))), (q2, .inl (c2, (192, .inl (fun _ => 0)))), (q3, .inl (c3, (16, .inl (fun _ => 0)))), (q4, .inl (c4, (16, .inl (fun _ => 0)))), (q5, .inl (c5, (16, .inl (fun _ => 0)))), (q6, .inl (c6, (16, .inl (fun _ => 0)))), (q7, .inl (c7, (16, .inl (fun _ => 0))))] H := hP
  have hD : va_D A [(h0, .inr (1, [.ref q1, .ref q2, .int 0, .ref q3, .ref q4, .ref q5, .ref q6, .null, .null])), (q1, .inl (c1, (64, .inl (fun _ => 0)))), (q2, .inl (c2, (192, .inl (fun _ => 0)))), (q3, .inl (c3, (16, .inl (fun _ => 0)))), (q4, .inl (c4, (16, .inl (fun _ => 0)))), (q5, .inl (c5, (16, .inl (fun _ => 0)))), (q6, .inl (c6, (16, .inl (fun _ => 0)))), (q7, .inl (c7, (16, .inl (fun _ => 0))))] := hD
  refine va_putF (D := D) (ci := 1) (v := .ref q7) (ty := .array .int) (C := RX1) (T := TX1) (N := 9) hx hb hts in_X1 tyX1 tyX1_ok nmX1 hown hK hP hD hS 0 rfl rfl 7 (by decide) (hts _ q196) (fun _ h9 => h9) rfl hin rfl (by decide +kernel) rfl rfl (Nat.le_of_ble_eq_true rfl) dX1_init_58 (fun H locs hP hD hS => ?_)
  have hP : va_P D vwCl [(h0, .inr (1, [.ref q1, .ref q2, .int 0, .ref q3, .ref q4, .ref q5, .ref q6, .ref q7, .null])), (q1, .inl (c1, (64, .inl (fun _ => 0)))), (q2, .inl (c2, (192, .inl (fun _ => 0)))), (q3, .inl (c3, (16, .inl (fun _ => 0)))), (q4, .inl (c4, (16, .inl (fun _ => 0)))), (q5, .inl (c5, (16, .inl (fun _ => 0)))), (q6, .inl (c6, (16, .inl (fun _ => 0)))), (q7, .inl (c7, (16, .inl (fun _ => 0))))] H := hP
  have hD : va_D A [(h0, .inr (1, [.ref q1, .ref q2, .int 0, .ref q3, .ref q4, .ref q5, .ref q6, .ref q7, .null])), (q1, .inl (c1, (64, .inl (fun _ => 0)))), (q2, .inl (c2, (192, .inl (fun _ => 0)))), (q3, .inl (c3, (16, .inl (fun _ => 0)))), (q4, .inl (c4, (16, .inl (fun _ => 0)))), (q5, .inl (c5, (16, .inl (fun _ => 0)))), (q6, .inl (c6, (16, .inl (fun _ => 0)))), (q7, .inl (c7, (16, .inl (fun _ => 0))))] := hD
  refine lv_aload_n hx hb dX1_init_61 rfl (lv_at hl 0 rfl) ?_
  refine lv_bipush (v := nI 16) hx hb dX1_init_62 (by decide) ?_
  refine va_newa (atype := .boolean) (ty := .boolean) (a0 := (16, .inl (fun _ => 0))) (N' := 16) hx hb (hts _ q75) rfl hK hP hD hS hA (fun _ => rfl) (by decide) (by decide) (by decide) (Nat.le_of_ble_eq_true rfl) (Nat.le_of_ble_eq_true rfl) dX1_init_64 (fun q8 c8 H hK hP hD hS => ?_)
  have hK : va_K D vwCl [(c1, .boolean), (c2, .int), (c3, .int), (c4, .int), (c5, .int), (c6, .int), (c7, .int), (c8, .boolean)] s := hK
  have hP : va_P D vwCl [(h0, .inr (1, [.ref q1, .ref q2, .int 0, .ref q3, .ref q4, .ref q5, .ref q6, .ref q7, .null])), (q1, .inl (c1, (64, .inl (fun _ => 0)))), (q2, .inl (c2, (192, .inl (fun _ => 0)))), (q3, .inl (c3, (16, .inl (fun _ => 0)))), (q4, .inl (c4, (16, .inl (fun _ => 0)))), (q5, .inl (c5, (16, .inl (fun _ => 0)))), (q6, .inl (c6, (16, .inl (fun _ => 0)))), (q7, .inl (c7, (16, .inl (fun _ => 0)))), (q8, .inl (c8, (16, .inl (fun _ => 0))))] H := hP
  have hD : va_D A [(h0, .inr (1, [.ref q1, .ref q2, .int 0, .ref q3, .ref q4, .ref q5, .ref q6, .ref q7, .null])), (q1, .inl (c1, (64, .inl (fun _ => 0)))), (q2, .inl (c2, (192, .inl (fun _ => 0)))), (q3, .inl (c3, (16, .inl (fun _ => 0)))), (q4, .inl (c4, (16, .inl (fun _ => 0)))), (q5, .inl (c5, (16, .inl (fun _ => 0)))), (q6, .inl (c6, (16, .inl (fun _ => 0)))), (q7, .inl (c7, (16, .inl (fun _ => 0)))), (q8, .inl (c8, (16, .inl (fun _ => 0))))] := hD
  refine va_putF (D := D) (ci := 1) (v := .ref q8) (ty := .array .boolean) (C := RX1) (T := TX1) (N := 9) hx hb hts in_X1 tyX1 tyX1_ok nmX1 hown hK hP hD hS 0 rfl rfl 8 (by decide) (hts _ q197) (fun _ h9 => h9) rfl hin rfl (by decide +kernel) rfl rfl (Nat.le_of_ble_eq_true rfl) dX1_init_66 (fun H locs hP hD hS => ?_)
  have hP : va_P D vwCl [(h0, .inr (1, [.ref q1, .ref q2, .int 0, .ref q3, .ref q4, .ref q5, .ref q6, .ref q7, .ref q8])), (q1, .inl (c1, (64, .inl (fun _ => 0)))), (q2, .inl (c2, (192, .inl (fun _ => 0)))), (q3, .inl (c3, (16, .inl (fun _ => 0)))), (q4, .inl (c4, (16, .inl (fun _ => 0)))), (q5, .inl (c5, (16, .inl (fun _ => 0)))), (q6, .inl (c6, (16, .inl (fun _ => 0)))), (q7, .inl (c7, (16, .inl (fun _ => 0)))), (q8, .inl (c8, (16, .inl (fun _ => 0))))] H := hP
  have hD : va_D A [(h0, .inr (1, [.ref q1, .ref q2, .int 0, .ref q3, .ref q4, .ref q5, .ref q6, .ref q7, .ref q8])), (q1, .inl (c1, (64, .inl (fun _ => 0)))), (q2, .inl (c2, (192, .inl (fun _ => 0)))), (q3, .inl (c3, (16, .inl (fun _ => 0)))), (q4, .inl (c4, (16, .inl (fun _ => 0)))), (q5, .inl (c5, (16, .inl (fun _ => 0)))), (q6, .inl (c6, (16, .inl (fun _ => 0)))), (q7, .inl (c7, (16, .inl (fun _ => 0)))), (q8, .inl (c8, (16, .inl (fun _ => 0))))] := hD
  refine W.widen (k := 8) (n := 352) (by decide) (by decide) ?_
  obtain ⟨hap, hAd⟩ := ad_apt (n := 9) (ad := fun k => [h0, q1, q2, q3, q4, q5, q6, q7, q8].getD k 0) hD rfl
  exact W.vret hx hb hr (fun t ht hW => ⟨⟨(fun k => [h0, q1, q2, q3, q4, q5, q6, q7, q8].getD k 0, fun k => [c1, c1, c2, c3, c4, c5, c6, c7, c8].getD k c1), rfl, ⟨rfl, hap, fun k hk0 hk => by have h9 := hAd k hk; rw [hAe] at h9; rcases h9 with h9 | h9; exact absurd (hap k 0 hk (by decide) h9) (by omega); exact h9⟩, by rw [ht]; exact hP, va_K.moved hW.alike hK⟩, hS.F ht⟩) hS.2.2 dX1_init_69
end
section
-- ===== end of PART A; then your names; then what follows =====
/-! THE CLAIM OUT OF ONE WALK OF THE LAW'S BODY. Your part is whole_start (and what it stands on); all else here is the same for every law, but numbers. -/
def R_law : String := "SliceTableLaw"
def lw_P (b : Addr) (xs : List Int32) (args : Array Value) (s : State) : Prop := args = #[.ref b] ∧ s.IntsAt b xs ∧ xs.length ≤ 320 ∧ (Jvm.Cond.and given_1 narrow_1).before args s = true
def lw_Q (_ : Array Value) (s : State) (o : Outcome) (t : State) : Prop := o = .returned (some (.int 1)) ∧ Framed s o t [] 600000 7290000
def lw_Z (below : List Frame) (a : Array Value) (s : State) : State → Prop := fun t => ∃ o, t.status = .running ∧ Ended t below o ∧ lw_Q a s o t
/-- the law's own end, with 1 on the stack, nothing written that was there before, its room as the claim has it -/
theorem lw_ret {p : Program} {l : Launch} {e : Env} {s : State} {m : MethodId} {below : List Frame} {meth : Method} {c : Code} {b : Nat} (hx : p.tables.exec = Jvm.exec) (hb : c.code = code) (hr : meth.sig.returnType = ret) (hlocks : meth.locks = false) {pc : Nat} {H : Heap} {ls : Array Slot} (hdg : decode code pc = .ok (.ireturn, 1)) : W p l e room_1 s m #[Value.ref b] below meth c H [] 600000 7290000 (lw_Z below #[Value.ref b] s) (F0 m pc ls [.int 1]) := by
  intro T hT X
  obtain ⟨fs, hret, hrun, hended, hW, hframe⟩ := X.leave (v := some (.int 1)) (hlocks := hlocks) (fun h => by rw [hr] at h; cases h)
  have hmeth' : T.vm.method? m = some meth := X.method'
  refine ⟨T.setFrames fs, ?_, .returned (some (.int 1)), hrun, hended, rfl, ⟨_, rfl⟩, hW, hframe⟩
  jvm_step X.here [X.here.top, hx, hb, hdg, hmeth', hr, ret, narrow_b1]
  (try refine ⟨rfl, ?_⟩); (try refine ⟨rfl, ?_⟩)
  first | (intro acts; rw [hret _ acts rfl rfl rfl]) | rw [hret _ _ rfl rfl rfl]
  exact Steps.refl _
/-- what holds at the law's entry: the machine, the code, the tables' words (any of lw_tbl by 'hts w (by decide +kernel)'), the script of L ints xs at the cell b, what the Statement gives of the start (any of its parts by flat_of_before) -/
def lw_At (p : Program) (s : State) (m : MethodId) (meth : Method) (c : Code) (b L : Nat) (xs : Nat → Int32) : Prop :=
  p.tables.exec = Jvm.exec ∧ c.code = code ∧ meth.sig.returnType = ret ∧ c.maxLocals = 4 ∧ s.vm.findClass R_law = some m.cls ∧ (∀ w ∈ lw_tbl, w.before #[Value.ref b] s = true) ∧ va_X b L xs s s.heap ∧ b < s.heap.size ∧ meth.locks = false ∧ (Jvm.Cond.and given_1 narrow_1).before #[Value.ref b] s = true
end
section
theorem ad_key {n : Nat} {ad : Nat → Nat} {ws : va_W} (e : ws.map (fun q => q.1) = (List.range n).map ad) {i : Nat} {q : Nat × va_E} (hq : ws[i]? = some q) : i < n ∧ q.1 = ad i := by
  have h1 : (ws.map (fun q => q.1))[i]? = some q.1 := by rw [List.getElem?_map, hq]; rfl
  rw [e, List.getElem?_map] at h1
  by_cases hi : i < n
  · rw [List.getElem?_range hi] at h1
    exact ⟨hi, (Option.some.inj h1).symm⟩
  · rw [List.getElem?_eq_none (by simpa using Nat.le_of_not_lt hi)] at h1
    cases h1
/-- what another object holds stays -/
theorem keepW {D : va_G} {cl : List vw_C} {n n2 : Nat} {ad ae : Nat → Nat} {ws : va_W} {H H1 : Heap} (hP : va_P D cl ws H) (e : ws.map (fun q => q.1) = (List.range n2).map ae) (hk : ∀ q : Nat, q < H.size → ¬ AdX n ad q → H1[q]? = H[q]?) (hdis : ∀ i j, i < n → j < n2 → ad i ≠ ae j) : va_P D cl ws H1 := by
  refine hP.kept (fun k q hq => hk q.1 (hP k q hq).lt ?_)
  rintro ⟨i, hi, e2⟩
  obtain ⟨h1, h2⟩ := ad_key e hq
  exact hdis i k hi h1 (e2.symm.trans h2)
section RS
variable {p : Program} {l : Launch} {e : Env} {R : Room} {s : State} {m : MethodId} {args : Array Value} {below : List Frame} {meth : Method} {c : Code} {H H0 : Heap} {locs : List Loc} {cells slots : Nat} {Q : State → Prop} {cc : ByteArray} {pc : Nat} {ls : Array Slot} {rest : List Value} {A : Nat → Prop}
theorem ra_sld (hx : p.tables.exec = Jvm.exec) (hb : c.code = cc) {b L : Nat} {xs : Nat → Int32} (hX : va_X b L xs s H0) (hbl : b < H0.size) (hbA : ¬ A b) (hS : va_S A H0 H locs) {k : Nat} (hk : k < L) (hL : L < 2 ^ 31) (hdg : decode cc pc = .ok (.iaload, 1))
    (kk : W p l e R s m args below meth c H locs cells slots Q (F0 m (pc + 1) ls (.int (xs k) :: rest))) : W p l e R s m args below meth c H locs cells slots Q (F0 m pc ls (.int (nI k) :: .ref b :: rest)) := by
  refine va_sld hx hb hX hbl hbA hS (vp_in_nI hk hL) hdg ?_
  rw [nI_clamp (Nat.lt_trans hk hL)]
  exact kk
end RS
set_option maxHeartbeats 8000000 in
set_option maxRecDepth 100000 in
theorem law_loop {p : Program} {l : Launch} {e : Env} {s : State} {m : MethodId} {below : List Frame} {meth : Method} {c : Code} {b L : Nat} {xs : Nat → Int32} {D : va_G} {ad ae : Nat → Nat} {cA cE : Nat → ClassId} (hL320 : L ≤ 320) (C0 : lw_At p s m meth c b L xs) (hax : apt 12 ad) (ham : apt 9 ae) (hdis : ∀ i j, i < 12 → j < 9 → ad i ≠ ae j) (hAx : ∀ q, AdX 12 ad q → s.heap.size ≤ q) (hAm : ∀ q, AdX 9 ae q → s.heap.size ≤ q) (hKx : va_K D vwCl (tX cA) s) (hKm : va_K D vwCl (tM cE) s) :
    ∀ (n0 i : Nat) (th : Nat → Bool) (vl : Nat → Nat → Nat) (n : Nat) (cd : cdT) (pr : Int64) (sl : Nat → Int64) (so fi se ho co : Nat → Int32) (mt : Nat → Int64) (fr : Nat → Int32) (tl : Nat → Int64) (le ee : Int64) (ss hv : Nat → Int64) (tm vm km lm rm hm cm mm : Nat → Int32), i ≤ L → L < i + n0 → LI th vl n cd pr sl so fi se ho co mt fr tm vm km lm rm hm cm → ∀ (H : Heap) (locs : List Loc) (ls : Array Slot), va_P D vwCl (wX ad cA pr sl (nI n) so fi se ho co mt fr tl le ee ss hv) H → va_P D vwCl (wM ae cE tm vm (nI n) km lm rm hm cm mm) H → va_S (fun q : Nat => s.heap.size ≤ q) s.heap H locs → lv_has ls 4 [(3, .int (nI i)), (2, .ref (ae 0)), (1, .ref (ad 0)), (0, .ref b)] → W p l e room_1 s m #[Value.ref b] below meth c H locs 600000 7290000 (lw_Z below #[Value.ref b] s) (F0 m 18 ls []) := by
  obtain ⟨hx, hb, hr, hml, hown, hts0, hX, hbl, hlocks, hgv⟩ := id C0
  have hts : ∀ w ∈ lw_all, w.before #[Value.ref b] s = true := fun w h => hts0 w (lw_all_tbl h)
  have hC : CtxB p s m #[Value.ref b] meth c R_law code 4 ret := ⟨hx, hb, hml, hown, hts, hr, hlocks⟩
  have hbA : ¬ (fun q : Nat => s.heap.size ≤ q) b := Nat.not_le.mpr hbl
  have hdis2 : ∀ i j, i < 9 → j < 12 → ae i ≠ ad j := fun i j hi hj h => hdis j i hj hi h.symm
  intro n0
  induction n0 with
  | zero =>
    intro i th vl n cd pr sl so fi se ho co mt fr tl le ee ss hv tm vm km lm rm hm cm mm h1 h2
    exact absurd h2 (by omega)
  | succ n0 ih =>
    intro i th vl n cd pr sl so fi se ho co mt fr tl le ee ss hv tm vm km lm rm hm cm mm hi hin hLI H locs ls hPx hPm hS hl
    obtain ⟨hvd, hpr, hsl, hcd, hfr, hth, hva, hcm⟩ := id hLI
    have hn16 : n ≤ 16 := hvd.1
    refine lv_iload_n hx hb dL_law_18 rfl (lv_at hl 0 rfl) ?_
    refine lv_aload_n hx hb dL_law_19 rfl (lv_at hl 3 rfl) ?_
    refine va_slen hx hb hX hbl hbA hS dL_law_20 ?_
    rw [show Int32.ofNat L = nI L from rfl]
    refine lv_iconst (v := nI 5) hx hb dL_law_21 (by decide) ?_
    refine lv_isub hx hb dL_law_22 ?_
    refine lv_icmp_gt (tgt := 536) hx hb dL_law_23 (by decide) (fun c1 => ?_) (fun c1 => ?_)
    · have _h : True := trivial
      refine lv_iconst (v := 1) hx hb dL_law_536 (by decide) ?_
      refine va_forget hS.2.2 ?_
      exact lw_ret hx hb hr hlocks dL_law_537
    · have _h : True := trivial
      have hi5 := lp_no hL320 hi c1
      refine lv_aload_n hx hb dL_law_26 rfl (lv_at hl 3 rfl) ?_
      refine lv_iload_n hx hb dL_law_27 rfl (lv_at hl 0 rfl) ?_
      refine ra_sld hx hb hX hbl hbA hS (by omega) (by omega) dL_law_28 ?_
      refine lv_bipush (v := nI 15) hx hb dL_law_29 (by decide) ?_
      refine lv_iand hx hb dL_law_31 ?_
      obtain ⟨sw, hsw, esw⟩ := pk_andE (xs i) (m := nI 15) 4 rfl
      rw [esw]
      have hcase : sw = 0 ∨ sw = 1 ∨ sw = 2 ∨ sw = 3 ∨ sw = 4 ∨ sw = 5 ∨ sw = 6 ∨ sw = 7 ∨ sw = 8 ∨ sw = 9 ∨ sw = 10 ∨ sw = 11 ∨ 12 ≤ sw := by omega
      rcases hcase with rfl | rfl | rfl | rfl | rfl | rfl | rfl | rfl | rfl | rfl | rfl | rfl | hbig
      · have _h : True := trivial
        refine lv_tableIn (off := 64) (tgt := 96) hx hb dL_law_32 (by decide) (by decide) (by decide) (by decide) ?_
        refine lv_aload_n hx hb dL_law_96 rfl (lv_at hl 2 rfl) ?_
        refine lv_aload_n hx hb dL_law_97 rfl (lv_at hl 3 rfl) ?_
        refine lv_iload_n hx hb dL_law_98 rfl (lv_at hl 0 rfl) ?_
        refine lv_iconst (v := nI 1) hx hb dL_law_99 (by decide) ?_
        refine ra_iadd hx hb dL_law_100 ?_
        refine ra_sld hx hb hX hbl hbA hS (by omega) (by omega) dL_law_101 ?_
        refine lv_aload_n hx hb dL_law_102 rfl (lv_at hl 3 rfl) ?_
        refine lv_iload_n hx hb dL_law_103 rfl (lv_at hl 0 rfl) ?_
        refine lv_iconst (v := nI 2) hx hb dL_law_104 (by decide) ?_
        refine ra_iadd hx hb dL_law_105 ?_
        refine ra_sld hx hb hX hbl hbA hS (by omega) (by omega) dL_law_106 ?_
        refine lv_aload_n hx hb dL_law_107 rfl (lv_at hl 3 rfl) ?_
        refine lv_iload_n hx hb dL_law_108 rfl (lv_at hl 0 rfl) ?_
        refine lv_iconst (v := nI 3) hx hb dL_law_109 (by decide) ?_
        refine ra_iadd hx hb dL_law_110 ?_
        refine ra_sld hx hb hX hbl hbA hS (by omega) (by omega) dL_law_111 ?_
        refine lv_aload_n hx hb dL_law_112 rfl (lv_at hl 3 rfl) ?_
        refine lv_iload_n hx hb dL_law_113 rfl (lv_at hl 0 rfl) ?_
        refine lv_iconst (v := nI 4) hx hb dL_law_114 (by decide) ?_
        refine ra_iadd hx hb dL_law_115 ?_
        refine ra_sld hx hb hX hbl hbA hS (by omega) (by omega) dL_law_116 ?_
        refine ca_i (As := [.int (xs (i + 1)), .int (xs (i + 2)), .int (xs (i + 3)), .int (xs (i + 4))]) (rest := []) hC (metX0_put hax (xs (i + 1)) (xs (i + 2)) (xs (i + 3)) (xs (i + 4))) (cwV 4 hts (lw_V q76 q77 q78 q17 q79) rfl rfl rfl (by decide +kernel) ⟨Nat.le_of_ble_eq_true rfl, Nat.le_of_ble_eq_true rfl⟩) hKx hPx (va_recv hKx hPx (ci := 0) (q0 := 0) rfl rfl) rfl hl.1 rfl (Nat.le_of_ble_eq_true rfl) dL_law_117 ⟨Nat.le_refl _, Nat.le_refl _⟩ hS hAx (fun r1 u1 H locs hq1 hPx hk hS => ?_)
        have hPx : va_P D vwCl (wX ad cA u1.1 u1.2.1 (nI n) so fi se ho co mt u1.2.2 tl le ee ss hv) H := hPx
        have hPm : va_P D vwCl (wM ae cE tm vm (nI n) km lm rm hm cm mm) H := keepW hPm rfl hk hdis
        refine lv_aload_n hx hb dL_law_120 rfl (lv_at hl 1 rfl) ?_
        refine lv_aload_n hx hb dL_law_121 rfl (lv_at hl 3 rfl) ?_
        refine lv_iload_n hx hb dL_law_122 rfl (lv_at hl 0 rfl) ?_
        refine lv_iconst (v := nI 1) hx hb dL_law_123 (by decide) ?_
        refine ra_iadd hx hb dL_law_124 ?_
        refine ra_sld hx hb hX hbl hbA hS (by omega) (by omega) dL_law_125 ?_
        refine lv_aload_n hx hb dL_law_126 rfl (lv_at hl 3 rfl) ?_
        refine lv_iload_n hx hb dL_law_127 rfl (lv_at hl 0 rfl) ?_
        refine lv_iconst (v := nI 2) hx hb dL_law_128 (by decide) ?_
        refine ra_iadd hx hb dL_law_129 ?_
        refine ra_sld hx hb hX hbl hbA hS (by omega) (by omega) dL_law_130 ?_
        refine lv_aload_n hx hb dL_law_131 rfl (lv_at hl 3 rfl) ?_
        refine lv_iload_n hx hb dL_law_132 rfl (lv_at hl 0 rfl) ?_
        refine lv_iconst (v := nI 3) hx hb dL_law_133 (by decide) ?_
        refine ra_iadd hx hb dL_law_134 ?_
        refine ra_sld hx hb hX hbl hbA hS (by omega) (by omega) dL_law_135 ?_
        refine lv_aload_n hx hb dL_law_136 rfl (lv_at hl 3 rfl) ?_
        refine lv_iload_n hx hb dL_law_137 rfl (lv_at hl 0 rfl) ?_
        refine lv_iconst (v := nI 4) hx hb dL_law_138 (by decide) ?_
        refine ra_iadd hx hb dL_law_139 ?_
        refine ra_sld hx hb hX hbl hbA hS (by omega) (by omega) dL_law_140 ?_
        refine ca_i (As := [.int (xs (i + 1)), .int (xs (i + 2)), .int (xs (i + 3)), .int (xs (i + 4))]) (rest := [.int r1]) hC (metX1_put ham (xs (i + 1)) (xs (i + 2)) (xs (i + 3)) (xs (i + 4))) (cwV 4 hts (lw_V q217 q218 q219 q18 q220) rfl rfl rfl (by decide +kernel) ⟨Nat.le_of_ble_eq_true rfl, Nat.le_of_ble_eq_true rfl⟩) hKm hPm (va_recv hKm hPm (ci := 1) (q0 := 0) rfl rfl) rfl hl.1 rfl (Nat.le_of_ble_eq_true rfl) dL_law_141 ⟨Nat.le_refl _, Nat.le_refl _⟩ hS hAm (fun r2 u2 H locs hq2 hPm hk hS => ?_)
        have hPm : va_P D vwCl (wM ae cE u2.1 u2.2 (nI n) km lm rm hm cm mm) H := hPm
        have hPx : va_P D vwCl (wX ad cA u1.1 u1.2.1 (nI n) so fi se ho co mt u1.2.2 tl le ee ss hv) H := keepW hPx rfl hk hdis2
        obtain ⟨heq, th2, vl2, hL2⟩ := put_both hLI hq1 hq2
        refine lv_icmp_eq (tgt := 530) hx hb dL_law_144 (by decide) (fun c2 => ?_) (fun c2 => absurd heq c2)
        refine lv_iinc (v := nI (i + 5)) (lv' := [(3, .int (nI (i + 5))), (2, .ref (ae 0)), (1, .ref (ad 0)), (0, .ref b)]) hx hb dL_law_530 hl (k := 0) rfl (nI_add _ _) (by decide) rfl (fun ls hl => ?_)
        refine lv_goto (tgt := 18) hx hb dL_law_533 (by decide) ?_
        exact ih (i + 5) _ _ _ _ _ _ _ _ _ _ _ _ _ _ _ _ _ _ _ _ _ _ _ _ _ _ (by omega) (by omega) hL2 _ _ _ hPx hPm hS (lv_sub hl [0, 1, 2, 3] rfl)
      · have _h : True := trivial
        refine lv_tableIn (off := 117) (tgt := 149) hx hb dL_law_32 (by decide) (by decide) (by decide) (by decide) ?_
        refine lv_aload_n hx hb dL_law_149 rfl (lv_at hl 2 rfl) ?_
        refine lv_aload_n hx hb dL_law_150 rfl (lv_at hl 3 rfl) ?_
        refine lv_iload_n hx hb dL_law_151 rfl (lv_at hl 0 rfl) ?_
        refine lv_iconst (v := nI 1) hx hb dL_law_152 (by decide) ?_
        refine ra_iadd hx hb dL_law_153 ?_
        refine ra_sld hx hb hX hbl hbA hS (by omega) (by omega) dL_law_154 ?_
        refine ca_i (As := [.int (xs (i + 1))]) (rest := []) hC (metX0_drop hax (xs (i + 1))) (cwV 1 hts (lw_V q89 q90 q91 q17 q92) rfl rfl rfl (by decide +kernel) ⟨Nat.le_of_ble_eq_true rfl, Nat.le_of_ble_eq_true rfl⟩) hKx hPx (va_recv hKx hPx (ci := 0) (q0 := 0) rfl rfl) rfl hl.1 rfl (Nat.le_of_ble_eq_true rfl) dL_law_155 ⟨Nat.le_refl _, Nat.le_refl _⟩ hS hAx (fun r1 u1 H locs hq1 hPx hk hS => ?_)
        have hPx : va_P D vwCl (wX ad cA u1.1 sl (nI n) so fi se ho co mt u1.2 tl le ee ss hv) H := hPx
        have hPm : va_P D vwCl (wM ae cE tm vm (nI n) km lm rm hm cm mm) H := keepW hPm rfl hk hdis
        refine lv_aload_n hx hb dL_law_158 rfl (lv_at hl 1 rfl) ?_
        refine lv_aload_n hx hb dL_law_159 rfl (lv_at hl 3 rfl) ?_
        refine lv_iload_n hx hb dL_law_160 rfl (lv_at hl 0 rfl) ?_
        refine lv_iconst (v := nI 1) hx hb dL_law_161 (by decide) ?_
        refine ra_iadd hx hb dL_law_162 ?_
        refine ra_sld hx hb hX hbl hbA hS (by omega) (by omega) dL_law_163 ?_
        refine ca_i (As := [.int (xs (i + 1))]) (rest := [.int r1]) hC (metX1_drop ham (xs (i + 1))) (cwV 1 hts (lw_V q221 q222 q223 q18 q224) rfl rfl rfl (by decide +kernel) ⟨Nat.le_of_ble_eq_true rfl, Nat.le_of_ble_eq_true rfl⟩) hKm hPm (va_recv hKm hPm (ci := 1) (q0 := 0) rfl rfl) rfl hl.1 rfl (Nat.le_of_ble_eq_true rfl) dL_law_164 ⟨Nat.le_refl _, Nat.le_refl _⟩ hS hAm (fun r2 u2 H locs hq2 hPm hk hS => ?_)
        have hPm : va_P D vwCl (wM ae cE u2 vm (nI n) km lm rm hm cm mm) H := hPm
        have hPx : va_P D vwCl (wX ad cA u1.1 sl (nI n) so fi se ho co mt u1.2 tl le ee ss hv) H := keepW hPx rfl hk hdis2
        obtain ⟨heq, th2, hL2⟩ := drop_both hLI hq1 hq2
        refine lv_icmp_eq (tgt := 530) hx hb dL_law_167 (by decide) (fun c2 => ?_) (fun c2 => absurd heq c2)
        refine lv_iinc (v := nI (i + 5)) (lv' := [(3, .int (nI (i + 5))), (2, .ref (ae 0)), (1, .ref (ad 0)), (0, .ref b)]) hx hb dL_law_530 hl (k := 0) rfl (nI_add _ _) (by decide) rfl (fun ls hl => ?_)
        refine lv_goto (tgt := 18) hx hb dL_law_533 (by decide) ?_
        exact ih (i + 5) _ _ _ _ _ _ _ _ _ _ _ _ _ _ _ _ _ _ _ _ _ _ _ _ _ _ (by omega) (by omega) hL2 _ _ _ hPx hPm hS (lv_sub hl [0, 1, 2, 3] rfl)
      · have _h : True := trivial
        refine lv_tableIn (off := 140) (tgt := 172) hx hb dL_law_32 (by decide) (by decide) (by decide) (by decide) ?_
        refine lv_aload_n hx hb dL_law_172 rfl (lv_at hl 2 rfl) ?_
        refine lv_aload_n hx hb dL_law_173 rfl (lv_at hl 3 rfl) ?_
        refine lv_iload_n hx hb dL_law_174 rfl (lv_at hl 0 rfl) ?_
        refine lv_iconst (v := nI 1) hx hb dL_law_175 (by decide) ?_
        refine ra_iadd hx hb dL_law_176 ?_
        refine ra_sld hx hb hX hbl hbA hS (by omega) (by omega) dL_law_177 ?_
        refine lv_aload_n hx hb dL_law_178 rfl (lv_at hl 3 rfl) ?_
        refine lv_iload_n hx hb dL_law_179 rfl (lv_at hl 0 rfl) ?_
        refine lv_iconst (v := nI 2) hx hb dL_law_180 (by decide) ?_
        refine ra_iadd hx hb dL_law_181 ?_
        refine ra_sld hx hb hX hbl hbA hS (by omega) (by omega) dL_law_182 ?_
        refine lv_aload_n hx hb dL_law_183 rfl (lv_at hl 3 rfl) ?_
        refine lv_iload_n hx hb dL_law_184 rfl (lv_at hl 0 rfl) ?_
        refine lv_iconst (v := nI 3) hx hb dL_law_185 (by decide) ?_
        refine ra_iadd hx hb dL_law_186 ?_
        refine ra_sld hx hb hX hbl hbA hS (by omega) (by omega) dL_law_187 ?_
        refine ca_i (As := [.int (xs (i + 1)), .int (xs (i + 2)), .int (xs (i + 3))]) (rest := []) hC (metX0_compare hax hn16 (xs (i + 1)) (xs (i + 2)) (xs (i + 3))) (cwV 3 hts (lw_V q93 q94 q95 q17 q96) rfl rfl rfl (by decide +kernel) ⟨Nat.le_of_ble_eq_true rfl, Nat.le_of_ble_eq_true rfl⟩) hKx hPx (va_recv hKx hPx (ci := 0) (q0 := 0) rfl rfl) rfl hl.1 rfl (Nat.le_of_ble_eq_true rfl) dL_law_188 ⟨Nat.le_refl _, Nat.le_refl _⟩ hS hAx (fun r1 u1 H locs hq1 hPx hk hS => ?_)
        have hPx : va_P D vwCl (wX ad cA pr sl u1.1 u1.2.1 u1.2.2.1 u1.2.2.2.1 u1.2.2.2.2.1 u1.2.2.2.2.2.1 mt u1.2.2.2.2.2.2 tl le ee ss hv) H := hPx
        have hPm : va_P D vwCl (wM ae cE tm vm (nI n) km lm rm hm cm mm) H := keepW hPm rfl hk hdis
        refine lv_aload_n hx hb dL_law_191 rfl (lv_at hl 1 rfl) ?_
        refine lv_aload_n hx hb dL_law_192 rfl (lv_at hl 3 rfl) ?_
        refine lv_iload_n hx hb dL_law_193 rfl (lv_at hl 0 rfl) ?_
        refine lv_iconst (v := nI 1) hx hb dL_law_194 (by decide) ?_
        refine ra_iadd hx hb dL_law_195 ?_
        refine ra_sld hx hb hX hbl hbA hS (by omega) (by omega) dL_law_196 ?_
        refine lv_aload_n hx hb dL_law_197 rfl (lv_at hl 3 rfl) ?_
        refine lv_iload_n hx hb dL_law_198 rfl (lv_at hl 0 rfl) ?_
        refine lv_iconst (v := nI 2) hx hb dL_law_199 (by decide) ?_
        refine ra_iadd hx hb dL_law_200 ?_
        refine ra_sld hx hb hX hbl hbA hS (by omega) (by omega) dL_law_201 ?_
        refine lv_aload_n hx hb dL_law_202 rfl (lv_at hl 3 rfl) ?_
        refine lv_iload_n hx hb dL_law_203 rfl (lv_at hl 0 rfl) ?_
        refine lv_iconst (v := nI 3) hx hb dL_law_204 (by decide) ?_
        refine ra_iadd hx hb dL_law_205 ?_
        refine ra_sld hx hb hX hbl hbA hS (by omega) (by omega) dL_law_206 ?_
        refine ca_i (As := [.int (xs (i + 1)), .int (xs (i + 2)), .int (xs (i + 3))]) (rest := [.int r1]) hC (metX1_compare ham hn16 (xs (i + 1)) (xs (i + 2)) (xs (i + 3))) (cwV 3 hts (lw_V q225 q226 q227 q18 q228) rfl rfl rfl (by decide +kernel) ⟨Nat.le_of_ble_eq_true rfl, Nat.le_of_ble_eq_true rfl⟩) hKm hPm (va_recv hKm hPm (ci := 1) (q0 := 0) rfl rfl) rfl hl.1 rfl (Nat.le_of_ble_eq_true rfl) dL_law_207 ⟨Nat.le_refl _, Nat.le_refl _⟩ hS hAm (fun r2 u2 H locs hq2 hPm hk hS => ?_)
        have hPm : va_P D vwCl (wM ae cE tm vm u2.1 u2.2.1 u2.2.2.1 u2.2.2.2.1 u2.2.2.2.2.1 u2.2.2.2.2.2 mm) H := hPm
        have hPx : va_P D vwCl (wX ad cA pr sl u1.1 u1.2.1 u1.2.2.1 u1.2.2.2.1 u1.2.2.2.2.1 u1.2.2.2.2.2.1 mt u1.2.2.2.2.2.2 tl le ee ss hv) H := keepW hPx rfl hk hdis2
        obtain ⟨heq, n2, cd2, e1, e2, hL2⟩ := cmp_both hLI hq1 hq2
        rw [e1] at hPx
        rw [e2] at hPm
        refine lv_icmp_eq (tgt := 530) hx hb dL_law_210 (by decide) (fun c2 => ?_) (fun c2 => absurd heq c2)
        refine lv_iinc (v := nI (i + 5)) (lv' := [(3, .int (nI (i + 5))), (2, .ref (ae 0)), (1, .ref (ad 0)), (0, .ref b)]) hx hb dL_law_530 hl (k := 0) rfl (nI_add _ _) (by decide) rfl (fun ls hl => ?_)
        refine lv_goto (tgt := 18) hx hb dL_law_533 (by decide) ?_
        exact ih (i + 5) _ _ _ _ _ _ _ _ _ _ _ _ _ _ _ _ _ _ _ _ _ _ _ _ _ _ (by omega) (by omega) hL2 _ _ _ hPx hPm hS (lv_sub hl [0, 1, 2, 3] rfl)
      · have _h : True := trivial
        refine lv_tableIn (off := 183) (tgt := 215) hx hb dL_law_32 (by decide) (by decide) (by decide) (by decide) ?_
        refine lv_aload_n hx hb dL_law_215 rfl (lv_at hl 2 rfl) ?_
        refine lv_aload_n hx hb dL_law_216 rfl (lv_at hl 3 rfl) ?_
        refine lv_iload_n hx hb dL_law_217 rfl (lv_at hl 0 rfl) ?_
        refine lv_iconst (v := nI 1) hx hb dL_law_218 (by decide) ?_
        refine ra_iadd hx hb dL_law_219 ?_
        refine ra_sld hx hb hX hbl hbA hS (by omega) (by omega) dL_law_220 ?_
        refine lv_aload_n hx hb dL_law_221 rfl (lv_at hl 3 rfl) ?_
        refine lv_iload_n hx hb dL_law_222 rfl (lv_at hl 0 rfl) ?_
        refine lv_iconst (v := nI 2) hx hb dL_law_223 (by decide) ?_
        refine ra_iadd hx hb dL_law_224 ?_
        refine ra_sld hx hb hX hbl hbA hS (by omega) (by omega) dL_law_225 ?_
        refine lv_aload_n hx hb dL_law_226 rfl (lv_at hl 3 rfl) ?_
        refine lv_iload_n hx hb dL_law_227 rfl (lv_at hl 0 rfl) ?_
        refine lv_iconst (v := nI 3) hx hb dL_law_228 (by decide) ?_
        refine ra_iadd hx hb dL_law_229 ?_
        refine ra_sld hx hb hX hbl hbA hS (by omega) (by omega) dL_law_230 ?_
        refine ca_i (As := [.int (xs (i + 1)), .int (xs (i + 2)), .int (xs (i + 3))]) (rest := []) hC (metX0_columns hax hn16 (xs (i + 1)) (xs (i + 2)) (xs (i + 3))) (cwV 3 hts (lw_V q104 q105 q106 q17 q107) rfl rfl rfl (by decide +kernel) ⟨Nat.le_of_ble_eq_true rfl, Nat.le_of_ble_eq_true rfl⟩) hKx hPx (va_recv hKx hPx (ci := 0) (q0 := 0) rfl rfl) rfl hl.1 rfl (Nat.le_of_ble_eq_true rfl) dL_law_231 ⟨Nat.le_refl _, Nat.le_refl _⟩ hS hAx (fun r1 u1 H locs hq1 hPx hk hS => ?_)
        have hPx : va_P D vwCl (wX ad cA pr sl u1.1 u1.2.1 u1.2.2.1 u1.2.2.2.1 u1.2.2.2.2.1 u1.2.2.2.2.2.1 mt u1.2.2.2.2.2.2 tl le ee ss hv) H := hPx
        have hPm : va_P D vwCl (wM ae cE tm vm (nI n) km lm rm hm cm mm) H := keepW hPm rfl hk hdis
        refine lv_aload_n hx hb dL_law_234 rfl (lv_at hl 1 rfl) ?_
        refine lv_aload_n hx hb dL_law_235 rfl (lv_at hl 3 rfl) ?_
        refine lv_iload_n hx hb dL_law_236 rfl (lv_at hl 0 rfl) ?_
        refine lv_iconst (v := nI 1) hx hb dL_law_237 (by decide) ?_
        refine ra_iadd hx hb dL_law_238 ?_
        refine ra_sld hx hb hX hbl hbA hS (by omega) (by omega) dL_law_239 ?_
        refine lv_aload_n hx hb dL_law_240 rfl (lv_at hl 3 rfl) ?_
        refine lv_iload_n hx hb dL_law_241 rfl (lv_at hl 0 rfl) ?_
        refine lv_iconst (v := nI 2) hx hb dL_law_242 (by decide) ?_
        refine ra_iadd hx hb dL_law_243 ?_
        refine ra_sld hx hb hX hbl hbA hS (by omega) (by omega) dL_law_244 ?_
        refine lv_aload_n hx hb dL_law_245 rfl (lv_at hl 3 rfl) ?_
        refine lv_iload_n hx hb dL_law_246 rfl (lv_at hl 0 rfl) ?_
        refine lv_iconst (v := nI 3) hx hb dL_law_247 (by decide) ?_
        refine ra_iadd hx hb dL_law_248 ?_
        refine ra_sld hx hb hX hbl hbA hS (by omega) (by omega) dL_law_249 ?_
        refine ca_i (As := [.int (xs (i + 1)), .int (xs (i + 2)), .int (xs (i + 3))]) (rest := [.int r1]) hC (metX1_columns ham hn16 (xs (i + 1)) (xs (i + 2)) (xs (i + 3))) (cwV 3 hts (lw_V q236 q237 q238 q18 q239) rfl rfl rfl (by decide +kernel) ⟨Nat.le_of_ble_eq_true rfl, Nat.le_of_ble_eq_true rfl⟩) hKm hPm (va_recv hKm hPm (ci := 1) (q0 := 0) rfl rfl) rfl hl.1 rfl (Nat.le_of_ble_eq_true rfl) dL_law_250 ⟨Nat.le_refl _, Nat.le_refl _⟩ hS hAm (fun r2 u2 H locs hq2 hPm hk hS => ?_)
        have hPm : va_P D vwCl (wM ae cE tm vm u2.1 u2.2.1 u2.2.2.1 u2.2.2.2.1 u2.2.2.2.2.1 u2.2.2.2.2.2 mm) H := hPm
        have hPx : va_P D vwCl (wX ad cA pr sl u1.1 u1.2.1 u1.2.2.1 u1.2.2.2.1 u1.2.2.2.2.1 u1.2.2.2.2.2.1 mt u1.2.2.2.2.2.2 tl le ee ss hv) H := keepW hPx rfl hk hdis2
        obtain ⟨heq, n2, cd2, e1, e2, hL2⟩ := cols_both (K := 1) (by decide) hLI hq1 hq2
        rw [e1] at hPx
        rw [e2] at hPm
        refine lv_icmp_eq (tgt := 530) hx hb dL_law_253 (by decide) (fun c2 => ?_) (fun c2 => absurd heq c2)
        refine lv_iinc (v := nI (i + 5)) (lv' := [(3, .int (nI (i + 5))), (2, .ref (ae 0)), (1, .ref (ad 0)), (0, .ref b)]) hx hb dL_law_530 hl (k := 0) rfl (nI_add _ _) (by decide) rfl (fun ls hl => ?_)
        refine lv_goto (tgt := 18) hx hb dL_law_533 (by decide) ?_
        exact ih (i + 5) _ _ _ _ _ _ _ _ _ _ _ _ _ _ _ _ _ _ _ _ _ _ _ _ _ _ (by omega) (by omega) hL2 _ _ _ hPx hPm hS (lv_sub hl [0, 1, 2, 3] rfl)
      · have _h : True := trivial
        refine lv_tableIn (off := 226) (tgt := 258) hx hb dL_law_32 (by decide) (by decide) (by decide) (by decide) ?_
        refine lv_aload_n hx hb dL_law_258 rfl (lv_at hl 2 rfl) ?_
        refine lv_aload_n hx hb dL_law_259 rfl (lv_at hl 3 rfl) ?_
        refine lv_iload_n hx hb dL_law_260 rfl (lv_at hl 0 rfl) ?_
        refine lv_iconst (v := nI 1) hx hb dL_law_261 (by decide) ?_
        refine ra_iadd hx hb dL_law_262 ?_
        refine ra_sld hx hb hX hbl hbA hS (by omega) (by omega) dL_law_263 ?_
        refine lv_aload_n hx hb dL_law_264 rfl (lv_at hl 3 rfl) ?_
        refine lv_iload_n hx hb dL_law_265 rfl (lv_at hl 0 rfl) ?_
        refine lv_iconst (v := nI 2) hx hb dL_law_266 (by decide) ?_
        refine ra_iadd hx hb dL_law_267 ?_
        refine ra_sld hx hb hX hbl hbA hS (by omega) (by omega) dL_law_268 ?_
        refine lv_aload_n hx hb dL_law_269 rfl (lv_at hl 3 rfl) ?_
        refine lv_iload_n hx hb dL_law_270 rfl (lv_at hl 0 rfl) ?_
        refine lv_iconst (v := nI 3) hx hb dL_law_271 (by decide) ?_
        refine ra_iadd hx hb dL_law_272 ?_
        refine ra_sld hx hb hX hbl hbA hS (by omega) (by omega) dL_law_273 ?_
        refine lv_aload_n hx hb dL_law_274 rfl (lv_at hl 3 rfl) ?_
        refine lv_iload_n hx hb dL_law_275 rfl (lv_at hl 0 rfl) ?_
        refine lv_iconst (v := nI 4) hx hb dL_law_276 (by decide) ?_
        refine ra_iadd hx hb dL_law_277 ?_
        refine ra_sld hx hb hX hbl hbA hS (by omega) (by omega) dL_law_278 ?_
        refine ca_i (As := [.int (xs (i + 1)), .int (xs (i + 2)), .int (xs (i + 3)), .int (xs (i + 4))]) (rest := []) hC (metX0_sums hax hn16 (xs (i + 1)) (xs (i + 2)) (xs (i + 3)) (xs (i + 4))) (cwV 4 hts (lw_V q108 q109 q110 q17 q111) rfl rfl rfl (by decide +kernel) ⟨Nat.le_of_ble_eq_true rfl, Nat.le_of_ble_eq_true rfl⟩) hKx hPx (va_recv hKx hPx (ci := 0) (q0 := 0) rfl rfl) rfl hl.1 rfl (Nat.le_of_ble_eq_true rfl) dL_law_279 ⟨Nat.le_refl _, Nat.le_refl _⟩ hS hAx (fun r1 u1 H locs hq1 hPx hk hS => ?_)
        have hPx : va_P D vwCl (wX ad cA pr sl u1.1 u1.2.1 u1.2.2.1 u1.2.2.2.1 u1.2.2.2.2.1 u1.2.2.2.2.2.1 mt u1.2.2.2.2.2.2 tl le ee ss hv) H := hPx
        have hPm : va_P D vwCl (wM ae cE tm vm (nI n) km lm rm hm cm mm) H := keepW hPm rfl hk hdis
        refine lv_aload_n hx hb dL_law_282 rfl (lv_at hl 1 rfl) ?_
        refine lv_aload_n hx hb dL_law_283 rfl (lv_at hl 3 rfl) ?_
        refine lv_iload_n hx hb dL_law_284 rfl (lv_at hl 0 rfl) ?_
        refine lv_iconst (v := nI 1) hx hb dL_law_285 (by decide) ?_
        refine ra_iadd hx hb dL_law_286 ?_
        refine ra_sld hx hb hX hbl hbA hS (by omega) (by omega) dL_law_287 ?_
        refine lv_aload_n hx hb dL_law_288 rfl (lv_at hl 3 rfl) ?_
        refine lv_iload_n hx hb dL_law_289 rfl (lv_at hl 0 rfl) ?_
        refine lv_iconst (v := nI 2) hx hb dL_law_290 (by decide) ?_
        refine ra_iadd hx hb dL_law_291 ?_
        refine ra_sld hx hb hX hbl hbA hS (by omega) (by omega) dL_law_292 ?_
        refine lv_aload_n hx hb dL_law_293 rfl (lv_at hl 3 rfl) ?_
        refine lv_iload_n hx hb dL_law_294 rfl (lv_at hl 0 rfl) ?_
        refine lv_iconst (v := nI 3) hx hb dL_law_295 (by decide) ?_
        refine ra_iadd hx hb dL_law_296 ?_
        refine ra_sld hx hb hX hbl hbA hS (by omega) (by omega) dL_law_297 ?_
        refine lv_aload_n hx hb dL_law_298 rfl (lv_at hl 3 rfl) ?_
        refine lv_iload_n hx hb dL_law_299 rfl (lv_at hl 0 rfl) ?_
        refine lv_iconst (v := nI 4) hx hb dL_law_300 (by decide) ?_
        refine ra_iadd hx hb dL_law_301 ?_
        refine ra_sld hx hb hX hbl hbA hS (by omega) (by omega) dL_law_302 ?_
        refine ca_i (As := [.int (xs (i + 1)), .int (xs (i + 2)), .int (xs (i + 3)), .int (xs (i + 4))]) (rest := [.int r1]) hC (metX1_sums ham hn16 (xs (i + 1)) (xs (i + 2)) (xs (i + 3)) (xs (i + 4))) (cwV 4 hts (lw_V q240 q241 q242 q18 q243) rfl rfl rfl (by decide +kernel) ⟨Nat.le_of_ble_eq_true rfl, Nat.le_of_ble_eq_true rfl⟩) hKm hPm (va_recv hKm hPm (ci := 1) (q0 := 0) rfl rfl) rfl hl.1 rfl (Nat.le_of_ble_eq_true rfl) dL_law_303 ⟨Nat.le_refl _, Nat.le_refl _⟩ hS hAm (fun r2 u2 H locs hq2 hPm hk hS => ?_)
        have hPm : va_P D vwCl (wM ae cE tm vm u2.1 u2.2.1 u2.2.2.1 u2.2.2.2.1 u2.2.2.2.2.1 u2.2.2.2.2.2 mm) H := hPm
        have hPx : va_P D vwCl (wX ad cA pr sl u1.1 u1.2.1 u1.2.2.1 u1.2.2.2.1 u1.2.2.2.2.1 u1.2.2.2.2.2.1 mt u1.2.2.2.2.2.2 tl le ee ss hv) H := keepW hPx rfl hk hdis2
        obtain ⟨heq, n2, cd2, e1, e2, hL2⟩ := cols_both (K := 2) (by decide) hLI hq1 hq2
        rw [e1] at hPx
        rw [e2] at hPm
        refine lv_icmp_eq (tgt := 530) hx hb dL_law_306 (by decide) (fun c2 => ?_) (fun c2 => absurd heq c2)
        refine lv_iinc (v := nI (i + 5)) (lv' := [(3, .int (nI (i + 5))), (2, .ref (ae 0)), (1, .ref (ad 0)), (0, .ref b)]) hx hb dL_law_530 hl (k := 0) rfl (nI_add _ _) (by decide) rfl (fun ls hl => ?_)
        refine lv_goto (tgt := 18) hx hb dL_law_533 (by decide) ?_
        exact ih (i + 5) _ _ _ _ _ _ _ _ _ _ _ _ _ _ _ _ _ _ _ _ _ _ _ _ _ _ (by omega) (by omega) hL2 _ _ _ hPx hPm hS (lv_sub hl [0, 1, 2, 3] rfl)
      · have _h : True := trivial
        refine lv_tableIn (off := 279) (tgt := 311) hx hb dL_law_32 (by decide) (by decide) (by decide) (by decide) ?_
        refine lv_aload_n hx hb dL_law_311 rfl (lv_at hl 2 rfl) ?_
        refine lv_aload_n hx hb dL_law_312 rfl (lv_at hl 3 rfl) ?_
        refine lv_iload_n hx hb dL_law_313 rfl (lv_at hl 0 rfl) ?_
        refine lv_iconst (v := nI 1) hx hb dL_law_314 (by decide) ?_
        refine ra_iadd hx hb dL_law_315 ?_
        refine ra_sld hx hb hX hbl hbA hS (by omega) (by omega) dL_law_316 ?_
        refine lv_aload_n hx hb dL_law_317 rfl (lv_at hl 3 rfl) ?_
        refine lv_iload_n hx hb dL_law_318 rfl (lv_at hl 0 rfl) ?_
        refine lv_iconst (v := nI 2) hx hb dL_law_319 (by decide) ?_
        refine ra_iadd hx hb dL_law_320 ?_
        refine ra_sld hx hb hX hbl hbA hS (by omega) (by omega) dL_law_321 ?_
        refine lv_aload_n hx hb dL_law_322 rfl (lv_at hl 3 rfl) ?_
        refine lv_iload_n hx hb dL_law_323 rfl (lv_at hl 0 rfl) ?_
        refine lv_iconst (v := nI 3) hx hb dL_law_324 (by decide) ?_
        refine ra_iadd hx hb dL_law_325 ?_
        refine ra_sld hx hb hX hbl hbA hS (by omega) (by omega) dL_law_326 ?_
        refine ca_i (As := [.int (xs (i + 1)), .int (xs (i + 2)), .int (xs (i + 3))]) (rest := []) hC (metX0_join hax hn16 (xs (i + 1)) (xs (i + 2)) (xs (i + 3))) (cwV 3 hts (lw_V q112 q113 q114 q17 q115) rfl rfl rfl (by decide +kernel) ⟨Nat.le_of_ble_eq_true rfl, Nat.le_of_ble_eq_true rfl⟩) hKx hPx (va_recv hKx hPx (ci := 0) (q0 := 0) rfl rfl) rfl hl.1 rfl (Nat.le_of_ble_eq_true rfl) dL_law_327 ⟨Nat.le_refl _, Nat.le_refl _⟩ hS hAx (fun r1 u1 H locs hq1 hPx hk hS => ?_)
        have hPx : va_P D vwCl (wX ad cA pr sl u1.1 u1.2.1 u1.2.2.1 u1.2.2.2.1 u1.2.2.2.2.1 u1.2.2.2.2.2.1 mt u1.2.2.2.2.2.2 tl le ee ss hv) H := hPx
        have hPm : va_P D vwCl (wM ae cE tm vm (nI n) km lm rm hm cm mm) H := keepW hPm rfl hk hdis
        refine lv_aload_n hx hb dL_law_330 rfl (lv_at hl 1 rfl) ?_
        refine lv_aload_n hx hb dL_law_331 rfl (lv_at hl 3 rfl) ?_
        refine lv_iload_n hx hb dL_law_332 rfl (lv_at hl 0 rfl) ?_
        refine lv_iconst (v := nI 1) hx hb dL_law_333 (by decide) ?_
        refine ra_iadd hx hb dL_law_334 ?_
        refine ra_sld hx hb hX hbl hbA hS (by omega) (by omega) dL_law_335 ?_
        refine lv_aload_n hx hb dL_law_336 rfl (lv_at hl 3 rfl) ?_
        refine lv_iload_n hx hb dL_law_337 rfl (lv_at hl 0 rfl) ?_
        refine lv_iconst (v := nI 2) hx hb dL_law_338 (by decide) ?_
        refine ra_iadd hx hb dL_law_339 ?_
        refine ra_sld hx hb hX hbl hbA hS (by omega) (by omega) dL_law_340 ?_
        refine lv_aload_n hx hb dL_law_341 rfl (lv_at hl 3 rfl) ?_
        refine lv_iload_n hx hb dL_law_342 rfl (lv_at hl 0 rfl) ?_
        refine lv_iconst (v := nI 3) hx hb dL_law_343 (by decide) ?_
        refine ra_iadd hx hb dL_law_344 ?_
        refine ra_sld hx hb hX hbl hbA hS (by omega) (by omega) dL_law_345 ?_
        refine ca_i (As := [.int (xs (i + 1)), .int (xs (i + 2)), .int (xs (i + 3))]) (rest := [.int r1]) hC (metX1_join ham hn16 (xs (i + 1)) (xs (i + 2)) (xs (i + 3))) (cwV 3 hts (lw_V q244 q245 q246 q18 q247) rfl rfl rfl (by decide +kernel) ⟨Nat.le_of_ble_eq_true rfl, Nat.le_of_ble_eq_true rfl⟩) hKm hPm (va_recv hKm hPm (ci := 1) (q0 := 0) rfl rfl) rfl hl.1 rfl (Nat.le_of_ble_eq_true rfl) dL_law_346 ⟨Nat.le_refl _, Nat.le_refl _⟩ hS hAm (fun r2 u2 H locs hq2 hPm hk hS => ?_)
        have hPm : va_P D vwCl (wM ae cE tm vm u2.1 u2.2.1 u2.2.2.1 u2.2.2.2.1 u2.2.2.2.2.1 u2.2.2.2.2.2 mm) H := hPm
        have hPx : va_P D vwCl (wX ad cA pr sl u1.1 u1.2.1 u1.2.2.1 u1.2.2.2.1 u1.2.2.2.2.1 u1.2.2.2.2.2.1 mt u1.2.2.2.2.2.2 tl le ee ss hv) H := keepW hPx rfl hk hdis2
        obtain ⟨heq, n2, cd2, e1, e2, hL2⟩ := join_both hLI hq1 hq2
        rw [e1] at hPx
        rw [e2] at hPm
        refine lv_icmp_eq (tgt := 530) hx hb dL_law_349 (by decide) (fun c2 => ?_) (fun c2 => absurd heq c2)
        refine lv_iinc (v := nI (i + 5)) (lv' := [(3, .int (nI (i + 5))), (2, .ref (ae 0)), (1, .ref (ad 0)), (0, .ref b)]) hx hb dL_law_530 hl (k := 0) rfl (nI_add _ _) (by decide) rfl (fun ls hl => ?_)
        refine lv_goto (tgt := 18) hx hb dL_law_533 (by decide) ?_
        exact ih (i + 5) _ _ _ _ _ _ _ _ _ _ _ _ _ _ _ _ _ _ _ _ _ _ _ _ _ _ (by omega) (by omega) hL2 _ _ _ hPx hPm hS (lv_sub hl [0, 1, 2, 3] rfl)
      · have _h : True := trivial
        refine lv_tableIn (off := 322) (tgt := 354) hx hb dL_law_32 (by decide) (by decide) (by decide) (by decide) ?_
        refine lv_aload_n hx hb dL_law_354 rfl (lv_at hl 2 rfl) ?_
        refine ca_v (As := []) (rest := []) hC (metX0_clear hax) (cwV 0 hts (lw_V q116 q117 q118 q17 q119) rfl rfl rfl (by decide +kernel) ⟨Nat.le_of_ble_eq_true rfl, Nat.le_of_ble_eq_true rfl⟩) hKx hPx (va_recv hKx hPx (ci := 0) (q0 := 0) rfl rfl) rfl hl.1 rfl (Nat.le_of_ble_eq_true rfl) dL_law_355 ⟨Nat.le_refl _, Nat.le_refl _⟩ hS hAx (fun u1 H locs hq1 hPx hk hS => ?_)
        have hPx : va_P D vwCl (wX ad cA pr sl u1.1 so fi se ho co mt u1.2 tl le ee ss hv) H := hPx
        have hPm : va_P D vwCl (wM ae cE tm vm (nI n) km lm rm hm cm mm) H := keepW hPm rfl hk hdis
        refine lv_aload_n hx hb dL_law_358 rfl (lv_at hl 1 rfl) ?_
        refine ca_v (As := []) (rest := []) hC (metX1_clear ham) (cwV 0 hts (lw_V q248 q249 q250 q18 q251) rfl rfl rfl (by decide +kernel) ⟨Nat.le_of_ble_eq_true rfl, Nat.le_of_ble_eq_true rfl⟩) hKm hPm (va_recv hKm hPm (ci := 1) (q0 := 0) rfl rfl) rfl hl.1 rfl (Nat.le_of_ble_eq_true rfl) dL_law_359 ⟨Nat.le_refl _, Nat.le_refl _⟩ hS hAm (fun u2 H locs hq2 hPm hk hS => ?_)
        have hPm : va_P D vwCl (wM ae cE tm vm u2 km lm rm hm cm mm) H := hPm
        have hPx : va_P D vwCl (wX ad cA pr sl u1.1 so fi se ho co mt u1.2 tl le ee ss hv) H := keepW hPx rfl hk hdis2
        obtain ⟨e1, e1b⟩ := hq1
        have e2 : u2 = nI 0 := hq2
        rw [e1] at hPx
        rw [e2] at hPm
        have hL2 := LI_clear hLI e1b
        refine lv_goto (tgt := 530) hx hb dL_law_362 (by decide) ?_
        refine lv_iinc (v := nI (i + 5)) (lv' := [(3, .int (nI (i + 5))), (2, .ref (ae 0)), (1, .ref (ad 0)), (0, .ref b)]) hx hb dL_law_530 hl (k := 0) rfl (nI_add _ _) (by decide) rfl (fun ls hl => ?_)
        refine lv_goto (tgt := 18) hx hb dL_law_533 (by decide) ?_
        exact ih (i + 5) _ _ _ _ _ _ _ _ _ _ _ _ _ _ _ _ _ _ _ _ _ _ _ _ _ _ (by omega) (by omega) hL2 _ _ _ hPx hPm hS (lv_sub hl [0, 1, 2, 3] rfl)
      · have _h : True := trivial
        refine lv_tableIn (off := 333) (tgt := 365) hx hb dL_law_32 (by decide) (by decide) (by decide) (by decide) ?_
        refine lv_aload_n hx hb dL_law_365 rfl (lv_at hl 2 rfl) ?_
        refine lv_aload_n hx hb dL_law_366 rfl (lv_at hl 3 rfl) ?_
        refine lv_iload_n hx hb dL_law_367 rfl (lv_at hl 0 rfl) ?_
        refine lv_iconst (v := nI 1) hx hb dL_law_368 (by decide) ?_
        refine ra_iadd hx hb dL_law_369 ?_
        refine ra_sld hx hb hX hbl hbA hS (by omega) (by omega) dL_law_370 ?_
        refine ca_i (As := [.int (xs (i + 1))]) (rest := []) hC (metX0_count hax hsl hcd hvd hpr hfr (xs (i + 1))) (cwV 1 hts (lw_V q120 q121 q122 q17 q123) rfl rfl rfl (by decide +kernel) ⟨Nat.le_of_ble_eq_true rfl, Nat.le_of_ble_eq_true rfl⟩) hKx hPx (va_recv hKx hPx (ci := 0) (q0 := 0) rfl rfl) rfl hl.1 rfl (Nat.le_of_ble_eq_true rfl) dL_law_371 ⟨Nat.le_refl _, Nat.le_refl _⟩ hS hAx (fun r1 u1 H locs hq1 hPx hk hS => ?_)
        have hPx : va_P D vwCl (wX ad cA pr sl (nI n) so fi se ho co u1.1 u1.2.1 u1.2.2.1 u1.2.2.2.1 u1.2.2.2.2 ss hv) H := hPx
        have hPm : va_P D vwCl (wM ae cE tm vm (nI n) km lm rm hm cm mm) H := keepW hPm rfl hk hdis
        refine lv_aload_n hx hb dL_law_374 rfl (lv_at hl 1 rfl) ?_
        refine lv_aload_n hx hb dL_law_375 rfl (lv_at hl 3 rfl) ?_
        refine lv_iload_n hx hb dL_law_376 rfl (lv_at hl 0 rfl) ?_
        refine lv_iconst (v := nI 1) hx hb dL_law_377 (by decide) ?_
        refine ra_iadd hx hb dL_law_378 ?_
        refine ra_sld hx hb hX hbl hbA hS (by omega) (by omega) dL_law_379 ?_
        refine ca_i (As := [.int (xs (i + 1))]) (rest := [.int r1]) hC (metX1_count ham hth hva hcm hvd (xs (i + 1))) (cwV 1 hts (lw_V q252 q253 q254 q18 q255) rfl rfl rfl (by decide +kernel) ⟨Nat.le_of_ble_eq_true rfl, Nat.le_of_ble_eq_true rfl⟩) hKm hPm (va_recv hKm hPm (ci := 1) (q0 := 0) rfl rfl) rfl hl.1 rfl (Nat.le_of_ble_eq_true rfl) dL_law_380 ⟨Nat.le_refl _, Nat.le_refl _⟩ hS hAm (fun r2 u2 H locs hq2 hPm hk hS => ?_)
        have hPm : va_P D vwCl (wM ae cE tm vm (nI n) km lm rm hm cm u2) H := hPm
        have hPx : va_P D vwCl (wX ad cA pr sl (nI n) so fi se ho co u1.1 u1.2.1 u1.2.2.1 u1.2.2.2.1 u1.2.2.2.2 ss hv) H := keepW hPx rfl hk hdis2
        have heq : r1 = r2 := q1_eq (F := fun cs r => r = nI (fb_ct (selB th vl cd cs) 64)) hn16 (fun _ _ _ a b => a.trans b.symm) hq1.2 hq2
        have hL2 := LI_q hLI hq1.1
        refine lv_icmp_eq (tgt := 530) hx hb dL_law_383 (by decide) (fun c2 => ?_) (fun c2 => absurd heq c2)
        refine lv_iinc (v := nI (i + 5)) (lv' := [(3, .int (nI (i + 5))), (2, .ref (ae 0)), (1, .ref (ad 0)), (0, .ref b)]) hx hb dL_law_530 hl (k := 0) rfl (nI_add _ _) (by decide) rfl (fun ls hl => ?_)
        refine lv_goto (tgt := 18) hx hb dL_law_533 (by decide) ?_
        exact ih (i + 5) _ _ _ _ _ _ _ _ _ _ _ _ _ _ _ _ _ _ _ _ _ _ _ _ _ _ (by omega) (by omega) hL2 _ _ _ hPx hPm hS (lv_sub hl [0, 1, 2, 3] rfl)
      · have _h : True := trivial
        refine lv_tableIn (off := 356) (tgt := 388) hx hb dL_law_32 (by decide) (by decide) (by decide) (by decide) ?_
        refine lv_aload_n hx hb dL_law_388 rfl (lv_at hl 2 rfl) ?_
        refine lv_aload_n hx hb dL_law_389 rfl (lv_at hl 3 rfl) ?_
        refine lv_iload_n hx hb dL_law_390 rfl (lv_at hl 0 rfl) ?_
        refine lv_iconst (v := nI 1) hx hb dL_law_391 (by decide) ?_
        refine ra_iadd hx hb dL_law_392 ?_
        refine ra_sld hx hb hX hbl hbA hS (by omega) (by omega) dL_law_393 ?_
        refine lv_aload_n hx hb dL_law_394 rfl (lv_at hl 3 rfl) ?_
        refine lv_iload_n hx hb dL_law_395 rfl (lv_at hl 0 rfl) ?_
        refine lv_iconst (v := nI 2) hx hb dL_law_396 (by decide) ?_
        refine ra_iadd hx hb dL_law_397 ?_
        refine ra_sld hx hb hX hbl hbA hS (by omega) (by omega) dL_law_398 ?_
        refine ca_i (As := [.int (xs (i + 1)), .int (xs (i + 2))]) (rest := []) hC (metX0_row hax hsl hcd hvd hpr hfr (xs (i + 1)) (xs (i + 2))) (cwV 2 hts (lw_V q163 q164 q165 q17 q166) rfl rfl rfl (by decide +kernel) ⟨Nat.le_of_ble_eq_true rfl, Nat.le_of_ble_eq_true rfl⟩) hKx hPx (va_recv hKx hPx (ci := 0) (q0 := 0) rfl rfl) rfl hl.1 rfl (Nat.le_of_ble_eq_true rfl) dL_law_399 ⟨Nat.le_refl _, Nat.le_refl _⟩ hS hAx (fun r1 u1 H locs hq1 hPx hk hS => ?_)
        have hPx : va_P D vwCl (wX ad cA pr sl (nI n) so fi se ho co u1.1 u1.2.1 u1.2.2.1 u1.2.2.2.1 u1.2.2.2.2 ss hv) H := hPx
        have hPm : va_P D vwCl (wM ae cE tm vm (nI n) km lm rm hm cm mm) H := keepW hPm rfl hk hdis
        refine lv_aload_n hx hb dL_law_402 rfl (lv_at hl 1 rfl) ?_
        refine lv_aload_n hx hb dL_law_403 rfl (lv_at hl 3 rfl) ?_
        refine lv_iload_n hx hb dL_law_404 rfl (lv_at hl 0 rfl) ?_
        refine lv_iconst (v := nI 1) hx hb dL_law_405 (by decide) ?_
        refine ra_iadd hx hb dL_law_406 ?_
        refine ra_sld hx hb hX hbl hbA hS (by omega) (by omega) dL_law_407 ?_
        refine lv_aload_n hx hb dL_law_408 rfl (lv_at hl 3 rfl) ?_
        refine lv_iload_n hx hb dL_law_409 rfl (lv_at hl 0 rfl) ?_
        refine lv_iconst (v := nI 2) hx hb dL_law_410 (by decide) ?_
        refine ra_iadd hx hb dL_law_411 ?_
        refine ra_sld hx hb hX hbl hbA hS (by omega) (by omega) dL_law_412 ?_
        refine ca_i (As := [.int (xs (i + 1)), .int (xs (i + 2))]) (rest := [.int r1]) hC (metX1_row ham hth hva hcm hvd (xs (i + 1)) (xs (i + 2))) (cwV 2 hts (lw_V q270 q271 q272 q18 q273) rfl rfl rfl (by decide +kernel) ⟨Nat.le_of_ble_eq_true rfl, Nat.le_of_ble_eq_true rfl⟩) hKm hPm (va_recv hKm hPm (ci := 1) (q0 := 0) rfl rfl) rfl hl.1 rfl (Nat.le_of_ble_eq_true rfl) dL_law_413 ⟨Nat.le_refl _, Nat.le_refl _⟩ hS hAm (fun r2 u2 H locs hq2 hPm hk hS => ?_)
        have hPm : va_P D vwCl (wM ae cE tm vm (nI n) km lm rm hm cm u2) H := hPm
        have hPx : va_P D vwCl (wX ad cA pr sl (nI n) so fi se ho co u1.1 u1.2.1 u1.2.2.1 u1.2.2.2.1 u1.2.2.2.2 ss hv) H := keepW hPx rfl hk hdis2
        have heq : r1 = r2 := q1_eq (F := fun cs r => rowA (selB th vl cd cs) (xs (i + 2)) r) hn16 (fun _ _ _ a b => row_one a b) hq1.2 hq2
        have hL2 := LI_q hLI hq1.1
        refine lv_icmp_eq (tgt := 530) hx hb dL_law_416 (by decide) (fun c2 => ?_) (fun c2 => absurd heq c2)
        refine lv_iinc (v := nI (i + 5)) (lv' := [(3, .int (nI (i + 5))), (2, .ref (ae 0)), (1, .ref (ad 0)), (0, .ref b)]) hx hb dL_law_530 hl (k := 0) rfl (nI_add _ _) (by decide) rfl (fun ls hl => ?_)
        refine lv_goto (tgt := 18) hx hb dL_law_533 (by decide) ?_
        exact ih (i + 5) _ _ _ _ _ _ _ _ _ _ _ _ _ _ _ _ _ _ _ _ _ _ _ _ _ _ (by omega) (by omega) hL2 _ _ _ hPx hPm hS (lv_sub hl [0, 1, 2, 3] rfl)
      · have _h : True := trivial
        refine lv_tableIn (off := 389) (tgt := 421) hx hb dL_law_32 (by decide) (by decide) (by decide) (by decide) ?_
        refine lv_aload_n hx hb dL_law_421 rfl (lv_at hl 2 rfl) ?_
        refine lv_aload_n hx hb dL_law_422 rfl (lv_at hl 3 rfl) ?_
        refine lv_iload_n hx hb dL_law_423 rfl (lv_at hl 0 rfl) ?_
        refine lv_iconst (v := nI 1) hx hb dL_law_424 (by decide) ?_
        refine ra_iadd hx hb dL_law_425 ?_
        refine ra_sld hx hb hX hbl hbA hS (by omega) (by omega) dL_law_426 ?_
        refine lv_aload_n hx hb dL_law_427 rfl (lv_at hl 3 rfl) ?_
        refine lv_iload_n hx hb dL_law_428 rfl (lv_at hl 0 rfl) ?_
        refine lv_iconst (v := nI 2) hx hb dL_law_429 (by decide) ?_
        refine ra_iadd hx hb dL_law_430 ?_
        refine ra_sld hx hb hX hbl hbA hS (by omega) (by omega) dL_law_431 ?_
        refine ca_i (As := [.int (xs (i + 1)), .int (xs (i + 2))]) (rest := []) hC (metX0_sum hax hsl hcd hvd hpr hfr (xs (i + 1)) (xs (i + 2))) (cwV 2 hts (lw_V q167 q168 q169 q17 q170) rfl rfl rfl (by decide +kernel) ⟨Nat.le_of_ble_eq_true rfl, Nat.le_of_ble_eq_true rfl⟩) hKx hPx (va_recv hKx hPx (ci := 0) (q0 := 0) rfl rfl) rfl hl.1 rfl (Nat.le_of_ble_eq_true rfl) dL_law_432 ⟨Nat.le_refl _, Nat.le_refl _⟩ hS hAx (fun r1 u1 H locs hq1 hPx hk hS => ?_)
        have hPx : va_P D vwCl (wX ad cA pr sl (nI n) so fi se ho co u1.1 u1.2.1 u1.2.2.1 u1.2.2.2.1 u1.2.2.2.2 ss hv) H := hPx
        have hPm : va_P D vwCl (wM ae cE tm vm (nI n) km lm rm hm cm mm) H := keepW hPm rfl hk hdis
        refine lv_aload_n hx hb dL_law_435 rfl (lv_at hl 1 rfl) ?_
        refine lv_aload_n hx hb dL_law_436 rfl (lv_at hl 3 rfl) ?_
        refine lv_iload_n hx hb dL_law_437 rfl (lv_at hl 0 rfl) ?_
        refine lv_iconst (v := nI 1) hx hb dL_law_438 (by decide) ?_
        refine ra_iadd hx hb dL_law_439 ?_
        refine ra_sld hx hb hX hbl hbA hS (by omega) (by omega) dL_law_440 ?_
        refine lv_aload_n hx hb dL_law_441 rfl (lv_at hl 3 rfl) ?_
        refine lv_iload_n hx hb dL_law_442 rfl (lv_at hl 0 rfl) ?_
        refine lv_iconst (v := nI 2) hx hb dL_law_443 (by decide) ?_
        refine ra_iadd hx hb dL_law_444 ?_
        refine ra_sld hx hb hX hbl hbA hS (by omega) (by omega) dL_law_445 ?_
        refine ca_i (As := [.int (xs (i + 1)), .int (xs (i + 2))]) (rest := [.int r1]) hC (metX1_sum ham hth hva hcm hvd (xs (i + 1)) (xs (i + 2))) (cwV 2 hts (lw_V q274 q275 q276 q18 q277) rfl rfl rfl (by decide +kernel) ⟨Nat.le_of_ble_eq_true rfl, Nat.le_of_ble_eq_true rfl⟩) hKm hPm (va_recv hKm hPm (ci := 1) (q0 := 0) rfl rfl) rfl hl.1 rfl (Nat.le_of_ble_eq_true rfl) dL_law_446 ⟨Nat.le_refl _, Nat.le_refl _⟩ hS hAm (fun r2 u2 H locs hq2 hPm hk hS => ?_)
        have hPm : va_P D vwCl (wM ae cE tm vm (nI n) km lm rm hm cm u2) H := hPm
        have hPx : va_P D vwCl (wX ad cA pr sl (nI n) so fi se ho co u1.1 u1.2.1 u1.2.2.1 u1.2.2.2.1 u1.2.2.2.2 ss hv) H := keepW hPx rfl hk hdis2
        have heq : r1 = r2 := q2_eq (F := fun cs k r => r = nI (smA (selB th vl cd cs) (fun i => vl i k))) hn16 (fun _ _ _ _ a b => a.trans b.symm) hq1.2 hq2
        have hL2 := LI_q hLI hq1.1
        refine lv_icmp_eq (tgt := 530) hx hb dL_law_449 (by decide) (fun c2 => ?_) (fun c2 => absurd heq c2)
        refine lv_iinc (v := nI (i + 5)) (lv' := [(3, .int (nI (i + 5))), (2, .ref (ae 0)), (1, .ref (ad 0)), (0, .ref b)]) hx hb dL_law_530 hl (k := 0) rfl (nI_add _ _) (by decide) rfl (fun ls hl => ?_)
        refine lv_goto (tgt := 18) hx hb dL_law_533 (by decide) ?_
        exact ih (i + 5) _ _ _ _ _ _ _ _ _ _ _ _ _ _ _ _ _ _ _ _ _ _ _ _ _ _ (by omega) (by omega) hL2 _ _ _ hPx hPm hS (lv_sub hl [0, 1, 2, 3] rfl)
      · have _h : True := trivial
        refine lv_tableIn (off := 422) (tgt := 454) hx hb dL_law_32 (by decide) (by decide) (by decide) (by decide) ?_
        refine lv_aload_n hx hb dL_law_454 rfl (lv_at hl 2 rfl) ?_
        refine lv_aload_n hx hb dL_law_455 rfl (lv_at hl 3 rfl) ?_
        refine lv_iload_n hx hb dL_law_456 rfl (lv_at hl 0 rfl) ?_
        refine lv_iconst (v := nI 1) hx hb dL_law_457 (by decide) ?_
        refine ra_iadd hx hb dL_law_458 ?_
        refine ra_sld hx hb hX hbl hbA hS (by omega) (by omega) dL_law_459 ?_
        refine lv_aload_n hx hb dL_law_460 rfl (lv_at hl 3 rfl) ?_
        refine lv_iload_n hx hb dL_law_461 rfl (lv_at hl 0 rfl) ?_
        refine lv_iconst (v := nI 2) hx hb dL_law_462 (by decide) ?_
        refine ra_iadd hx hb dL_law_463 ?_
        refine ra_sld hx hb hX hbl hbA hS (by omega) (by omega) dL_law_464 ?_
        refine lv_aload_n hx hb dL_law_465 rfl (lv_at hl 3 rfl) ?_
        refine lv_iload_n hx hb dL_law_466 rfl (lv_at hl 0 rfl) ?_
        refine lv_iconst (v := nI 3) hx hb dL_law_467 (by decide) ?_
        refine ra_iadd hx hb dL_law_468 ?_
        refine ra_sld hx hb hX hbl hbA hS (by omega) (by omega) dL_law_469 ?_
        refine ca_i (As := [.int (xs (i + 1)), .int (xs (i + 2)), .int (xs (i + 3))]) (rest := []) hC (metX0_ranked hax hsl hcd hvd hpr hfr (xs (i + 1)) (xs (i + 2)) (xs (i + 3))) (cwV 3 hts (lw_V q171 q172 q173 q17 q174) rfl rfl rfl (by decide +kernel) ⟨Nat.le_of_ble_eq_true rfl, Nat.le_of_ble_eq_true rfl⟩) hKx hPx (va_recv hKx hPx (ci := 0) (q0 := 0) rfl rfl) rfl hl.1 rfl (Nat.le_of_ble_eq_true rfl) dL_law_470 ⟨Nat.le_refl _, Nat.le_refl _⟩ hS hAx (fun r1 u1 H locs hq1 hPx hk hS => ?_)
        have hPx : va_P D vwCl (wX ad cA pr sl (nI n) so fi se ho co u1.1 u1.2.1 u1.2.2.1 u1.2.2.2.1 u1.2.2.2.2 ss hv) H := hPx
        have hPm : va_P D vwCl (wM ae cE tm vm (nI n) km lm rm hm cm mm) H := keepW hPm rfl hk hdis
        refine lv_aload_n hx hb dL_law_473 rfl (lv_at hl 1 rfl) ?_
        refine lv_aload_n hx hb dL_law_474 rfl (lv_at hl 3 rfl) ?_
        refine lv_iload_n hx hb dL_law_475 rfl (lv_at hl 0 rfl) ?_
        refine lv_iconst (v := nI 1) hx hb dL_law_476 (by decide) ?_
        refine ra_iadd hx hb dL_law_477 ?_
        refine ra_sld hx hb hX hbl hbA hS (by omega) (by omega) dL_law_478 ?_
        refine lv_aload_n hx hb dL_law_479 rfl (lv_at hl 3 rfl) ?_
        refine lv_iload_n hx hb dL_law_480 rfl (lv_at hl 0 rfl) ?_
        refine lv_iconst (v := nI 2) hx hb dL_law_481 (by decide) ?_
        refine ra_iadd hx hb dL_law_482 ?_
        refine ra_sld hx hb hX hbl hbA hS (by omega) (by omega) dL_law_483 ?_
        refine lv_aload_n hx hb dL_law_484 rfl (lv_at hl 3 rfl) ?_
        refine lv_iload_n hx hb dL_law_485 rfl (lv_at hl 0 rfl) ?_
        refine lv_iconst (v := nI 3) hx hb dL_law_486 (by decide) ?_
        refine ra_iadd hx hb dL_law_487 ?_
        refine ra_sld hx hb hX hbl hbA hS (by omega) (by omega) dL_law_488 ?_
        refine ca_i (As := [.int (xs (i + 1)), .int (xs (i + 2)), .int (xs (i + 3))]) (rest := [.int r1]) hC (metX1_ranked ham hth hva hcm hvd (xs (i + 1)) (xs (i + 2)) (xs (i + 3))) (cwV 3 hts (lw_V q278 q279 q280 q18 q281) rfl rfl rfl (by decide +kernel) ⟨Nat.le_of_ble_eq_true rfl, Nat.le_of_ble_eq_true rfl⟩) hKm hPm (va_recv hKm hPm (ci := 1) (q0 := 0) rfl rfl) rfl hl.1 rfl (Nat.le_of_ble_eq_true rfl) dL_law_489 ⟨Nat.le_refl _, Nat.le_refl _⟩ hS hAm (fun r2 u2 H locs hq2 hPm hk hS => ?_)
        have hPm : va_P D vwCl (wM ae cE tm vm (nI n) km lm rm hm cm u2) H := hPm
        have hPx : va_P D vwCl (wX ad cA pr sl (nI n) so fi se ho co u1.1 u1.2.1 u1.2.2.1 u1.2.2.2.1 u1.2.2.2.2 ss hv) H := keepW hPx rfl hk hdis2
        have heq : r1 = r2 := q2_eq (F := fun cs k r => rkA (selB th vl cd cs) (fun i => vl i k) (xs (i + 3)) r) hn16 (fun _ _ _ _ a b => rk_one a b) hq1.2 hq2
        have hL2 := LI_q hLI hq1.1
        refine lv_icmp_eq (tgt := 530) hx hb dL_law_492 (by decide) (fun c2 => ?_) (fun c2 => absurd heq c2)
        refine lv_iinc (v := nI (i + 5)) (lv' := [(3, .int (nI (i + 5))), (2, .ref (ae 0)), (1, .ref (ad 0)), (0, .ref b)]) hx hb dL_law_530 hl (k := 0) rfl (nI_add _ _) (by decide) rfl (fun ls hl => ?_)
        refine lv_goto (tgt := 18) hx hb dL_law_533 (by decide) ?_
        exact ih (i + 5) _ _ _ _ _ _ _ _ _ _ _ _ _ _ _ _ _ _ _ _ _ _ _ _ _ _ (by omega) (by omega) hL2 _ _ _ hPx hPm hS (lv_sub hl [0, 1, 2, 3] rfl)
      · have _h : True := trivial
        refine lv_tableIn (off := 465) (tgt := 497) hx hb dL_law_32 (by decide) (by decide) (by decide) (by decide) ?_
        refine lv_aload_n hx hb dL_law_497 rfl (lv_at hl 2 rfl) ?_
        refine lv_aload_n hx hb dL_law_498 rfl (lv_at hl 3 rfl) ?_
        refine lv_iload_n hx hb dL_law_499 rfl (lv_at hl 0 rfl) ?_
        refine lv_iconst (v := nI 1) hx hb dL_law_500 (by decide) ?_
        refine ra_iadd hx hb dL_law_501 ?_
        refine ra_sld hx hb hX hbl hbA hS (by omega) (by omega) dL_law_502 ?_
        refine lv_aload_n hx hb dL_law_503 rfl (lv_at hl 3 rfl) ?_
        refine lv_iload_n hx hb dL_law_504 rfl (lv_at hl 0 rfl) ?_
        refine lv_iconst (v := nI 2) hx hb dL_law_505 (by decide) ?_
        refine ra_iadd hx hb dL_law_506 ?_
        refine ra_sld hx hb hX hbl hbA hS (by omega) (by omega) dL_law_507 ?_
        refine ca_i (As := [.int (xs (i + 1)), .int (xs (i + 2))]) (rest := []) hC (metX0_different hax hsl hcd hvd hpr hfr (xs (i + 1)) (xs (i + 2))) (cwV 2 hts (lw_V q175 q176 q177 q17 q178) rfl rfl rfl (by decide +kernel) ⟨Nat.le_of_ble_eq_true rfl, Nat.le_of_ble_eq_true rfl⟩) hKx hPx (va_recv hKx hPx (ci := 0) (q0 := 0) rfl rfl) rfl hl.1 rfl (Nat.le_of_ble_eq_true rfl) dL_law_508 ⟨Nat.le_refl _, Nat.le_refl _⟩ hS hAx (fun r1 u1 H locs hq1 hPx hk hS => ?_)
        have hPx : va_P D vwCl (wX ad cA pr sl (nI n) so fi se ho co u1.1 u1.2.1 u1.2.2.1 u1.2.2.2.1 u1.2.2.2.2.1 u1.2.2.2.2.2.1 u1.2.2.2.2.2.2) H := hPx
        have hPm : va_P D vwCl (wM ae cE tm vm (nI n) km lm rm hm cm mm) H := keepW hPm rfl hk hdis
        refine lv_aload_n hx hb dL_law_511 rfl (lv_at hl 1 rfl) ?_
        refine lv_aload_n hx hb dL_law_512 rfl (lv_at hl 3 rfl) ?_
        refine lv_iload_n hx hb dL_law_513 rfl (lv_at hl 0 rfl) ?_
        refine lv_iconst (v := nI 1) hx hb dL_law_514 (by decide) ?_
        refine ra_iadd hx hb dL_law_515 ?_
        refine ra_sld hx hb hX hbl hbA hS (by omega) (by omega) dL_law_516 ?_
        refine lv_aload_n hx hb dL_law_517 rfl (lv_at hl 3 rfl) ?_
        refine lv_iload_n hx hb dL_law_518 rfl (lv_at hl 0 rfl) ?_
        refine lv_iconst (v := nI 2) hx hb dL_law_519 (by decide) ?_
        refine ra_iadd hx hb dL_law_520 ?_
        refine ra_sld hx hb hX hbl hbA hS (by omega) (by omega) dL_law_521 ?_
        refine ca_i (As := [.int (xs (i + 1)), .int (xs (i + 2))]) (rest := [.int r1]) hC (metX1_different ham hth hva hcm hvd (xs (i + 1)) (xs (i + 2))) (cwV 2 hts (lw_V q286 q287 q288 q18 q289) rfl rfl rfl (by decide +kernel) ⟨Nat.le_of_ble_eq_true rfl, Nat.le_of_ble_eq_true rfl⟩) hKm hPm (va_recv hKm hPm (ci := 1) (q0 := 0) rfl rfl) rfl hl.1 rfl (Nat.le_of_ble_eq_true rfl) dL_law_522 ⟨Nat.le_refl _, Nat.le_refl _⟩ hS hAm (fun r2 u2 H locs hq2 hPm hk hS => ?_)
        have hPm : va_P D vwCl (wM ae cE tm vm (nI n) km lm rm hm cm u2) H := hPm
        have hPx : va_P D vwCl (wX ad cA pr sl (nI n) so fi se ho co u1.1 u1.2.1 u1.2.2.1 u1.2.2.2.1 u1.2.2.2.2.1 u1.2.2.2.2.2.1 u1.2.2.2.2.2.2) H := keepW hPx rfl hk hdis2
        have heq : r1 = r2 := q2_eq (F := fun cs k r => r = nI (dfA (selB th vl cd cs) (fun i => vl i k))) hn16 (fun _ _ _ _ a b => a.trans b.symm) hq1.2 hq2
        have hL2 := LI_q hLI hq1.1
        refine lv_icmp_eq (tgt := 530) hx hb dL_law_525 (by decide) (fun c2 => ?_) (fun c2 => absurd heq c2)
        refine lv_iinc (v := nI (i + 5)) (lv' := [(3, .int (nI (i + 5))), (2, .ref (ae 0)), (1, .ref (ad 0)), (0, .ref b)]) hx hb dL_law_530 hl (k := 0) rfl (nI_add _ _) (by decide) rfl (fun ls hl => ?_)
        refine lv_goto (tgt := 18) hx hb dL_law_533 (by decide) ?_
        exact ih (i + 5) _ _ _ _ _ _ _ _ _ _ _ _ _ _ _ _ _ _ _ _ _ _ _ _ _ _ (by omega) (by omega) hL2 _ _ _ hPx hPm hS (lv_sub hl [0, 1, 2, 3] rfl)
      · have _h : True := trivial
        refine lv_tableOut (tgt := 530) hx hb dL_law_32 (Or.inr (by rw [nI_toInt (by omega)]; omega)) (by decide) ?_
        refine lv_iinc (v := nI (i + 5)) (lv' := [(3, .int (nI (i + 5))), (2, .ref (ae 0)), (1, .ref (ad 0)), (0, .ref b)]) hx hb dL_law_530 hl (k := 0) rfl (nI_add _ _) (by decide) rfl (fun ls hl => ?_)
        refine lv_goto (tgt := 18) hx hb dL_law_533 (by decide) ?_
        exact ih (i + 5) _ _ _ _ _ _ _ _ _ _ _ _ _ _ _ _ _ _ _ _ _ _ _ _ _ _ (by omega) (by omega) hLI _ _ _ hPx hPm hS (lv_sub hl [0, 1, 2, 3] rfl)
end
section
-- ===== YOUR PART =====
set_option maxHeartbeats 8000000 in
set_option maxRecDepth 100000 in
theorem whole_start {p : Program} {e : Env} {s : State} {m : MethodId} {below : List Frame} {meth : Method} {c : Code} (l : Launch) {b L : Nat} {xs : Nat → Int32} (hL : L ≤ 320) (C0 : lw_At p s m meth c b L xs) : W p l e room_1 s m #[Value.ref b] below meth c s.heap [] 0 0 (lw_Z below #[Value.ref b] s) (entryFrame m ([Value.ref b] : List Value).toArray 4) := by
  obtain ⟨hx, hb, hr, hml, hown, hts0, hX, hbl, hlocks, hgv⟩ := id C0
  have hts : ∀ w ∈ lw_all, w.before #[Value.ref b] s = true := fun w h => hts0 w (lw_all_tbl h)
  have hA : ∀ q : Nat, s.heap.size ≤ q → (fun q : Nat => s.heap.size ≤ q) q := fun _ h => h
  obtain ⟨c0, iS0, hKn0⟩ := u_known (C := RX0) (T := TX0) (N := 15) (n := 15) hts in_X0 (hts _ q20)
  obtain ⟨c1, iS1, hKn1⟩ := u_known (C := RX1) (T := TX1) (N := 9) (n := 9) hts in_X1 (hts _ q184)
  obtain ⟨dC, dI, hKc⟩ : ∃ (dC : Nat → ClassId) (dI : Nat → Nat → Nat), ∀ (k : Nat) (q : vw_C), vwCl[k]? = some q → u_Kn s q.1 q.2.1 q.2.2 (dC k) (dI k) := by
    refine ⟨fun k => if k = 0 then c0 else c1, fun k => if k = 0 then iS0 else iS1, ?_⟩
    intro k q hq
    match k, hq with
    | 0, hq => cases hq; exact hKn0
    | 1, hq => cases hq; exact hKn1
    | k + 2, hq => simp [vwCl] at hq
  have hS : va_S (fun q : Nat => s.heap.size ≤ q) s.heap s.heap [] := va_S.rf
  have hK : va_K (dC, dI) vwCl [] s := ⟨hKc, fun k q h => by simp at h⟩
  have hP : va_P (dC, dI) vwCl [] s.heap := fun k q h => by simp at h
  have hD : va_D (fun q : Nat => s.heap.size ≤ q) [] := ⟨fun i j p q h => by simp at h, fun k q h => by simp at h⟩
  have hl := lv_entry ([.ref b]) (n := 4) (Nat.le_of_ble_eq_true rfl)
  rw [lg_entry_eq]
  generalize (lg_sl ([.ref b]) ++ List.replicate (4 - (lg_sl ([.ref b])).length) Slot.unset).toArray = ls at hl ⊢
  have hl : lv_has ls 4 [(0, .ref b)] := hl
  refine va_new (ci := 0) (fs := fsX0) (C := RX0) (T := TX0) (N := 15) hx hb hts in_X0 tyX0 tyX0_ok hown (hts _ q19) (hts _ q20) (hts _ q17) hK hP hD hS hA rfl (fun j hj => by rcases (show j = 0 ∨ j = 1 ∨ j = 2 ∨ j = 3 ∨ j = 4 ∨ j = 5 ∨ j = 6 ∨ j = 7 ∨ j = 8 ∨ j = 9 ∨ j = 10 ∨ j = 11 ∨ j = 12 ∨ j = 13 ∨ j = 14 by omega) with rfl | rfl | rfl | rfl | rfl | rfl | rfl | rfl | rfl | rfl | rfl | rfl | rfl | rfl | rfl <;> rfl) (Nat.le_of_ble_eq_true rfl) (Nat.le_of_ble_eq_true rfl) dL_law_0 (fun qx H hP hD hS => ?_)
  have hP : va_P (dC, dI) vwCl [(qx, .inr (0, fsX0))] H := hP
  have hqx : s.heap.size ≤ qx := hD.2 0 _ rfl
  have hHs : s.heap.size ≤ H.size := hS.1
  refine W.widen (k := 1) (n := 15) (by omega) (by omega) ?_
  refine lv_dup hx hb dL_law_3 rfl ?_
  refine va_callv (va_runI (As := []) (rest := [.ref qx]) ⟨hx, hb, hml, hown, hts⟩ (metX0_init (l := l) (D := (dC, dI)) qx H.size) (cwI 0 hts (lw_meth q23) rfl rfl rfl (hts _ q17) (hts _ q21) (hts _ q22) rfl (by decide +kernel) ⟨Nat.le_of_ble_eq_true rfl, Nat.le_of_ble_eq_true rfl⟩) ⟨fun a U g mk q => by obtain ⟨q0, q1, qK, qP⟩ := q; exact ⟨q0, q1, va_K.moved (u := U) (U := U.calling g mk a) (Vm.Alike.refl U.vm) qK, qP⟩, fun U hU hW => ⟨rfl, by rw [hU], va_K.moved hW.alike hK, by rw [hU]; exact hP⟩⟩ rfl rfl hl.1 rfl (lv_room (Nat.le_of_ble_eq_true rfl)) dL_law_4 ⟨Nat.le_of_ble_eq_true rfl, Nat.le_of_ble_eq_true rfl⟩) hS (fun q _ h => by rcases h with h | h; exact h ▸ hqx; exact Nat.le_trans hHs h) (fun q h => by rcases h with h | h; exact h ▸ hqx; exact Nat.le_trans hHs h) (fun u t H1 locs ht hvm hw hB hz hk hS => ?_)
  obtain ⟨ad, cA⟩ := u
  obtain ⟨e0, hax, hge⟩ := hw
  have e0 : ad 0 = qx := e0
  have hax : apt 12 ad := hax
  have hge : ∀ k, 0 < k → k < 12 → H.size ≤ ad k := hge
  subst e0
  have hPx : va_P (dC, dI) vwCl (wX ad cA 0 (fun _ => 0) 0 (fun _ => 0) (fun _ => 0) (fun _ => 0) (fun _ => 0) (fun _ => 0) (fun _ => 0) (fun _ => 0) (fun _ => 0) 0 0 (fun _ => 0) (fun _ => 0)) H1 := by rw [← ht]; exact hB.1
  have hKx : va_K (dC, dI) vwCl (tX cA) s := va_K.moved hvm.symm hB.2
  have hAx : ∀ q, AdX 12 ad q → s.heap.size ≤ q := by
    rintro q ⟨k, hk, rfl⟩
    rcases Nat.eq_zero_or_pos k with h | h
    · subst h; exact hqx
    · exact Nat.le_trans hHs (hge k h hk)
  refine W.widen (k := 12) (n := 288) (by omega) (by omega) ?_
  refine lv_astore_n (lv' := [(1, .ref (ad 0)), (0, .ref b)]) hx hb dL_law_7 rfl hl (by decide) rfl (fun ls hl => ?_)
  have hDx : va_D (fun q : Nat => s.heap.size ≤ q) (wX ad cA 0 (fun _ => 0) 0 (fun _ => 0) (fun _ => 0) (fun _ => 0) (fun _ => 0) (fun _ => 0) (fun _ => 0) (fun _ => 0) (fun _ => 0) 0 0 (fun _ => 0) (fun _ => 0)) := (dX hax).weaken (fun k q _ h => hAx q.1 h)
  refine va_new (ci := 1) (fs := fsX1) (C := RX1) (T := TX1) (N := 9) hx hb hts in_X1 tyX1 tyX1_ok hown (hts _ q183) (hts _ q184) (hts _ q18) hK hPx hDx hS hA rfl (fun j hj => by rcases (show j = 0 ∨ j = 1 ∨ j = 2 ∨ j = 3 ∨ j = 4 ∨ j = 5 ∨ j = 6 ∨ j = 7 ∨ j = 8 by omega) with rfl | rfl | rfl | rfl | rfl | rfl | rfl | rfl | rfl <;> rfl) (Nat.le_of_ble_eq_true rfl) (Nat.le_of_ble_eq_true rfl) dL_law_8 (fun qm H2 hP2 hD2 hS => ?_)
  have hPx : va_P (dC, dI) vwCl (wX ad cA 0 (fun _ => 0) 0 (fun _ => 0) (fun _ => 0) (fun _ => 0) (fun _ => 0) (fun _ => 0) (fun _ => 0) (fun _ => 0) (fun _ => 0) 0 0 (fun _ => 0) (fun _ => 0)) H2 := hP2.sub (ws' := wX ad cA 0 (fun _ => 0) 0 (fun _ => 0) (fun _ => 0) (fun _ => 0) (fun _ => 0) (fun _ => 0) (fun _ => 0) (fun _ => 0) (fun _ => 0) 0 0 (fun _ => 0) (fun _ => 0)) [0, 1, 2, 3, 4, 5, 6, 7, 8, 9, 10, 11] rfl
  have hPm1 : va_P (dC, dI) vwCl [(qm, .inr (1, fsX1))] H2 := hP2.sub (ws' := [(qm, .inr (1, fsX1))]) [12] rfl
  have hqm : s.heap.size ≤ qm := hD2.2 12 _ rfl
  have hHs2 : s.heap.size ≤ H2.size := hS.1
  have hne : ∀ i, i < 12 → ad i ≠ qm := by
    intro i hi h
    have h13 := (ad_apt (n := 13) (ad := fun k => if k = 12 then qm else ad k) hD2 rfl).1 i 12 (by omega) (by decide)
    dsimp only at h13
    rw [if_neg (by omega), if_pos rfl] at h13
    have := h13 h
    omega
  have hlt : ∀ i, i < 12 → ad i < H2.size := by
    intro i hi
    obtain ⟨q, h1, h2⟩ := ad_at (ws := wX ad cA 0 (fun _ => 0) 0 (fun _ => 0) (fun _ => 0) (fun _ => 0) (fun _ => 0) (fun _ => 0) (fun _ => 0) (fun _ => 0) (fun _ => 0) 0 0 (fun _ => 0) (fun _ => 0)) (n := 12) (ad := ad) rfl hi
    rw [← h2]
    exact (hPx i q h1).lt
  refine W.widen (k := 13) (n := 297) (by omega) (by omega) ?_
  refine lv_dup hx hb dL_law_11 rfl ?_
  refine va_callv (va_runI (As := []) (rest := [.ref qm]) ⟨hx, hb, hml, hown, hts⟩ (metX1_init (l := l) (D := (dC, dI)) qm H2.size) (cwI 0 hts (lw_meth q187) rfl rfl rfl (hts _ q18) (hts _ q185) (hts _ q186) rfl (by decide +kernel) ⟨Nat.le_of_ble_eq_true rfl, Nat.le_of_ble_eq_true rfl⟩) ⟨fun a U g mk q => by obtain ⟨q0, q1, qK, qP⟩ := q; exact ⟨q0, q1, va_K.moved (u := U) (U := U.calling g mk a) (Vm.Alike.refl U.vm) qK, qP⟩, fun U hU hW => ⟨rfl, by rw [hU], va_K.moved hW.alike hK, by rw [hU]; exact hPm1⟩⟩ rfl rfl hl.1 rfl (lv_room (Nat.le_of_ble_eq_true rfl)) dL_law_12 ⟨Nat.le_of_ble_eq_true rfl, Nat.le_of_ble_eq_true rfl⟩) hS (fun q _ h => by rcases h with h | h; exact h ▸ hqm; exact Nat.le_trans hHs2 h) (fun q h => by rcases h with h | h; exact h ▸ hqm; exact Nat.le_trans hHs2 h) (fun u2 t2 H3 locs ht2 hvm2 hw2 hB2 hz2 hk2 hS => ?_)
  obtain ⟨ae, cE⟩ := u2
  obtain ⟨f0, ham, hge2⟩ := hw2
  have f0 : ae 0 = qm := f0
  have ham : apt 9 ae := ham
  have hge2 : ∀ k, 0 < k → k < 9 → H2.size ≤ ae k := hge2
  subst f0
  have hPm : va_P (dC, dI) vwCl (wM ae cE (fun _ => 0) (fun _ => 0) 0 (fun _ => 0) (fun _ => 0) (fun _ => 0) (fun _ => 0) (fun _ => 0) (fun _ => 0)) H3 := by rw [← ht2]; exact hB2.1
  have hKm : va_K (dC, dI) vwCl (tM cE) s := va_K.moved hvm2.symm hB2.2
  have hAm : ∀ q, AdX 9 ae q → s.heap.size ≤ q := by
    rintro q ⟨k, hk, rfl⟩
    rcases Nat.eq_zero_or_pos k with h | h
    · subst h; exact hqm
    · exact Nat.le_trans hHs2 (hge2 k h hk)
  have hdis : ∀ i j, i < 12 → j < 9 → ad i ≠ ae j := by
    intro i j hi hj
    rcases Nat.eq_zero_or_pos j with h | h
    · subst h; exact hne i hi
    · have h1 := hlt i hi
      have h2 := hge2 j h hj
      omega
  have hPx : va_P (dC, dI) vwCl (wX ad cA 0 (fun _ => 0) 0 (fun _ => 0) (fun _ => 0) (fun _ => 0) (fun _ => 0) (fun _ => 0) (fun _ => 0) (fun _ => 0) (fun _ => 0) 0 0 (fun _ => 0) (fun _ => 0)) H3 := by
    refine hPx.kept (fun k q hq => ?_)
    obtain ⟨h1, h2⟩ := ad_key (ws := wX ad cA 0 (fun _ => 0) 0 (fun _ => 0) (fun _ => 0) (fun _ => 0) (fun _ => 0) (fun _ => 0) (fun _ => 0) (fun _ => 0) (fun _ => 0) 0 0 (fun _ => 0) (fun _ => 0)) (n := 12) (ad := ad) rfl hq
    refine hk2 q.1 (hPx k q hq).lt ?_
    rintro (h | h)
    · exact hne k h1 (by rw [← h2]; exact h)
    · have := hlt k h1
      rw [h2] at h
      omega
  refine W.widen (k := 600000) (n := 7290000) (by decide) (by decide) ?_
  refine lv_astore_n (lv' := [(2, .ref (ae 0)), (1, .ref (ad 0)), (0, .ref b)]) hx hb dL_law_15 rfl hl (by decide) rfl (fun ls hl => ?_)
  refine lv_iconst (v := nI 0) hx hb dL_law_16 (by decide) ?_
  refine lv_istore_n (lv' := [(3, .int (nI 0)), (2, .ref (ae 0)), (1, .ref (ad 0)), (0, .ref b)]) hx hb dL_law_17 rfl hl (by decide) rfl (fun ls hl => ?_)
  exact law_loop hL C0 hax ham hdis hAx hAm hKx hKm (L + 1) 0 (fun _ => false) (fun _ _ => 0) 0 (fun _ => (0, 0, 0, 0, 0)) _ _ _ _ _ _ _ _ _ _ _ _ _ _ _ _ _ _ _ _ _ _ (Nat.zero_le _) (by omega) LI_0 _ _ _ hPx hPm hS hl
end
section
-- ===== YOUR PART ENDS =====
set_option maxHeartbeats 4000000 in
theorem lw_walk (l : Launch) (b : Addr) (xs : List Int32) : MetFree l x (headSpec (Jvm.Cond.code x code maxLocals ret :: tables_1) room_1) (lw_P b xs) (fun _ _ _ _ _ => True) lw_Q := by
  refine MetFree.of_bodyS (code := code) (maxLocals := maxLocals) (ret := ret) (by decide) ?_ ?_
  · intro args s m h hn
    obtain ⟨meth, c, h1, h2, h3, h4, h5, h6, -, -⟩ := Cond.code_spec hn (atoms_spec (ws := Jvm.Cond.code x code maxLocals ret :: tables_1) h _ List.mem_cons_self)
    exact ⟨meth, c, h1, h2, h3, h4, h5, h6⟩
  · intro p e s m args below meth c s₁ B hml0 hP _
    obtain ⟨rfl, hx, hbd, hgv⟩ := hP
    obtain ⟨scr, harrAt, hlist, hof, hsmall⟩ := hx
    obtain ⟨hcb, hkn, -, -⟩ := State.arrayAt?_spec harrAt
    have hown : s.vm.findClass R_law = some m.cls := findClass_of_methodNamed B.named
    have hts0 : ∀ c ∈ (Jvm.Cond.code x code maxLocals ret :: tables_1), c.before #[Value.ref b] s = true := atoms_spec (ws := Jvm.Cond.code x code maxLocals ret :: tables_1) B.pre
    have hts : ∀ w ∈ lw_tbl, w.before #[Value.ref b] s = true := k2_hts_sels lw_privs (fun w hw => hts0 w (List.mem_cons_of_mem _ hw)) lw_privs_ok
    have hml : c.maxLocals = 4 := B.maxLocals_eq (hts0 _ List.mem_cons_self)
    have X₀ : Stand p l e room_1 s m #[Value.ref b] below meth c s₁ [] 0 0 := Stand.of_body B
    have hh0 : s₁.heap = s.heap := by rw [B.state]; rfl
    have hsz : scr.slots.size = xs.length := by rw [← Array.length_toList, hlist, List.length_map]
    have hval : ∀ j : Nat, j < xs.length → scr.slots[j]? = some (.int (xs.getD j 0)) := fun j hj => by
      rw [← Array.getElem?_toList, hlist]
      simp [hj]
    have hbl : b < s.heap.size := (Array.getElem?_eq_some_iff.mp hcb).1
    have hX : va_X b xs.length (fun j => xs.getD j 0) s s.heap := ⟨scr, hcb, hof, hkn, hsz, hval⟩
    have K : W p l e room_1 s m #[Value.ref b] below meth c s₁.heap [] 0 0 (lw_Z below #[Value.ref b] s) (entryFrame m ([Value.ref b] : List Value).toArray 4) := by
      rw [hh0]
      exact whole_start l hbd ⟨B.exec, B.bytes, B.returns, hml, hown, hts, hX, hbl, B.notSynchronized, hgv⟩
    obtain ⟨t, a1, o, b1, b2, b3⟩ := K s₁ rfl X₀
    exact ⟨t, o, a1, b1, b2, b3⟩
theorem lw_pre_spec {args : Array Value} {s : State} (h : (Jvm.Cond.and given_1 narrow_1).before args s = true) (hr : rest_1_c.before args s = true) : ∃ (b : Addr) (xs : List Int32), lw_P b xs args s := by
  have hs := flat_of_before _ h
  have hq := flat_of_before _ hr
  have hc : (Cond.count 1).before args s = true := hs _ (by decide +kernel)
  have harr : (Cond.arrayOf (.arg 0) .int).before args s = true := hs _ (by decide +kernel)
  have hle : (Cond.le (.length (.arg 0)) (.int 320)).before args s = true := hs _ (by decide +kernel)
  have hlen : (Cond.isInt (.length (.arg 0))).before args s = true := hq _ (by decide +kernel)
  have hall : (Cond.all (.arg 0) (.isInt (.elem (.arg 0) (.index 0)))).before args s = true := hq _ (by decide +kernel)
  obtain ⟨b, xs, hb, hx⟩ := State.ints_of_pre rfl harr hlen hall
  have hsm : xs.length < 2 ^ 31 := hx.choose_spec.2.2.2
  have hev : (Term.length (.arg 0)).eval args s none [] s = some (.int xs.length.toInt32) := hx.length_eval hb
  have hv := Cond.le_ints hev (show (Term.int 320).eval args s none [] s = some (.int 320) from rfl)
  have hd : xs.length.toInt32 ≤ 320 := by
    simpa [Cond.before, Cond.holds, hv] using hle
  have hN : xs.length ≤ 320 := (Int32.ofNat_le_ofNat hsm (by decide)).mp (show Int32.ofNat xs.length ≤ Int32.ofNat 320 from hd)
  exact ⟨b, xs, Cond.one_arg hc (show args[0]? = some (.ref b) from hb), hx, hN, h⟩
theorem lw_comes (l : Launch) : Comes l x (Jvm.Cond.code x code maxLocals ret :: tables_1) room_1 (fun tb e args s => Calls_1 tb e args s ∧ rest_1 tb e args s ∧ Pre_1 tb e args s)
    (fun _ _ args s o t => lw_Q args s o t) := by
  intro p e ha hc hk s m args below hf hfit hheap happ hpre
  obtain ⟨b, xs, hP⟩ := lw_pre_spec hpre.2.2 hpre.2.1
  obtain ⟨k, o, h1, h2, h3, hQ⟩ := lw_walk l b xs p e ha hc hk s m args below hf ((Spec.applies_iff_loose hf).mp happ).1 hP trivial
  exact ⟨k, o, h1, h2, h3, hQ⟩
theorem lw_frame {s t : State} {o : Outcome} {args : Array Value} (h : Framed s o t [] 600000 7290000) :
    Framed s o t (fieldLocs frame_1_writes args s ++ arrayLocs frame_1_arrays args s ++ staticLocs frame_1_statics s) 600000 7290000 := h
theorem lw_limb (L : Cond) (hL : ∀ (args : Array Value) (s t : State), L.after args s (.returned (some (.int 1))) t = true) :
    ArmFor flags0 classFile x code maxLocals ret World_1 tables_1 room_1 Calls_1 rest_1 Pre_1
      (fun tb e a s o t => postC L tb e a s o t ∧ Framed s o t (fieldLocs frame_1_writes a s ++ arrayLocs frame_1_arrays a s ++ staticLocs frame_1_statics s) 600000 7290000) := by
  intro l _ _ _ p e ha hc hk s m args below hf hfit hheap happ hpre
  obtain ⟨k, o, h1, h2, h3, rfl, hF⟩ := lw_comes l p e ha hc hk s m args below hf hfit hheap happ hpre
  exact ⟨k, _, h1, h2, h3, hL args s _, lw_frame hF⟩
theorem i_vc : Claimed_1_1 ∧ Claimed_1_2 := ⟨lw_limb limb_1_1 (fun args s t => by simp [limb_1_1, Cond.after, Cond.holds, Cond.value]), lw_limb limb_1_2 (fun args s t => Cond.after_iff.mpr (by
  first | (rw [show limb_1_2 = Cond.eq .result (.int 1) from rfl, Cond.eq_ints (x := 1) (y := 1) rfl rfl]; simp; done) | (simp [limb_1_2, Cond.value, Term.eval]; done)))⟩
end
