section
/-- a private method of a class that the tables say can be made, by its rows of tables_1 -/
def lw_okq (q : MethodName × Nat) : Prop := (q.1.cls ≠ "java/lang/invoke/MethodHandle" ∧ q.1.cls ≠ "java/lang/invoke/VarHandle") ∧ Cond.instantiable q.1.cls q.2 ∈ tables_1 ∧ Cond.privateMethod q.1 ∈ tables_1 ∧ Cond.instanceMethod q.1 ∈ tables_1
set_option maxRecDepth 100000
theorem lw_t1 {w : Cond} (h : w ∈ tables_1_1) : w ∈ tables_1 := List.mem_append_left _ h
theorem lw_t2 {w : Cond} (h : w ∈ tables_1_2) : w ∈ tables_1 := List.mem_append_right _ h
theorem lw_p0 : lw_okq (⟨"TestPatterns", "isLine", "(I)Z"⟩, 11) := ⟨⟨by decide +kernel, by decide +kernel⟩, lw_t1 (List.mem_of_getElem? (i := 4) rfl), lw_t1 (List.mem_of_getElem? (i := 53) rfl), lw_t1 (List.mem_of_getElem? (i := 54) rfl)⟩
theorem lw_p1 : lw_okq (⟨"TestPatterns", "simulateSound", "()V"⟩, 11) := ⟨⟨by decide +kernel, by decide +kernel⟩, lw_t1 (List.mem_of_getElem? (i := 4) rfl), lw_t1 (List.mem_of_getElem? (i := 80) rfl), lw_t1 (List.mem_of_getElem? (i := 81) rfl)⟩
theorem lw_p2 : lw_okq (⟨"TestPatterns", "shownSet", "(II)I"⟩, 11) := ⟨⟨by decide +kernel, by decide +kernel⟩, lw_t1 (List.mem_of_getElem? (i := 4) rfl), lw_t1 (List.mem_of_getElem? (i := 97) rfl), lw_t1 (List.mem_of_getElem? (i := 98) rfl)⟩
theorem lw_p3 : lw_okq (⟨"TestPatterns", "search", "(III)I"⟩, 11) := ⟨⟨by decide +kernel, by decide +kernel⟩, lw_t1 (List.mem_of_getElem? (i := 4) rfl), lw_t1 (List.mem_of_getElem? (i := 109) rfl), lw_t1 (List.mem_of_getElem? (i := 110) rfl)⟩
theorem lw_p4 : lw_okq (⟨"TestPatterns", "imply", "(II)I"⟩, 11) := ⟨⟨by decide +kernel, by decide +kernel⟩, lw_t1 (List.mem_of_getElem? (i := 4) rfl), lw_t1 (List.mem_of_getElem? (i := 113) rfl), lw_t1 (List.mem_of_getElem? (i := 114) rfl)⟩
theorem lw_p5 : lw_okq (⟨"TestPatterns", "countShown", "(I)I"⟩, 11) := ⟨⟨by decide +kernel, by decide +kernel⟩, lw_t1 (List.mem_of_getElem? (i := 4) rfl), lw_t1 (List.mem_of_getElem? (i := 132) rfl), lw_t1 (List.mem_of_getElem? (i := 133) rfl)⟩
theorem lw_p6 : lw_okq (⟨"TestPatternsModel", "is", "(I)Z"⟩, 6) := ⟨⟨by decide +kernel, by decide +kernel⟩, lw_t1 (List.mem_of_getElem? (i := 148) rfl), lw_t1 (List.mem_of_getElem? (i := 177) rfl), lw_t1 (List.mem_of_getElem? (i := 178) rfl)⟩
theorem lw_p7 : lw_okq (⟨"TestPatternsModel", "vector", "(I)Z"⟩, 6) := ⟨⟨by decide +kernel, by decide +kernel⟩, lw_t1 (List.mem_of_getElem? (i := 148) rfl), lw_t1 (List.mem_of_getElem? (i := 201) rfl), lw_t1 (List.mem_of_getElem? (i := 202) rfl)⟩
theorem lw_p8 : lw_okq (⟨"TestPatternsModel", "work", "(III)I"⟩, 6) := ⟨⟨by decide +kernel, by decide +kernel⟩, lw_t1 (List.mem_of_getElem? (i := 148) rfl), lw_t1 (List.mem_of_getElem? (i := 205) rfl), lw_t1 (List.mem_of_getElem? (i := 206) rfl)⟩
def lw_privs_1 : List (MethodName × Nat) := [(⟨"TestPatterns", "isLine", "(I)Z"⟩, 11), (⟨"TestPatterns", "simulateSound", "()V"⟩, 11), (⟨"TestPatterns", "shownSet", "(II)I"⟩, 11), (⟨"TestPatterns", "search", "(III)I"⟩, 11), (⟨"TestPatterns", "imply", "(II)I"⟩, 11), (⟨"TestPatterns", "countShown", "(I)I"⟩, 11), (⟨"TestPatternsModel", "is", "(I)Z"⟩, 6), (⟨"TestPatternsModel", "vector", "(I)Z"⟩, 6), (⟨"TestPatternsModel", "work", "(III)I"⟩, 6)]
theorem lw_r1 : ∀ q ∈ lw_privs_1, lw_okq q := List.forall_mem_cons.mpr ⟨lw_p0, List.forall_mem_cons.mpr ⟨lw_p1, List.forall_mem_cons.mpr ⟨lw_p2, List.forall_mem_cons.mpr ⟨lw_p3, List.forall_mem_cons.mpr ⟨lw_p4, List.forall_mem_cons.mpr ⟨lw_p5, List.forall_mem_cons.mpr ⟨lw_p6, List.forall_mem_cons.mpr ⟨lw_p7, List.forall_mem_cons.mpr ⟨lw_p8, fun _ h => absurd h List.not_mem_nil⟩⟩⟩⟩⟩⟩⟩⟩⟩
def lw_privs : List (MethodName × Nat) := lw_privs_1
def lw_tbl : List Cond := k2_sels lw_privs ++ tables_1
theorem lw_privs_ok : ∀ q ∈ lw_privs, lw_okq q := lw_r1
-- ===== ONE list of words for every method: the tables' words that hold all through a run =====
def lw_all : List Cond := lw_tbl.filter goodWord
/-- a word of the tables by its place: claim/WORDS.tsv -/
theorem lw_w {w : Cond} (i : Nat) (h : lw_tbl[i]? = some w) (g : goodWord w = true) : w ∈ lw_all := List.mem_filter.mpr ⟨List.mem_of_getElem? h, g⟩
theorem lw_all_tbl {w : Cond} (h : w ∈ lw_all) : w ∈ lw_tbl := (List.mem_filter.mp h).1
theorem lw_self : GoodIn lw_all lw_all := fun w h => ⟨h, good_of_word (List.mem_filter.mp h).2⟩
/-- a class's field words, by their places -/
theorem lw_in (ws : List Cond) (ps : List Nat) (hp : ws = ps.filterMap (fun i => lw_tbl[i]?)) (hg : ws.all goodWord = true) : ∀ w ∈ ws, w ∈ lw_all := by
  intro w h
  have h1 := List.all_eq_true.mp hg w h
  rw [hp] at h
  obtain ⟨i, -, hi⟩ := List.mem_filterMap.mp h
  exact lw_w i hi h1
/-- the words of a contract for the method y with code b, L locals, answer r -/
abbrev ws_ (y : MethodName) (b : ByteArray) (L : Nat) (r : Option FieldType) : List Cond := Cond.code y b L r :: lw_all
theorem lw_meth {y : MethodName} {b : ByteArray} {L : Nat} {r : Option FieldType} (h : Cond.code y b L r ∈ lw_all) : GoodIn lw_all (ws_ y b L r) := by
  intro w hw
  rcases List.mem_cons.mp hw with e | e
  · rw [e]
    exact lw_self _ h
  · exact lw_self _ e
theorem lw_app {a c : List Cond} (ha : ∀ w ∈ a, w ∈ lw_all) (hc : GoodIn lw_all c) : GoodIn lw_all (a ++ c) := by
  intro w hw
  rcases List.mem_append.mp hw with e | e
  · exact lw_self w (ha w e)
  · exact hc w e
/-- what a call through an object asks: cwV n hts (lw_V ..) -/
theorem lw_V {own : String} {idx : Nat} {C : String} {y : MethodName} {b : ByteArray} {L : Nat} {r : Option FieldType} (h1 : Cond.methodLink own idx y ∈ lw_all) (h2 : Cond.instanceMethod y ∈ lw_all) (h3 : Cond.selects C y y ∈ lw_all) (h4 : Cond.initialized C ∈ lw_all) (h5 : Cond.code y b L r ∈ lw_all) : GoodIn lw_all (wsV own idx C y (ws_ y b L r)) := by
  refine lw_app ?_ (lw_meth h5)
  intro w hw
  simp only [List.mem_cons, List.not_mem_nil, or_false] at hw
  rcases hw with e | e | e | e
  · rw [e]; exact h1
  · rw [e]; exact h2
  · rw [e]; exact h3
  · rw [e]; exact h4
/-- what a static call asks: va_cwS n hts (lw_S ..) -/
theorem lw_S {own : String} {idx : Nat} {y : MethodName} {b : ByteArray} {L : Nat} {r : Option FieldType} (h1 : Cond.methodLink own idx y ∈ lw_all) (h2 : Cond.static y ∈ lw_all) (h3 : Cond.initialized y.cls ∈ lw_all) (h4 : Cond.code y b L r ∈ lw_all) : GoodIn lw_all (va_wsS own idx y (ws_ y b L r)) := by
  refine lw_app ?_ (lw_meth h4)
  intro w hw
  simp only [List.mem_cons, List.not_mem_nil, or_false] at hw
  rcases hw with e | e | e
  · rw [e]; exact h1
  · rw [e]; exact h2
  · rw [e]; exact h3
/-- the words of a contract for a method WITH HANDLERS (hh: its table) -/
abbrev wsW_ (y : MethodName) (b : ByteArray) (L : Nat) (r : Option FieldType) (hh : List (Nat × Nat × Nat × Nat)) : List Cond := Cond.codeWith y b L r hh :: lw_all
theorem lw_methW {y : MethodName} {b : ByteArray} {L : Nat} {r : Option FieldType} {hh : List (Nat × Nat × Nat × Nat)} (h : Cond.codeWith y b L r hh ∈ lw_all) : GoodIn lw_all (wsW_ y b L r hh) := by
  intro w hw
  rcases List.mem_cons.mp hw with e | e
  · rw [e]
    exact lw_self _ h
  · exact lw_self _ e
/-- any list of words by their places (lw_in), good -/
theorem lw_good {ws : List Cond} (h : ∀ w ∈ ws, w ∈ lw_all) : GoodIn lw_all ws := fun w hw => lw_self w (h w hw)
/-- what a call of a method with handlers asks: vx_cwVW n hts (lw_VW ..), vx_cwSW n hts (lw_SW ..) -/
theorem lw_VW {own : String} {idx : Nat} {C : String} {y : MethodName} {b : ByteArray} {L : Nat} {r : Option FieldType} {hh : List (Nat × Nat × Nat × Nat)} (h1 : Cond.methodLink own idx y ∈ lw_all) (h2 : Cond.instanceMethod y ∈ lw_all) (h3 : Cond.selects C y y ∈ lw_all) (h4 : Cond.initialized C ∈ lw_all) (h5 : Cond.codeWith y b L r hh ∈ lw_all) : GoodIn lw_all (wsV own idx C y (wsW_ y b L r hh)) := by
  refine lw_app ?_ (lw_methW h5)
  intro w hw
  simp only [List.mem_cons, List.not_mem_nil, or_false] at hw
  rcases hw with e | e | e | e
  · rw [e]; exact h1
  · rw [e]; exact h2
  · rw [e]; exact h3
  · rw [e]; exact h4
theorem lw_SW {own : String} {idx : Nat} {y : MethodName} {b : ByteArray} {L : Nat} {r : Option FieldType} {hh : List (Nat × Nat × Nat × Nat)} (h1 : Cond.methodLink own idx y ∈ lw_all) (h2 : Cond.static y ∈ lw_all) (h3 : Cond.initialized y.cls ∈ lw_all) (h4 : Cond.codeWith y b L r hh ∈ lw_all) : GoodIn lw_all (va_wsS own idx y (wsW_ y b L r hh)) := by
  refine lw_app ?_ (lw_methW h4)
  intro w hw
  simp only [List.mem_cons, List.not_mem_nil, or_false] at hw
  rcases hw with e | e | e
  · rw [e]; exact h1
  · rw [e]; exact h2
  · rw [e]; exact h3
/-- a word by its place in its run of the tables -/
theorem lw_at {r : List Cond} (hr : ∀ w ∈ r, w ∈ lw_tbl) {w : Cond} (i : Nat) (h : r[i]? = some w) : w ∈ lw_tbl := hr w (List.mem_of_getElem? h)
theorem lw_g {w : Cond} (h : w ∈ lw_tbl) (g : goodWord w = true) : w ∈ lw_all := List.mem_filter.mpr ⟨h, g⟩
theorem lw_ms : ∀ w ∈ k2_sels lw_privs, w ∈ lw_tbl := fun w h => show w ∈ k2_sels lw_privs ++ tables_1 from List.mem_append_left _ h
theorem lw_m1 : ∀ w ∈ tables_1_1, w ∈ lw_tbl := fun w h => show w ∈ k2_sels lw_privs ++ tables_1 from List.mem_append_right (k2_sels lw_privs) (show w ∈ tables_1 from List.mem_append_left _ h)
theorem lw_m2 : ∀ w ∈ tables_1_2, w ∈ lw_tbl := fun w h => show w ∈ k2_sels lw_privs ++ tables_1 from List.mem_append_right (k2_sels lw_privs) (show w ∈ tables_1 from List.mem_append_right _ h)
theorem qs0 : (Cond.selects "TestPatterns" ⟨"TestPatterns", "isLine", "(I)Z"⟩ ⟨"TestPatterns", "isLine", "(I)Z"⟩) ∈ lw_all := lw_g (lw_at lw_ms 0 rfl) rfl
theorem qs1 : (Cond.selects "TestPatterns" ⟨"TestPatterns", "simulateSound", "()V"⟩ ⟨"TestPatterns", "simulateSound", "()V"⟩) ∈ lw_all := lw_g (lw_at lw_ms 1 rfl) rfl
theorem qs2 : (Cond.selects "TestPatterns" ⟨"TestPatterns", "shownSet", "(II)I"⟩ ⟨"TestPatterns", "shownSet", "(II)I"⟩) ∈ lw_all := lw_g (lw_at lw_ms 2 rfl) rfl
theorem qs3 : (Cond.selects "TestPatterns" ⟨"TestPatterns", "search", "(III)I"⟩ ⟨"TestPatterns", "search", "(III)I"⟩) ∈ lw_all := lw_g (lw_at lw_ms 3 rfl) rfl
theorem qs4 : (Cond.selects "TestPatterns" ⟨"TestPatterns", "imply", "(II)I"⟩ ⟨"TestPatterns", "imply", "(II)I"⟩) ∈ lw_all := lw_g (lw_at lw_ms 4 rfl) rfl
theorem qs5 : (Cond.selects "TestPatterns" ⟨"TestPatterns", "countShown", "(I)I"⟩ ⟨"TestPatterns", "countShown", "(I)I"⟩) ∈ lw_all := lw_g (lw_at lw_ms 5 rfl) rfl
theorem qs6 : (Cond.selects "TestPatternsModel" ⟨"TestPatternsModel", "is", "(I)Z"⟩ ⟨"TestPatternsModel", "is", "(I)Z"⟩) ∈ lw_all := lw_g (lw_at lw_ms 6 rfl) rfl
theorem qs7 : (Cond.selects "TestPatternsModel" ⟨"TestPatternsModel", "vector", "(I)Z"⟩ ⟨"TestPatternsModel", "vector", "(I)Z"⟩) ∈ lw_all := lw_g (lw_at lw_ms 7 rfl) rfl
theorem qs8 : (Cond.selects "TestPatternsModel" ⟨"TestPatternsModel", "work", "(III)I"⟩ ⟨"TestPatternsModel", "work", "(III)I"⟩) ∈ lw_all := lw_g (lw_at lw_ms 8 rfl) rfl
end
section
set_option maxRecDepth 100000
/-! java/lang/Object -/
def RJ0 : String := "java/lang/Object"
abbrev cJ0_init : ByteArray := object_method_1_code
def yJ0_init : MethodName := ⟨RJ0, "<init>", "()V"⟩
theorem q18 : (Jvm.Cond.instanceMethod ({ cls := "java/lang/Object", name := "<init>", desc := "()V" } : Jvm.MethodName)) ∈ lw_all := lw_g (lw_at lw_m1 9 rfl) rfl
theorem q19 : (Jvm.Cond.code ({ cls := "java/lang/Object", name := "<init>", desc := "()V" } : Jvm.MethodName) object_method_1_code (1 : Nat) (Option.none : Option Jvm.ClassFile.FieldType)) ∈ lw_all := lw_g (lw_at lw_m1 10 rfl) rfl

/-! TestPatterns -/
def RX0 : String := "TestPatterns"
def TX0 : u_T := fun k => match k with
  | 0 => ("TestPatterns", "count", "I", false)
  | 1 => ("TestPatterns", "kinds", "[B", true)
  | 2 => ("TestPatterns", "firstOf", "[B", true)
  | 3 => ("TestPatterns", "secondOf", "[B", true)
  | 4 => ("TestPatterns", "watchedSet", "I", false)
  | 5 => ("TestPatterns", "sound", "[I", true)
  | 6 => ("TestPatterns", "faulty", "[I", true)
  | 7 => ("TestPatterns", "decided", "[B", true)
  | 8 => ("TestPatterns", "good", "[B", true)
  | 9 => ("TestPatterns", "bad", "[B", true)
  | _ => ("TestPatterns", "mayDiffer", "[Z", true)
def tyX0 : Nat → FieldType := fun k => match k with
  | 0 => .int
  | 1 => .array .byte
  | 2 => .array .byte
  | 3 => .array .byte
  | 4 => .int
  | 5 => .array .int
  | 6 => .array .int
  | 7 => .array .byte
  | 8 => .array .byte
  | 9 => .array .byte
  | _ => .array .boolean
abbrev wsX00 : List Cond := u_ws RX0 TX0 11
theorem nmX0 : ∀ a, a < 11 → ∀ b, b < 11 → a ≠ b → (TX0 a).2.1 ≠ (TX0 b).2.1 := by decide +kernel
theorem tyX0_ok : ∀ k, k < 11 → parseFieldDescriptor (TX0 k).2.2.1 = some (tyX0 k) := by decide +kernel
abbrev cX0_init : ByteArray := prog_1_method_1_code
def yX0_init : MethodName := ⟨RX0, "<init>", "()V"⟩
abbrev cX0_gate : ByteArray := prog_1_method_5_code
def yX0_gate : MethodName := ⟨RX0, "gate", "(III)I"⟩
abbrev cX0_isLine : ByteArray := prog_1_method_2_code
def yX0_isLine : MethodName := ⟨RX0, "isLine", "(I)Z"⟩
abbrev cX0_drop : ByteArray := prog_1_method_6_code
def yX0_drop : MethodName := ⟨RX0, "drop", "()I"⟩
abbrev cX0_watch : ByteArray := prog_1_method_7_code
def yX0_watch : MethodName := ⟨RX0, "watch", "(IZ)Z"⟩
abbrev cX0_lines : ByteArray := prog_1_method_8_code
def yX0_lines : MethodName := ⟨RX0, "lines", "()I"⟩
abbrev cX0_watched : ByteArray := prog_1_method_9_code
def yX0_watched : MethodName := ⟨RX0, "watched", "()I"⟩
abbrev cX0_value : ByteArray := prog_1_method_18_code
def yX0_value : MethodName := ⟨RX0, "value", "(II)I"⟩
abbrev cX0_isVector : ByteArray := prog_1_method_3_code
def yX0_isVector : MethodName := ⟨RX0, "isVector", "(I)Z"⟩
abbrev cX0_simulateSound : ByteArray := prog_1_method_12_code
def yX0_simulateSound : MethodName := ⟨RX0, "simulateSound", "()V"⟩
abbrev cX0_pattern : ByteArray := prog_1_method_10_code
def yX0_pattern : MethodName := ⟨RX0, "pattern", "(I)I"⟩
abbrev cX0_apply : ByteArray := prog_1_method_11_code
def yX0_apply : MethodName := ⟨RX0, "apply", "(III)I"⟩
abbrev cX0_shows : ByteArray := prog_1_method_19_code
def yX0_shows : MethodName := ⟨RX0, "shows", "(III)Z"⟩
abbrev cX0_isBit : ByteArray := prog_1_method_4_code
def yX0_isBit : MethodName := ⟨RX0, "isBit", "(I)Z"⟩
abbrev cX0_shownSet : ByteArray := prog_1_method_13_code
def yX0_shownSet : MethodName := ⟨RX0, "shownSet", "(II)I"⟩
abbrev cX0_test : ByteArray := prog_1_method_20_code
def yX0_test : MethodName := ⟨RX0, "test", "(II)I"⟩
abbrev cX0_testFrom : ByteArray := prog_1_method_21_code
def yX0_testFrom : MethodName := ⟨RX0, "testFrom", "(III)I"⟩
abbrev cX0_search : ByteArray := prog_1_method_17_code
def yX0_search : MethodName := ⟨RX0, "search", "(III)I"⟩
abbrev cX0_imply : ByteArray := prog_1_method_16_code
def yX0_imply : MethodName := ⟨RX0, "imply", "(II)I"⟩
abbrev cX0_openApply : ByteArray := prog_1_method_14_code
def yX0_openApply : MethodName := ⟨RX0, "openApply", "(III)I"⟩
abbrev cX0_turned : ByteArray := prog_1_method_15_code
def yX0_turned : MethodName := ⟨RX0, "turned", "(I)I"⟩
abbrev cX0_hidden : ByteArray := prog_1_method_22_code
def yX0_hidden : MethodName := ⟨RX0, "hidden", "(I)I"⟩
abbrev cX0_shownBy : ByteArray := prog_1_method_24_code
def yX0_shownBy : MethodName := ⟨RX0, "shownBy", "(I)I"⟩
abbrev cX0_countShown : ByteArray := prog_1_method_23_code
def yX0_countShown : MethodName := ⟨RX0, "countShown", "(I)I"⟩
abbrev cX0_bestVector : ByteArray := prog_1_method_25_code
def yX0_bestVector : MethodName := ⟨RX0, "bestVector", "()I"⟩
abbrev cX0_alike : ByteArray := prog_1_method_26_code
def yX0_alike : MethodName := ⟨RX0, "alike", "(IIII)Z"⟩
abbrev cX0_ones : ByteArray := prog_1_method_27_code
def yX0_ones : MethodName := ⟨RX0, "ones", "(I)I"⟩
theorem q10 : (Jvm.Cond.initialized "TestPatterns") ∈ lw_all := lw_g (lw_at lw_m1 1 rfl) rfl
theorem q13 : (Jvm.Cond.instantiable "TestPatterns" (11 : Nat)) ∈ lw_all := lw_g (lw_at lw_m1 4 rfl) rfl
theorem q15 : (Jvm.Cond.instanceMethod ({ cls := "TestPatterns", name := "<init>", desc := "()V" } : Jvm.MethodName)) ∈ lw_all := lw_g (lw_at lw_m1 6 rfl) rfl
theorem q16 : (Jvm.Cond.code ({ cls := "TestPatterns", name := "<init>", desc := "()V" } : Jvm.MethodName) prog_1_method_1_code (1 : Nat) (Option.none : Option Jvm.ClassFile.FieldType)) ∈ lw_all := lw_g (lw_at lw_m1 7 rfl) rfl
theorem q17 : (Jvm.Cond.methodLink "TestPatterns" (1 : Nat) ({ cls := "java/lang/Object", name := "<init>", desc := "()V" } : Jvm.MethodName)) ∈ lw_all := lw_g (lw_at lw_m1 8 rfl) rfl
theorem q20 : (Jvm.Cond.fieldLink "TestPatterns" (9 : Nat) "TestPatterns" "count" "I") ∈ lw_all := lw_g (lw_at lw_m1 11 rfl) rfl
theorem q21 : (Jvm.Cond.fieldLink "TestPatterns" (13 : Nat) "TestPatterns" "kinds" "[B") ∈ lw_all := lw_g (lw_at lw_m1 12 rfl) rfl
theorem q22 : (Jvm.Cond.fieldLink "TestPatterns" (17 : Nat) "TestPatterns" "firstOf" "[B") ∈ lw_all := lw_g (lw_at lw_m1 13 rfl) rfl
theorem q23 : (Jvm.Cond.fieldLink "TestPatterns" (20 : Nat) "TestPatterns" "secondOf" "[B") ∈ lw_all := lw_g (lw_at lw_m1 14 rfl) rfl
theorem q24 : (Jvm.Cond.fieldLink "TestPatterns" (47 : Nat) "TestPatterns" "watchedSet" "I") ∈ lw_all := lw_g (lw_at lw_m1 15 rfl) rfl
theorem q25 : (Jvm.Cond.fieldLink "TestPatterns" (23 : Nat) "TestPatterns" "sound" "[I") ∈ lw_all := lw_g (lw_at lw_m1 16 rfl) rfl
theorem q26 : (Jvm.Cond.fieldLink "TestPatterns" (27 : Nat) "TestPatterns" "faulty" "[I") ∈ lw_all := lw_g (lw_at lw_m1 17 rfl) rfl
theorem q27 : (Jvm.Cond.fieldLink "TestPatterns" (30 : Nat) "TestPatterns" "decided" "[B") ∈ lw_all := lw_g (lw_at lw_m1 18 rfl) rfl
theorem q28 : (Jvm.Cond.fieldLink "TestPatterns" (33 : Nat) "TestPatterns" "good" "[B") ∈ lw_all := lw_g (lw_at lw_m1 19 rfl) rfl
theorem q29 : (Jvm.Cond.fieldLink "TestPatterns" (36 : Nat) "TestPatterns" "bad" "[B") ∈ lw_all := lw_g (lw_at lw_m1 20 rfl) rfl
theorem q30 : (Jvm.Cond.fieldLink "TestPatterns" (39 : Nat) "TestPatterns" "mayDiffer" "[Z") ∈ lw_all := lw_g (lw_at lw_m1 21 rfl) rfl
theorem q31 : (Jvm.Cond.lays "TestPatterns" "TestPatterns" "count" "I") ∈ lw_all := lw_g (lw_at lw_m1 22 rfl) rfl
theorem q32 : (Jvm.Cond.soleField "TestPatterns" "count") ∈ lw_all := lw_g (lw_at lw_m1 23 rfl) rfl
theorem q33 : (Jvm.Cond.laysFinal "TestPatterns" "TestPatterns" "kinds" "[B") ∈ lw_all := lw_g (lw_at lw_m1 24 rfl) rfl
theorem q34 : (Jvm.Cond.soleField "TestPatterns" "kinds") ∈ lw_all := lw_g (lw_at lw_m1 25 rfl) rfl
theorem q35 : (Jvm.Cond.laysFinal "TestPatterns" "TestPatterns" "firstOf" "[B") ∈ lw_all := lw_g (lw_at lw_m1 26 rfl) rfl
theorem q36 : (Jvm.Cond.soleField "TestPatterns" "firstOf") ∈ lw_all := lw_g (lw_at lw_m1 27 rfl) rfl
theorem q37 : (Jvm.Cond.laysFinal "TestPatterns" "TestPatterns" "secondOf" "[B") ∈ lw_all := lw_g (lw_at lw_m1 28 rfl) rfl
theorem q38 : (Jvm.Cond.soleField "TestPatterns" "secondOf") ∈ lw_all := lw_g (lw_at lw_m1 29 rfl) rfl
theorem q39 : (Jvm.Cond.lays "TestPatterns" "TestPatterns" "watchedSet" "I") ∈ lw_all := lw_g (lw_at lw_m1 30 rfl) rfl
theorem q40 : (Jvm.Cond.soleField "TestPatterns" "watchedSet") ∈ lw_all := lw_g (lw_at lw_m1 31 rfl) rfl
theorem q41 : (Jvm.Cond.laysFinal "TestPatterns" "TestPatterns" "sound" "[I") ∈ lw_all := lw_g (lw_at lw_m1 32 rfl) rfl
theorem q42 : (Jvm.Cond.soleField "TestPatterns" "sound") ∈ lw_all := lw_g (lw_at lw_m1 33 rfl) rfl
theorem q43 : (Jvm.Cond.laysFinal "TestPatterns" "TestPatterns" "faulty" "[I") ∈ lw_all := lw_g (lw_at lw_m1 34 rfl) rfl
theorem q44 : (Jvm.Cond.soleField "TestPatterns" "faulty") ∈ lw_all := lw_g (lw_at lw_m1 35 rfl) rfl
theorem q45 : (Jvm.Cond.laysFinal "TestPatterns" "TestPatterns" "decided" "[B") ∈ lw_all := lw_g (lw_at lw_m1 36 rfl) rfl
theorem q46 : (Jvm.Cond.soleField "TestPatterns" "decided") ∈ lw_all := lw_g (lw_at lw_m1 37 rfl) rfl
theorem q47 : (Jvm.Cond.laysFinal "TestPatterns" "TestPatterns" "good" "[B") ∈ lw_all := lw_g (lw_at lw_m1 38 rfl) rfl
theorem q48 : (Jvm.Cond.soleField "TestPatterns" "good") ∈ lw_all := lw_g (lw_at lw_m1 39 rfl) rfl
theorem q49 : (Jvm.Cond.laysFinal "TestPatterns" "TestPatterns" "bad" "[B") ∈ lw_all := lw_g (lw_at lw_m1 40 rfl) rfl
theorem q50 : (Jvm.Cond.soleField "TestPatterns" "bad") ∈ lw_all := lw_g (lw_at lw_m1 41 rfl) rfl
theorem q51 : (Jvm.Cond.laysFinal "TestPatterns" "TestPatterns" "mayDiffer" "[Z") ∈ lw_all := lw_g (lw_at lw_m1 42 rfl) rfl
theorem q52 : (Jvm.Cond.soleField "TestPatterns" "mayDiffer") ∈ lw_all := lw_g (lw_at lw_m1 43 rfl) rfl
theorem q53 : (Jvm.Cond.superclass "TestPatterns" "java/lang/Object") ∈ lw_all := lw_g (lw_at lw_m1 44 rfl) rfl
theorem q58 : (Jvm.Cond.instanceMethod ({ cls := "TestPatterns", name := "gate", desc := "(III)I" } : Jvm.MethodName)) ∈ lw_all := lw_g (lw_at lw_m1 49 rfl) rfl
theorem q59 : (Jvm.Cond.selects "TestPatterns" ({ cls := "TestPatterns", name := "gate", desc := "(III)I" } : Jvm.MethodName) ({ cls := "TestPatterns", name := "gate", desc := "(III)I" } : Jvm.MethodName)) ∈ lw_all := lw_g (lw_at lw_m1 50 rfl) rfl
theorem q60 : (Jvm.Cond.code ({ cls := "TestPatterns", name := "gate", desc := "(III)I" } : Jvm.MethodName) prog_1_method_5_code (4 : Nat) (Option.some Jvm.ClassFile.FieldType.int)) ∈ lw_all := lw_g (lw_at lw_m1 51 rfl) rfl
theorem q61 : (Jvm.Cond.methodLink "TestPatterns" (43 : Nat) ({ cls := "TestPatterns", name := "isLine", desc := "(I)Z" } : Jvm.MethodName)) ∈ lw_all := lw_g (lw_at lw_m1 52 rfl) rfl
theorem q62 : (Jvm.Cond.privateMethod ({ cls := "TestPatterns", name := "isLine", desc := "(I)Z" } : Jvm.MethodName)) ∈ lw_tbl := lw_at lw_m1 53 rfl
theorem q63 : (Jvm.Cond.instanceMethod ({ cls := "TestPatterns", name := "isLine", desc := "(I)Z" } : Jvm.MethodName)) ∈ lw_all := lw_g (lw_at lw_m1 54 rfl) rfl
theorem q64 : (Jvm.Cond.code ({ cls := "TestPatterns", name := "isLine", desc := "(I)Z" } : Jvm.MethodName) prog_1_method_2_code (2 : Nat) (Option.some Jvm.ClassFile.FieldType.boolean)) ∈ lw_all := lw_g (lw_at lw_m1 55 rfl) rfl
theorem q66 : (Jvm.Cond.instanceMethod ({ cls := "TestPatterns", name := "drop", desc := "()I" } : Jvm.MethodName)) ∈ lw_all := lw_g (lw_at lw_m1 57 rfl) rfl
theorem q67 : (Jvm.Cond.selects "TestPatterns" ({ cls := "TestPatterns", name := "drop", desc := "()I" } : Jvm.MethodName) ({ cls := "TestPatterns", name := "drop", desc := "()I" } : Jvm.MethodName)) ∈ lw_all := lw_g (lw_at lw_m1 58 rfl) rfl
theorem q68 : (Jvm.Cond.code ({ cls := "TestPatterns", name := "drop", desc := "()I" } : Jvm.MethodName) prog_1_method_6_code (1 : Nat) (Option.some Jvm.ClassFile.FieldType.int)) ∈ lw_all := lw_g (lw_at lw_m1 59 rfl) rfl
theorem q70 : (Jvm.Cond.instanceMethod ({ cls := "TestPatterns", name := "watch", desc := "(IZ)Z" } : Jvm.MethodName)) ∈ lw_all := lw_g (lw_at lw_m1 61 rfl) rfl
theorem q71 : (Jvm.Cond.selects "TestPatterns" ({ cls := "TestPatterns", name := "watch", desc := "(IZ)Z" } : Jvm.MethodName) ({ cls := "TestPatterns", name := "watch", desc := "(IZ)Z" } : Jvm.MethodName)) ∈ lw_all := lw_g (lw_at lw_m1 62 rfl) rfl
theorem q72 : (Jvm.Cond.code ({ cls := "TestPatterns", name := "watch", desc := "(IZ)Z" } : Jvm.MethodName) prog_1_method_7_code (3 : Nat) (Option.some Jvm.ClassFile.FieldType.boolean)) ∈ lw_all := lw_g (lw_at lw_m1 63 rfl) rfl
theorem q74 : (Jvm.Cond.instanceMethod ({ cls := "TestPatterns", name := "lines", desc := "()I" } : Jvm.MethodName)) ∈ lw_all := lw_g (lw_at lw_m1 65 rfl) rfl
theorem q75 : (Jvm.Cond.selects "TestPatterns" ({ cls := "TestPatterns", name := "lines", desc := "()I" } : Jvm.MethodName) ({ cls := "TestPatterns", name := "lines", desc := "()I" } : Jvm.MethodName)) ∈ lw_all := lw_g (lw_at lw_m1 66 rfl) rfl
theorem q76 : (Jvm.Cond.code ({ cls := "TestPatterns", name := "lines", desc := "()I" } : Jvm.MethodName) prog_1_method_8_code (1 : Nat) (Option.some Jvm.ClassFile.FieldType.int)) ∈ lw_all := lw_g (lw_at lw_m1 67 rfl) rfl
theorem q78 : (Jvm.Cond.instanceMethod ({ cls := "TestPatterns", name := "watched", desc := "()I" } : Jvm.MethodName)) ∈ lw_all := lw_g (lw_at lw_m1 69 rfl) rfl
theorem q79 : (Jvm.Cond.selects "TestPatterns" ({ cls := "TestPatterns", name := "watched", desc := "()I" } : Jvm.MethodName) ({ cls := "TestPatterns", name := "watched", desc := "()I" } : Jvm.MethodName)) ∈ lw_all := lw_g (lw_at lw_m1 70 rfl) rfl
theorem q80 : (Jvm.Cond.code ({ cls := "TestPatterns", name := "watched", desc := "()I" } : Jvm.MethodName) prog_1_method_9_code (1 : Nat) (Option.some Jvm.ClassFile.FieldType.int)) ∈ lw_all := lw_g (lw_at lw_m1 71 rfl) rfl
theorem q82 : (Jvm.Cond.instanceMethod ({ cls := "TestPatterns", name := "value", desc := "(II)I" } : Jvm.MethodName)) ∈ lw_all := lw_g (lw_at lw_m1 73 rfl) rfl
theorem q83 : (Jvm.Cond.selects "TestPatterns" ({ cls := "TestPatterns", name := "value", desc := "(II)I" } : Jvm.MethodName) ({ cls := "TestPatterns", name := "value", desc := "(II)I" } : Jvm.MethodName)) ∈ lw_all := lw_g (lw_at lw_m1 74 rfl) rfl
theorem q84 : (Jvm.Cond.code ({ cls := "TestPatterns", name := "value", desc := "(II)I" } : Jvm.MethodName) prog_1_method_18_code (3 : Nat) (Option.some Jvm.ClassFile.FieldType.int)) ∈ lw_all := lw_g (lw_at lw_m1 75 rfl) rfl
theorem q85 : (Jvm.Cond.methodLink "TestPatterns" (71 : Nat) ({ cls := "TestPatterns", name := "isVector", desc := "(I)Z" } : Jvm.MethodName)) ∈ lw_all := lw_g (lw_at lw_m1 76 rfl) rfl
theorem q86 : (Jvm.Cond.static ({ cls := "TestPatterns", name := "isVector", desc := "(I)Z" } : Jvm.MethodName)) ∈ lw_all := lw_g (lw_at lw_m1 77 rfl) rfl
theorem q87 : (Jvm.Cond.code ({ cls := "TestPatterns", name := "isVector", desc := "(I)Z" } : Jvm.MethodName) prog_1_method_3_code (1 : Nat) (Option.some Jvm.ClassFile.FieldType.boolean)) ∈ lw_all := lw_g (lw_at lw_m1 78 rfl) rfl
theorem q88 : (Jvm.Cond.methodLink "TestPatterns" (58 : Nat) ({ cls := "TestPatterns", name := "simulateSound", desc := "()V" } : Jvm.MethodName)) ∈ lw_all := lw_g (lw_at lw_m1 79 rfl) rfl
theorem q89 : (Jvm.Cond.privateMethod ({ cls := "TestPatterns", name := "simulateSound", desc := "()V" } : Jvm.MethodName)) ∈ lw_tbl := lw_at lw_m1 80 rfl
theorem q90 : (Jvm.Cond.instanceMethod ({ cls := "TestPatterns", name := "simulateSound", desc := "()V" } : Jvm.MethodName)) ∈ lw_all := lw_g (lw_at lw_m1 81 rfl) rfl
theorem q91 : (Jvm.Cond.code ({ cls := "TestPatterns", name := "simulateSound", desc := "()V" } : Jvm.MethodName) prog_1_method_12_code (2 : Nat) (Option.none : Option Jvm.ClassFile.FieldType)) ∈ lw_all := lw_g (lw_at lw_m1 82 rfl) rfl
theorem q92 : (Jvm.Cond.methodLink "TestPatterns" (50 : Nat) ({ cls := "TestPatterns", name := "pattern", desc := "(I)I" } : Jvm.MethodName)) ∈ lw_all := lw_g (lw_at lw_m1 83 rfl) rfl
theorem q93 : (Jvm.Cond.static ({ cls := "TestPatterns", name := "pattern", desc := "(I)I" } : Jvm.MethodName)) ∈ lw_all := lw_g (lw_at lw_m1 84 rfl) rfl
theorem q94 : (Jvm.Cond.code ({ cls := "TestPatterns", name := "pattern", desc := "(I)I" } : Jvm.MethodName) prog_1_method_10_code (3 : Nat) (Option.some Jvm.ClassFile.FieldType.int)) ∈ lw_all := lw_g (lw_at lw_m1 85 rfl) rfl
theorem q95 : (Jvm.Cond.methodLink "TestPatterns" (54 : Nat) ({ cls := "TestPatterns", name := "apply", desc := "(III)I" } : Jvm.MethodName)) ∈ lw_all := lw_g (lw_at lw_m1 86 rfl) rfl
theorem q96 : (Jvm.Cond.static ({ cls := "TestPatterns", name := "apply", desc := "(III)I" } : Jvm.MethodName)) ∈ lw_all := lw_g (lw_at lw_m1 87 rfl) rfl
theorem q97 : (Jvm.Cond.code ({ cls := "TestPatterns", name := "apply", desc := "(III)I" } : Jvm.MethodName) prog_1_method_11_code (3 : Nat) (Option.some Jvm.ClassFile.FieldType.int)) ∈ lw_all := lw_g (lw_at lw_m1 88 rfl) rfl
theorem q99 : (Jvm.Cond.instanceMethod ({ cls := "TestPatterns", name := "shows", desc := "(III)Z" } : Jvm.MethodName)) ∈ lw_all := lw_g (lw_at lw_m1 90 rfl) rfl
theorem q100 : (Jvm.Cond.selects "TestPatterns" ({ cls := "TestPatterns", name := "shows", desc := "(III)Z" } : Jvm.MethodName) ({ cls := "TestPatterns", name := "shows", desc := "(III)Z" } : Jvm.MethodName)) ∈ lw_all := lw_g (lw_at lw_m1 91 rfl) rfl
theorem q101 : (Jvm.Cond.code ({ cls := "TestPatterns", name := "shows", desc := "(III)Z" } : Jvm.MethodName) prog_1_method_19_code (5 : Nat) (Option.some Jvm.ClassFile.FieldType.boolean)) ∈ lw_all := lw_g (lw_at lw_m1 92 rfl) rfl
theorem q102 : (Jvm.Cond.methodLink "TestPatterns" (74 : Nat) ({ cls := "TestPatterns", name := "isBit", desc := "(I)Z" } : Jvm.MethodName)) ∈ lw_all := lw_g (lw_at lw_m1 93 rfl) rfl
theorem q103 : (Jvm.Cond.static ({ cls := "TestPatterns", name := "isBit", desc := "(I)Z" } : Jvm.MethodName)) ∈ lw_all := lw_g (lw_at lw_m1 94 rfl) rfl
theorem q104 : (Jvm.Cond.code ({ cls := "TestPatterns", name := "isBit", desc := "(I)Z" } : Jvm.MethodName) prog_1_method_4_code (1 : Nat) (Option.some Jvm.ClassFile.FieldType.boolean)) ∈ lw_all := lw_g (lw_at lw_m1 95 rfl) rfl
theorem q105 : (Jvm.Cond.methodLink "TestPatterns" (77 : Nat) ({ cls := "TestPatterns", name := "shownSet", desc := "(II)I" } : Jvm.MethodName)) ∈ lw_all := lw_g (lw_at lw_m1 96 rfl) rfl
theorem q106 : (Jvm.Cond.privateMethod ({ cls := "TestPatterns", name := "shownSet", desc := "(II)I" } : Jvm.MethodName)) ∈ lw_tbl := lw_at lw_m1 97 rfl
theorem q107 : (Jvm.Cond.instanceMethod ({ cls := "TestPatterns", name := "shownSet", desc := "(II)I" } : Jvm.MethodName)) ∈ lw_all := lw_g (lw_at lw_m1 98 rfl) rfl
theorem q108 : (Jvm.Cond.code ({ cls := "TestPatterns", name := "shownSet", desc := "(II)I" } : Jvm.MethodName) prog_1_method_13_code (5 : Nat) (Option.some Jvm.ClassFile.FieldType.int)) ∈ lw_all := lw_g (lw_at lw_m1 99 rfl) rfl
theorem q110 : (Jvm.Cond.instanceMethod ({ cls := "TestPatterns", name := "test", desc := "(II)I" } : Jvm.MethodName)) ∈ lw_all := lw_g (lw_at lw_m1 101 rfl) rfl
theorem q111 : (Jvm.Cond.selects "TestPatterns" ({ cls := "TestPatterns", name := "test", desc := "(II)I" } : Jvm.MethodName) ({ cls := "TestPatterns", name := "test", desc := "(II)I" } : Jvm.MethodName)) ∈ lw_all := lw_g (lw_at lw_m1 102 rfl) rfl
theorem q112 : (Jvm.Cond.code ({ cls := "TestPatterns", name := "test", desc := "(II)I" } : Jvm.MethodName) prog_1_method_20_code (3 : Nat) (Option.some Jvm.ClassFile.FieldType.int)) ∈ lw_all := lw_g (lw_at lw_m1 103 rfl) rfl
theorem q113 : (Jvm.Cond.methodLink "TestPatterns" (80 : Nat) ({ cls := "TestPatterns", name := "testFrom", desc := "(III)I" } : Jvm.MethodName)) ∈ lw_all := lw_g (lw_at lw_m1 104 rfl) rfl
theorem q114 : (Jvm.Cond.instanceMethod ({ cls := "TestPatterns", name := "testFrom", desc := "(III)I" } : Jvm.MethodName)) ∈ lw_all := lw_g (lw_at lw_m1 105 rfl) rfl
theorem q115 : (Jvm.Cond.selects "TestPatterns" ({ cls := "TestPatterns", name := "testFrom", desc := "(III)I" } : Jvm.MethodName) ({ cls := "TestPatterns", name := "testFrom", desc := "(III)I" } : Jvm.MethodName)) ∈ lw_all := lw_g (lw_at lw_m1 106 rfl) rfl
theorem q116 : (Jvm.Cond.code ({ cls := "TestPatterns", name := "testFrom", desc := "(III)I" } : Jvm.MethodName) prog_1_method_21_code (5 : Nat) (Option.some Jvm.ClassFile.FieldType.int)) ∈ lw_all := lw_g (lw_at lw_m1 107 rfl) rfl
theorem q117 : (Jvm.Cond.methodLink "TestPatterns" (83 : Nat) ({ cls := "TestPatterns", name := "search", desc := "(III)I" } : Jvm.MethodName)) ∈ lw_all := lw_g (lw_at lw_m1 108 rfl) rfl
theorem q118 : (Jvm.Cond.privateMethod ({ cls := "TestPatterns", name := "search", desc := "(III)I" } : Jvm.MethodName)) ∈ lw_tbl := lw_at lw_m1 109 rfl
theorem q119 : (Jvm.Cond.instanceMethod ({ cls := "TestPatterns", name := "search", desc := "(III)I" } : Jvm.MethodName)) ∈ lw_all := lw_g (lw_at lw_m1 110 rfl) rfl
theorem q120 : (Jvm.Cond.code ({ cls := "TestPatterns", name := "search", desc := "(III)I" } : Jvm.MethodName) prog_1_method_17_code (10 : Nat) (Option.some Jvm.ClassFile.FieldType.int)) ∈ lw_all := lw_g (lw_at lw_m1 111 rfl) rfl
theorem q121 : (Jvm.Cond.methodLink "TestPatterns" (67 : Nat) ({ cls := "TestPatterns", name := "imply", desc := "(II)I" } : Jvm.MethodName)) ∈ lw_all := lw_g (lw_at lw_m1 112 rfl) rfl
theorem q122 : (Jvm.Cond.privateMethod ({ cls := "TestPatterns", name := "imply", desc := "(II)I" } : Jvm.MethodName)) ∈ lw_tbl := lw_at lw_m1 113 rfl
theorem q123 : (Jvm.Cond.instanceMethod ({ cls := "TestPatterns", name := "imply", desc := "(II)I" } : Jvm.MethodName)) ∈ lw_all := lw_g (lw_at lw_m1 114 rfl) rfl
theorem q124 : (Jvm.Cond.code ({ cls := "TestPatterns", name := "imply", desc := "(II)I" } : Jvm.MethodName) prog_1_method_16_code (7 : Nat) (Option.some Jvm.ClassFile.FieldType.int)) ∈ lw_all := lw_g (lw_at lw_m1 115 rfl) rfl
theorem q125 : (Jvm.Cond.methodLink "TestPatterns" (64 : Nat) ({ cls := "TestPatterns", name := "openApply", desc := "(III)I" } : Jvm.MethodName)) ∈ lw_all := lw_g (lw_at lw_m1 116 rfl) rfl
theorem q126 : (Jvm.Cond.static ({ cls := "TestPatterns", name := "openApply", desc := "(III)I" } : Jvm.MethodName)) ∈ lw_all := lw_g (lw_at lw_m1 117 rfl) rfl
theorem q127 : (Jvm.Cond.code ({ cls := "TestPatterns", name := "openApply", desc := "(III)I" } : Jvm.MethodName) prog_1_method_14_code (7 : Nat) (Option.some Jvm.ClassFile.FieldType.int)) ∈ lw_all := lw_g (lw_at lw_m1 118 rfl) rfl
theorem q128 : (Jvm.Cond.methodLink "TestPatterns" (61 : Nat) ({ cls := "TestPatterns", name := "turned", desc := "(I)I" } : Jvm.MethodName)) ∈ lw_all := lw_g (lw_at lw_m1 119 rfl) rfl
theorem q129 : (Jvm.Cond.static ({ cls := "TestPatterns", name := "turned", desc := "(I)I" } : Jvm.MethodName)) ∈ lw_all := lw_g (lw_at lw_m1 120 rfl) rfl
theorem q130 : (Jvm.Cond.code ({ cls := "TestPatterns", name := "turned", desc := "(I)I" } : Jvm.MethodName) prog_1_method_15_code (1 : Nat) (Option.some Jvm.ClassFile.FieldType.int)) ∈ lw_all := lw_g (lw_at lw_m1 121 rfl) rfl
theorem q133 : (Jvm.Cond.instanceMethod ({ cls := "TestPatterns", name := "hidden", desc := "(I)I" } : Jvm.MethodName)) ∈ lw_all := lw_g (lw_at lw_m1 124 rfl) rfl
theorem q134 : (Jvm.Cond.selects "TestPatterns" ({ cls := "TestPatterns", name := "hidden", desc := "(I)I" } : Jvm.MethodName) ({ cls := "TestPatterns", name := "hidden", desc := "(I)I" } : Jvm.MethodName)) ∈ lw_all := lw_g (lw_at lw_m1 125 rfl) rfl
theorem q135 : (Jvm.Cond.code ({ cls := "TestPatterns", name := "hidden", desc := "(I)I" } : Jvm.MethodName) prog_1_method_22_code (5 : Nat) (Option.some Jvm.ClassFile.FieldType.int)) ∈ lw_all := lw_g (lw_at lw_m1 126 rfl) rfl
theorem q137 : (Jvm.Cond.instanceMethod ({ cls := "TestPatterns", name := "shownBy", desc := "(I)I" } : Jvm.MethodName)) ∈ lw_all := lw_g (lw_at lw_m1 128 rfl) rfl
theorem q138 : (Jvm.Cond.selects "TestPatterns" ({ cls := "TestPatterns", name := "shownBy", desc := "(I)I" } : Jvm.MethodName) ({ cls := "TestPatterns", name := "shownBy", desc := "(I)I" } : Jvm.MethodName)) ∈ lw_all := lw_g (lw_at lw_m1 129 rfl) rfl
theorem q139 : (Jvm.Cond.code ({ cls := "TestPatterns", name := "shownBy", desc := "(I)I" } : Jvm.MethodName) prog_1_method_24_code (2 : Nat) (Option.some Jvm.ClassFile.FieldType.int)) ∈ lw_all := lw_g (lw_at lw_m1 130 rfl) rfl
theorem q140 : (Jvm.Cond.methodLink "TestPatterns" (86 : Nat) ({ cls := "TestPatterns", name := "countShown", desc := "(I)I" } : Jvm.MethodName)) ∈ lw_all := lw_g (lw_at lw_m1 131 rfl) rfl
theorem q141 : (Jvm.Cond.privateMethod ({ cls := "TestPatterns", name := "countShown", desc := "(I)I" } : Jvm.MethodName)) ∈ lw_tbl := lw_at lw_m1 132 rfl
theorem q142 : (Jvm.Cond.instanceMethod ({ cls := "TestPatterns", name := "countShown", desc := "(I)I" } : Jvm.MethodName)) ∈ lw_all := lw_g (lw_at lw_m1 133 rfl) rfl
theorem q143 : (Jvm.Cond.code ({ cls := "TestPatterns", name := "countShown", desc := "(I)I" } : Jvm.MethodName) prog_1_method_23_code (4 : Nat) (Option.some Jvm.ClassFile.FieldType.int)) ∈ lw_all := lw_g (lw_at lw_m1 134 rfl) rfl
theorem q145 : (Jvm.Cond.instanceMethod ({ cls := "TestPatterns", name := "bestVector", desc := "()I" } : Jvm.MethodName)) ∈ lw_all := lw_g (lw_at lw_m1 136 rfl) rfl
theorem q146 : (Jvm.Cond.selects "TestPatterns" ({ cls := "TestPatterns", name := "bestVector", desc := "()I" } : Jvm.MethodName) ({ cls := "TestPatterns", name := "bestVector", desc := "()I" } : Jvm.MethodName)) ∈ lw_all := lw_g (lw_at lw_m1 137 rfl) rfl
theorem q147 : (Jvm.Cond.code ({ cls := "TestPatterns", name := "bestVector", desc := "()I" } : Jvm.MethodName) prog_1_method_25_code (5 : Nat) (Option.some Jvm.ClassFile.FieldType.int)) ∈ lw_all := lw_g (lw_at lw_m1 138 rfl) rfl
theorem q149 : (Jvm.Cond.instanceMethod ({ cls := "TestPatterns", name := "alike", desc := "(IIII)Z" } : Jvm.MethodName)) ∈ lw_all := lw_g (lw_at lw_m1 140 rfl) rfl
theorem q150 : (Jvm.Cond.selects "TestPatterns" ({ cls := "TestPatterns", name := "alike", desc := "(IIII)Z" } : Jvm.MethodName) ({ cls := "TestPatterns", name := "alike", desc := "(IIII)Z" } : Jvm.MethodName)) ∈ lw_all := lw_g (lw_at lw_m1 141 rfl) rfl
theorem q151 : (Jvm.Cond.code ({ cls := "TestPatterns", name := "alike", desc := "(IIII)Z" } : Jvm.MethodName) prog_1_method_26_code (6 : Nat) (Option.some Jvm.ClassFile.FieldType.boolean)) ∈ lw_all := lw_g (lw_at lw_m1 142 rfl) rfl
theorem q153 : (Jvm.Cond.instanceMethod ({ cls := "TestPatterns", name := "ones", desc := "(I)I" } : Jvm.MethodName)) ∈ lw_all := lw_g (lw_at lw_m1 144 rfl) rfl
theorem q154 : (Jvm.Cond.selects "TestPatterns" ({ cls := "TestPatterns", name := "ones", desc := "(I)I" } : Jvm.MethodName) ({ cls := "TestPatterns", name := "ones", desc := "(I)I" } : Jvm.MethodName)) ∈ lw_all := lw_g (lw_at lw_m1 145 rfl) rfl
theorem q155 : (Jvm.Cond.code ({ cls := "TestPatterns", name := "ones", desc := "(I)I" } : Jvm.MethodName) prog_1_method_27_code (4 : Nat) (Option.some Jvm.ClassFile.FieldType.int)) ∈ lw_all := lw_g (lw_at lw_m1 146 rfl) rfl
theorem in_X0 : ∀ w ∈ wsX00, w ∈ lw_all := lw_in wsX00 [31, 33, 35, 37, 39, 41, 43, 45, 47, 49, 51] (by decide +kernel) (by decide +kernel)

/-! TestPatternsModel -/
def RX1 : String := "TestPatternsModel"
def TX1 : u_T := fun k => match k with
  | 0 => ("TestPatternsModel", "count", "I", false)
  | 1 => ("TestPatternsModel", "kinds", "[I", false)
  | 2 => ("TestPatternsModel", "xs", "[I", false)
  | 3 => ("TestPatternsModel", "ys", "[I", false)
  | 4 => ("TestPatternsModel", "seen", "I", false)
  | _ => ("TestPatternsModel", "vals", "[I", false)
def tyX1 : Nat → FieldType := fun k => match k with
  | 0 => .int
  | 1 => .array .int
  | 2 => .array .int
  | 3 => .array .int
  | 4 => .int
  | _ => .array .int
abbrev wsX10 : List Cond := u_ws RX1 TX1 6
theorem nmX1 : ∀ a, a < 6 → ∀ b, b < 6 → a ≠ b → (TX1 a).2.1 ≠ (TX1 b).2.1 := by decide +kernel
theorem tyX1_ok : ∀ k, k < 6 → parseFieldDescriptor (TX1 k).2.2.1 = some (tyX1 k) := by decide +kernel
abbrev cX1_init : ByteArray := prog_3_method_1_code
def yX1_init : MethodName := ⟨RX1, "<init>", "()V"⟩
abbrev cX1_gate : ByteArray := prog_3_method_3_code
def yX1_gate : MethodName := ⟨RX1, "gate", "(III)I"⟩
abbrev cX1_is : ByteArray := prog_3_method_2_code
def yX1_is : MethodName := ⟨RX1, "is", "(I)Z"⟩
abbrev cX1_drop : ByteArray := prog_3_method_4_code
def yX1_drop : MethodName := ⟨RX1, "drop", "()I"⟩
abbrev cX1_watch : ByteArray := prog_3_method_5_code
def yX1_watch : MethodName := ⟨RX1, "watch", "(IZ)Z"⟩
abbrev cX1_lines : ByteArray := prog_3_method_6_code
def yX1_lines : MethodName := ⟨RX1, "lines", "()I"⟩
abbrev cX1_watched : ByteArray := prog_3_method_7_code
def yX1_watched : MethodName := ⟨RX1, "watched", "()I"⟩
abbrev cX1_value : ByteArray := prog_3_method_10_code
def yX1_value : MethodName := ⟨RX1, "value", "(II)I"⟩
abbrev cX1_vector : ByteArray := prog_3_method_9_code
def yX1_vector : MethodName := ⟨RX1, "vector", "(I)Z"⟩
abbrev cX1_work : ByteArray := prog_3_method_8_code
def yX1_work : MethodName := ⟨RX1, "work", "(III)I"⟩
abbrev cX1_shows : ByteArray := prog_3_method_11_code
def yX1_shows : MethodName := ⟨RX1, "shows", "(III)Z"⟩
abbrev cX1_test : ByteArray := prog_3_method_12_code
def yX1_test : MethodName := ⟨RX1, "test", "(II)I"⟩
abbrev cX1_testFrom : ByteArray := prog_3_method_13_code
def yX1_testFrom : MethodName := ⟨RX1, "testFrom", "(III)I"⟩
abbrev cX1_hidden : ByteArray := prog_3_method_14_code
def yX1_hidden : MethodName := ⟨RX1, "hidden", "(I)I"⟩
abbrev cX1_shownBy : ByteArray := prog_3_method_15_code
def yX1_shownBy : MethodName := ⟨RX1, "shownBy", "(I)I"⟩
abbrev cX1_bestVector : ByteArray := prog_3_method_16_code
def yX1_bestVector : MethodName := ⟨RX1, "bestVector", "()I"⟩
abbrev cX1_alike : ByteArray := prog_3_method_17_code
def yX1_alike : MethodName := ⟨RX1, "alike", "(IIII)Z"⟩
abbrev cX1_ones : ByteArray := prog_3_method_18_code
def yX1_ones : MethodName := ⟨RX1, "ones", "(I)I"⟩
theorem q11 : (Jvm.Cond.initialized "TestPatternsModel") ∈ lw_all := lw_g (lw_at lw_m1 2 rfl) rfl
theorem q157 : (Jvm.Cond.instantiable "TestPatternsModel" (6 : Nat)) ∈ lw_all := lw_g (lw_at lw_m1 148 rfl) rfl
theorem q159 : (Jvm.Cond.instanceMethod ({ cls := "TestPatternsModel", name := "<init>", desc := "()V" } : Jvm.MethodName)) ∈ lw_all := lw_g (lw_at lw_m1 150 rfl) rfl
theorem q160 : (Jvm.Cond.code ({ cls := "TestPatternsModel", name := "<init>", desc := "()V" } : Jvm.MethodName) prog_3_method_1_code (1 : Nat) (Option.none : Option Jvm.ClassFile.FieldType)) ∈ lw_all := lw_g (lw_at lw_m1 151 rfl) rfl
theorem q161 : (Jvm.Cond.methodLink "TestPatternsModel" (1 : Nat) ({ cls := "java/lang/Object", name := "<init>", desc := "()V" } : Jvm.MethodName)) ∈ lw_all := lw_g (lw_at lw_m1 152 rfl) rfl
theorem q162 : (Jvm.Cond.fieldLink "TestPatternsModel" (22 : Nat) "TestPatternsModel" "count" "I") ∈ lw_all := lw_g (lw_at lw_m1 153 rfl) rfl
theorem q163 : (Jvm.Cond.fieldLink "TestPatternsModel" (7 : Nat) "TestPatternsModel" "kinds" "[I") ∈ lw_all := lw_g (lw_at lw_m1 154 rfl) rfl
theorem q164 : (Jvm.Cond.fieldLink "TestPatternsModel" (13 : Nat) "TestPatternsModel" "xs" "[I") ∈ lw_all := lw_g (lw_at lw_m1 155 rfl) rfl
theorem q165 : (Jvm.Cond.fieldLink "TestPatternsModel" (16 : Nat) "TestPatternsModel" "ys" "[I") ∈ lw_all := lw_g (lw_at lw_m1 156 rfl) rfl
theorem q166 : (Jvm.Cond.fieldLink "TestPatternsModel" (30 : Nat) "TestPatternsModel" "seen" "I") ∈ lw_all := lw_g (lw_at lw_m1 157 rfl) rfl
theorem q167 : (Jvm.Cond.fieldLink "TestPatternsModel" (19 : Nat) "TestPatternsModel" "vals" "[I") ∈ lw_all := lw_g (lw_at lw_m1 158 rfl) rfl
theorem q168 : (Jvm.Cond.lays "TestPatternsModel" "TestPatternsModel" "count" "I") ∈ lw_all := lw_g (lw_at lw_m1 159 rfl) rfl
theorem q169 : (Jvm.Cond.soleField "TestPatternsModel" "count") ∈ lw_all := lw_g (lw_at lw_m1 160 rfl) rfl
theorem q170 : (Jvm.Cond.lays "TestPatternsModel" "TestPatternsModel" "kinds" "[I") ∈ lw_all := lw_g (lw_at lw_m1 161 rfl) rfl
theorem q171 : (Jvm.Cond.soleField "TestPatternsModel" "kinds") ∈ lw_all := lw_g (lw_at lw_m1 162 rfl) rfl
theorem q172 : (Jvm.Cond.lays "TestPatternsModel" "TestPatternsModel" "xs" "[I") ∈ lw_all := lw_g (lw_at lw_m1 163 rfl) rfl
theorem q173 : (Jvm.Cond.soleField "TestPatternsModel" "xs") ∈ lw_all := lw_g (lw_at lw_m1 164 rfl) rfl
theorem q174 : (Jvm.Cond.lays "TestPatternsModel" "TestPatternsModel" "ys" "[I") ∈ lw_all := lw_g (lw_at lw_m1 165 rfl) rfl
theorem q175 : (Jvm.Cond.soleField "TestPatternsModel" "ys") ∈ lw_all := lw_g (lw_at lw_m1 166 rfl) rfl
theorem q176 : (Jvm.Cond.lays "TestPatternsModel" "TestPatternsModel" "seen" "I") ∈ lw_all := lw_g (lw_at lw_m1 167 rfl) rfl
theorem q177 : (Jvm.Cond.soleField "TestPatternsModel" "seen") ∈ lw_all := lw_g (lw_at lw_m1 168 rfl) rfl
theorem q178 : (Jvm.Cond.lays "TestPatternsModel" "TestPatternsModel" "vals" "[I") ∈ lw_all := lw_g (lw_at lw_m1 169 rfl) rfl
theorem q179 : (Jvm.Cond.soleField "TestPatternsModel" "vals") ∈ lw_all := lw_g (lw_at lw_m1 170 rfl) rfl
theorem q180 : (Jvm.Cond.superclass "TestPatternsModel" "java/lang/Object") ∈ lw_all := lw_g (lw_at lw_m1 171 rfl) rfl
theorem q182 : (Jvm.Cond.instanceMethod ({ cls := "TestPatternsModel", name := "gate", desc := "(III)I" } : Jvm.MethodName)) ∈ lw_all := lw_g (lw_at lw_m1 173 rfl) rfl
theorem q183 : (Jvm.Cond.selects "TestPatternsModel" ({ cls := "TestPatternsModel", name := "gate", desc := "(III)I" } : Jvm.MethodName) ({ cls := "TestPatternsModel", name := "gate", desc := "(III)I" } : Jvm.MethodName)) ∈ lw_all := lw_g (lw_at lw_m1 174 rfl) rfl
theorem q184 : (Jvm.Cond.code ({ cls := "TestPatternsModel", name := "gate", desc := "(III)I" } : Jvm.MethodName) prog_3_method_3_code (4 : Nat) (Option.some Jvm.ClassFile.FieldType.int)) ∈ lw_all := lw_g (lw_at lw_m1 175 rfl) rfl
theorem q185 : (Jvm.Cond.methodLink "TestPatternsModel" (26 : Nat) ({ cls := "TestPatternsModel", name := "is", desc := "(I)Z" } : Jvm.MethodName)) ∈ lw_all := lw_g (lw_at lw_m1 176 rfl) rfl
theorem q186 : (Jvm.Cond.privateMethod ({ cls := "TestPatternsModel", name := "is", desc := "(I)Z" } : Jvm.MethodName)) ∈ lw_tbl := lw_at lw_m1 177 rfl
theorem q187 : (Jvm.Cond.instanceMethod ({ cls := "TestPatternsModel", name := "is", desc := "(I)Z" } : Jvm.MethodName)) ∈ lw_all := lw_g (lw_at lw_m1 178 rfl) rfl
theorem q188 : (Jvm.Cond.code ({ cls := "TestPatternsModel", name := "is", desc := "(I)Z" } : Jvm.MethodName) prog_3_method_2_code (2 : Nat) (Option.some Jvm.ClassFile.FieldType.boolean)) ∈ lw_all := lw_g (lw_at lw_m1 179 rfl) rfl
theorem q190 : (Jvm.Cond.instanceMethod ({ cls := "TestPatternsModel", name := "drop", desc := "()I" } : Jvm.MethodName)) ∈ lw_all := lw_g (lw_at lw_m1 181 rfl) rfl
theorem q191 : (Jvm.Cond.selects "TestPatternsModel" ({ cls := "TestPatternsModel", name := "drop", desc := "()I" } : Jvm.MethodName) ({ cls := "TestPatternsModel", name := "drop", desc := "()I" } : Jvm.MethodName)) ∈ lw_all := lw_g (lw_at lw_m1 182 rfl) rfl
theorem q192 : (Jvm.Cond.code ({ cls := "TestPatternsModel", name := "drop", desc := "()I" } : Jvm.MethodName) prog_3_method_4_code (1 : Nat) (Option.some Jvm.ClassFile.FieldType.int)) ∈ lw_all := lw_g (lw_at lw_m1 183 rfl) rfl
theorem q194 : (Jvm.Cond.instanceMethod ({ cls := "TestPatternsModel", name := "watch", desc := "(IZ)Z" } : Jvm.MethodName)) ∈ lw_all := lw_g (lw_at lw_m1 185 rfl) rfl
theorem q195 : (Jvm.Cond.selects "TestPatternsModel" ({ cls := "TestPatternsModel", name := "watch", desc := "(IZ)Z" } : Jvm.MethodName) ({ cls := "TestPatternsModel", name := "watch", desc := "(IZ)Z" } : Jvm.MethodName)) ∈ lw_all := lw_g (lw_at lw_m1 186 rfl) rfl
theorem q196 : (Jvm.Cond.code ({ cls := "TestPatternsModel", name := "watch", desc := "(IZ)Z" } : Jvm.MethodName) prog_3_method_5_code (3 : Nat) (Option.some Jvm.ClassFile.FieldType.boolean)) ∈ lw_all := lw_g (lw_at lw_m1 187 rfl) rfl
theorem q198 : (Jvm.Cond.instanceMethod ({ cls := "TestPatternsModel", name := "lines", desc := "()I" } : Jvm.MethodName)) ∈ lw_all := lw_g (lw_at lw_m1 189 rfl) rfl
theorem q199 : (Jvm.Cond.selects "TestPatternsModel" ({ cls := "TestPatternsModel", name := "lines", desc := "()I" } : Jvm.MethodName) ({ cls := "TestPatternsModel", name := "lines", desc := "()I" } : Jvm.MethodName)) ∈ lw_all := lw_g (lw_at lw_m1 190 rfl) rfl
theorem q200 : (Jvm.Cond.code ({ cls := "TestPatternsModel", name := "lines", desc := "()I" } : Jvm.MethodName) prog_3_method_6_code (1 : Nat) (Option.some Jvm.ClassFile.FieldType.int)) ∈ lw_all := lw_g (lw_at lw_m1 191 rfl) rfl
theorem q202 : (Jvm.Cond.instanceMethod ({ cls := "TestPatternsModel", name := "watched", desc := "()I" } : Jvm.MethodName)) ∈ lw_all := lw_g (lw_at lw_m1 193 rfl) rfl
theorem q203 : (Jvm.Cond.selects "TestPatternsModel" ({ cls := "TestPatternsModel", name := "watched", desc := "()I" } : Jvm.MethodName) ({ cls := "TestPatternsModel", name := "watched", desc := "()I" } : Jvm.MethodName)) ∈ lw_all := lw_g (lw_at lw_m1 194 rfl) rfl
theorem q204 : (Jvm.Cond.code ({ cls := "TestPatternsModel", name := "watched", desc := "()I" } : Jvm.MethodName) prog_3_method_7_code (1 : Nat) (Option.some Jvm.ClassFile.FieldType.int)) ∈ lw_all := lw_g (lw_at lw_m1 195 rfl) rfl
theorem q206 : (Jvm.Cond.instanceMethod ({ cls := "TestPatternsModel", name := "value", desc := "(II)I" } : Jvm.MethodName)) ∈ lw_all := lw_g (lw_at lw_m1 197 rfl) rfl
theorem q207 : (Jvm.Cond.selects "TestPatternsModel" ({ cls := "TestPatternsModel", name := "value", desc := "(II)I" } : Jvm.MethodName) ({ cls := "TestPatternsModel", name := "value", desc := "(II)I" } : Jvm.MethodName)) ∈ lw_all := lw_g (lw_at lw_m1 198 rfl) rfl
theorem q208 : (Jvm.Cond.code ({ cls := "TestPatternsModel", name := "value", desc := "(II)I" } : Jvm.MethodName) prog_3_method_10_code (3 : Nat) (Option.some Jvm.ClassFile.FieldType.int)) ∈ lw_all := lw_g (lw_at lw_m1 199 rfl) rfl
theorem q209 : (Jvm.Cond.methodLink "TestPatternsModel" (33 : Nat) ({ cls := "TestPatternsModel", name := "vector", desc := "(I)Z" } : Jvm.MethodName)) ∈ lw_all := lw_g (lw_at lw_m1 200 rfl) rfl
theorem q210 : (Jvm.Cond.privateMethod ({ cls := "TestPatternsModel", name := "vector", desc := "(I)Z" } : Jvm.MethodName)) ∈ lw_tbl := lw_at lw_m1 201 rfl
theorem q211 : (Jvm.Cond.instanceMethod ({ cls := "TestPatternsModel", name := "vector", desc := "(I)Z" } : Jvm.MethodName)) ∈ lw_all := lw_g (lw_at lw_m1 202 rfl) rfl
theorem q212 : (Jvm.Cond.code ({ cls := "TestPatternsModel", name := "vector", desc := "(I)Z" } : Jvm.MethodName) prog_3_method_9_code (2 : Nat) (Option.some Jvm.ClassFile.FieldType.boolean)) ∈ lw_all := lw_g (lw_at lw_m1 203 rfl) rfl
theorem q213 : (Jvm.Cond.methodLink "TestPatternsModel" (36 : Nat) ({ cls := "TestPatternsModel", name := "work", desc := "(III)I" } : Jvm.MethodName)) ∈ lw_all := lw_g (lw_at lw_m1 204 rfl) rfl
theorem q214 : (Jvm.Cond.privateMethod ({ cls := "TestPatternsModel", name := "work", desc := "(III)I" } : Jvm.MethodName)) ∈ lw_tbl := lw_at lw_m1 205 rfl
theorem q215 : (Jvm.Cond.instanceMethod ({ cls := "TestPatternsModel", name := "work", desc := "(III)I" } : Jvm.MethodName)) ∈ lw_all := lw_g (lw_at lw_m1 206 rfl) rfl
theorem q216 : (Jvm.Cond.code ({ cls := "TestPatternsModel", name := "work", desc := "(III)I" } : Jvm.MethodName) prog_3_method_8_code (10 : Nat) (Option.some Jvm.ClassFile.FieldType.int)) ∈ lw_all := lw_g (lw_at lw_m1 207 rfl) rfl
theorem q218 : (Jvm.Cond.instanceMethod ({ cls := "TestPatternsModel", name := "shows", desc := "(III)Z" } : Jvm.MethodName)) ∈ lw_all := lw_g (lw_at lw_m1 209 rfl) rfl
theorem q219 : (Jvm.Cond.selects "TestPatternsModel" ({ cls := "TestPatternsModel", name := "shows", desc := "(III)Z" } : Jvm.MethodName) ({ cls := "TestPatternsModel", name := "shows", desc := "(III)Z" } : Jvm.MethodName)) ∈ lw_all := lw_g (lw_at lw_m1 210 rfl) rfl
theorem q220 : (Jvm.Cond.code ({ cls := "TestPatternsModel", name := "shows", desc := "(III)Z" } : Jvm.MethodName) prog_3_method_11_code (5 : Nat) (Option.some Jvm.ClassFile.FieldType.boolean)) ∈ lw_all := lw_g (lw_at lw_m1 211 rfl) rfl
theorem q222 : (Jvm.Cond.instanceMethod ({ cls := "TestPatternsModel", name := "test", desc := "(II)I" } : Jvm.MethodName)) ∈ lw_all := lw_g (lw_at lw_m1 213 rfl) rfl
theorem q223 : (Jvm.Cond.selects "TestPatternsModel" ({ cls := "TestPatternsModel", name := "test", desc := "(II)I" } : Jvm.MethodName) ({ cls := "TestPatternsModel", name := "test", desc := "(II)I" } : Jvm.MethodName)) ∈ lw_all := lw_g (lw_at lw_m1 214 rfl) rfl
theorem q224 : (Jvm.Cond.code ({ cls := "TestPatternsModel", name := "test", desc := "(II)I" } : Jvm.MethodName) prog_3_method_12_code (3 : Nat) (Option.some Jvm.ClassFile.FieldType.int)) ∈ lw_all := lw_g (lw_at lw_m1 215 rfl) rfl
theorem q225 : (Jvm.Cond.methodLink "TestPatternsModel" (40 : Nat) ({ cls := "TestPatternsModel", name := "testFrom", desc := "(III)I" } : Jvm.MethodName)) ∈ lw_all := lw_g (lw_at lw_m1 216 rfl) rfl
theorem q226 : (Jvm.Cond.instanceMethod ({ cls := "TestPatternsModel", name := "testFrom", desc := "(III)I" } : Jvm.MethodName)) ∈ lw_all := lw_g (lw_at lw_m1 217 rfl) rfl
theorem q227 : (Jvm.Cond.selects "TestPatternsModel" ({ cls := "TestPatternsModel", name := "testFrom", desc := "(III)I" } : Jvm.MethodName) ({ cls := "TestPatternsModel", name := "testFrom", desc := "(III)I" } : Jvm.MethodName)) ∈ lw_all := lw_g (lw_at lw_m1 218 rfl) rfl
theorem q228 : (Jvm.Cond.code ({ cls := "TestPatternsModel", name := "testFrom", desc := "(III)I" } : Jvm.MethodName) prog_3_method_13_code (5 : Nat) (Option.some Jvm.ClassFile.FieldType.int)) ∈ lw_all := lw_g (lw_at lw_m1 219 rfl) rfl
theorem q229 : (Jvm.Cond.methodLink "TestPatternsModel" (43 : Nat) ({ cls := "TestPatternsModel", name := "shows", desc := "(III)Z" } : Jvm.MethodName)) ∈ lw_all := lw_g (lw_at lw_m1 220 rfl) rfl
theorem q232 : (Jvm.Cond.instanceMethod ({ cls := "TestPatternsModel", name := "hidden", desc := "(I)I" } : Jvm.MethodName)) ∈ lw_all := lw_g (lw_at lw_m1 223 rfl) rfl
theorem q233 : (Jvm.Cond.selects "TestPatternsModel" ({ cls := "TestPatternsModel", name := "hidden", desc := "(I)I" } : Jvm.MethodName) ({ cls := "TestPatternsModel", name := "hidden", desc := "(I)I" } : Jvm.MethodName)) ∈ lw_all := lw_g (lw_at lw_m1 224 rfl) rfl
theorem q234 : (Jvm.Cond.code ({ cls := "TestPatternsModel", name := "hidden", desc := "(I)I" } : Jvm.MethodName) prog_3_method_14_code (4 : Nat) (Option.some Jvm.ClassFile.FieldType.int)) ∈ lw_all := lw_g (lw_at lw_m1 225 rfl) rfl
theorem q235 : (Jvm.Cond.methodLink "TestPatternsModel" (47 : Nat) ({ cls := "TestPatternsModel", name := "test", desc := "(II)I" } : Jvm.MethodName)) ∈ lw_all := lw_g (lw_at lw_m1 226 rfl) rfl
theorem q237 : (Jvm.Cond.instanceMethod ({ cls := "TestPatternsModel", name := "shownBy", desc := "(I)I" } : Jvm.MethodName)) ∈ lw_all := lw_g (lw_at lw_m1 228 rfl) rfl
theorem q238 : (Jvm.Cond.selects "TestPatternsModel" ({ cls := "TestPatternsModel", name := "shownBy", desc := "(I)I" } : Jvm.MethodName) ({ cls := "TestPatternsModel", name := "shownBy", desc := "(I)I" } : Jvm.MethodName)) ∈ lw_all := lw_g (lw_at lw_m1 229 rfl) rfl
theorem q239 : (Jvm.Cond.code ({ cls := "TestPatternsModel", name := "shownBy", desc := "(I)I" } : Jvm.MethodName) prog_3_method_15_code (4 : Nat) (Option.some Jvm.ClassFile.FieldType.int)) ∈ lw_all := lw_g (lw_at lw_m1 230 rfl) rfl
theorem q241 : (Jvm.Cond.instanceMethod ({ cls := "TestPatternsModel", name := "bestVector", desc := "()I" } : Jvm.MethodName)) ∈ lw_all := lw_g (lw_at lw_m1 232 rfl) rfl
theorem q242 : (Jvm.Cond.selects "TestPatternsModel" ({ cls := "TestPatternsModel", name := "bestVector", desc := "()I" } : Jvm.MethodName) ({ cls := "TestPatternsModel", name := "bestVector", desc := "()I" } : Jvm.MethodName)) ∈ lw_all := lw_g (lw_at lw_m1 233 rfl) rfl
theorem q243 : (Jvm.Cond.code ({ cls := "TestPatternsModel", name := "bestVector", desc := "()I" } : Jvm.MethodName) prog_3_method_16_code (5 : Nat) (Option.some Jvm.ClassFile.FieldType.int)) ∈ lw_all := lw_g (lw_at lw_m1 234 rfl) rfl
theorem q244 : (Jvm.Cond.methodLink "TestPatternsModel" (51 : Nat) ({ cls := "TestPatternsModel", name := "shownBy", desc := "(I)I" } : Jvm.MethodName)) ∈ lw_all := lw_g (lw_at lw_m1 235 rfl) rfl
theorem q246 : (Jvm.Cond.instanceMethod ({ cls := "TestPatternsModel", name := "alike", desc := "(IIII)Z" } : Jvm.MethodName)) ∈ lw_all := lw_g (lw_at lw_m1 237 rfl) rfl
theorem q247 : (Jvm.Cond.selects "TestPatternsModel" ({ cls := "TestPatternsModel", name := "alike", desc := "(IIII)Z" } : Jvm.MethodName) ({ cls := "TestPatternsModel", name := "alike", desc := "(IIII)Z" } : Jvm.MethodName)) ∈ lw_all := lw_g (lw_at lw_m1 238 rfl) rfl
theorem q248 : (Jvm.Cond.code ({ cls := "TestPatternsModel", name := "alike", desc := "(IIII)Z" } : Jvm.MethodName) prog_3_method_17_code (7 : Nat) (Option.some Jvm.ClassFile.FieldType.boolean)) ∈ lw_all := lw_g (lw_at lw_m1 239 rfl) rfl
theorem q250 : (Jvm.Cond.instanceMethod ({ cls := "TestPatternsModel", name := "ones", desc := "(I)I" } : Jvm.MethodName)) ∈ lw_all := lw_g (lw_at lw_m2 1 rfl) rfl
theorem q251 : (Jvm.Cond.selects "TestPatternsModel" ({ cls := "TestPatternsModel", name := "ones", desc := "(I)I" } : Jvm.MethodName) ({ cls := "TestPatternsModel", name := "ones", desc := "(I)I" } : Jvm.MethodName)) ∈ lw_all := lw_g (lw_at lw_m2 2 rfl) rfl
theorem q252 : (Jvm.Cond.code ({ cls := "TestPatternsModel", name := "ones", desc := "(I)I" } : Jvm.MethodName) prog_3_method_18_code (4 : Nat) (Option.some Jvm.ClassFile.FieldType.int)) ∈ lw_all := lw_g (lw_at lw_m2 3 rfl) rfl
theorem q253 : (Jvm.Cond.methodLink "TestPatternsModel" (55 : Nat) ({ cls := "TestPatternsModel", name := "value", desc := "(II)I" } : Jvm.MethodName)) ∈ lw_all := lw_g (lw_at lw_m2 4 rfl) rfl
theorem in_X1 : ∀ w ∈ wsX10, w ∈ lw_all := lw_in wsX10 [168, 170, 172, 174, 176, 178] (by decide +kernel) (by decide +kernel)

theorem q54 : (Jvm.Cond.arrayClass Jvm.ClassFile.FieldType.byte) ∈ lw_all := lw_g (lw_at lw_m1 45 rfl) rfl
theorem q55 : (Jvm.Cond.arrayClass Jvm.ClassFile.FieldType.int) ∈ lw_all := lw_g (lw_at lw_m1 46 rfl) rfl
theorem q56 : (Jvm.Cond.arrayClass Jvm.ClassFile.FieldType.boolean) ∈ lw_all := lw_g (lw_at lw_m1 47 rfl) rfl

theorem q9 : (Jvm.Cond.initialized "TestPatternsLaw") ∈ lw_all := lw_g (lw_at lw_m1 0 rfl) rfl
theorem q12 : (Jvm.Cond.classLink "TestPatternsLaw" (7 : Nat) "TestPatterns") ∈ lw_all := lw_g (lw_at lw_m1 3 rfl) rfl
theorem q14 : (Jvm.Cond.methodLink "TestPatternsLaw" (9 : Nat) ({ cls := "TestPatterns", name := "<init>", desc := "()V" } : Jvm.MethodName)) ∈ lw_all := lw_g (lw_at lw_m1 5 rfl) rfl
theorem q57 : (Jvm.Cond.methodLink "TestPatternsLaw" (13 : Nat) ({ cls := "TestPatterns", name := "gate", desc := "(III)I" } : Jvm.MethodName)) ∈ lw_all := lw_g (lw_at lw_m1 48 rfl) rfl
theorem q65 : (Jvm.Cond.methodLink "TestPatternsLaw" (18 : Nat) ({ cls := "TestPatterns", name := "drop", desc := "()I" } : Jvm.MethodName)) ∈ lw_all := lw_g (lw_at lw_m1 56 rfl) rfl
theorem q69 : (Jvm.Cond.methodLink "TestPatternsLaw" (23 : Nat) ({ cls := "TestPatterns", name := "watch", desc := "(IZ)Z" } : Jvm.MethodName)) ∈ lw_all := lw_g (lw_at lw_m1 60 rfl) rfl
theorem q73 : (Jvm.Cond.methodLink "TestPatternsLaw" (28 : Nat) ({ cls := "TestPatterns", name := "lines", desc := "()I" } : Jvm.MethodName)) ∈ lw_all := lw_g (lw_at lw_m1 64 rfl) rfl
theorem q77 : (Jvm.Cond.methodLink "TestPatternsLaw" (32 : Nat) ({ cls := "TestPatterns", name := "watched", desc := "()I" } : Jvm.MethodName)) ∈ lw_all := lw_g (lw_at lw_m1 68 rfl) rfl
theorem q81 : (Jvm.Cond.methodLink "TestPatternsLaw" (36 : Nat) ({ cls := "TestPatterns", name := "value", desc := "(II)I" } : Jvm.MethodName)) ∈ lw_all := lw_g (lw_at lw_m1 72 rfl) rfl
theorem q98 : (Jvm.Cond.methodLink "TestPatternsLaw" (41 : Nat) ({ cls := "TestPatterns", name := "shows", desc := "(III)Z" } : Jvm.MethodName)) ∈ lw_all := lw_g (lw_at lw_m1 89 rfl) rfl
theorem q109 : (Jvm.Cond.methodLink "TestPatternsLaw" (46 : Nat) ({ cls := "TestPatterns", name := "test", desc := "(II)I" } : Jvm.MethodName)) ∈ lw_all := lw_g (lw_at lw_m1 100 rfl) rfl
theorem q131 : (Jvm.Cond.methodLink "TestPatternsLaw" (50 : Nat) ({ cls := "TestPatterns", name := "testFrom", desc := "(III)I" } : Jvm.MethodName)) ∈ lw_all := lw_g (lw_at lw_m1 122 rfl) rfl
theorem q132 : (Jvm.Cond.methodLink "TestPatternsLaw" (54 : Nat) ({ cls := "TestPatterns", name := "hidden", desc := "(I)I" } : Jvm.MethodName)) ∈ lw_all := lw_g (lw_at lw_m1 123 rfl) rfl
theorem q136 : (Jvm.Cond.methodLink "TestPatternsLaw" (59 : Nat) ({ cls := "TestPatterns", name := "shownBy", desc := "(I)I" } : Jvm.MethodName)) ∈ lw_all := lw_g (lw_at lw_m1 127 rfl) rfl
theorem q144 : (Jvm.Cond.methodLink "TestPatternsLaw" (63 : Nat) ({ cls := "TestPatterns", name := "bestVector", desc := "()I" } : Jvm.MethodName)) ∈ lw_all := lw_g (lw_at lw_m1 135 rfl) rfl
theorem q148 : (Jvm.Cond.methodLink "TestPatternsLaw" (67 : Nat) ({ cls := "TestPatterns", name := "alike", desc := "(IIII)Z" } : Jvm.MethodName)) ∈ lw_all := lw_g (lw_at lw_m1 139 rfl) rfl
theorem q152 : (Jvm.Cond.methodLink "TestPatternsLaw" (72 : Nat) ({ cls := "TestPatterns", name := "ones", desc := "(I)I" } : Jvm.MethodName)) ∈ lw_all := lw_g (lw_at lw_m1 143 rfl) rfl
theorem q156 : (Jvm.Cond.classLink "TestPatternsLaw" (10 : Nat) "TestPatternsModel") ∈ lw_all := lw_g (lw_at lw_m1 147 rfl) rfl
theorem q158 : (Jvm.Cond.methodLink "TestPatternsLaw" (12 : Nat) ({ cls := "TestPatternsModel", name := "<init>", desc := "()V" } : Jvm.MethodName)) ∈ lw_all := lw_g (lw_at lw_m1 149 rfl) rfl
theorem q181 : (Jvm.Cond.methodLink "TestPatternsLaw" (17 : Nat) ({ cls := "TestPatternsModel", name := "gate", desc := "(III)I" } : Jvm.MethodName)) ∈ lw_all := lw_g (lw_at lw_m1 172 rfl) rfl
theorem q189 : (Jvm.Cond.methodLink "TestPatternsLaw" (22 : Nat) ({ cls := "TestPatternsModel", name := "drop", desc := "()I" } : Jvm.MethodName)) ∈ lw_all := lw_g (lw_at lw_m1 180 rfl) rfl
theorem q193 : (Jvm.Cond.methodLink "TestPatternsLaw" (27 : Nat) ({ cls := "TestPatternsModel", name := "watch", desc := "(IZ)Z" } : Jvm.MethodName)) ∈ lw_all := lw_g (lw_at lw_m1 184 rfl) rfl
theorem q197 : (Jvm.Cond.methodLink "TestPatternsLaw" (31 : Nat) ({ cls := "TestPatternsModel", name := "lines", desc := "()I" } : Jvm.MethodName)) ∈ lw_all := lw_g (lw_at lw_m1 188 rfl) rfl
theorem q201 : (Jvm.Cond.methodLink "TestPatternsLaw" (35 : Nat) ({ cls := "TestPatternsModel", name := "watched", desc := "()I" } : Jvm.MethodName)) ∈ lw_all := lw_g (lw_at lw_m1 192 rfl) rfl
theorem q205 : (Jvm.Cond.methodLink "TestPatternsLaw" (40 : Nat) ({ cls := "TestPatternsModel", name := "value", desc := "(II)I" } : Jvm.MethodName)) ∈ lw_all := lw_g (lw_at lw_m1 196 rfl) rfl
theorem q217 : (Jvm.Cond.methodLink "TestPatternsLaw" (45 : Nat) ({ cls := "TestPatternsModel", name := "shows", desc := "(III)Z" } : Jvm.MethodName)) ∈ lw_all := lw_g (lw_at lw_m1 208 rfl) rfl
theorem q221 : (Jvm.Cond.methodLink "TestPatternsLaw" (49 : Nat) ({ cls := "TestPatternsModel", name := "test", desc := "(II)I" } : Jvm.MethodName)) ∈ lw_all := lw_g (lw_at lw_m1 212 rfl) rfl
theorem q230 : (Jvm.Cond.methodLink "TestPatternsLaw" (53 : Nat) ({ cls := "TestPatternsModel", name := "testFrom", desc := "(III)I" } : Jvm.MethodName)) ∈ lw_all := lw_g (lw_at lw_m1 221 rfl) rfl
theorem q231 : (Jvm.Cond.methodLink "TestPatternsLaw" (58 : Nat) ({ cls := "TestPatternsModel", name := "hidden", desc := "(I)I" } : Jvm.MethodName)) ∈ lw_all := lw_g (lw_at lw_m1 222 rfl) rfl
theorem q236 : (Jvm.Cond.methodLink "TestPatternsLaw" (62 : Nat) ({ cls := "TestPatternsModel", name := "shownBy", desc := "(I)I" } : Jvm.MethodName)) ∈ lw_all := lw_g (lw_at lw_m1 227 rfl) rfl
theorem q240 : (Jvm.Cond.methodLink "TestPatternsLaw" (66 : Nat) ({ cls := "TestPatternsModel", name := "bestVector", desc := "()I" } : Jvm.MethodName)) ∈ lw_all := lw_g (lw_at lw_m1 231 rfl) rfl
theorem q245 : (Jvm.Cond.methodLink "TestPatternsLaw" (71 : Nat) ({ cls := "TestPatternsModel", name := "alike", desc := "(IIII)Z" } : Jvm.MethodName)) ∈ lw_all := lw_g (lw_at lw_m1 236 rfl) rfl
theorem q249 : (Jvm.Cond.methodLink "TestPatternsLaw" (75 : Nat) ({ cls := "TestPatternsModel", name := "ones", desc := "(I)I" } : Jvm.MethodName)) ∈ lw_all := lw_g (lw_at lw_m2 0 rfl) rfl
end
section
set_option maxRecDepth 100000
theorem dX0_init_0 : decode cX0_init 0 = .ok (.aload_n 0, 1) := by decide +kernel
theorem dX0_init_1 : decode cX0_init 1 = .ok (.invokespecial 1, 3) := by decide +kernel
theorem dX0_init_4 : decode cX0_init 4 = .ok (.aload_n 0, 1) := by decide +kernel
theorem dX0_init_5 : decode cX0_init 5 = .ok (.iconst 5, 1) := by decide +kernel
theorem dX0_init_6 : decode cX0_init 6 = .ok (.putfield 9, 3) := by decide +kernel
theorem dX0_init_9 : decode cX0_init 9 = .ok (.aload_n 0, 1) := by decide +kernel
theorem dX0_init_10 : decode cX0_init 10 = .ok (.bipush 16, 2) := by decide +kernel
theorem dX0_init_12 : decode cX0_init 12 = .ok (.newarray .byte, 2) := by decide +kernel
theorem dX0_init_14 : decode cX0_init 14 = .ok (.putfield 13, 3) := by decide +kernel
theorem dX0_init_17 : decode cX0_init 17 = .ok (.aload_n 0, 1) := by decide +kernel
theorem dX0_init_18 : decode cX0_init 18 = .ok (.bipush 16, 2) := by decide +kernel
theorem dX0_init_20 : decode cX0_init 20 = .ok (.newarray .byte, 2) := by decide +kernel
theorem dX0_init_22 : decode cX0_init 22 = .ok (.putfield 17, 3) := by decide +kernel
theorem dX0_init_25 : decode cX0_init 25 = .ok (.aload_n 0, 1) := by decide +kernel
theorem dX0_init_26 : decode cX0_init 26 = .ok (.bipush 16, 2) := by decide +kernel
theorem dX0_init_28 : decode cX0_init 28 = .ok (.newarray .byte, 2) := by decide +kernel
theorem dX0_init_30 : decode cX0_init 30 = .ok (.putfield 20, 3) := by decide +kernel
theorem dX0_init_33 : decode cX0_init 33 = .ok (.aload_n 0, 1) := by decide +kernel
theorem dX0_init_34 : decode cX0_init 34 = .ok (.bipush 16, 2) := by decide +kernel
theorem dX0_init_36 : decode cX0_init 36 = .ok (.newarray .int, 2) := by decide +kernel
theorem dX0_init_38 : decode cX0_init 38 = .ok (.putfield 23, 3) := by decide +kernel
theorem dX0_init_41 : decode cX0_init 41 = .ok (.aload_n 0, 1) := by decide +kernel
theorem dX0_init_42 : decode cX0_init 42 = .ok (.bipush 16, 2) := by decide +kernel
theorem dX0_init_44 : decode cX0_init 44 = .ok (.newarray .int, 2) := by decide +kernel
theorem dX0_init_46 : decode cX0_init 46 = .ok (.putfield 27, 3) := by decide +kernel
theorem dX0_init_49 : decode cX0_init 49 = .ok (.aload_n 0, 1) := by decide +kernel
theorem dX0_init_50 : decode cX0_init 50 = .ok (.iconst 5, 1) := by decide +kernel
theorem dX0_init_51 : decode cX0_init 51 = .ok (.newarray .byte, 2) := by decide +kernel
theorem dX0_init_53 : decode cX0_init 53 = .ok (.putfield 30, 3) := by decide +kernel
theorem dX0_init_56 : decode cX0_init 56 = .ok (.aload_n 0, 1) := by decide +kernel
theorem dX0_init_57 : decode cX0_init 57 = .ok (.bipush 16, 2) := by decide +kernel
theorem dX0_init_59 : decode cX0_init 59 = .ok (.newarray .byte, 2) := by decide +kernel
theorem dX0_init_61 : decode cX0_init 61 = .ok (.putfield 33, 3) := by decide +kernel
theorem dX0_init_64 : decode cX0_init 64 = .ok (.aload_n 0, 1) := by decide +kernel
theorem dX0_init_65 : decode cX0_init 65 = .ok (.bipush 16, 2) := by decide +kernel
theorem dX0_init_67 : decode cX0_init 67 = .ok (.newarray .byte, 2) := by decide +kernel
theorem dX0_init_69 : decode cX0_init 69 = .ok (.putfield 36, 3) := by decide +kernel
theorem dX0_init_72 : decode cX0_init 72 = .ok (.aload_n 0, 1) := by decide +kernel
theorem dX0_init_73 : decode cX0_init 73 = .ok (.bipush 16, 2) := by decide +kernel
theorem dX0_init_75 : decode cX0_init 75 = .ok (.newarray .boolean, 2) := by decide +kernel
theorem dX0_init_77 : decode cX0_init 77 = .ok (.putfield 39, 3) := by decide +kernel
theorem dX0_init_80 : decode cX0_init 80 = .ok (.return_, 1) := by decide +kernel
theorem dX0_gate_0 : decode cX0_gate 0 = .ok (.iload_n 1, 1) := by decide +kernel
theorem dX0_gate_1 : decode cX0_gate 1 = .ok (.ifCond .lt 29, 3) := by decide +kernel
theorem dX0_gate_4 : decode cX0_gate 4 = .ok (.iload_n 1, 1) := by decide +kernel
theorem dX0_gate_5 : decode cX0_gate 5 = .ok (.iconst 5, 1) := by decide +kernel
theorem dX0_gate_6 : decode cX0_gate 6 = .ok (.if_icmp .gt 24, 3) := by decide +kernel
theorem dX0_gate_9 : decode cX0_gate 9 = .ok (.aload_n 0, 1) := by decide +kernel
theorem dX0_gate_10 : decode cX0_gate 10 = .ok (.iload_n 2, 1) := by decide +kernel
theorem dX0_gate_11 : decode cX0_gate 11 = .ok (.invokevirtual 43, 3) := by decide +kernel
theorem dX0_gate_14 : decode cX0_gate 14 = .ok (.ifCond .eq 16, 3) := by decide +kernel
theorem dX0_gate_17 : decode cX0_gate 17 = .ok (.iload_n 1, 1) := by decide +kernel
theorem dX0_gate_18 : decode cX0_gate 18 = .ok (.iconst 5, 1) := by decide +kernel
theorem dX0_gate_19 : decode cX0_gate 19 = .ok (.if_icmp .eq 13, 3) := by decide +kernel
theorem dX0_gate_22 : decode cX0_gate 22 = .ok (.aload_n 0, 1) := by decide +kernel
theorem dX0_gate_23 : decode cX0_gate 23 = .ok (.iload_n 3, 1) := by decide +kernel
theorem dX0_gate_24 : decode cX0_gate 24 = .ok (.invokevirtual 43, 3) := by decide +kernel
theorem dX0_gate_27 : decode cX0_gate 27 = .ok (.ifCond .ne 5, 3) := by decide +kernel
theorem dX0_gate_30 : decode cX0_gate 30 = .ok (.iconst (-1), 1) := by decide +kernel
theorem dX0_gate_31 : decode cX0_gate 31 = .ok (.ireturn, 1) := by decide +kernel
theorem dX0_gate_32 : decode cX0_gate 32 = .ok (.aload_n 0, 1) := by decide +kernel
theorem dX0_gate_33 : decode cX0_gate 33 = .ok (.getfield 9, 3) := by decide +kernel
theorem dX0_gate_36 : decode cX0_gate 36 = .ok (.bipush 16, 2) := by decide +kernel
theorem dX0_gate_38 : decode cX0_gate 38 = .ok (.if_icmp .lt 6, 3) := by decide +kernel
theorem dX0_gate_41 : decode cX0_gate 41 = .ok (.bipush (-2), 2) := by decide +kernel
theorem dX0_gate_43 : decode cX0_gate 43 = .ok (.ireturn, 1) := by decide +kernel
theorem dX0_gate_44 : decode cX0_gate 44 = .ok (.aload_n 0, 1) := by decide +kernel
theorem dX0_gate_45 : decode cX0_gate 45 = .ok (.getfield 13, 3) := by decide +kernel
theorem dX0_gate_48 : decode cX0_gate 48 = .ok (.aload_n 0, 1) := by decide +kernel
theorem dX0_gate_49 : decode cX0_gate 49 = .ok (.getfield 9, 3) := by decide +kernel
theorem dX0_gate_52 : decode cX0_gate 52 = .ok (.iload_n 1, 1) := by decide +kernel
theorem dX0_gate_53 : decode cX0_gate 53 = .ok (.i2b, 1) := by decide +kernel
theorem dX0_gate_54 : decode cX0_gate 54 = .ok (.bastore, 1) := by decide +kernel
theorem dX0_gate_55 : decode cX0_gate 55 = .ok (.aload_n 0, 1) := by decide +kernel
theorem dX0_gate_56 : decode cX0_gate 56 = .ok (.getfield 17, 3) := by decide +kernel
theorem dX0_gate_59 : decode cX0_gate 59 = .ok (.aload_n 0, 1) := by decide +kernel
theorem dX0_gate_60 : decode cX0_gate 60 = .ok (.getfield 9, 3) := by decide +kernel
theorem dX0_gate_63 : decode cX0_gate 63 = .ok (.iload_n 2, 1) := by decide +kernel
theorem dX0_gate_64 : decode cX0_gate 64 = .ok (.i2b, 1) := by decide +kernel
theorem dX0_gate_65 : decode cX0_gate 65 = .ok (.bastore, 1) := by decide +kernel
theorem dX0_gate_66 : decode cX0_gate 66 = .ok (.aload_n 0, 1) := by decide +kernel
theorem dX0_gate_67 : decode cX0_gate 67 = .ok (.getfield 20, 3) := by decide +kernel
theorem dX0_gate_70 : decode cX0_gate 70 = .ok (.aload_n 0, 1) := by decide +kernel
theorem dX0_gate_71 : decode cX0_gate 71 = .ok (.getfield 9, 3) := by decide +kernel
theorem dX0_gate_74 : decode cX0_gate 74 = .ok (.iload_n 1, 1) := by decide +kernel
theorem dX0_gate_75 : decode cX0_gate 75 = .ok (.iconst 5, 1) := by decide +kernel
theorem dX0_gate_76 : decode cX0_gate 76 = .ok (.if_icmp .ne 7, 3) := by decide +kernel
theorem dX0_gate_79 : decode cX0_gate 79 = .ok (.iload_n 2, 1) := by decide +kernel
theorem dX0_gate_80 : decode cX0_gate 80 = .ok (.goto 4, 3) := by decide +kernel
theorem dX0_gate_83 : decode cX0_gate 83 = .ok (.iload_n 3, 1) := by decide +kernel
theorem dX0_gate_84 : decode cX0_gate 84 = .ok (.i2b, 1) := by decide +kernel
theorem dX0_gate_85 : decode cX0_gate 85 = .ok (.bastore, 1) := by decide +kernel
theorem dX0_gate_86 : decode cX0_gate 86 = .ok (.aload_n 0, 1) := by decide +kernel
theorem dX0_gate_87 : decode cX0_gate 87 = .ok (.dup, 1) := by decide +kernel
theorem dX0_gate_88 : decode cX0_gate 88 = .ok (.getfield 9, 3) := by decide +kernel
theorem dX0_gate_91 : decode cX0_gate 91 = .ok (.iconst 1, 1) := by decide +kernel
theorem dX0_gate_92 : decode cX0_gate 92 = .ok (.iadd, 1) := by decide +kernel
theorem dX0_gate_93 : decode cX0_gate 93 = .ok (.putfield 9, 3) := by decide +kernel
theorem dX0_gate_96 : decode cX0_gate 96 = .ok (.aload_n 0, 1) := by decide +kernel
theorem dX0_gate_97 : decode cX0_gate 97 = .ok (.getfield 9, 3) := by decide +kernel
theorem dX0_gate_100 : decode cX0_gate 100 = .ok (.iconst 1, 1) := by decide +kernel
theorem dX0_gate_101 : decode cX0_gate 101 = .ok (.isub, 1) := by decide +kernel
theorem dX0_gate_102 : decode cX0_gate 102 = .ok (.ireturn, 1) := by decide +kernel
theorem dX0_isLine_0 : decode cX0_isLine 0 = .ok (.iload_n 1, 1) := by decide +kernel
theorem dX0_isLine_1 : decode cX0_isLine 1 = .ok (.ifCond .lt 15, 3) := by decide +kernel
theorem dX0_isLine_4 : decode cX0_isLine 4 = .ok (.iload_n 1, 1) := by decide +kernel
theorem dX0_isLine_5 : decode cX0_isLine 5 = .ok (.aload_n 0, 1) := by decide +kernel
theorem dX0_isLine_6 : decode cX0_isLine 6 = .ok (.getfield 9, 3) := by decide +kernel
theorem dX0_isLine_9 : decode cX0_isLine 9 = .ok (.if_icmp .ge 7, 3) := by decide +kernel
theorem dX0_isLine_12 : decode cX0_isLine 12 = .ok (.iconst 1, 1) := by decide +kernel
theorem dX0_isLine_13 : decode cX0_isLine 13 = .ok (.goto 4, 3) := by decide +kernel
theorem dX0_isLine_16 : decode cX0_isLine 16 = .ok (.iconst 0, 1) := by decide +kernel
theorem dX0_isLine_17 : decode cX0_isLine 17 = .ok (.ireturn, 1) := by decide +kernel
theorem dX0_drop_0 : decode cX0_drop 0 = .ok (.aload_n 0, 1) := by decide +kernel
theorem dX0_drop_1 : decode cX0_drop 1 = .ok (.getfield 9, 3) := by decide +kernel
theorem dX0_drop_4 : decode cX0_drop 4 = .ok (.iconst 5, 1) := by decide +kernel
theorem dX0_drop_5 : decode cX0_drop 5 = .ok (.if_icmp .ne 5, 3) := by decide +kernel
theorem dX0_drop_8 : decode cX0_drop 8 = .ok (.iconst (-1), 1) := by decide +kernel
theorem dX0_drop_9 : decode cX0_drop 9 = .ok (.ireturn, 1) := by decide +kernel
theorem dX0_drop_10 : decode cX0_drop 10 = .ok (.aload_n 0, 1) := by decide +kernel
theorem dX0_drop_11 : decode cX0_drop 11 = .ok (.dup, 1) := by decide +kernel
theorem dX0_drop_12 : decode cX0_drop 12 = .ok (.getfield 9, 3) := by decide +kernel
theorem dX0_drop_15 : decode cX0_drop 15 = .ok (.iconst 1, 1) := by decide +kernel
theorem dX0_drop_16 : decode cX0_drop 16 = .ok (.isub, 1) := by decide +kernel
theorem dX0_drop_17 : decode cX0_drop 17 = .ok (.putfield 9, 3) := by decide +kernel
theorem dX0_drop_20 : decode cX0_drop 20 = .ok (.aload_n 0, 1) := by decide +kernel
theorem dX0_drop_21 : decode cX0_drop 21 = .ok (.dup, 1) := by decide +kernel
theorem dX0_drop_22 : decode cX0_drop 22 = .ok (.getfield 47, 3) := by decide +kernel
theorem dX0_drop_25 : decode cX0_drop 25 = .ok (.iconst 1, 1) := by decide +kernel
theorem dX0_drop_26 : decode cX0_drop 26 = .ok (.aload_n 0, 1) := by decide +kernel
theorem dX0_drop_27 : decode cX0_drop 27 = .ok (.getfield 9, 3) := by decide +kernel
theorem dX0_drop_30 : decode cX0_drop 30 = .ok (.ishl, 1) := by decide +kernel
theorem dX0_drop_31 : decode cX0_drop 31 = .ok (.iconst (-1), 1) := by decide +kernel
theorem dX0_drop_32 : decode cX0_drop 32 = .ok (.ixor, 1) := by decide +kernel
theorem dX0_drop_33 : decode cX0_drop 33 = .ok (.iand, 1) := by decide +kernel
theorem dX0_drop_34 : decode cX0_drop 34 = .ok (.putfield 47, 3) := by decide +kernel
theorem dX0_drop_37 : decode cX0_drop 37 = .ok (.aload_n 0, 1) := by decide +kernel
theorem dX0_drop_38 : decode cX0_drop 38 = .ok (.getfield 9, 3) := by decide +kernel
theorem dX0_drop_41 : decode cX0_drop 41 = .ok (.ireturn, 1) := by decide +kernel
theorem dX0_watch_0 : decode cX0_watch 0 = .ok (.aload_n 0, 1) := by decide +kernel
theorem dX0_watch_1 : decode cX0_watch 1 = .ok (.iload_n 1, 1) := by decide +kernel
theorem dX0_watch_2 : decode cX0_watch 2 = .ok (.invokevirtual 43, 3) := by decide +kernel
theorem dX0_watch_5 : decode cX0_watch 5 = .ok (.ifCond .ne 5, 3) := by decide +kernel
theorem dX0_watch_8 : decode cX0_watch 8 = .ok (.iconst 0, 1) := by decide +kernel
theorem dX0_watch_9 : decode cX0_watch 9 = .ok (.ireturn, 1) := by decide +kernel
theorem dX0_watch_10 : decode cX0_watch 10 = .ok (.aload_n 0, 1) := by decide +kernel
theorem dX0_watch_11 : decode cX0_watch 11 = .ok (.iload_n 2, 1) := by decide +kernel
theorem dX0_watch_12 : decode cX0_watch 12 = .ok (.ifCond .eq 14, 3) := by decide +kernel
theorem dX0_watch_15 : decode cX0_watch 15 = .ok (.aload_n 0, 1) := by decide +kernel
theorem dX0_watch_16 : decode cX0_watch 16 = .ok (.getfield 47, 3) := by decide +kernel
theorem dX0_watch_19 : decode cX0_watch 19 = .ok (.iconst 1, 1) := by decide +kernel
theorem dX0_watch_20 : decode cX0_watch 20 = .ok (.iload_n 1, 1) := by decide +kernel
theorem dX0_watch_21 : decode cX0_watch 21 = .ok (.ishl, 1) := by decide +kernel
theorem dX0_watch_22 : decode cX0_watch 22 = .ok (.ior, 1) := by decide +kernel
theorem dX0_watch_23 : decode cX0_watch 23 = .ok (.goto 13, 3) := by decide +kernel
theorem dX0_watch_26 : decode cX0_watch 26 = .ok (.aload_n 0, 1) := by decide +kernel
theorem dX0_watch_27 : decode cX0_watch 27 = .ok (.getfield 47, 3) := by decide +kernel
theorem dX0_watch_30 : decode cX0_watch 30 = .ok (.iconst 1, 1) := by decide +kernel
theorem dX0_watch_31 : decode cX0_watch 31 = .ok (.iload_n 1, 1) := by decide +kernel
theorem dX0_watch_32 : decode cX0_watch 32 = .ok (.ishl, 1) := by decide +kernel
theorem dX0_watch_33 : decode cX0_watch 33 = .ok (.iconst (-1), 1) := by decide +kernel
theorem dX0_watch_34 : decode cX0_watch 34 = .ok (.ixor, 1) := by decide +kernel
theorem dX0_watch_35 : decode cX0_watch 35 = .ok (.iand, 1) := by decide +kernel
theorem dX0_watch_36 : decode cX0_watch 36 = .ok (.putfield 47, 3) := by decide +kernel
theorem dX0_watch_39 : decode cX0_watch 39 = .ok (.iconst 1, 1) := by decide +kernel
theorem dX0_watch_40 : decode cX0_watch 40 = .ok (.ireturn, 1) := by decide +kernel
theorem dX0_lines_0 : decode cX0_lines 0 = .ok (.aload_n 0, 1) := by decide +kernel
theorem dX0_lines_1 : decode cX0_lines 1 = .ok (.getfield 9, 3) := by decide +kernel
theorem dX0_lines_4 : decode cX0_lines 4 = .ok (.ireturn, 1) := by decide +kernel
theorem dX0_watched_0 : decode cX0_watched 0 = .ok (.aload_n 0, 1) := by decide +kernel
theorem dX0_watched_1 : decode cX0_watched 1 = .ok (.getfield 47, 3) := by decide +kernel
theorem dX0_watched_4 : decode cX0_watched 4 = .ok (.ireturn, 1) := by decide +kernel
theorem dX0_value_0 : decode cX0_value 0 = .ok (.aload_n 0, 1) := by decide +kernel
theorem dX0_value_1 : decode cX0_value 1 = .ok (.iload_n 1, 1) := by decide +kernel
theorem dX0_value_2 : decode cX0_value 2 = .ok (.invokevirtual 43, 3) := by decide +kernel
theorem dX0_value_5 : decode cX0_value 5 = .ok (.ifCond .eq 10, 3) := by decide +kernel
theorem dX0_value_8 : decode cX0_value 8 = .ok (.iload_n 2, 1) := by decide +kernel
theorem dX0_value_9 : decode cX0_value 9 = .ok (.invokestatic 71, 3) := by decide +kernel
theorem dX0_value_12 : decode cX0_value 12 = .ok (.ifCond .ne 5, 3) := by decide +kernel
theorem dX0_value_15 : decode cX0_value 15 = .ok (.iconst (-1), 1) := by decide +kernel
theorem dX0_value_16 : decode cX0_value 16 = .ok (.ireturn, 1) := by decide +kernel
theorem dX0_value_17 : decode cX0_value 17 = .ok (.aload_n 0, 1) := by decide +kernel
theorem dX0_value_18 : decode cX0_value 18 = .ok (.invokevirtual 58, 3) := by decide +kernel
theorem dX0_value_21 : decode cX0_value 21 = .ok (.aload_n 0, 1) := by decide +kernel
theorem dX0_value_22 : decode cX0_value 22 = .ok (.getfield 23, 3) := by decide +kernel
theorem dX0_value_25 : decode cX0_value 25 = .ok (.iload_n 1, 1) := by decide +kernel
theorem dX0_value_26 : decode cX0_value 26 = .ok (.iaload, 1) := by decide +kernel
theorem dX0_value_27 : decode cX0_value 27 = .ok (.iload_n 2, 1) := by decide +kernel
theorem dX0_value_28 : decode cX0_value 28 = .ok (.iushr, 1) := by decide +kernel
theorem dX0_value_29 : decode cX0_value 29 = .ok (.iconst 1, 1) := by decide +kernel
theorem dX0_value_30 : decode cX0_value 30 = .ok (.iand, 1) := by decide +kernel
theorem dX0_value_31 : decode cX0_value 31 = .ok (.ireturn, 1) := by decide +kernel
theorem dX0_isVector_0 : decode cX0_isVector 0 = .ok (.iload_n 0, 1) := by decide +kernel
theorem dX0_isVector_1 : decode cX0_isVector 1 = .ok (.ifCond .lt 13, 3) := by decide +kernel
theorem dX0_isVector_4 : decode cX0_isVector 4 = .ok (.iload_n 0, 1) := by decide +kernel
theorem dX0_isVector_5 : decode cX0_isVector 5 = .ok (.bipush 32, 2) := by decide +kernel
theorem dX0_isVector_7 : decode cX0_isVector 7 = .ok (.if_icmp .ge 7, 3) := by decide +kernel
theorem dX0_isVector_10 : decode cX0_isVector 10 = .ok (.iconst 1, 1) := by decide +kernel
theorem dX0_isVector_11 : decode cX0_isVector 11 = .ok (.goto 4, 3) := by decide +kernel
theorem dX0_isVector_14 : decode cX0_isVector 14 = .ok (.iconst 0, 1) := by decide +kernel
theorem dX0_isVector_15 : decode cX0_isVector 15 = .ok (.ireturn, 1) := by decide +kernel
theorem dX0_simulateSound_0 : decode cX0_simulateSound 0 = .ok (.iconst 0, 1) := by decide +kernel
theorem dX0_simulateSound_1 : decode cX0_simulateSound 1 = .ok (.istore_n 1, 1) := by decide +kernel
theorem dX0_simulateSound_2 : decode cX0_simulateSound 2 = .ok (.iload_n 1, 1) := by decide +kernel
theorem dX0_simulateSound_3 : decode cX0_simulateSound 3 = .ok (.aload_n 0, 1) := by decide +kernel
theorem dX0_simulateSound_4 : decode cX0_simulateSound 4 = .ok (.getfield 9, 3) := by decide +kernel
theorem dX0_simulateSound_7 : decode cX0_simulateSound 7 = .ok (.if_icmp .ge 58, 3) := by decide +kernel
theorem dX0_simulateSound_10 : decode cX0_simulateSound 10 = .ok (.aload_n 0, 1) := by decide +kernel
theorem dX0_simulateSound_11 : decode cX0_simulateSound 11 = .ok (.getfield 23, 3) := by decide +kernel
theorem dX0_simulateSound_14 : decode cX0_simulateSound 14 = .ok (.iload_n 1, 1) := by decide +kernel
theorem dX0_simulateSound_15 : decode cX0_simulateSound 15 = .ok (.iload_n 1, 1) := by decide +kernel
theorem dX0_simulateSound_16 : decode cX0_simulateSound 16 = .ok (.iconst 5, 1) := by decide +kernel
theorem dX0_simulateSound_17 : decode cX0_simulateSound 17 = .ok (.if_icmp .ge 10, 3) := by decide +kernel
theorem dX0_simulateSound_20 : decode cX0_simulateSound 20 = .ok (.iload_n 1, 1) := by decide +kernel
theorem dX0_simulateSound_21 : decode cX0_simulateSound 21 = .ok (.invokestatic 50, 3) := by decide +kernel
theorem dX0_simulateSound_24 : decode cX0_simulateSound 24 = .ok (.goto 34, 3) := by decide +kernel
theorem dX0_simulateSound_27 : decode cX0_simulateSound 27 = .ok (.aload_n 0, 1) := by decide +kernel
theorem dX0_simulateSound_28 : decode cX0_simulateSound 28 = .ok (.getfield 13, 3) := by decide +kernel
theorem dX0_simulateSound_31 : decode cX0_simulateSound 31 = .ok (.iload_n 1, 1) := by decide +kernel
theorem dX0_simulateSound_32 : decode cX0_simulateSound 32 = .ok (.baload, 1) := by decide +kernel
theorem dX0_simulateSound_33 : decode cX0_simulateSound 33 = .ok (.aload_n 0, 1) := by decide +kernel
theorem dX0_simulateSound_34 : decode cX0_simulateSound 34 = .ok (.getfield 23, 3) := by decide +kernel
theorem dX0_simulateSound_37 : decode cX0_simulateSound 37 = .ok (.aload_n 0, 1) := by decide +kernel
theorem dX0_simulateSound_38 : decode cX0_simulateSound 38 = .ok (.getfield 17, 3) := by decide +kernel
theorem dX0_simulateSound_41 : decode cX0_simulateSound 41 = .ok (.iload_n 1, 1) := by decide +kernel
theorem dX0_simulateSound_42 : decode cX0_simulateSound 42 = .ok (.baload, 1) := by decide +kernel
theorem dX0_simulateSound_43 : decode cX0_simulateSound 43 = .ok (.iaload, 1) := by decide +kernel
theorem dX0_simulateSound_44 : decode cX0_simulateSound 44 = .ok (.aload_n 0, 1) := by decide +kernel
theorem dX0_simulateSound_45 : decode cX0_simulateSound 45 = .ok (.getfield 23, 3) := by decide +kernel
theorem dX0_simulateSound_48 : decode cX0_simulateSound 48 = .ok (.aload_n 0, 1) := by decide +kernel
theorem dX0_simulateSound_49 : decode cX0_simulateSound 49 = .ok (.getfield 20, 3) := by decide +kernel
theorem dX0_simulateSound_52 : decode cX0_simulateSound 52 = .ok (.iload_n 1, 1) := by decide +kernel
theorem dX0_simulateSound_53 : decode cX0_simulateSound 53 = .ok (.baload, 1) := by decide +kernel
theorem dX0_simulateSound_54 : decode cX0_simulateSound 54 = .ok (.iaload, 1) := by decide +kernel
theorem dX0_simulateSound_55 : decode cX0_simulateSound 55 = .ok (.invokestatic 54, 3) := by decide +kernel
theorem dX0_simulateSound_58 : decode cX0_simulateSound 58 = .ok (.iastore, 1) := by decide +kernel
theorem dX0_simulateSound_59 : decode cX0_simulateSound 59 = .ok (.iinc 1 1, 3) := by decide +kernel
theorem dX0_simulateSound_62 : decode cX0_simulateSound 62 = .ok (.goto (-60), 3) := by decide +kernel
theorem dX0_simulateSound_65 : decode cX0_simulateSound 65 = .ok (.return_, 1) := by decide +kernel
theorem dX0_pattern_0 : decode cX0_pattern 0 = .ok (.iconst 0, 1) := by decide +kernel
theorem dX0_pattern_1 : decode cX0_pattern 1 = .ok (.istore_n 1, 1) := by decide +kernel
theorem dX0_pattern_2 : decode cX0_pattern 2 = .ok (.iconst 0, 1) := by decide +kernel
theorem dX0_pattern_3 : decode cX0_pattern 3 = .ok (.istore_n 2, 1) := by decide +kernel
theorem dX0_pattern_4 : decode cX0_pattern 4 = .ok (.iload_n 2, 1) := by decide +kernel
theorem dX0_pattern_5 : decode cX0_pattern 5 = .ok (.bipush 32, 2) := by decide +kernel
theorem dX0_pattern_7 : decode cX0_pattern 7 = .ok (.if_icmp .ge 19, 3) := by decide +kernel
theorem dX0_pattern_10 : decode cX0_pattern 10 = .ok (.iload_n 1, 1) := by decide +kernel
theorem dX0_pattern_11 : decode cX0_pattern 11 = .ok (.iload_n 2, 1) := by decide +kernel
theorem dX0_pattern_12 : decode cX0_pattern 12 = .ok (.iload_n 0, 1) := by decide +kernel
theorem dX0_pattern_13 : decode cX0_pattern 13 = .ok (.ishr, 1) := by decide +kernel
theorem dX0_pattern_14 : decode cX0_pattern 14 = .ok (.iconst 1, 1) := by decide +kernel
theorem dX0_pattern_15 : decode cX0_pattern 15 = .ok (.iand, 1) := by decide +kernel
theorem dX0_pattern_16 : decode cX0_pattern 16 = .ok (.iload_n 2, 1) := by decide +kernel
theorem dX0_pattern_17 : decode cX0_pattern 17 = .ok (.ishl, 1) := by decide +kernel
theorem dX0_pattern_18 : decode cX0_pattern 18 = .ok (.ior, 1) := by decide +kernel
theorem dX0_pattern_19 : decode cX0_pattern 19 = .ok (.istore_n 1, 1) := by decide +kernel
theorem dX0_pattern_20 : decode cX0_pattern 20 = .ok (.iinc 2 1, 3) := by decide +kernel
theorem dX0_pattern_23 : decode cX0_pattern 23 = .ok (.goto (-19), 3) := by decide +kernel
theorem dX0_pattern_26 : decode cX0_pattern 26 = .ok (.iload_n 1, 1) := by decide +kernel
theorem dX0_pattern_27 : decode cX0_pattern 27 = .ok (.ireturn, 1) := by decide +kernel
theorem dX0_apply_0 : decode cX0_apply 0 = .ok (.iload_n 0, 1) := by decide +kernel
theorem dX0_apply_1 : decode cX0_apply 1 = .ok (.ifCond .ne 7, 3) := by decide +kernel
theorem dX0_apply_4 : decode cX0_apply 4 = .ok (.iload_n 1, 1) := by decide +kernel
theorem dX0_apply_5 : decode cX0_apply 5 = .ok (.iload_n 2, 1) := by decide +kernel
theorem dX0_apply_6 : decode cX0_apply 6 = .ok (.iand, 1) := by decide +kernel
theorem dX0_apply_7 : decode cX0_apply 7 = .ok (.ireturn, 1) := by decide +kernel
theorem dX0_apply_8 : decode cX0_apply 8 = .ok (.iload_n 0, 1) := by decide +kernel
theorem dX0_apply_9 : decode cX0_apply 9 = .ok (.iconst 1, 1) := by decide +kernel
theorem dX0_apply_10 : decode cX0_apply 10 = .ok (.if_icmp .ne 7, 3) := by decide +kernel
theorem dX0_apply_13 : decode cX0_apply 13 = .ok (.iload_n 1, 1) := by decide +kernel
theorem dX0_apply_14 : decode cX0_apply 14 = .ok (.iload_n 2, 1) := by decide +kernel
theorem dX0_apply_15 : decode cX0_apply 15 = .ok (.ior, 1) := by decide +kernel
theorem dX0_apply_16 : decode cX0_apply 16 = .ok (.ireturn, 1) := by decide +kernel
theorem dX0_apply_17 : decode cX0_apply 17 = .ok (.iload_n 0, 1) := by decide +kernel
theorem dX0_apply_18 : decode cX0_apply 18 = .ok (.iconst 2, 1) := by decide +kernel
theorem dX0_apply_19 : decode cX0_apply 19 = .ok (.if_icmp .ne 7, 3) := by decide +kernel
theorem dX0_apply_22 : decode cX0_apply 22 = .ok (.iload_n 1, 1) := by decide +kernel
theorem dX0_apply_23 : decode cX0_apply 23 = .ok (.iload_n 2, 1) := by decide +kernel
theorem dX0_apply_24 : decode cX0_apply 24 = .ok (.ixor, 1) := by decide +kernel
theorem dX0_apply_25 : decode cX0_apply 25 = .ok (.ireturn, 1) := by decide +kernel
theorem dX0_apply_26 : decode cX0_apply 26 = .ok (.iload_n 0, 1) := by decide +kernel
theorem dX0_apply_27 : decode cX0_apply 27 = .ok (.iconst 3, 1) := by decide +kernel
theorem dX0_apply_28 : decode cX0_apply 28 = .ok (.if_icmp .ne 9, 3) := by decide +kernel
theorem dX0_apply_31 : decode cX0_apply 31 = .ok (.iload_n 1, 1) := by decide +kernel
theorem dX0_apply_32 : decode cX0_apply 32 = .ok (.iload_n 2, 1) := by decide +kernel
theorem dX0_apply_33 : decode cX0_apply 33 = .ok (.iand, 1) := by decide +kernel
theorem dX0_apply_34 : decode cX0_apply 34 = .ok (.iconst (-1), 1) := by decide +kernel
theorem dX0_apply_35 : decode cX0_apply 35 = .ok (.ixor, 1) := by decide +kernel
theorem dX0_apply_36 : decode cX0_apply 36 = .ok (.ireturn, 1) := by decide +kernel
theorem dX0_apply_37 : decode cX0_apply 37 = .ok (.iload_n 0, 1) := by decide +kernel
theorem dX0_apply_38 : decode cX0_apply 38 = .ok (.iconst 4, 1) := by decide +kernel
theorem dX0_apply_39 : decode cX0_apply 39 = .ok (.if_icmp .ne 11, 3) := by decide +kernel
theorem dX0_apply_42 : decode cX0_apply 42 = .ok (.iload_n 1, 1) := by decide +kernel
theorem dX0_apply_43 : decode cX0_apply 43 = .ok (.iload_n 2, 1) := by decide +kernel
theorem dX0_apply_44 : decode cX0_apply 44 = .ok (.ior, 1) := by decide +kernel
theorem dX0_apply_45 : decode cX0_apply 45 = .ok (.iconst (-1), 1) := by decide +kernel
theorem dX0_apply_46 : decode cX0_apply 46 = .ok (.ixor, 1) := by decide +kernel
theorem dX0_apply_47 : decode cX0_apply 47 = .ok (.goto 6, 3) := by decide +kernel
theorem dX0_apply_50 : decode cX0_apply 50 = .ok (.iload_n 1, 1) := by decide +kernel
theorem dX0_apply_51 : decode cX0_apply 51 = .ok (.iconst (-1), 1) := by decide +kernel
theorem dX0_apply_52 : decode cX0_apply 52 = .ok (.ixor, 1) := by decide +kernel
theorem dX0_apply_53 : decode cX0_apply 53 = .ok (.ireturn, 1) := by decide +kernel
theorem dX0_shows_0 : decode cX0_shows 0 = .ok (.aload_n 0, 1) := by decide +kernel
theorem dX0_shows_1 : decode cX0_shows 1 = .ok (.iload_n 2, 1) := by decide +kernel
theorem dX0_shows_2 : decode cX0_shows 2 = .ok (.invokevirtual 43, 3) := by decide +kernel
theorem dX0_shows_5 : decode cX0_shows 5 = .ok (.ifCond .eq 17, 3) := by decide +kernel
theorem dX0_shows_8 : decode cX0_shows 8 = .ok (.iload_n 3, 1) := by decide +kernel
theorem dX0_shows_9 : decode cX0_shows 9 = .ok (.invokestatic 74, 3) := by decide +kernel
theorem dX0_shows_12 : decode cX0_shows 12 = .ok (.ifCond .eq 10, 3) := by decide +kernel
theorem dX0_shows_15 : decode cX0_shows 15 = .ok (.iload_n 1, 1) := by decide +kernel
theorem dX0_shows_16 : decode cX0_shows 16 = .ok (.invokestatic 71, 3) := by decide +kernel
theorem dX0_shows_19 : decode cX0_shows 19 = .ok (.ifCond .ne 5, 3) := by decide +kernel
theorem dX0_shows_22 : decode cX0_shows 22 = .ok (.iconst 0, 1) := by decide +kernel
theorem dX0_shows_23 : decode cX0_shows 23 = .ok (.ireturn, 1) := by decide +kernel
theorem dX0_shows_24 : decode cX0_shows 24 = .ok (.aload_n 0, 1) := by decide +kernel
theorem dX0_shows_25 : decode cX0_shows 25 = .ok (.iload_n 2, 1) := by decide +kernel
theorem dX0_shows_26 : decode cX0_shows 26 = .ok (.iload_n 3, 1) := by decide +kernel
theorem dX0_shows_27 : decode cX0_shows 27 = .ok (.invokevirtual 77, 3) := by decide +kernel
theorem dX0_shows_30 : decode cX0_shows 30 = .ok (.istore 4, 2) := by decide +kernel
theorem dX0_shows_32 : decode cX0_shows 32 = .ok (.iload 4, 2) := by decide +kernel
theorem dX0_shows_34 : decode cX0_shows 34 = .ok (.iload_n 1, 1) := by decide +kernel
theorem dX0_shows_35 : decode cX0_shows 35 = .ok (.iushr, 1) := by decide +kernel
theorem dX0_shows_36 : decode cX0_shows 36 = .ok (.iconst 1, 1) := by decide +kernel
theorem dX0_shows_37 : decode cX0_shows 37 = .ok (.iand, 1) := by decide +kernel
theorem dX0_shows_38 : decode cX0_shows 38 = .ok (.ifCond .eq 7, 3) := by decide +kernel
theorem dX0_shows_41 : decode cX0_shows 41 = .ok (.iconst 1, 1) := by decide +kernel
theorem dX0_shows_42 : decode cX0_shows 42 = .ok (.goto 4, 3) := by decide +kernel
theorem dX0_shows_45 : decode cX0_shows 45 = .ok (.iconst 0, 1) := by decide +kernel
theorem dX0_shows_46 : decode cX0_shows 46 = .ok (.ireturn, 1) := by decide +kernel
theorem dX0_isBit_0 : decode cX0_isBit 0 = .ok (.iload_n 0, 1) := by decide +kernel
theorem dX0_isBit_1 : decode cX0_isBit 1 = .ok (.ifCond .eq 8, 3) := by decide +kernel
theorem dX0_isBit_4 : decode cX0_isBit 4 = .ok (.iload_n 0, 1) := by decide +kernel
theorem dX0_isBit_5 : decode cX0_isBit 5 = .ok (.iconst 1, 1) := by decide +kernel
theorem dX0_isBit_6 : decode cX0_isBit 6 = .ok (.if_icmp .ne 7, 3) := by decide +kernel
theorem dX0_isBit_9 : decode cX0_isBit 9 = .ok (.iconst 1, 1) := by decide +kernel
theorem dX0_isBit_10 : decode cX0_isBit 10 = .ok (.goto 4, 3) := by decide +kernel
theorem dX0_isBit_13 : decode cX0_isBit 13 = .ok (.iconst 0, 1) := by decide +kernel
theorem dX0_isBit_14 : decode cX0_isBit 14 = .ok (.ireturn, 1) := by decide +kernel
theorem dX0_shownSet_0 : decode cX0_shownSet 0 = .ok (.aload_n 0, 1) := by decide +kernel
theorem dX0_shownSet_1 : decode cX0_shownSet 1 = .ok (.invokevirtual 58, 3) := by decide +kernel
theorem dX0_shownSet_4 : decode cX0_shownSet 4 = .ok (.iconst 0, 1) := by decide +kernel
theorem dX0_shownSet_5 : decode cX0_shownSet 5 = .ok (.istore_n 3, 1) := by decide +kernel
theorem dX0_shownSet_6 : decode cX0_shownSet 6 = .ok (.iconst 0, 1) := by decide +kernel
theorem dX0_shownSet_7 : decode cX0_shownSet 7 = .ok (.istore 4, 2) := by decide +kernel
theorem dX0_shownSet_9 : decode cX0_shownSet 9 = .ok (.iload 4, 2) := by decide +kernel
theorem dX0_shownSet_11 : decode cX0_shownSet 11 = .ok (.aload_n 0, 1) := by decide +kernel
theorem dX0_shownSet_12 : decode cX0_shownSet 12 = .ok (.getfield 9, 3) := by decide +kernel
theorem dX0_shownSet_15 : decode cX0_shownSet 15 = .ok (.if_icmp .ge 123, 3) := by decide +kernel
theorem dX0_shownSet_18 : decode cX0_shownSet 18 = .ok (.aload_n 0, 1) := by decide +kernel
theorem dX0_shownSet_19 : decode cX0_shownSet 19 = .ok (.getfield 27, 3) := by decide +kernel
theorem dX0_shownSet_22 : decode cX0_shownSet 22 = .ok (.iload 4, 2) := by decide +kernel
theorem dX0_shownSet_24 : decode cX0_shownSet 24 = .ok (.iload 4, 2) := by decide +kernel
theorem dX0_shownSet_26 : decode cX0_shownSet 26 = .ok (.iconst 5, 1) := by decide +kernel
theorem dX0_shownSet_27 : decode cX0_shownSet 27 = .ok (.if_icmp .ge 13, 3) := by decide +kernel
theorem dX0_shownSet_30 : decode cX0_shownSet 30 = .ok (.aload_n 0, 1) := by decide +kernel
theorem dX0_shownSet_31 : decode cX0_shownSet 31 = .ok (.getfield 23, 3) := by decide +kernel
theorem dX0_shownSet_34 : decode cX0_shownSet 34 = .ok (.iload 4, 2) := by decide +kernel
theorem dX0_shownSet_36 : decode cX0_shownSet 36 = .ok (.iaload, 1) := by decide +kernel
theorem dX0_shownSet_37 : decode cX0_shownSet 37 = .ok (.goto 37, 3) := by decide +kernel
theorem dX0_shownSet_40 : decode cX0_shownSet 40 = .ok (.aload_n 0, 1) := by decide +kernel
theorem dX0_shownSet_41 : decode cX0_shownSet 41 = .ok (.getfield 13, 3) := by decide +kernel
theorem dX0_shownSet_44 : decode cX0_shownSet 44 = .ok (.iload 4, 2) := by decide +kernel
theorem dX0_shownSet_46 : decode cX0_shownSet 46 = .ok (.baload, 1) := by decide +kernel
theorem dX0_shownSet_47 : decode cX0_shownSet 47 = .ok (.aload_n 0, 1) := by decide +kernel
theorem dX0_shownSet_48 : decode cX0_shownSet 48 = .ok (.getfield 27, 3) := by decide +kernel
theorem dX0_shownSet_51 : decode cX0_shownSet 51 = .ok (.aload_n 0, 1) := by decide +kernel
theorem dX0_shownSet_52 : decode cX0_shownSet 52 = .ok (.getfield 17, 3) := by decide +kernel
theorem dX0_shownSet_55 : decode cX0_shownSet 55 = .ok (.iload 4, 2) := by decide +kernel
theorem dX0_shownSet_57 : decode cX0_shownSet 57 = .ok (.baload, 1) := by decide +kernel
theorem dX0_shownSet_58 : decode cX0_shownSet 58 = .ok (.iaload, 1) := by decide +kernel
theorem dX0_shownSet_59 : decode cX0_shownSet 59 = .ok (.aload_n 0, 1) := by decide +kernel
theorem dX0_shownSet_60 : decode cX0_shownSet 60 = .ok (.getfield 27, 3) := by decide +kernel
theorem dX0_shownSet_63 : decode cX0_shownSet 63 = .ok (.aload_n 0, 1) := by decide +kernel
theorem dX0_shownSet_64 : decode cX0_shownSet 64 = .ok (.getfield 20, 3) := by decide +kernel
theorem dX0_shownSet_67 : decode cX0_shownSet 67 = .ok (.iload 4, 2) := by decide +kernel
theorem dX0_shownSet_69 : decode cX0_shownSet 69 = .ok (.baload, 1) := by decide +kernel
theorem dX0_shownSet_70 : decode cX0_shownSet 70 = .ok (.iaload, 1) := by decide +kernel
theorem dX0_shownSet_71 : decode cX0_shownSet 71 = .ok (.invokestatic 54, 3) := by decide +kernel
theorem dX0_shownSet_74 : decode cX0_shownSet 74 = .ok (.iastore, 1) := by decide +kernel
theorem dX0_shownSet_75 : decode cX0_shownSet 75 = .ok (.iload 4, 2) := by decide +kernel
theorem dX0_shownSet_77 : decode cX0_shownSet 77 = .ok (.iload_n 1, 1) := by decide +kernel
theorem dX0_shownSet_78 : decode cX0_shownSet 78 = .ok (.if_icmp .ne 20, 3) := by decide +kernel
theorem dX0_shownSet_81 : decode cX0_shownSet 81 = .ok (.aload_n 0, 1) := by decide +kernel
theorem dX0_shownSet_82 : decode cX0_shownSet 82 = .ok (.getfield 27, 3) := by decide +kernel
theorem dX0_shownSet_85 : decode cX0_shownSet 85 = .ok (.iload 4, 2) := by decide +kernel
theorem dX0_shownSet_87 : decode cX0_shownSet 87 = .ok (.iload_n 2, 1) := by decide +kernel
theorem dX0_shownSet_88 : decode cX0_shownSet 88 = .ok (.iconst 1, 1) := by decide +kernel
theorem dX0_shownSet_89 : decode cX0_shownSet 89 = .ok (.if_icmp .ne 7, 3) := by decide +kernel
theorem dX0_shownSet_92 : decode cX0_shownSet 92 = .ok (.iconst (-1), 1) := by decide +kernel
theorem dX0_shownSet_93 : decode cX0_shownSet 93 = .ok (.goto 4, 3) := by decide +kernel
theorem dX0_shownSet_96 : decode cX0_shownSet 96 = .ok (.iconst 0, 1) := by decide +kernel
theorem dX0_shownSet_97 : decode cX0_shownSet 97 = .ok (.iastore, 1) := by decide +kernel
theorem dX0_shownSet_98 : decode cX0_shownSet 98 = .ok (.iload_n 3, 1) := by decide +kernel
theorem dX0_shownSet_99 : decode cX0_shownSet 99 = .ok (.aload_n 0, 1) := by decide +kernel
theorem dX0_shownSet_100 : decode cX0_shownSet 100 = .ok (.getfield 47, 3) := by decide +kernel
theorem dX0_shownSet_103 : decode cX0_shownSet 103 = .ok (.iload 4, 2) := by decide +kernel
theorem dX0_shownSet_105 : decode cX0_shownSet 105 = .ok (.ishr, 1) := by decide +kernel
theorem dX0_shownSet_106 : decode cX0_shownSet 106 = .ok (.iconst 1, 1) := by decide +kernel
theorem dX0_shownSet_107 : decode cX0_shownSet 107 = .ok (.iand, 1) := by decide +kernel
theorem dX0_shownSet_108 : decode cX0_shownSet 108 = .ok (.ifCond .eq 21, 3) := by decide +kernel
theorem dX0_shownSet_111 : decode cX0_shownSet 111 = .ok (.aload_n 0, 1) := by decide +kernel
theorem dX0_shownSet_112 : decode cX0_shownSet 112 = .ok (.getfield 23, 3) := by decide +kernel
theorem dX0_shownSet_115 : decode cX0_shownSet 115 = .ok (.iload 4, 2) := by decide +kernel
theorem dX0_shownSet_117 : decode cX0_shownSet 117 = .ok (.iaload, 1) := by decide +kernel
theorem dX0_shownSet_118 : decode cX0_shownSet 118 = .ok (.aload_n 0, 1) := by decide +kernel
theorem dX0_shownSet_119 : decode cX0_shownSet 119 = .ok (.getfield 27, 3) := by decide +kernel
theorem dX0_shownSet_122 : decode cX0_shownSet 122 = .ok (.iload 4, 2) := by decide +kernel
theorem dX0_shownSet_124 : decode cX0_shownSet 124 = .ok (.iaload, 1) := by decide +kernel
theorem dX0_shownSet_125 : decode cX0_shownSet 125 = .ok (.ixor, 1) := by decide +kernel
theorem dX0_shownSet_126 : decode cX0_shownSet 126 = .ok (.goto 4, 3) := by decide +kernel
theorem dX0_shownSet_129 : decode cX0_shownSet 129 = .ok (.iconst 0, 1) := by decide +kernel
theorem dX0_shownSet_130 : decode cX0_shownSet 130 = .ok (.ior, 1) := by decide +kernel
theorem dX0_shownSet_131 : decode cX0_shownSet 131 = .ok (.istore_n 3, 1) := by decide +kernel
theorem dX0_shownSet_132 : decode cX0_shownSet 132 = .ok (.iinc 4 1, 3) := by decide +kernel
theorem dX0_shownSet_135 : decode cX0_shownSet 135 = .ok (.goto (-126), 3) := by decide +kernel
theorem dX0_shownSet_138 : decode cX0_shownSet 138 = .ok (.iload_n 3, 1) := by decide +kernel
theorem dX0_shownSet_139 : decode cX0_shownSet 139 = .ok (.ireturn, 1) := by decide +kernel
theorem dX0_test_0 : decode cX0_test 0 = .ok (.aload_n 0, 1) := by decide +kernel
theorem dX0_test_1 : decode cX0_test 1 = .ok (.iload_n 1, 1) := by decide +kernel
theorem dX0_test_2 : decode cX0_test 2 = .ok (.iload_n 2, 1) := by decide +kernel
theorem dX0_test_3 : decode cX0_test 3 = .ok (.iconst 0, 1) := by decide +kernel
theorem dX0_test_4 : decode cX0_test 4 = .ok (.invokevirtual 80, 3) := by decide +kernel
theorem dX0_test_7 : decode cX0_test 7 = .ok (.ireturn, 1) := by decide +kernel
theorem dX0_testFrom_0 : decode cX0_testFrom 0 = .ok (.aload_n 0, 1) := by decide +kernel
theorem dX0_testFrom_1 : decode cX0_testFrom 1 = .ok (.iload_n 1, 1) := by decide +kernel
theorem dX0_testFrom_2 : decode cX0_testFrom 2 = .ok (.invokevirtual 43, 3) := by decide +kernel
theorem dX0_testFrom_5 : decode cX0_testFrom 5 = .ok (.ifCond .eq 16, 3) := by decide +kernel
theorem dX0_testFrom_8 : decode cX0_testFrom 8 = .ok (.iload_n 2, 1) := by decide +kernel
theorem dX0_testFrom_9 : decode cX0_testFrom 9 = .ok (.invokestatic 74, 3) := by decide +kernel
theorem dX0_testFrom_12 : decode cX0_testFrom 12 = .ok (.ifCond .eq 9, 3) := by decide +kernel
theorem dX0_testFrom_15 : decode cX0_testFrom 15 = .ok (.iload_n 3, 1) := by decide +kernel
theorem dX0_testFrom_16 : decode cX0_testFrom 16 = .ok (.bipush 31, 2) := by decide +kernel
theorem dX0_testFrom_18 : decode cX0_testFrom 18 = .ok (.if_icmp .le 5, 3) := by decide +kernel
theorem dX0_testFrom_21 : decode cX0_testFrom 21 = .ok (.iconst (-1), 1) := by decide +kernel
theorem dX0_testFrom_22 : decode cX0_testFrom 22 = .ok (.ireturn, 1) := by decide +kernel
theorem dX0_testFrom_23 : decode cX0_testFrom 23 = .ok (.iload_n 3, 1) := by decide +kernel
theorem dX0_testFrom_24 : decode cX0_testFrom 24 = .ok (.ifCond .ge 7, 3) := by decide +kernel
theorem dX0_testFrom_27 : decode cX0_testFrom 27 = .ok (.iconst 0, 1) := by decide +kernel
theorem dX0_testFrom_28 : decode cX0_testFrom 28 = .ok (.goto 4, 3) := by decide +kernel
theorem dX0_testFrom_31 : decode cX0_testFrom 31 = .ok (.iload_n 3, 1) := by decide +kernel
theorem dX0_testFrom_32 : decode cX0_testFrom 32 = .ok (.istore 4, 2) := by decide +kernel
theorem dX0_testFrom_34 : decode cX0_testFrom 34 = .ok (.aload_n 0, 1) := by decide +kernel
theorem dX0_testFrom_35 : decode cX0_testFrom 35 = .ok (.iload_n 1, 1) := by decide +kernel
theorem dX0_testFrom_36 : decode cX0_testFrom 36 = .ok (.iload_n 2, 1) := by decide +kernel
theorem dX0_testFrom_37 : decode cX0_testFrom 37 = .ok (.iload 4, 2) := by decide +kernel
theorem dX0_testFrom_39 : decode cX0_testFrom 39 = .ok (.invokevirtual 83, 3) := by decide +kernel
theorem dX0_testFrom_42 : decode cX0_testFrom 42 = .ok (.ireturn, 1) := by decide +kernel
theorem dX0_search_0 : decode cX0_search 0 = .ok (.iconst 0, 1) := by decide +kernel
theorem dX0_search_1 : decode cX0_search 1 = .ok (.istore 4, 2) := by decide +kernel
theorem dX0_search_3 : decode cX0_search 3 = .ok (.iload 4, 2) := by decide +kernel
theorem dX0_search_5 : decode cX0_search 5 = .ok (.iconst 5, 1) := by decide +kernel
theorem dX0_search_6 : decode cX0_search 6 = .ok (.if_icmp .ge 17, 3) := by decide +kernel
theorem dX0_search_9 : decode cX0_search 9 = .ok (.aload_n 0, 1) := by decide +kernel
theorem dX0_search_10 : decode cX0_search 10 = .ok (.getfield 30, 3) := by decide +kernel
theorem dX0_search_13 : decode cX0_search 13 = .ok (.iload 4, 2) := by decide +kernel
theorem dX0_search_15 : decode cX0_search 15 = .ok (.iconst 2, 1) := by decide +kernel
theorem dX0_search_16 : decode cX0_search 16 = .ok (.bastore, 1) := by decide +kernel
theorem dX0_search_17 : decode cX0_search 17 = .ok (.iinc 4 1, 3) := by decide +kernel
theorem dX0_search_20 : decode cX0_search 20 = .ok (.goto (-17), 3) := by decide +kernel
theorem dX0_search_23 : decode cX0_search 23 = .ok (.iconst 4, 1) := by decide +kernel
theorem dX0_search_24 : decode cX0_search 24 = .ok (.istore 4, 2) := by decide +kernel
theorem dX0_search_26 : decode cX0_search 26 = .ok (.iconst 0, 1) := by decide +kernel
theorem dX0_search_27 : decode cX0_search 27 = .ok (.istore 5, 2) := by decide +kernel
theorem dX0_search_29 : decode cX0_search 29 = .ok (.iconst 0, 1) := by decide +kernel
theorem dX0_search_30 : decode cX0_search 30 = .ok (.istore 6, 2) := by decide +kernel
theorem dX0_search_32 : decode cX0_search 32 = .ok (.iload 6, 2) := by decide +kernel
theorem dX0_search_34 : decode cX0_search 34 = .ok (.sipush 256, 3) := by decide +kernel
theorem dX0_search_37 : decode cX0_search 37 = .ok (.if_icmp .ge 163, 3) := by decide +kernel
theorem dX0_search_40 : decode cX0_search 40 = .ok (.iload 5, 2) := by decide +kernel
theorem dX0_search_42 : decode cX0_search 42 = .ok (.iconst 1, 1) := by decide +kernel
theorem dX0_search_43 : decode cX0_search 43 = .ok (.iload 4, 2) := by decide +kernel
theorem dX0_search_45 : decode cX0_search 45 = .ok (.iconst 1, 1) := by decide +kernel
theorem dX0_search_46 : decode cX0_search 46 = .ok (.iadd, 1) := by decide +kernel
theorem dX0_search_47 : decode cX0_search 47 = .ok (.ishl, 1) := by decide +kernel
theorem dX0_search_48 : decode cX0_search 48 = .ok (.iconst 1, 1) := by decide +kernel
theorem dX0_search_49 : decode cX0_search 49 = .ok (.isub, 1) := by decide +kernel
theorem dX0_search_50 : decode cX0_search 50 = .ok (.ior, 1) := by decide +kernel
theorem dX0_search_51 : decode cX0_search 51 = .ok (.istore 7, 2) := by decide +kernel
theorem dX0_search_53 : decode cX0_search 53 = .ok (.iload 7, 2) := by decide +kernel
theorem dX0_search_55 : decode cX0_search 55 = .ok (.iload_n 3, 1) := by decide +kernel
theorem dX0_search_56 : decode cX0_search 56 = .ok (.if_icmp .ge 7, 3) := by decide +kernel
theorem dX0_search_59 : decode cX0_search 59 = .ok (.iconst 0, 1) := by decide +kernel
theorem dX0_search_60 : decode cX0_search 60 = .ok (.goto 9, 3) := by decide +kernel
theorem dX0_search_63 : decode cX0_search 63 = .ok (.aload_n 0, 1) := by decide +kernel
theorem dX0_search_64 : decode cX0_search 64 = .ok (.iload_n 1, 1) := by decide +kernel
theorem dX0_search_65 : decode cX0_search 65 = .ok (.iload_n 2, 1) := by decide +kernel
theorem dX0_search_66 : decode cX0_search 66 = .ok (.invokevirtual 67, 3) := by decide +kernel
theorem dX0_search_69 : decode cX0_search 69 = .ok (.istore 8, 2) := by decide +kernel
theorem dX0_search_71 : decode cX0_search 71 = .ok (.iload 8, 2) := by decide +kernel
theorem dX0_search_73 : decode cX0_search 73 = .ok (.iconst 1, 1) := by decide +kernel
theorem dX0_search_74 : decode cX0_search 74 = .ok (.if_icmp .ne 9, 3) := by decide +kernel
theorem dX0_search_77 : decode cX0_search 77 = .ok (.iload 5, 2) := by decide +kernel
theorem dX0_search_79 : decode cX0_search 79 = .ok (.iload_n 3, 1) := by decide +kernel
end
section
set_option maxRecDepth 100000
theorem dX0_search_80 : decode cX0_search 80 = .ok (.if_icmp .ge 13, 3) := by decide +kernel
theorem dX0_search_83 : decode cX0_search 83 = .ok (.iload 8, 2) := by decide +kernel
theorem dX0_search_85 : decode cX0_search 85 = .ok (.ifCond .eq 11, 3) := by decide +kernel
theorem dX0_search_88 : decode cX0_search 88 = .ok (.iload 4, 2) := by decide +kernel
theorem dX0_search_90 : decode cX0_search 90 = .ok (.ifCond .ge 6, 3) := by decide +kernel
theorem dX0_search_93 : decode cX0_search 93 = .ok (.iload 5, 2) := by decide +kernel
theorem dX0_search_95 : decode cX0_search 95 = .ok (.ireturn, 1) := by decide +kernel
theorem dX0_search_96 : decode cX0_search 96 = .ok (.iload 8, 2) := by decide +kernel
theorem dX0_search_98 : decode cX0_search 98 = .ok (.ifCond .eq 17, 3) := by decide +kernel
theorem dX0_search_101 : decode cX0_search 101 = .ok (.aload_n 0, 1) := by decide +kernel
theorem dX0_search_102 : decode cX0_search 102 = .ok (.getfield 30, 3) := by decide +kernel
theorem dX0_search_105 : decode cX0_search 105 = .ok (.iload 4, 2) := by decide +kernel
theorem dX0_search_107 : decode cX0_search 107 = .ok (.iconst 0, 1) := by decide +kernel
theorem dX0_search_108 : decode cX0_search 108 = .ok (.bastore, 1) := by decide +kernel
theorem dX0_search_109 : decode cX0_search 109 = .ok (.iinc 4 (-1), 3) := by decide +kernel
theorem dX0_search_112 : decode cX0_search 112 = .ok (.goto 82, 3) := by decide +kernel
theorem dX0_search_115 : decode cX0_search 115 = .ok (.iload 4, 2) := by decide +kernel
theorem dX0_search_117 : decode cX0_search 117 = .ok (.iconst 1, 1) := by decide +kernel
theorem dX0_search_118 : decode cX0_search 118 = .ok (.iadd, 1) := by decide +kernel
theorem dX0_search_119 : decode cX0_search 119 = .ok (.istore 9, 2) := by decide +kernel
theorem dX0_search_121 : decode cX0_search 121 = .ok (.iload 9, 2) := by decide +kernel
theorem dX0_search_123 : decode cX0_search 123 = .ok (.iconst 5, 1) := by decide +kernel
theorem dX0_search_124 : decode cX0_search 124 = .ok (.if_icmp .ge 39, 3) := by decide +kernel
theorem dX0_search_127 : decode cX0_search 127 = .ok (.aload_n 0, 1) := by decide +kernel
theorem dX0_search_128 : decode cX0_search 128 = .ok (.getfield 30, 3) := by decide +kernel
theorem dX0_search_131 : decode cX0_search 131 = .ok (.iload 9, 2) := by decide +kernel
theorem dX0_search_133 : decode cX0_search 133 = .ok (.baload, 1) := by decide +kernel
theorem dX0_search_134 : decode cX0_search 134 = .ok (.iconst 1, 1) := by decide +kernel
theorem dX0_search_135 : decode cX0_search 135 = .ok (.if_icmp .ne 28, 3) := by decide +kernel
theorem dX0_search_138 : decode cX0_search 138 = .ok (.aload_n 0, 1) := by decide +kernel
theorem dX0_search_139 : decode cX0_search 139 = .ok (.getfield 30, 3) := by decide +kernel
theorem dX0_search_142 : decode cX0_search 142 = .ok (.iload 9, 2) := by decide +kernel
theorem dX0_search_144 : decode cX0_search 144 = .ok (.iconst 2, 1) := by decide +kernel
theorem dX0_search_145 : decode cX0_search 145 = .ok (.bastore, 1) := by decide +kernel
theorem dX0_search_146 : decode cX0_search 146 = .ok (.iload 5, 2) := by decide +kernel
theorem dX0_search_148 : decode cX0_search 148 = .ok (.iconst 1, 1) := by decide +kernel
theorem dX0_search_149 : decode cX0_search 149 = .ok (.iload 9, 2) := by decide +kernel
theorem dX0_search_151 : decode cX0_search 151 = .ok (.ishl, 1) := by decide +kernel
theorem dX0_search_152 : decode cX0_search 152 = .ok (.iconst (-1), 1) := by decide +kernel
theorem dX0_search_153 : decode cX0_search 153 = .ok (.ixor, 1) := by decide +kernel
theorem dX0_search_154 : decode cX0_search 154 = .ok (.iand, 1) := by decide +kernel
theorem dX0_search_155 : decode cX0_search 155 = .ok (.istore 5, 2) := by decide +kernel
theorem dX0_search_157 : decode cX0_search 157 = .ok (.iinc 9 1, 3) := by decide +kernel
theorem dX0_search_160 : decode cX0_search 160 = .ok (.goto (-39), 3) := by decide +kernel
theorem dX0_search_163 : decode cX0_search 163 = .ok (.iload 9, 2) := by decide +kernel
theorem dX0_search_165 : decode cX0_search 165 = .ok (.iconst 5, 1) := by decide +kernel
theorem dX0_search_166 : decode cX0_search 166 = .ok (.if_icmp .ne 5, 3) := by decide +kernel
theorem dX0_search_169 : decode cX0_search 169 = .ok (.iconst (-1), 1) := by decide +kernel
theorem dX0_search_170 : decode cX0_search 170 = .ok (.ireturn, 1) := by decide +kernel
theorem dX0_search_171 : decode cX0_search 171 = .ok (.aload_n 0, 1) := by decide +kernel
theorem dX0_search_172 : decode cX0_search 172 = .ok (.getfield 30, 3) := by decide +kernel
theorem dX0_search_175 : decode cX0_search 175 = .ok (.iload 9, 2) := by decide +kernel
theorem dX0_search_177 : decode cX0_search 177 = .ok (.iconst 1, 1) := by decide +kernel
theorem dX0_search_178 : decode cX0_search 178 = .ok (.bastore, 1) := by decide +kernel
theorem dX0_search_179 : decode cX0_search 179 = .ok (.iload 5, 2) := by decide +kernel
theorem dX0_search_181 : decode cX0_search 181 = .ok (.iconst 1, 1) := by decide +kernel
theorem dX0_search_182 : decode cX0_search 182 = .ok (.iload 9, 2) := by decide +kernel
theorem dX0_search_184 : decode cX0_search 184 = .ok (.ishl, 1) := by decide +kernel
theorem dX0_search_185 : decode cX0_search 185 = .ok (.ior, 1) := by decide +kernel
theorem dX0_search_186 : decode cX0_search 186 = .ok (.istore 5, 2) := by decide +kernel
theorem dX0_search_188 : decode cX0_search 188 = .ok (.iload 9, 2) := by decide +kernel
theorem dX0_search_190 : decode cX0_search 190 = .ok (.iconst 1, 1) := by decide +kernel
theorem dX0_search_191 : decode cX0_search 191 = .ok (.isub, 1) := by decide +kernel
theorem dX0_search_192 : decode cX0_search 192 = .ok (.istore 4, 2) := by decide +kernel
theorem dX0_search_194 : decode cX0_search 194 = .ok (.iinc 6 1, 3) := by decide +kernel
theorem dX0_search_197 : decode cX0_search 197 = .ok (.goto (-165), 3) := by decide +kernel
theorem dX0_search_200 : decode cX0_search 200 = .ok (.iconst (-1), 1) := by decide +kernel
theorem dX0_search_201 : decode cX0_search 201 = .ok (.ireturn, 1) := by decide +kernel
theorem dX0_imply_0 : decode cX0_imply 0 = .ok (.iconst 0, 1) := by decide +kernel
theorem dX0_imply_1 : decode cX0_imply 1 = .ok (.istore_n 3, 1) := by decide +kernel
theorem dX0_imply_2 : decode cX0_imply 2 = .ok (.iconst 0, 1) := by decide +kernel
theorem dX0_imply_3 : decode cX0_imply 3 = .ok (.istore 4, 2) := by decide +kernel
theorem dX0_imply_5 : decode cX0_imply 5 = .ok (.iload 4, 2) := by decide +kernel
theorem dX0_imply_7 : decode cX0_imply 7 = .ok (.aload_n 0, 1) := by decide +kernel
theorem dX0_imply_8 : decode cX0_imply 8 = .ok (.getfield 9, 3) := by decide +kernel
theorem dX0_imply_11 : decode cX0_imply 11 = .ok (.if_icmp .ge 294, 3) := by decide +kernel
theorem dX0_imply_14 : decode cX0_imply 14 = .ok (.iconst 0, 1) := by decide +kernel
theorem dX0_imply_15 : decode cX0_imply 15 = .ok (.istore 5, 2) := by decide +kernel
theorem dX0_imply_17 : decode cX0_imply 17 = .ok (.iload 4, 2) := by decide +kernel
theorem dX0_imply_19 : decode cX0_imply 19 = .ok (.iconst 5, 1) := by decide +kernel
theorem dX0_imply_20 : decode cX0_imply 20 = .ok (.if_icmp .ge 34, 3) := by decide +kernel
theorem dX0_imply_23 : decode cX0_imply 23 = .ok (.aload_n 0, 1) := by decide +kernel
theorem dX0_imply_24 : decode cX0_imply 24 = .ok (.getfield 33, 3) := by decide +kernel
theorem dX0_imply_27 : decode cX0_imply 27 = .ok (.iload 4, 2) := by decide +kernel
theorem dX0_imply_29 : decode cX0_imply 29 = .ok (.aload_n 0, 1) := by decide +kernel
theorem dX0_imply_30 : decode cX0_imply 30 = .ok (.getfield 30, 3) := by decide +kernel
theorem dX0_imply_33 : decode cX0_imply 33 = .ok (.iload 4, 2) := by decide +kernel
theorem dX0_imply_35 : decode cX0_imply 35 = .ok (.baload, 1) := by decide +kernel
theorem dX0_imply_36 : decode cX0_imply 36 = .ok (.bastore, 1) := by decide +kernel
theorem dX0_imply_37 : decode cX0_imply 37 = .ok (.aload_n 0, 1) := by decide +kernel
theorem dX0_imply_38 : decode cX0_imply 38 = .ok (.getfield 36, 3) := by decide +kernel
theorem dX0_imply_41 : decode cX0_imply 41 = .ok (.iload 4, 2) := by decide +kernel
theorem dX0_imply_43 : decode cX0_imply 43 = .ok (.aload_n 0, 1) := by decide +kernel
theorem dX0_imply_44 : decode cX0_imply 44 = .ok (.getfield 30, 3) := by decide +kernel
theorem dX0_imply_47 : decode cX0_imply 47 = .ok (.iload 4, 2) := by decide +kernel
theorem dX0_imply_49 : decode cX0_imply 49 = .ok (.baload, 1) := by decide +kernel
theorem dX0_imply_50 : decode cX0_imply 50 = .ok (.bastore, 1) := by decide +kernel
theorem dX0_imply_51 : decode cX0_imply 51 = .ok (.goto 124, 3) := by decide +kernel
theorem dX0_imply_54 : decode cX0_imply 54 = .ok (.aload_n 0, 1) := by decide +kernel
theorem dX0_imply_55 : decode cX0_imply 55 = .ok (.getfield 33, 3) := by decide +kernel
theorem dX0_imply_58 : decode cX0_imply 58 = .ok (.iload 4, 2) := by decide +kernel
theorem dX0_imply_60 : decode cX0_imply 60 = .ok (.aload_n 0, 1) := by decide +kernel
theorem dX0_imply_61 : decode cX0_imply 61 = .ok (.getfield 13, 3) := by decide +kernel
theorem dX0_imply_64 : decode cX0_imply 64 = .ok (.iload 4, 2) := by decide +kernel
theorem dX0_imply_66 : decode cX0_imply 66 = .ok (.baload, 1) := by decide +kernel
theorem dX0_imply_67 : decode cX0_imply 67 = .ok (.aload_n 0, 1) := by decide +kernel
theorem dX0_imply_68 : decode cX0_imply 68 = .ok (.getfield 33, 3) := by decide +kernel
theorem dX0_imply_71 : decode cX0_imply 71 = .ok (.aload_n 0, 1) := by decide +kernel
theorem dX0_imply_72 : decode cX0_imply 72 = .ok (.getfield 17, 3) := by decide +kernel
theorem dX0_imply_75 : decode cX0_imply 75 = .ok (.iload 4, 2) := by decide +kernel
theorem dX0_imply_77 : decode cX0_imply 77 = .ok (.baload, 1) := by decide +kernel
theorem dX0_imply_78 : decode cX0_imply 78 = .ok (.baload, 1) := by decide +kernel
theorem dX0_imply_79 : decode cX0_imply 79 = .ok (.aload_n 0, 1) := by decide +kernel
theorem dX0_imply_80 : decode cX0_imply 80 = .ok (.getfield 33, 3) := by decide +kernel
theorem dX0_imply_83 : decode cX0_imply 83 = .ok (.aload_n 0, 1) := by decide +kernel
theorem dX0_imply_84 : decode cX0_imply 84 = .ok (.getfield 20, 3) := by decide +kernel
theorem dX0_imply_87 : decode cX0_imply 87 = .ok (.iload 4, 2) := by decide +kernel
theorem dX0_imply_89 : decode cX0_imply 89 = .ok (.baload, 1) := by decide +kernel
theorem dX0_imply_90 : decode cX0_imply 90 = .ok (.baload, 1) := by decide +kernel
theorem dX0_imply_91 : decode cX0_imply 91 = .ok (.invokestatic 64, 3) := by decide +kernel
theorem dX0_imply_94 : decode cX0_imply 94 = .ok (.i2b, 1) := by decide +kernel
theorem dX0_imply_95 : decode cX0_imply 95 = .ok (.bastore, 1) := by decide +kernel
theorem dX0_imply_96 : decode cX0_imply 96 = .ok (.aload_n 0, 1) := by decide +kernel
theorem dX0_imply_97 : decode cX0_imply 97 = .ok (.getfield 36, 3) := by decide +kernel
theorem dX0_imply_100 : decode cX0_imply 100 = .ok (.iload 4, 2) := by decide +kernel
theorem dX0_imply_102 : decode cX0_imply 102 = .ok (.aload_n 0, 1) := by decide +kernel
theorem dX0_imply_103 : decode cX0_imply 103 = .ok (.getfield 13, 3) := by decide +kernel
theorem dX0_imply_106 : decode cX0_imply 106 = .ok (.iload 4, 2) := by decide +kernel
theorem dX0_imply_108 : decode cX0_imply 108 = .ok (.baload, 1) := by decide +kernel
theorem dX0_imply_109 : decode cX0_imply 109 = .ok (.aload_n 0, 1) := by decide +kernel
theorem dX0_imply_110 : decode cX0_imply 110 = .ok (.getfield 36, 3) := by decide +kernel
theorem dX0_imply_113 : decode cX0_imply 113 = .ok (.aload_n 0, 1) := by decide +kernel
theorem dX0_imply_114 : decode cX0_imply 114 = .ok (.getfield 17, 3) := by decide +kernel
theorem dX0_imply_117 : decode cX0_imply 117 = .ok (.iload 4, 2) := by decide +kernel
theorem dX0_imply_119 : decode cX0_imply 119 = .ok (.baload, 1) := by decide +kernel
theorem dX0_imply_120 : decode cX0_imply 120 = .ok (.baload, 1) := by decide +kernel
theorem dX0_imply_121 : decode cX0_imply 121 = .ok (.aload_n 0, 1) := by decide +kernel
theorem dX0_imply_122 : decode cX0_imply 122 = .ok (.getfield 36, 3) := by decide +kernel
theorem dX0_imply_125 : decode cX0_imply 125 = .ok (.aload_n 0, 1) := by decide +kernel
theorem dX0_imply_126 : decode cX0_imply 126 = .ok (.getfield 20, 3) := by decide +kernel
theorem dX0_imply_129 : decode cX0_imply 129 = .ok (.iload 4, 2) := by decide +kernel
theorem dX0_imply_131 : decode cX0_imply 131 = .ok (.baload, 1) := by decide +kernel
theorem dX0_imply_132 : decode cX0_imply 132 = .ok (.baload, 1) := by decide +kernel
theorem dX0_imply_133 : decode cX0_imply 133 = .ok (.invokestatic 64, 3) := by decide +kernel
theorem dX0_imply_136 : decode cX0_imply 136 = .ok (.i2b, 1) := by decide +kernel
theorem dX0_imply_137 : decode cX0_imply 137 = .ok (.bastore, 1) := by decide +kernel
theorem dX0_imply_138 : decode cX0_imply 138 = .ok (.aload_n 0, 1) := by decide +kernel
theorem dX0_imply_139 : decode cX0_imply 139 = .ok (.getfield 39, 3) := by decide +kernel
theorem dX0_imply_142 : decode cX0_imply 142 = .ok (.aload_n 0, 1) := by decide +kernel
theorem dX0_imply_143 : decode cX0_imply 143 = .ok (.getfield 17, 3) := by decide +kernel
theorem dX0_imply_146 : decode cX0_imply 146 = .ok (.iload 4, 2) := by decide +kernel
theorem dX0_imply_148 : decode cX0_imply 148 = .ok (.baload, 1) := by decide +kernel
theorem dX0_imply_149 : decode cX0_imply 149 = .ok (.baload, 1) := by decide +kernel
theorem dX0_imply_150 : decode cX0_imply 150 = .ok (.ifCond .ne 18, 3) := by decide +kernel
theorem dX0_imply_153 : decode cX0_imply 153 = .ok (.aload_n 0, 1) := by decide +kernel
theorem dX0_imply_154 : decode cX0_imply 154 = .ok (.getfield 39, 3) := by decide +kernel
theorem dX0_imply_157 : decode cX0_imply 157 = .ok (.aload_n 0, 1) := by decide +kernel
theorem dX0_imply_158 : decode cX0_imply 158 = .ok (.getfield 20, 3) := by decide +kernel
theorem dX0_imply_161 : decode cX0_imply 161 = .ok (.iload 4, 2) := by decide +kernel
theorem dX0_imply_163 : decode cX0_imply 163 = .ok (.baload, 1) := by decide +kernel
theorem dX0_imply_164 : decode cX0_imply 164 = .ok (.baload, 1) := by decide +kernel
theorem dX0_imply_165 : decode cX0_imply 165 = .ok (.ifCond .eq 7, 3) := by decide +kernel
theorem dX0_imply_168 : decode cX0_imply 168 = .ok (.iconst 1, 1) := by decide +kernel
theorem dX0_imply_169 : decode cX0_imply 169 = .ok (.goto 4, 3) := by decide +kernel
theorem dX0_imply_172 : decode cX0_imply 172 = .ok (.iconst 0, 1) := by decide +kernel
theorem dX0_imply_173 : decode cX0_imply 173 = .ok (.istore 5, 2) := by decide +kernel
theorem dX0_imply_175 : decode cX0_imply 175 = .ok (.iload 4, 2) := by decide +kernel
theorem dX0_imply_177 : decode cX0_imply 177 = .ok (.iload_n 1, 1) := by decide +kernel
theorem dX0_imply_178 : decode cX0_imply 178 = .ok (.if_icmp .ne 15, 3) := by decide +kernel
theorem dX0_imply_181 : decode cX0_imply 181 = .ok (.aload_n 0, 1) := by decide +kernel
theorem dX0_imply_182 : decode cX0_imply 182 = .ok (.getfield 36, 3) := by decide +kernel
theorem dX0_imply_185 : decode cX0_imply 185 = .ok (.iload 4, 2) := by decide +kernel
theorem dX0_imply_187 : decode cX0_imply 187 = .ok (.iload_n 2, 1) := by decide +kernel
theorem dX0_imply_188 : decode cX0_imply 188 = .ok (.i2b, 1) := by decide +kernel
theorem dX0_imply_189 : decode cX0_imply 189 = .ok (.bastore, 1) := by decide +kernel
theorem dX0_imply_190 : decode cX0_imply 190 = .ok (.iconst 1, 1) := by decide +kernel
theorem dX0_imply_191 : decode cX0_imply 191 = .ok (.istore 5, 2) := by decide +kernel
theorem dX0_imply_193 : decode cX0_imply 193 = .ok (.aload_n 0, 1) := by decide +kernel
theorem dX0_imply_194 : decode cX0_imply 194 = .ok (.getfield 33, 3) := by decide +kernel
theorem dX0_imply_197 : decode cX0_imply 197 = .ok (.iload 4, 2) := by decide +kernel
theorem dX0_imply_199 : decode cX0_imply 199 = .ok (.baload, 1) := by decide +kernel
theorem dX0_imply_200 : decode cX0_imply 200 = .ok (.iconst 2, 1) := by decide +kernel
theorem dX0_imply_201 : decode cX0_imply 201 = .ok (.if_icmp .eq 18, 3) := by decide +kernel
theorem dX0_imply_204 : decode cX0_imply 204 = .ok (.aload_n 0, 1) := by decide +kernel
theorem dX0_imply_205 : decode cX0_imply 205 = .ok (.getfield 36, 3) := by decide +kernel
theorem dX0_imply_208 : decode cX0_imply 208 = .ok (.iload 4, 2) := by decide +kernel
theorem dX0_imply_210 : decode cX0_imply 210 = .ok (.baload, 1) := by decide +kernel
theorem dX0_imply_211 : decode cX0_imply 211 = .ok (.iconst 2, 1) := by decide +kernel
theorem dX0_imply_212 : decode cX0_imply 212 = .ok (.if_icmp .eq 7, 3) := by decide +kernel
theorem dX0_imply_215 : decode cX0_imply 215 = .ok (.iconst 1, 1) := by decide +kernel
theorem dX0_imply_216 : decode cX0_imply 216 = .ok (.goto 4, 3) := by decide +kernel
theorem dX0_imply_219 : decode cX0_imply 219 = .ok (.iconst 0, 1) := by decide +kernel
theorem dX0_imply_220 : decode cX0_imply 220 = .ok (.istore 6, 2) := by decide +kernel
theorem dX0_imply_222 : decode cX0_imply 222 = .ok (.aload_n 0, 1) := by decide +kernel
theorem dX0_imply_223 : decode cX0_imply 223 = .ok (.getfield 39, 3) := by decide +kernel
theorem dX0_imply_226 : decode cX0_imply 226 = .ok (.iload 4, 2) := by decide +kernel
theorem dX0_imply_228 : decode cX0_imply 228 = .ok (.iload 5, 2) := by decide +kernel
theorem dX0_imply_230 : decode cX0_imply 230 = .ok (.ifCond .eq 29, 3) := by decide +kernel
theorem dX0_imply_233 : decode cX0_imply 233 = .ok (.iload 6, 2) := by decide +kernel
theorem dX0_imply_235 : decode cX0_imply 235 = .ok (.ifCond .eq 20, 3) := by decide +kernel
theorem dX0_imply_238 : decode cX0_imply 238 = .ok (.aload_n 0, 1) := by decide +kernel
theorem dX0_imply_239 : decode cX0_imply 239 = .ok (.getfield 33, 3) := by decide +kernel
theorem dX0_imply_242 : decode cX0_imply 242 = .ok (.iload 4, 2) := by decide +kernel
theorem dX0_imply_244 : decode cX0_imply 244 = .ok (.baload, 1) := by decide +kernel
theorem dX0_imply_245 : decode cX0_imply 245 = .ok (.aload_n 0, 1) := by decide +kernel
theorem dX0_imply_246 : decode cX0_imply 246 = .ok (.getfield 36, 3) := by decide +kernel
theorem dX0_imply_249 : decode cX0_imply 249 = .ok (.iload 4, 2) := by decide +kernel
theorem dX0_imply_251 : decode cX0_imply 251 = .ok (.baload, 1) := by decide +kernel
theorem dX0_imply_252 : decode cX0_imply 252 = .ok (.if_icmp .eq 7, 3) := by decide +kernel
theorem dX0_imply_255 : decode cX0_imply 255 = .ok (.iconst 1, 1) := by decide +kernel
theorem dX0_imply_256 : decode cX0_imply 256 = .ok (.goto 4, 3) := by decide +kernel
theorem dX0_imply_259 : decode cX0_imply 259 = .ok (.iconst 0, 1) := by decide +kernel
theorem dX0_imply_260 : decode cX0_imply 260 = .ok (.bastore, 1) := by decide +kernel
theorem dX0_imply_261 : decode cX0_imply 261 = .ok (.aload_n 0, 1) := by decide +kernel
theorem dX0_imply_262 : decode cX0_imply 262 = .ok (.getfield 47, 3) := by decide +kernel
theorem dX0_imply_265 : decode cX0_imply 265 = .ok (.iload 4, 2) := by decide +kernel
theorem dX0_imply_267 : decode cX0_imply 267 = .ok (.ishr, 1) := by decide +kernel
theorem dX0_imply_268 : decode cX0_imply 268 = .ok (.iconst 1, 1) := by decide +kernel
theorem dX0_imply_269 : decode cX0_imply 269 = .ok (.iand, 1) := by decide +kernel
theorem dX0_imply_270 : decode cX0_imply 270 = .ok (.ifCond .eq 29, 3) := by decide +kernel
theorem dX0_imply_273 : decode cX0_imply 273 = .ok (.aload_n 0, 1) := by decide +kernel
theorem dX0_imply_274 : decode cX0_imply 274 = .ok (.getfield 39, 3) := by decide +kernel
theorem dX0_imply_277 : decode cX0_imply 277 = .ok (.iload 4, 2) := by decide +kernel
theorem dX0_imply_279 : decode cX0_imply 279 = .ok (.baload, 1) := by decide +kernel
theorem dX0_imply_280 : decode cX0_imply 280 = .ok (.ifCond .eq 19, 3) := by decide +kernel
theorem dX0_imply_283 : decode cX0_imply 283 = .ok (.iload_n 3, 1) := by decide +kernel
theorem dX0_imply_284 : decode cX0_imply 284 = .ok (.iconst 1, 1) := by decide +kernel
theorem dX0_imply_285 : decode cX0_imply 285 = .ok (.if_icmp .eq 14, 3) := by decide +kernel
theorem dX0_imply_288 : decode cX0_imply 288 = .ok (.iload 6, 2) := by decide +kernel
theorem dX0_imply_290 : decode cX0_imply 290 = .ok (.ifCond .eq 7, 3) := by decide +kernel
theorem dX0_imply_293 : decode cX0_imply 293 = .ok (.iconst 1, 1) := by decide +kernel
theorem dX0_imply_294 : decode cX0_imply 294 = .ok (.goto 4, 3) := by decide +kernel
theorem dX0_imply_297 : decode cX0_imply 297 = .ok (.iconst 2, 1) := by decide +kernel
theorem dX0_imply_298 : decode cX0_imply 298 = .ok (.istore_n 3, 1) := by decide +kernel
theorem dX0_imply_299 : decode cX0_imply 299 = .ok (.iinc 4 1, 3) := by decide +kernel
theorem dX0_imply_302 : decode cX0_imply 302 = .ok (.goto (-297), 3) := by decide +kernel
theorem dX0_imply_305 : decode cX0_imply 305 = .ok (.iload_n 3, 1) := by decide +kernel
theorem dX0_imply_306 : decode cX0_imply 306 = .ok (.ireturn, 1) := by decide +kernel
theorem dX0_openApply_0 : decode cX0_openApply 0 = .ok (.iload_n 1, 1) := by decide +kernel
theorem dX0_openApply_1 : decode cX0_openApply 1 = .ok (.ifCond .eq 7, 3) := by decide +kernel
theorem dX0_openApply_4 : decode cX0_openApply 4 = .ok (.iload_n 2, 1) := by decide +kernel
theorem dX0_openApply_5 : decode cX0_openApply 5 = .ok (.ifCond .ne 7, 3) := by decide +kernel
theorem dX0_openApply_8 : decode cX0_openApply 8 = .ok (.iconst 1, 1) := by decide +kernel
theorem dX0_openApply_9 : decode cX0_openApply 9 = .ok (.goto 4, 3) := by decide +kernel
theorem dX0_openApply_12 : decode cX0_openApply 12 = .ok (.iconst 0, 1) := by decide +kernel
theorem dX0_openApply_13 : decode cX0_openApply 13 = .ok (.istore_n 3, 1) := by decide +kernel
theorem dX0_openApply_14 : decode cX0_openApply 14 = .ok (.iload_n 1, 1) := by decide +kernel
theorem dX0_openApply_15 : decode cX0_openApply 15 = .ok (.iconst 1, 1) := by decide +kernel
theorem dX0_openApply_16 : decode cX0_openApply 16 = .ok (.if_icmp .eq 8, 3) := by decide +kernel
theorem dX0_openApply_19 : decode cX0_openApply 19 = .ok (.iload_n 2, 1) := by decide +kernel
theorem dX0_openApply_20 : decode cX0_openApply 20 = .ok (.iconst 1, 1) := by decide +kernel
theorem dX0_openApply_21 : decode cX0_openApply 21 = .ok (.if_icmp .ne 7, 3) := by decide +kernel
theorem dX0_openApply_24 : decode cX0_openApply 24 = .ok (.iconst 1, 1) := by decide +kernel
theorem dX0_openApply_25 : decode cX0_openApply 25 = .ok (.goto 4, 3) := by decide +kernel
theorem dX0_openApply_28 : decode cX0_openApply 28 = .ok (.iconst 0, 1) := by decide +kernel
theorem dX0_openApply_29 : decode cX0_openApply 29 = .ok (.istore 4, 2) := by decide +kernel
theorem dX0_openApply_31 : decode cX0_openApply 31 = .ok (.iload_n 1, 1) := by decide +kernel
theorem dX0_openApply_32 : decode cX0_openApply 32 = .ok (.iconst 2, 1) := by decide +kernel
theorem dX0_openApply_33 : decode cX0_openApply 33 = .ok (.if_icmp .eq 8, 3) := by decide +kernel
theorem dX0_openApply_36 : decode cX0_openApply 36 = .ok (.iload_n 2, 1) := by decide +kernel
theorem dX0_openApply_37 : decode cX0_openApply 37 = .ok (.iconst 2, 1) := by decide +kernel
theorem dX0_openApply_38 : decode cX0_openApply 38 = .ok (.if_icmp .ne 7, 3) := by decide +kernel
theorem dX0_openApply_41 : decode cX0_openApply 41 = .ok (.iconst 1, 1) := by decide +kernel
theorem dX0_openApply_42 : decode cX0_openApply 42 = .ok (.goto 4, 3) := by decide +kernel
theorem dX0_openApply_45 : decode cX0_openApply 45 = .ok (.iconst 0, 1) := by decide +kernel
theorem dX0_openApply_46 : decode cX0_openApply 46 = .ok (.istore 5, 2) := by decide +kernel
theorem dX0_openApply_48 : decode cX0_openApply 48 = .ok (.iload_n 0, 1) := by decide +kernel
theorem dX0_openApply_49 : decode cX0_openApply 49 = .ok (.ifCond .eq 8, 3) := by decide +kernel
theorem dX0_openApply_52 : decode cX0_openApply 52 = .ok (.iload_n 0, 1) := by decide +kernel
theorem dX0_openApply_53 : decode cX0_openApply 53 = .ok (.iconst 3, 1) := by decide +kernel
theorem dX0_openApply_54 : decode cX0_openApply 54 = .ok (.if_icmp .ne 38, 3) := by decide +kernel
theorem dX0_openApply_57 : decode cX0_openApply 57 = .ok (.iload_n 3, 1) := by decide +kernel
theorem dX0_openApply_58 : decode cX0_openApply 58 = .ok (.ifCond .eq 7, 3) := by decide +kernel
theorem dX0_openApply_61 : decode cX0_openApply 61 = .ok (.iconst 0, 1) := by decide +kernel
theorem dX0_openApply_62 : decode cX0_openApply 62 = .ok (.goto 13, 3) := by decide +kernel
theorem dX0_openApply_65 : decode cX0_openApply 65 = .ok (.iload 5, 2) := by decide +kernel
theorem dX0_openApply_67 : decode cX0_openApply 67 = .ok (.ifCond .eq 7, 3) := by decide +kernel
theorem dX0_openApply_70 : decode cX0_openApply 70 = .ok (.iconst 2, 1) := by decide +kernel
theorem dX0_openApply_71 : decode cX0_openApply 71 = .ok (.goto 4, 3) := by decide +kernel
theorem dX0_openApply_74 : decode cX0_openApply 74 = .ok (.iconst 1, 1) := by decide +kernel
theorem dX0_openApply_75 : decode cX0_openApply 75 = .ok (.istore 6, 2) := by decide +kernel
theorem dX0_openApply_77 : decode cX0_openApply 77 = .ok (.iload_n 0, 1) := by decide +kernel
theorem dX0_openApply_78 : decode cX0_openApply 78 = .ok (.ifCond .ne 8, 3) := by decide +kernel
theorem dX0_openApply_81 : decode cX0_openApply 81 = .ok (.iload 6, 2) := by decide +kernel
theorem dX0_openApply_83 : decode cX0_openApply 83 = .ok (.goto 8, 3) := by decide +kernel
theorem dX0_openApply_86 : decode cX0_openApply 86 = .ok (.iload 6, 2) := by decide +kernel
theorem dX0_openApply_88 : decode cX0_openApply 88 = .ok (.invokestatic 61, 3) := by decide +kernel
theorem dX0_openApply_91 : decode cX0_openApply 91 = .ok (.ireturn, 1) := by decide +kernel
theorem dX0_openApply_92 : decode cX0_openApply 92 = .ok (.iload_n 0, 1) := by decide +kernel
theorem dX0_openApply_93 : decode cX0_openApply 93 = .ok (.iconst 1, 1) := by decide +kernel
theorem dX0_openApply_94 : decode cX0_openApply 94 = .ok (.if_icmp .eq 8, 3) := by decide +kernel
theorem dX0_openApply_97 : decode cX0_openApply 97 = .ok (.iload_n 0, 1) := by decide +kernel
theorem dX0_openApply_98 : decode cX0_openApply 98 = .ok (.iconst 4, 1) := by decide +kernel
theorem dX0_openApply_99 : decode cX0_openApply 99 = .ok (.if_icmp .ne 40, 3) := by decide +kernel
theorem dX0_openApply_102 : decode cX0_openApply 102 = .ok (.iload 4, 2) := by decide +kernel
theorem dX0_openApply_104 : decode cX0_openApply 104 = .ok (.ifCond .eq 7, 3) := by decide +kernel
theorem dX0_openApply_107 : decode cX0_openApply 107 = .ok (.iconst 1, 1) := by decide +kernel
theorem dX0_openApply_108 : decode cX0_openApply 108 = .ok (.goto 13, 3) := by decide +kernel
theorem dX0_openApply_111 : decode cX0_openApply 111 = .ok (.iload 5, 2) := by decide +kernel
theorem dX0_openApply_113 : decode cX0_openApply 113 = .ok (.ifCond .eq 7, 3) := by decide +kernel
theorem dX0_openApply_116 : decode cX0_openApply 116 = .ok (.iconst 2, 1) := by decide +kernel
theorem dX0_openApply_117 : decode cX0_openApply 117 = .ok (.goto 4, 3) := by decide +kernel
theorem dX0_openApply_120 : decode cX0_openApply 120 = .ok (.iconst 0, 1) := by decide +kernel
theorem dX0_openApply_121 : decode cX0_openApply 121 = .ok (.istore 6, 2) := by decide +kernel
theorem dX0_openApply_123 : decode cX0_openApply 123 = .ok (.iload_n 0, 1) := by decide +kernel
theorem dX0_openApply_124 : decode cX0_openApply 124 = .ok (.iconst 1, 1) := by decide +kernel
theorem dX0_openApply_125 : decode cX0_openApply 125 = .ok (.if_icmp .ne 8, 3) := by decide +kernel
theorem dX0_openApply_128 : decode cX0_openApply 128 = .ok (.iload 6, 2) := by decide +kernel
theorem dX0_openApply_130 : decode cX0_openApply 130 = .ok (.goto 8, 3) := by decide +kernel
theorem dX0_openApply_133 : decode cX0_openApply 133 = .ok (.iload 6, 2) := by decide +kernel
theorem dX0_openApply_135 : decode cX0_openApply 135 = .ok (.invokestatic 61, 3) := by decide +kernel
theorem dX0_openApply_138 : decode cX0_openApply 138 = .ok (.ireturn, 1) := by decide +kernel
theorem dX0_openApply_139 : decode cX0_openApply 139 = .ok (.iload_n 0, 1) := by decide +kernel
theorem dX0_openApply_140 : decode cX0_openApply 140 = .ok (.iconst 2, 1) := by decide +kernel
theorem dX0_openApply_141 : decode cX0_openApply 141 = .ok (.if_icmp .ne 16, 3) := by decide +kernel
theorem dX0_openApply_144 : decode cX0_openApply 144 = .ok (.iload 5, 2) := by decide +kernel
theorem dX0_openApply_146 : decode cX0_openApply 146 = .ok (.ifCond .eq 7, 3) := by decide +kernel
theorem dX0_openApply_149 : decode cX0_openApply 149 = .ok (.iconst 2, 1) := by decide +kernel
theorem dX0_openApply_150 : decode cX0_openApply 150 = .ok (.goto 6, 3) := by decide +kernel
theorem dX0_openApply_153 : decode cX0_openApply 153 = .ok (.iload_n 1, 1) := by decide +kernel
theorem dX0_openApply_154 : decode cX0_openApply 154 = .ok (.iload_n 2, 1) := by decide +kernel
theorem dX0_openApply_155 : decode cX0_openApply 155 = .ok (.ixor, 1) := by decide +kernel
theorem dX0_openApply_156 : decode cX0_openApply 156 = .ok (.ireturn, 1) := by decide +kernel
theorem dX0_openApply_157 : decode cX0_openApply 157 = .ok (.iload_n 1, 1) := by decide +kernel
theorem dX0_openApply_158 : decode cX0_openApply 158 = .ok (.invokestatic 61, 3) := by decide +kernel
theorem dX0_openApply_161 : decode cX0_openApply 161 = .ok (.ireturn, 1) := by decide +kernel
theorem dX0_turned_0 : decode cX0_turned 0 = .ok (.iload_n 0, 1) := by decide +kernel
theorem dX0_turned_1 : decode cX0_turned 1 = .ok (.iconst 2, 1) := by decide +kernel
theorem dX0_turned_2 : decode cX0_turned 2 = .ok (.if_icmp .ne 7, 3) := by decide +kernel
theorem dX0_turned_5 : decode cX0_turned 5 = .ok (.iconst 2, 1) := by decide +kernel
theorem dX0_turned_6 : decode cX0_turned 6 = .ok (.goto 6, 3) := by decide +kernel
theorem dX0_turned_9 : decode cX0_turned 9 = .ok (.iconst 1, 1) := by decide +kernel
theorem dX0_turned_10 : decode cX0_turned 10 = .ok (.iload_n 0, 1) := by decide +kernel
theorem dX0_turned_11 : decode cX0_turned 11 = .ok (.isub, 1) := by decide +kernel
theorem dX0_turned_12 : decode cX0_turned 12 = .ok (.ireturn, 1) := by decide +kernel
theorem dX0_hidden_0 : decode cX0_hidden 0 = .ok (.iconst 0, 1) := by decide +kernel
theorem dX0_hidden_1 : decode cX0_hidden 1 = .ok (.istore_n 2, 1) := by decide +kernel
theorem dX0_hidden_2 : decode cX0_hidden 2 = .ok (.iconst 0, 1) := by decide +kernel
theorem dX0_hidden_3 : decode cX0_hidden 3 = .ok (.istore_n 3, 1) := by decide +kernel
theorem dX0_hidden_4 : decode cX0_hidden 4 = .ok (.iload_n 3, 1) := by decide +kernel
theorem dX0_hidden_5 : decode cX0_hidden 5 = .ok (.aload_n 0, 1) := by decide +kernel
theorem dX0_hidden_6 : decode cX0_hidden 6 = .ok (.getfield 9, 3) := by decide +kernel
theorem dX0_hidden_9 : decode cX0_hidden 9 = .ok (.if_icmp .ge 40, 3) := by decide +kernel
theorem dX0_hidden_12 : decode cX0_hidden 12 = .ok (.iload_n 1, 1) := by decide +kernel
theorem dX0_hidden_13 : decode cX0_hidden 13 = .ok (.invokestatic 74, 3) := by decide +kernel
theorem dX0_hidden_16 : decode cX0_hidden 16 = .ok (.ifCond .eq 33, 3) := by decide +kernel
theorem dX0_hidden_19 : decode cX0_hidden 19 = .ok (.aload_n 0, 1) := by decide +kernel
theorem dX0_hidden_20 : decode cX0_hidden 20 = .ok (.iload_n 3, 1) := by decide +kernel
theorem dX0_hidden_21 : decode cX0_hidden 21 = .ok (.iload_n 1, 1) := by decide +kernel
theorem dX0_hidden_22 : decode cX0_hidden 22 = .ok (.iconst 0, 1) := by decide +kernel
theorem dX0_hidden_23 : decode cX0_hidden 23 = .ok (.invokevirtual 83, 3) := by decide +kernel
theorem dX0_hidden_26 : decode cX0_hidden 26 = .ok (.istore 4, 2) := by decide +kernel
theorem dX0_hidden_28 : decode cX0_hidden 28 = .ok (.iload_n 2, 1) := by decide +kernel
theorem dX0_hidden_29 : decode cX0_hidden 29 = .ok (.iload 4, 2) := by decide +kernel
theorem dX0_hidden_31 : decode cX0_hidden 31 = .ok (.ifCond .ge 9, 3) := by decide +kernel
theorem dX0_hidden_34 : decode cX0_hidden 34 = .ok (.iconst 1, 1) := by decide +kernel
theorem dX0_hidden_35 : decode cX0_hidden 35 = .ok (.iload_n 3, 1) := by decide +kernel
theorem dX0_hidden_36 : decode cX0_hidden 36 = .ok (.ishl, 1) := by decide +kernel
theorem dX0_hidden_37 : decode cX0_hidden 37 = .ok (.goto 4, 3) := by decide +kernel
theorem dX0_hidden_40 : decode cX0_hidden 40 = .ok (.iconst 0, 1) := by decide +kernel
theorem dX0_hidden_41 : decode cX0_hidden 41 = .ok (.ior, 1) := by decide +kernel
theorem dX0_hidden_42 : decode cX0_hidden 42 = .ok (.istore_n 2, 1) := by decide +kernel
theorem dX0_hidden_43 : decode cX0_hidden 43 = .ok (.iinc 3 1, 3) := by decide +kernel
theorem dX0_hidden_46 : decode cX0_hidden 46 = .ok (.goto (-42), 3) := by decide +kernel
theorem dX0_hidden_49 : decode cX0_hidden 49 = .ok (.iload_n 2, 1) := by decide +kernel
theorem dX0_hidden_50 : decode cX0_hidden 50 = .ok (.ireturn, 1) := by decide +kernel
theorem dX0_shownBy_0 : decode cX0_shownBy 0 = .ok (.iload_n 1, 1) := by decide +kernel
theorem dX0_shownBy_1 : decode cX0_shownBy 1 = .ok (.invokestatic 71, 3) := by decide +kernel
theorem dX0_shownBy_4 : decode cX0_shownBy 4 = .ok (.ifCond .eq 11, 3) := by decide +kernel
theorem dX0_shownBy_7 : decode cX0_shownBy 7 = .ok (.aload_n 0, 1) := by decide +kernel
theorem dX0_shownBy_8 : decode cX0_shownBy 8 = .ok (.iload_n 1, 1) := by decide +kernel
theorem dX0_shownBy_9 : decode cX0_shownBy 9 = .ok (.invokevirtual 86, 3) := by decide +kernel
theorem dX0_shownBy_12 : decode cX0_shownBy 12 = .ok (.goto 4, 3) := by decide +kernel
theorem dX0_shownBy_15 : decode cX0_shownBy 15 = .ok (.iconst (-1), 1) := by decide +kernel
theorem dX0_shownBy_16 : decode cX0_shownBy 16 = .ok (.ireturn, 1) := by decide +kernel
theorem dX0_countShown_0 : decode cX0_countShown 0 = .ok (.iconst 0, 1) := by decide +kernel
theorem dX0_countShown_1 : decode cX0_countShown 1 = .ok (.istore_n 2, 1) := by decide +kernel
theorem dX0_countShown_2 : decode cX0_countShown 2 = .ok (.iconst 0, 1) := by decide +kernel
theorem dX0_countShown_3 : decode cX0_countShown 3 = .ok (.istore_n 3, 1) := by decide +kernel
theorem dX0_countShown_4 : decode cX0_countShown 4 = .ok (.iload_n 3, 1) := by decide +kernel
theorem dX0_countShown_5 : decode cX0_countShown 5 = .ok (.aload_n 0, 1) := by decide +kernel
theorem dX0_countShown_6 : decode cX0_countShown 6 = .ok (.getfield 9, 3) := by decide +kernel
theorem dX0_countShown_9 : decode cX0_countShown 9 = .ok (.if_icmp .ge 35, 3) := by decide +kernel
theorem dX0_countShown_12 : decode cX0_countShown 12 = .ok (.iload_n 2, 1) := by decide +kernel
theorem dX0_countShown_13 : decode cX0_countShown 13 = .ok (.aload_n 0, 1) := by decide +kernel
theorem dX0_countShown_14 : decode cX0_countShown 14 = .ok (.iload_n 3, 1) := by decide +kernel
theorem dX0_countShown_15 : decode cX0_countShown 15 = .ok (.iconst 0, 1) := by decide +kernel
theorem dX0_countShown_16 : decode cX0_countShown 16 = .ok (.invokevirtual 77, 3) := by decide +kernel
theorem dX0_countShown_19 : decode cX0_countShown 19 = .ok (.iload_n 1, 1) := by decide +kernel
theorem dX0_countShown_20 : decode cX0_countShown 20 = .ok (.iushr, 1) := by decide +kernel
theorem dX0_countShown_21 : decode cX0_countShown 21 = .ok (.iconst 1, 1) := by decide +kernel
theorem dX0_countShown_22 : decode cX0_countShown 22 = .ok (.iand, 1) := by decide +kernel
theorem dX0_countShown_23 : decode cX0_countShown 23 = .ok (.iadd, 1) := by decide +kernel
theorem dX0_countShown_24 : decode cX0_countShown 24 = .ok (.istore_n 2, 1) := by decide +kernel
theorem dX0_countShown_25 : decode cX0_countShown 25 = .ok (.iload_n 2, 1) := by decide +kernel
theorem dX0_countShown_26 : decode cX0_countShown 26 = .ok (.aload_n 0, 1) := by decide +kernel
theorem dX0_countShown_27 : decode cX0_countShown 27 = .ok (.iload_n 3, 1) := by decide +kernel
theorem dX0_countShown_28 : decode cX0_countShown 28 = .ok (.iconst 1, 1) := by decide +kernel
theorem dX0_countShown_29 : decode cX0_countShown 29 = .ok (.invokevirtual 77, 3) := by decide +kernel
theorem dX0_countShown_32 : decode cX0_countShown 32 = .ok (.iload_n 1, 1) := by decide +kernel
theorem dX0_countShown_33 : decode cX0_countShown 33 = .ok (.iushr, 1) := by decide +kernel
theorem dX0_countShown_34 : decode cX0_countShown 34 = .ok (.iconst 1, 1) := by decide +kernel
theorem dX0_countShown_35 : decode cX0_countShown 35 = .ok (.iand, 1) := by decide +kernel
theorem dX0_countShown_36 : decode cX0_countShown 36 = .ok (.iadd, 1) := by decide +kernel
theorem dX0_countShown_37 : decode cX0_countShown 37 = .ok (.istore_n 2, 1) := by decide +kernel
theorem dX0_countShown_38 : decode cX0_countShown 38 = .ok (.iinc 3 1, 3) := by decide +kernel
theorem dX0_countShown_41 : decode cX0_countShown 41 = .ok (.goto (-37), 3) := by decide +kernel
theorem dX0_countShown_44 : decode cX0_countShown 44 = .ok (.iload_n 2, 1) := by decide +kernel
theorem dX0_countShown_45 : decode cX0_countShown 45 = .ok (.ireturn, 1) := by decide +kernel
theorem dX0_bestVector_0 : decode cX0_bestVector 0 = .ok (.iconst 0, 1) := by decide +kernel
theorem dX0_bestVector_1 : decode cX0_bestVector 1 = .ok (.istore_n 1, 1) := by decide +kernel
theorem dX0_bestVector_2 : decode cX0_bestVector 2 = .ok (.iconst (-1), 1) := by decide +kernel
theorem dX0_bestVector_3 : decode cX0_bestVector 3 = .ok (.istore_n 2, 1) := by decide +kernel
theorem dX0_bestVector_4 : decode cX0_bestVector 4 = .ok (.iconst 0, 1) := by decide +kernel
theorem dX0_bestVector_5 : decode cX0_bestVector 5 = .ok (.istore_n 3, 1) := by decide +kernel
theorem dX0_bestVector_6 : decode cX0_bestVector 6 = .ok (.iload_n 3, 1) := by decide +kernel
theorem dX0_bestVector_7 : decode cX0_bestVector 7 = .ok (.bipush 32, 2) := by decide +kernel
theorem dX0_bestVector_9 : decode cX0_bestVector 9 = .ok (.if_icmp .ge 27, 3) := by decide +kernel
theorem dX0_bestVector_12 : decode cX0_bestVector 12 = .ok (.aload_n 0, 1) := by decide +kernel
theorem dX0_bestVector_13 : decode cX0_bestVector 13 = .ok (.iload_n 3, 1) := by decide +kernel
theorem dX0_bestVector_14 : decode cX0_bestVector 14 = .ok (.invokevirtual 86, 3) := by decide +kernel
theorem dX0_bestVector_17 : decode cX0_bestVector 17 = .ok (.istore 4, 2) := by decide +kernel
theorem dX0_bestVector_19 : decode cX0_bestVector 19 = .ok (.iload 4, 2) := by decide +kernel
theorem dX0_bestVector_21 : decode cX0_bestVector 21 = .ok (.iload_n 2, 1) := by decide +kernel
theorem dX0_bestVector_22 : decode cX0_bestVector 22 = .ok (.if_icmp .le 8, 3) := by decide +kernel
theorem dX0_bestVector_25 : decode cX0_bestVector 25 = .ok (.iload 4, 2) := by decide +kernel
theorem dX0_bestVector_27 : decode cX0_bestVector 27 = .ok (.istore_n 2, 1) := by decide +kernel
theorem dX0_bestVector_28 : decode cX0_bestVector 28 = .ok (.iload_n 3, 1) := by decide +kernel
theorem dX0_bestVector_29 : decode cX0_bestVector 29 = .ok (.istore_n 1, 1) := by decide +kernel
theorem dX0_bestVector_30 : decode cX0_bestVector 30 = .ok (.iinc 3 1, 3) := by decide +kernel
theorem dX0_bestVector_33 : decode cX0_bestVector 33 = .ok (.goto (-27), 3) := by decide +kernel
theorem dX0_bestVector_36 : decode cX0_bestVector 36 = .ok (.iload_n 1, 1) := by decide +kernel
theorem dX0_bestVector_37 : decode cX0_bestVector 37 = .ok (.ireturn, 1) := by decide +kernel
theorem dX0_alike_0 : decode cX0_alike 0 = .ok (.aload_n 0, 1) := by decide +kernel
theorem dX0_alike_1 : decode cX0_alike 1 = .ok (.iload_n 1, 1) := by decide +kernel
theorem dX0_alike_2 : decode cX0_alike 2 = .ok (.invokevirtual 43, 3) := by decide +kernel
theorem dX0_alike_5 : decode cX0_alike 5 = .ok (.ifCond .eq 26, 3) := by decide +kernel
theorem dX0_alike_8 : decode cX0_alike 8 = .ok (.iload_n 2, 1) := by decide +kernel
theorem dX0_alike_9 : decode cX0_alike 9 = .ok (.invokestatic 74, 3) := by decide +kernel
theorem dX0_alike_12 : decode cX0_alike 12 = .ok (.ifCond .eq 19, 3) := by decide +kernel
theorem dX0_alike_15 : decode cX0_alike 15 = .ok (.aload_n 0, 1) := by decide +kernel
theorem dX0_alike_16 : decode cX0_alike 16 = .ok (.iload_n 3, 1) := by decide +kernel
theorem dX0_alike_17 : decode cX0_alike 17 = .ok (.invokevirtual 43, 3) := by decide +kernel
theorem dX0_alike_20 : decode cX0_alike 20 = .ok (.ifCond .eq 11, 3) := by decide +kernel
theorem dX0_alike_23 : decode cX0_alike 23 = .ok (.iload 4, 2) := by decide +kernel
theorem dX0_alike_25 : decode cX0_alike 25 = .ok (.invokestatic 74, 3) := by decide +kernel
theorem dX0_alike_28 : decode cX0_alike 28 = .ok (.ifCond .ne 5, 3) := by decide +kernel
theorem dX0_alike_31 : decode cX0_alike 31 = .ok (.iconst 0, 1) := by decide +kernel
theorem dX0_alike_32 : decode cX0_alike 32 = .ok (.ireturn, 1) := by decide +kernel
theorem dX0_alike_33 : decode cX0_alike 33 = .ok (.aload_n 0, 1) := by decide +kernel
theorem dX0_alike_34 : decode cX0_alike 34 = .ok (.iload_n 1, 1) := by decide +kernel
theorem dX0_alike_35 : decode cX0_alike 35 = .ok (.iload_n 2, 1) := by decide +kernel
theorem dX0_alike_36 : decode cX0_alike 36 = .ok (.invokevirtual 77, 3) := by decide +kernel
theorem dX0_alike_39 : decode cX0_alike 39 = .ok (.istore 5, 2) := by decide +kernel
theorem dX0_alike_41 : decode cX0_alike 41 = .ok (.iload 5, 2) := by decide +kernel
theorem dX0_alike_43 : decode cX0_alike 43 = .ok (.aload_n 0, 1) := by decide +kernel
theorem dX0_alike_44 : decode cX0_alike 44 = .ok (.iload_n 3, 1) := by decide +kernel
theorem dX0_alike_45 : decode cX0_alike 45 = .ok (.iload 4, 2) := by decide +kernel
theorem dX0_alike_47 : decode cX0_alike 47 = .ok (.invokevirtual 77, 3) := by decide +kernel
theorem dX0_alike_50 : decode cX0_alike 50 = .ok (.if_icmp .ne 7, 3) := by decide +kernel
theorem dX0_alike_53 : decode cX0_alike 53 = .ok (.iconst 1, 1) := by decide +kernel
theorem dX0_alike_54 : decode cX0_alike 54 = .ok (.goto 4, 3) := by decide +kernel
theorem dX0_alike_57 : decode cX0_alike 57 = .ok (.iconst 0, 1) := by decide +kernel
theorem dX0_alike_58 : decode cX0_alike 58 = .ok (.ireturn, 1) := by decide +kernel
theorem dX0_ones_0 : decode cX0_ones 0 = .ok (.aload_n 0, 1) := by decide +kernel
theorem dX0_ones_1 : decode cX0_ones 1 = .ok (.iload_n 1, 1) := by decide +kernel
theorem dX0_ones_2 : decode cX0_ones 2 = .ok (.invokevirtual 43, 3) := by decide +kernel
theorem dX0_ones_5 : decode cX0_ones 5 = .ok (.ifCond .ne 5, 3) := by decide +kernel
theorem dX0_ones_8 : decode cX0_ones 8 = .ok (.iconst (-1), 1) := by decide +kernel
theorem dX0_ones_9 : decode cX0_ones 9 = .ok (.ireturn, 1) := by decide +kernel
theorem dX0_ones_10 : decode cX0_ones 10 = .ok (.aload_n 0, 1) := by decide +kernel
theorem dX0_ones_11 : decode cX0_ones 11 = .ok (.invokevirtual 58, 3) := by decide +kernel
theorem dX0_ones_14 : decode cX0_ones 14 = .ok (.iconst 0, 1) := by decide +kernel
theorem dX0_ones_15 : decode cX0_ones 15 = .ok (.istore_n 2, 1) := by decide +kernel
theorem dX0_ones_16 : decode cX0_ones 16 = .ok (.iconst 0, 1) := by decide +kernel
theorem dX0_ones_17 : decode cX0_ones 17 = .ok (.istore_n 3, 1) := by decide +kernel
theorem dX0_ones_18 : decode cX0_ones 18 = .ok (.iload_n 3, 1) := by decide +kernel
theorem dX0_ones_19 : decode cX0_ones 19 = .ok (.bipush 32, 2) := by decide +kernel
theorem dX0_ones_21 : decode cX0_ones 21 = .ok (.if_icmp .ge 22, 3) := by decide +kernel
theorem dX0_ones_24 : decode cX0_ones 24 = .ok (.iload_n 2, 1) := by decide +kernel
theorem dX0_ones_25 : decode cX0_ones 25 = .ok (.aload_n 0, 1) := by decide +kernel
theorem dX0_ones_26 : decode cX0_ones 26 = .ok (.getfield 23, 3) := by decide +kernel
theorem dX0_ones_29 : decode cX0_ones 29 = .ok (.iload_n 1, 1) := by decide +kernel
theorem dX0_ones_30 : decode cX0_ones 30 = .ok (.iaload, 1) := by decide +kernel
theorem dX0_ones_31 : decode cX0_ones 31 = .ok (.iload_n 3, 1) := by decide +kernel
theorem dX0_ones_32 : decode cX0_ones 32 = .ok (.iushr, 1) := by decide +kernel
theorem dX0_ones_33 : decode cX0_ones 33 = .ok (.iconst 1, 1) := by decide +kernel
theorem dX0_ones_34 : decode cX0_ones 34 = .ok (.iand, 1) := by decide +kernel
theorem dX0_ones_35 : decode cX0_ones 35 = .ok (.iadd, 1) := by decide +kernel
theorem dX0_ones_36 : decode cX0_ones 36 = .ok (.istore_n 2, 1) := by decide +kernel
theorem dX0_ones_37 : decode cX0_ones 37 = .ok (.iinc 3 1, 3) := by decide +kernel
theorem dX0_ones_40 : decode cX0_ones 40 = .ok (.goto (-22), 3) := by decide +kernel
theorem dX0_ones_43 : decode cX0_ones 43 = .ok (.iload_n 2, 1) := by decide +kernel
theorem dX0_ones_44 : decode cX0_ones 44 = .ok (.ireturn, 1) := by decide +kernel
end
section
set_option maxRecDepth 100000
theorem dJ0_init_0 : decode cJ0_init 0 = .ok (.return_, 1) := by decide +kernel
theorem dX1_init_0 : decode cX1_init 0 = .ok (.aload_n 0, 1) := by decide +kernel
theorem dX1_init_1 : decode cX1_init 1 = .ok (.invokespecial 1, 3) := by decide +kernel
theorem dX1_init_4 : decode cX1_init 4 = .ok (.aload_n 0, 1) := by decide +kernel
theorem dX1_init_5 : decode cX1_init 5 = .ok (.bipush 16, 2) := by decide +kernel
theorem dX1_init_7 : decode cX1_init 7 = .ok (.newarray .int, 2) := by decide +kernel
theorem dX1_init_9 : decode cX1_init 9 = .ok (.putfield 7, 3) := by decide +kernel
theorem dX1_init_12 : decode cX1_init 12 = .ok (.aload_n 0, 1) := by decide +kernel
theorem dX1_init_13 : decode cX1_init 13 = .ok (.bipush 16, 2) := by decide +kernel
theorem dX1_init_15 : decode cX1_init 15 = .ok (.newarray .int, 2) := by decide +kernel
theorem dX1_init_17 : decode cX1_init 17 = .ok (.putfield 13, 3) := by decide +kernel
theorem dX1_init_20 : decode cX1_init 20 = .ok (.aload_n 0, 1) := by decide +kernel
theorem dX1_init_21 : decode cX1_init 21 = .ok (.bipush 16, 2) := by decide +kernel
theorem dX1_init_23 : decode cX1_init 23 = .ok (.newarray .int, 2) := by decide +kernel
theorem dX1_init_25 : decode cX1_init 25 = .ok (.putfield 16, 3) := by decide +kernel
theorem dX1_init_28 : decode cX1_init 28 = .ok (.aload_n 0, 1) := by decide +kernel
theorem dX1_init_29 : decode cX1_init 29 = .ok (.bipush 16, 2) := by decide +kernel
theorem dX1_init_31 : decode cX1_init 31 = .ok (.newarray .int, 2) := by decide +kernel
theorem dX1_init_33 : decode cX1_init 33 = .ok (.putfield 19, 3) := by decide +kernel
theorem dX1_init_36 : decode cX1_init 36 = .ok (.aload_n 0, 1) := by decide +kernel
theorem dX1_init_37 : decode cX1_init 37 = .ok (.iconst 5, 1) := by decide +kernel
theorem dX1_init_38 : decode cX1_init 38 = .ok (.putfield 22, 3) := by decide +kernel
theorem dX1_init_41 : decode cX1_init 41 = .ok (.return_, 1) := by decide +kernel
theorem dX1_gate_0 : decode cX1_gate 0 = .ok (.iload_n 1, 1) := by decide +kernel
theorem dX1_gate_1 : decode cX1_gate 1 = .ok (.ifCond .lt 29, 3) := by decide +kernel
theorem dX1_gate_4 : decode cX1_gate 4 = .ok (.iload_n 1, 1) := by decide +kernel
theorem dX1_gate_5 : decode cX1_gate 5 = .ok (.iconst 5, 1) := by decide +kernel
theorem dX1_gate_6 : decode cX1_gate 6 = .ok (.if_icmp .gt 24, 3) := by decide +kernel
theorem dX1_gate_9 : decode cX1_gate 9 = .ok (.aload_n 0, 1) := by decide +kernel
theorem dX1_gate_10 : decode cX1_gate 10 = .ok (.iload_n 2, 1) := by decide +kernel
theorem dX1_gate_11 : decode cX1_gate 11 = .ok (.invokevirtual 26, 3) := by decide +kernel
theorem dX1_gate_14 : decode cX1_gate 14 = .ok (.ifCond .eq 16, 3) := by decide +kernel
theorem dX1_gate_17 : decode cX1_gate 17 = .ok (.iload_n 1, 1) := by decide +kernel
theorem dX1_gate_18 : decode cX1_gate 18 = .ok (.iconst 5, 1) := by decide +kernel
theorem dX1_gate_19 : decode cX1_gate 19 = .ok (.if_icmp .eq 13, 3) := by decide +kernel
theorem dX1_gate_22 : decode cX1_gate 22 = .ok (.aload_n 0, 1) := by decide +kernel
theorem dX1_gate_23 : decode cX1_gate 23 = .ok (.iload_n 3, 1) := by decide +kernel
theorem dX1_gate_24 : decode cX1_gate 24 = .ok (.invokevirtual 26, 3) := by decide +kernel
theorem dX1_gate_27 : decode cX1_gate 27 = .ok (.ifCond .ne 5, 3) := by decide +kernel
theorem dX1_gate_30 : decode cX1_gate 30 = .ok (.iconst (-1), 1) := by decide +kernel
theorem dX1_gate_31 : decode cX1_gate 31 = .ok (.ireturn, 1) := by decide +kernel
theorem dX1_gate_32 : decode cX1_gate 32 = .ok (.aload_n 0, 1) := by decide +kernel
theorem dX1_gate_33 : decode cX1_gate 33 = .ok (.getfield 22, 3) := by decide +kernel
theorem dX1_gate_36 : decode cX1_gate 36 = .ok (.bipush 16, 2) := by decide +kernel
theorem dX1_gate_38 : decode cX1_gate 38 = .ok (.if_icmp .lt 6, 3) := by decide +kernel
theorem dX1_gate_41 : decode cX1_gate 41 = .ok (.bipush (-2), 2) := by decide +kernel
theorem dX1_gate_43 : decode cX1_gate 43 = .ok (.ireturn, 1) := by decide +kernel
theorem dX1_gate_44 : decode cX1_gate 44 = .ok (.aload_n 0, 1) := by decide +kernel
theorem dX1_gate_45 : decode cX1_gate 45 = .ok (.getfield 7, 3) := by decide +kernel
theorem dX1_gate_48 : decode cX1_gate 48 = .ok (.aload_n 0, 1) := by decide +kernel
theorem dX1_gate_49 : decode cX1_gate 49 = .ok (.getfield 22, 3) := by decide +kernel
theorem dX1_gate_52 : decode cX1_gate 52 = .ok (.iload_n 1, 1) := by decide +kernel
theorem dX1_gate_53 : decode cX1_gate 53 = .ok (.iastore, 1) := by decide +kernel
theorem dX1_gate_54 : decode cX1_gate 54 = .ok (.aload_n 0, 1) := by decide +kernel
theorem dX1_gate_55 : decode cX1_gate 55 = .ok (.getfield 13, 3) := by decide +kernel
theorem dX1_gate_58 : decode cX1_gate 58 = .ok (.aload_n 0, 1) := by decide +kernel
theorem dX1_gate_59 : decode cX1_gate 59 = .ok (.getfield 22, 3) := by decide +kernel
theorem dX1_gate_62 : decode cX1_gate 62 = .ok (.iload_n 2, 1) := by decide +kernel
theorem dX1_gate_63 : decode cX1_gate 63 = .ok (.iastore, 1) := by decide +kernel
theorem dX1_gate_64 : decode cX1_gate 64 = .ok (.aload_n 0, 1) := by decide +kernel
theorem dX1_gate_65 : decode cX1_gate 65 = .ok (.getfield 16, 3) := by decide +kernel
theorem dX1_gate_68 : decode cX1_gate 68 = .ok (.aload_n 0, 1) := by decide +kernel
theorem dX1_gate_69 : decode cX1_gate 69 = .ok (.getfield 22, 3) := by decide +kernel
theorem dX1_gate_72 : decode cX1_gate 72 = .ok (.iload_n 1, 1) := by decide +kernel
theorem dX1_gate_73 : decode cX1_gate 73 = .ok (.iconst 5, 1) := by decide +kernel
theorem dX1_gate_74 : decode cX1_gate 74 = .ok (.if_icmp .ne 7, 3) := by decide +kernel
theorem dX1_gate_77 : decode cX1_gate 77 = .ok (.iconst 0, 1) := by decide +kernel
theorem dX1_gate_78 : decode cX1_gate 78 = .ok (.goto 4, 3) := by decide +kernel
theorem dX1_gate_81 : decode cX1_gate 81 = .ok (.iload_n 3, 1) := by decide +kernel
theorem dX1_gate_82 : decode cX1_gate 82 = .ok (.iastore, 1) := by decide +kernel
theorem dX1_gate_83 : decode cX1_gate 83 = .ok (.aload_n 0, 1) := by decide +kernel
theorem dX1_gate_84 : decode cX1_gate 84 = .ok (.dup, 1) := by decide +kernel
theorem dX1_gate_85 : decode cX1_gate 85 = .ok (.getfield 22, 3) := by decide +kernel
theorem dX1_gate_88 : decode cX1_gate 88 = .ok (.iconst 1, 1) := by decide +kernel
theorem dX1_gate_89 : decode cX1_gate 89 = .ok (.iadd, 1) := by decide +kernel
theorem dX1_gate_90 : decode cX1_gate 90 = .ok (.putfield 22, 3) := by decide +kernel
theorem dX1_gate_93 : decode cX1_gate 93 = .ok (.aload_n 0, 1) := by decide +kernel
theorem dX1_gate_94 : decode cX1_gate 94 = .ok (.getfield 22, 3) := by decide +kernel
theorem dX1_gate_97 : decode cX1_gate 97 = .ok (.iconst 1, 1) := by decide +kernel
theorem dX1_gate_98 : decode cX1_gate 98 = .ok (.isub, 1) := by decide +kernel
theorem dX1_gate_99 : decode cX1_gate 99 = .ok (.ireturn, 1) := by decide +kernel
theorem dX1_is_0 : decode cX1_is 0 = .ok (.iload_n 1, 1) := by decide +kernel
theorem dX1_is_1 : decode cX1_is 1 = .ok (.ifCond .lt 15, 3) := by decide +kernel
theorem dX1_is_4 : decode cX1_is 4 = .ok (.iload_n 1, 1) := by decide +kernel
theorem dX1_is_5 : decode cX1_is 5 = .ok (.aload_n 0, 1) := by decide +kernel
theorem dX1_is_6 : decode cX1_is 6 = .ok (.getfield 22, 3) := by decide +kernel
theorem dX1_is_9 : decode cX1_is 9 = .ok (.if_icmp .ge 7, 3) := by decide +kernel
theorem dX1_is_12 : decode cX1_is 12 = .ok (.iconst 1, 1) := by decide +kernel
theorem dX1_is_13 : decode cX1_is 13 = .ok (.goto 4, 3) := by decide +kernel
theorem dX1_is_16 : decode cX1_is 16 = .ok (.iconst 0, 1) := by decide +kernel
theorem dX1_is_17 : decode cX1_is 17 = .ok (.ireturn, 1) := by decide +kernel
theorem dX1_drop_0 : decode cX1_drop 0 = .ok (.aload_n 0, 1) := by decide +kernel
theorem dX1_drop_1 : decode cX1_drop 1 = .ok (.getfield 22, 3) := by decide +kernel
theorem dX1_drop_4 : decode cX1_drop 4 = .ok (.iconst 5, 1) := by decide +kernel
theorem dX1_drop_5 : decode cX1_drop 5 = .ok (.if_icmp .gt 5, 3) := by decide +kernel
theorem dX1_drop_8 : decode cX1_drop 8 = .ok (.iconst (-1), 1) := by decide +kernel
theorem dX1_drop_9 : decode cX1_drop 9 = .ok (.ireturn, 1) := by decide +kernel
theorem dX1_drop_10 : decode cX1_drop 10 = .ok (.aload_n 0, 1) := by decide +kernel
theorem dX1_drop_11 : decode cX1_drop 11 = .ok (.dup, 1) := by decide +kernel
theorem dX1_drop_12 : decode cX1_drop 12 = .ok (.getfield 22, 3) := by decide +kernel
theorem dX1_drop_15 : decode cX1_drop 15 = .ok (.iconst 1, 1) := by decide +kernel
theorem dX1_drop_16 : decode cX1_drop 16 = .ok (.isub, 1) := by decide +kernel
theorem dX1_drop_17 : decode cX1_drop 17 = .ok (.putfield 22, 3) := by decide +kernel
theorem dX1_drop_20 : decode cX1_drop 20 = .ok (.aload_n 0, 1) := by decide +kernel
theorem dX1_drop_21 : decode cX1_drop 21 = .ok (.aload_n 0, 1) := by decide +kernel
theorem dX1_drop_22 : decode cX1_drop 22 = .ok (.getfield 30, 3) := by decide +kernel
theorem dX1_drop_25 : decode cX1_drop 25 = .ok (.iconst 1, 1) := by decide +kernel
theorem dX1_drop_26 : decode cX1_drop 26 = .ok (.aload_n 0, 1) := by decide +kernel
theorem dX1_drop_27 : decode cX1_drop 27 = .ok (.getfield 22, 3) := by decide +kernel
theorem dX1_drop_30 : decode cX1_drop 30 = .ok (.ishl, 1) := by decide +kernel
theorem dX1_drop_31 : decode cX1_drop 31 = .ok (.iconst (-1), 1) := by decide +kernel
theorem dX1_drop_32 : decode cX1_drop 32 = .ok (.ixor, 1) := by decide +kernel
theorem dX1_drop_33 : decode cX1_drop 33 = .ok (.iand, 1) := by decide +kernel
theorem dX1_drop_34 : decode cX1_drop 34 = .ok (.putfield 30, 3) := by decide +kernel
theorem dX1_drop_37 : decode cX1_drop 37 = .ok (.aload_n 0, 1) := by decide +kernel
theorem dX1_drop_38 : decode cX1_drop 38 = .ok (.getfield 22, 3) := by decide +kernel
theorem dX1_drop_41 : decode cX1_drop 41 = .ok (.ireturn, 1) := by decide +kernel
theorem dX1_watch_0 : decode cX1_watch 0 = .ok (.aload_n 0, 1) := by decide +kernel
theorem dX1_watch_1 : decode cX1_watch 1 = .ok (.iload_n 1, 1) := by decide +kernel
theorem dX1_watch_2 : decode cX1_watch 2 = .ok (.invokevirtual 26, 3) := by decide +kernel
theorem dX1_watch_5 : decode cX1_watch 5 = .ok (.ifCond .ne 5, 3) := by decide +kernel
theorem dX1_watch_8 : decode cX1_watch 8 = .ok (.iconst 0, 1) := by decide +kernel
theorem dX1_watch_9 : decode cX1_watch 9 = .ok (.ireturn, 1) := by decide +kernel
theorem dX1_watch_10 : decode cX1_watch 10 = .ok (.aload_n 0, 1) := by decide +kernel
theorem dX1_watch_11 : decode cX1_watch 11 = .ok (.iload_n 2, 1) := by decide +kernel
theorem dX1_watch_12 : decode cX1_watch 12 = .ok (.ifCond .eq 14, 3) := by decide +kernel
theorem dX1_watch_15 : decode cX1_watch 15 = .ok (.aload_n 0, 1) := by decide +kernel
theorem dX1_watch_16 : decode cX1_watch 16 = .ok (.getfield 30, 3) := by decide +kernel
theorem dX1_watch_19 : decode cX1_watch 19 = .ok (.iconst 1, 1) := by decide +kernel
theorem dX1_watch_20 : decode cX1_watch 20 = .ok (.iload_n 1, 1) := by decide +kernel
theorem dX1_watch_21 : decode cX1_watch 21 = .ok (.ishl, 1) := by decide +kernel
theorem dX1_watch_22 : decode cX1_watch 22 = .ok (.ior, 1) := by decide +kernel
theorem dX1_watch_23 : decode cX1_watch 23 = .ok (.goto 13, 3) := by decide +kernel
theorem dX1_watch_26 : decode cX1_watch 26 = .ok (.aload_n 0, 1) := by decide +kernel
theorem dX1_watch_27 : decode cX1_watch 27 = .ok (.getfield 30, 3) := by decide +kernel
theorem dX1_watch_30 : decode cX1_watch 30 = .ok (.iconst 1, 1) := by decide +kernel
theorem dX1_watch_31 : decode cX1_watch 31 = .ok (.iload_n 1, 1) := by decide +kernel
theorem dX1_watch_32 : decode cX1_watch 32 = .ok (.ishl, 1) := by decide +kernel
theorem dX1_watch_33 : decode cX1_watch 33 = .ok (.iconst (-1), 1) := by decide +kernel
theorem dX1_watch_34 : decode cX1_watch 34 = .ok (.ixor, 1) := by decide +kernel
theorem dX1_watch_35 : decode cX1_watch 35 = .ok (.iand, 1) := by decide +kernel
theorem dX1_watch_36 : decode cX1_watch 36 = .ok (.putfield 30, 3) := by decide +kernel
theorem dX1_watch_39 : decode cX1_watch 39 = .ok (.iconst 1, 1) := by decide +kernel
theorem dX1_watch_40 : decode cX1_watch 40 = .ok (.ireturn, 1) := by decide +kernel
theorem dX1_lines_0 : decode cX1_lines 0 = .ok (.aload_n 0, 1) := by decide +kernel
theorem dX1_lines_1 : decode cX1_lines 1 = .ok (.getfield 22, 3) := by decide +kernel
theorem dX1_lines_4 : decode cX1_lines 4 = .ok (.ireturn, 1) := by decide +kernel
theorem dX1_watched_0 : decode cX1_watched 0 = .ok (.aload_n 0, 1) := by decide +kernel
theorem dX1_watched_1 : decode cX1_watched 1 = .ok (.getfield 30, 3) := by decide +kernel
theorem dX1_watched_4 : decode cX1_watched 4 = .ok (.ireturn, 1) := by decide +kernel
theorem dX1_value_0 : decode cX1_value 0 = .ok (.aload_n 0, 1) := by decide +kernel
theorem dX1_value_1 : decode cX1_value 1 = .ok (.iload_n 1, 1) := by decide +kernel
theorem dX1_value_2 : decode cX1_value 2 = .ok (.invokevirtual 26, 3) := by decide +kernel
theorem dX1_value_5 : decode cX1_value 5 = .ok (.ifCond .eq 11, 3) := by decide +kernel
theorem dX1_value_8 : decode cX1_value 8 = .ok (.aload_n 0, 1) := by decide +kernel
theorem dX1_value_9 : decode cX1_value 9 = .ok (.iload_n 2, 1) := by decide +kernel
theorem dX1_value_10 : decode cX1_value 10 = .ok (.invokevirtual 33, 3) := by decide +kernel
theorem dX1_value_13 : decode cX1_value 13 = .ok (.ifCond .ne 5, 3) := by decide +kernel
theorem dX1_value_16 : decode cX1_value 16 = .ok (.iconst (-1), 1) := by decide +kernel
theorem dX1_value_17 : decode cX1_value 17 = .ok (.ireturn, 1) := by decide +kernel
theorem dX1_value_18 : decode cX1_value 18 = .ok (.aload_n 0, 1) := by decide +kernel
theorem dX1_value_19 : decode cX1_value 19 = .ok (.iload_n 2, 1) := by decide +kernel
theorem dX1_value_20 : decode cX1_value 20 = .ok (.iconst (-1), 1) := by decide +kernel
theorem dX1_value_21 : decode cX1_value 21 = .ok (.iconst 0, 1) := by decide +kernel
theorem dX1_value_22 : decode cX1_value 22 = .ok (.invokevirtual 36, 3) := by decide +kernel
theorem dX1_value_25 : decode cX1_value 25 = .ok (.pop, 1) := by decide +kernel
theorem dX1_value_26 : decode cX1_value 26 = .ok (.aload_n 0, 1) := by decide +kernel
theorem dX1_value_27 : decode cX1_value 27 = .ok (.getfield 19, 3) := by decide +kernel
theorem dX1_value_30 : decode cX1_value 30 = .ok (.iload_n 1, 1) := by decide +kernel
theorem dX1_value_31 : decode cX1_value 31 = .ok (.iaload, 1) := by decide +kernel
theorem dX1_value_32 : decode cX1_value 32 = .ok (.ireturn, 1) := by decide +kernel
theorem dX1_vector_0 : decode cX1_vector 0 = .ok (.iload_n 1, 1) := by decide +kernel
theorem dX1_vector_1 : decode cX1_vector 1 = .ok (.ifCond .lt 13, 3) := by decide +kernel
theorem dX1_vector_4 : decode cX1_vector 4 = .ok (.iload_n 1, 1) := by decide +kernel
theorem dX1_vector_5 : decode cX1_vector 5 = .ok (.bipush 31, 2) := by decide +kernel
theorem dX1_vector_7 : decode cX1_vector 7 = .ok (.if_icmp .gt 7, 3) := by decide +kernel
theorem dX1_vector_10 : decode cX1_vector 10 = .ok (.iconst 1, 1) := by decide +kernel
theorem dX1_vector_11 : decode cX1_vector 11 = .ok (.goto 4, 3) := by decide +kernel
theorem dX1_vector_14 : decode cX1_vector 14 = .ok (.iconst 0, 1) := by decide +kernel
theorem dX1_vector_15 : decode cX1_vector 15 = .ok (.ireturn, 1) := by decide +kernel
theorem dX1_work_0 : decode cX1_work 0 = .ok (.iconst 0, 1) := by decide +kernel
theorem dX1_work_1 : decode cX1_work 1 = .ok (.istore 4, 2) := by decide +kernel
theorem dX1_work_3 : decode cX1_work 3 = .ok (.iconst 0, 1) := by decide +kernel
theorem dX1_work_4 : decode cX1_work 4 = .ok (.istore 5, 2) := by decide +kernel
theorem dX1_work_6 : decode cX1_work 6 = .ok (.iload 5, 2) := by decide +kernel
theorem dX1_work_8 : decode cX1_work 8 = .ok (.aload_n 0, 1) := by decide +kernel
theorem dX1_work_9 : decode cX1_work 9 = .ok (.getfield 22, 3) := by decide +kernel
theorem dX1_work_12 : decode cX1_work 12 = .ok (.if_icmp .ge 184, 3) := by decide +kernel
theorem dX1_work_15 : decode cX1_work 15 = .ok (.aload_n 0, 1) := by decide +kernel
theorem dX1_work_16 : decode cX1_work 16 = .ok (.getfield 19, 3) := by decide +kernel
theorem dX1_work_19 : decode cX1_work 19 = .ok (.aload_n 0, 1) := by decide +kernel
theorem dX1_work_20 : decode cX1_work 20 = .ok (.getfield 13, 3) := by decide +kernel
theorem dX1_work_23 : decode cX1_work 23 = .ok (.iload 5, 2) := by decide +kernel
theorem dX1_work_25 : decode cX1_work 25 = .ok (.iaload, 1) := by decide +kernel
theorem dX1_work_26 : decode cX1_work 26 = .ok (.iaload, 1) := by decide +kernel
theorem dX1_work_27 : decode cX1_work 27 = .ok (.istore 6, 2) := by decide +kernel
theorem dX1_work_29 : decode cX1_work 29 = .ok (.aload_n 0, 1) := by decide +kernel
theorem dX1_work_30 : decode cX1_work 30 = .ok (.getfield 19, 3) := by decide +kernel
theorem dX1_work_33 : decode cX1_work 33 = .ok (.aload_n 0, 1) := by decide +kernel
theorem dX1_work_34 : decode cX1_work 34 = .ok (.getfield 16, 3) := by decide +kernel
theorem dX1_work_37 : decode cX1_work 37 = .ok (.iload 5, 2) := by decide +kernel
theorem dX1_work_39 : decode cX1_work 39 = .ok (.iaload, 1) := by decide +kernel
theorem dX1_work_40 : decode cX1_work 40 = .ok (.iaload, 1) := by decide +kernel
theorem dX1_work_41 : decode cX1_work 41 = .ok (.istore 7, 2) := by decide +kernel
theorem dX1_work_43 : decode cX1_work 43 = .ok (.aload_n 0, 1) := by decide +kernel
theorem dX1_work_44 : decode cX1_work 44 = .ok (.getfield 7, 3) := by decide +kernel
theorem dX1_work_47 : decode cX1_work 47 = .ok (.iload 5, 2) := by decide +kernel
theorem dX1_work_49 : decode cX1_work 49 = .ok (.iaload, 1) := by decide +kernel
theorem dX1_work_50 : decode cX1_work 50 = .ok (.istore 8, 2) := by decide +kernel
theorem dX1_work_52 : decode cX1_work 52 = .ok (.iload 5, 2) := by decide +kernel
theorem dX1_work_54 : decode cX1_work 54 = .ok (.iconst 5, 1) := by decide +kernel
theorem dX1_work_55 : decode cX1_work 55 = .ok (.if_icmp .ge 12, 3) := by decide +kernel
theorem dX1_work_58 : decode cX1_work 58 = .ok (.iload_n 1, 1) := by decide +kernel
theorem dX1_work_59 : decode cX1_work 59 = .ok (.iload 5, 2) := by decide +kernel
theorem dX1_work_61 : decode cX1_work 61 = .ok (.ishr, 1) := by decide +kernel
theorem dX1_work_62 : decode cX1_work 62 = .ok (.iconst 1, 1) := by decide +kernel
theorem dX1_work_63 : decode cX1_work 63 = .ok (.iand, 1) := by decide +kernel
theorem dX1_work_64 : decode cX1_work 64 = .ok (.goto 80, 3) := by decide +kernel
theorem dX1_work_67 : decode cX1_work 67 = .ok (.iload 8, 2) := by decide +kernel
theorem dX1_work_69 : decode cX1_work 69 = .ok (.ifCond .ne 11, 3) := by decide +kernel
theorem dX1_work_72 : decode cX1_work 72 = .ok (.iload 6, 2) := by decide +kernel
theorem dX1_work_74 : decode cX1_work 74 = .ok (.iload 7, 2) := by decide +kernel
theorem dX1_work_76 : decode cX1_work 76 = .ok (.iand, 1) := by decide +kernel
theorem dX1_work_77 : decode cX1_work 77 = .ok (.goto 67, 3) := by decide +kernel
theorem dX1_work_80 : decode cX1_work 80 = .ok (.iload 8, 2) := by decide +kernel
theorem dX1_work_82 : decode cX1_work 82 = .ok (.iconst 1, 1) := by decide +kernel
theorem dX1_work_83 : decode cX1_work 83 = .ok (.if_icmp .ne 11, 3) := by decide +kernel
theorem dX1_work_86 : decode cX1_work 86 = .ok (.iload 6, 2) := by decide +kernel
theorem dX1_work_88 : decode cX1_work 88 = .ok (.iload 7, 2) := by decide +kernel
theorem dX1_work_90 : decode cX1_work 90 = .ok (.ior, 1) := by decide +kernel
theorem dX1_work_91 : decode cX1_work 91 = .ok (.goto 53, 3) := by decide +kernel
theorem dX1_work_94 : decode cX1_work 94 = .ok (.iload 8, 2) := by decide +kernel
theorem dX1_work_96 : decode cX1_work 96 = .ok (.iconst 2, 1) := by decide +kernel
theorem dX1_work_97 : decode cX1_work 97 = .ok (.if_icmp .ne 11, 3) := by decide +kernel
theorem dX1_work_100 : decode cX1_work 100 = .ok (.iload 6, 2) := by decide +kernel
theorem dX1_work_102 : decode cX1_work 102 = .ok (.iload 7, 2) := by decide +kernel
theorem dX1_work_104 : decode cX1_work 104 = .ok (.ixor, 1) := by decide +kernel
theorem dX1_work_105 : decode cX1_work 105 = .ok (.goto 39, 3) := by decide +kernel
theorem dX1_work_108 : decode cX1_work 108 = .ok (.iload 8, 2) := by decide +kernel
theorem dX1_work_110 : decode cX1_work 110 = .ok (.iconst 3, 1) := by decide +kernel
theorem dX1_work_111 : decode cX1_work 111 = .ok (.if_icmp .ne 13, 3) := by decide +kernel
theorem dX1_work_114 : decode cX1_work 114 = .ok (.iconst 1, 1) := by decide +kernel
theorem dX1_work_115 : decode cX1_work 115 = .ok (.iload 6, 2) := by decide +kernel
theorem dX1_work_117 : decode cX1_work 117 = .ok (.iload 7, 2) := by decide +kernel
theorem dX1_work_119 : decode cX1_work 119 = .ok (.iand, 1) := by decide +kernel
theorem dX1_work_120 : decode cX1_work 120 = .ok (.isub, 1) := by decide +kernel
theorem dX1_work_121 : decode cX1_work 121 = .ok (.goto 23, 3) := by decide +kernel
theorem dX1_work_124 : decode cX1_work 124 = .ok (.iload 8, 2) := by decide +kernel
theorem dX1_work_126 : decode cX1_work 126 = .ok (.iconst 4, 1) := by decide +kernel
theorem dX1_work_127 : decode cX1_work 127 = .ok (.if_icmp .ne 13, 3) := by decide +kernel
theorem dX1_work_130 : decode cX1_work 130 = .ok (.iconst 1, 1) := by decide +kernel
theorem dX1_work_131 : decode cX1_work 131 = .ok (.iload 6, 2) := by decide +kernel
theorem dX1_work_133 : decode cX1_work 133 = .ok (.iload 7, 2) := by decide +kernel
theorem dX1_work_135 : decode cX1_work 135 = .ok (.ior, 1) := by decide +kernel
theorem dX1_work_136 : decode cX1_work 136 = .ok (.isub, 1) := by decide +kernel
theorem dX1_work_137 : decode cX1_work 137 = .ok (.goto 7, 3) := by decide +kernel
theorem dX1_work_140 : decode cX1_work 140 = .ok (.iconst 1, 1) := by decide +kernel
theorem dX1_work_141 : decode cX1_work 141 = .ok (.iload 6, 2) := by decide +kernel
theorem dX1_work_143 : decode cX1_work 143 = .ok (.isub, 1) := by decide +kernel
theorem dX1_work_144 : decode cX1_work 144 = .ok (.istore 9, 2) := by decide +kernel
theorem dX1_work_146 : decode cX1_work 146 = .ok (.aload_n 0, 1) := by decide +kernel
theorem dX1_work_147 : decode cX1_work 147 = .ok (.getfield 19, 3) := by decide +kernel
theorem dX1_work_150 : decode cX1_work 150 = .ok (.iload 5, 2) := by decide +kernel
theorem dX1_work_152 : decode cX1_work 152 = .ok (.iload 5, 2) := by decide +kernel
theorem dX1_work_154 : decode cX1_work 154 = .ok (.iload_n 2, 1) := by decide +kernel
theorem dX1_work_155 : decode cX1_work 155 = .ok (.if_icmp .ne 7, 3) := by decide +kernel
theorem dX1_work_158 : decode cX1_work 158 = .ok (.iload_n 3, 1) := by decide +kernel
theorem dX1_work_159 : decode cX1_work 159 = .ok (.goto 5, 3) := by decide +kernel
theorem dX1_work_162 : decode cX1_work 162 = .ok (.iload 9, 2) := by decide +kernel
theorem dX1_work_164 : decode cX1_work 164 = .ok (.iastore, 1) := by decide +kernel
theorem dX1_work_165 : decode cX1_work 165 = .ok (.iload 4, 2) := by decide +kernel
theorem dX1_work_167 : decode cX1_work 167 = .ok (.aload_n 0, 1) := by decide +kernel
theorem dX1_work_168 : decode cX1_work 168 = .ok (.getfield 30, 3) := by decide +kernel
theorem dX1_work_171 : decode cX1_work 171 = .ok (.iload 5, 2) := by decide +kernel
theorem dX1_work_173 : decode cX1_work 173 = .ok (.ishr, 1) := by decide +kernel
theorem dX1_work_174 : decode cX1_work 174 = .ok (.iconst 1, 1) := by decide +kernel
theorem dX1_work_175 : decode cX1_work 175 = .ok (.iand, 1) := by decide +kernel
theorem dX1_work_176 : decode cX1_work 176 = .ok (.aload_n 0, 1) := by decide +kernel
theorem dX1_work_177 : decode cX1_work 177 = .ok (.getfield 19, 3) := by decide +kernel
theorem dX1_work_180 : decode cX1_work 180 = .ok (.iload 5, 2) := by decide +kernel
theorem dX1_work_182 : decode cX1_work 182 = .ok (.iaload, 1) := by decide +kernel
theorem dX1_work_183 : decode cX1_work 183 = .ok (.iand, 1) := by decide +kernel
theorem dX1_work_184 : decode cX1_work 184 = .ok (.iload 5, 2) := by decide +kernel
theorem dX1_work_186 : decode cX1_work 186 = .ok (.ishl, 1) := by decide +kernel
theorem dX1_work_187 : decode cX1_work 187 = .ok (.ior, 1) := by decide +kernel
theorem dX1_work_188 : decode cX1_work 188 = .ok (.istore 4, 2) := by decide +kernel
theorem dX1_work_190 : decode cX1_work 190 = .ok (.iinc 5 1, 3) := by decide +kernel
theorem dX1_work_193 : decode cX1_work 193 = .ok (.goto (-187), 3) := by decide +kernel
theorem dX1_work_196 : decode cX1_work 196 = .ok (.iload 4, 2) := by decide +kernel
theorem dX1_work_198 : decode cX1_work 198 = .ok (.ireturn, 1) := by decide +kernel
theorem dX1_shows_0 : decode cX1_shows 0 = .ok (.aload_n 0, 1) := by decide +kernel
theorem dX1_shows_1 : decode cX1_shows 1 = .ok (.iload_n 2, 1) := by decide +kernel
theorem dX1_shows_2 : decode cX1_shows 2 = .ok (.invokevirtual 26, 3) := by decide +kernel
theorem dX1_shows_5 : decode cX1_shows 5 = .ok (.ifCond .eq 20, 3) := by decide +kernel
theorem dX1_shows_8 : decode cX1_shows 8 = .ok (.iload_n 3, 1) := by decide +kernel
theorem dX1_shows_9 : decode cX1_shows 9 = .ok (.ifCond .eq 8, 3) := by decide +kernel
theorem dX1_shows_12 : decode cX1_shows 12 = .ok (.iload_n 3, 1) := by decide +kernel
theorem dX1_shows_13 : decode cX1_shows 13 = .ok (.iconst 1, 1) := by decide +kernel
theorem dX1_shows_14 : decode cX1_shows 14 = .ok (.if_icmp .ne 11, 3) := by decide +kernel
theorem dX1_shows_17 : decode cX1_shows 17 = .ok (.aload_n 0, 1) := by decide +kernel
theorem dX1_shows_18 : decode cX1_shows 18 = .ok (.iload_n 1, 1) := by decide +kernel
theorem dX1_shows_19 : decode cX1_shows 19 = .ok (.invokevirtual 33, 3) := by decide +kernel
theorem dX1_shows_22 : decode cX1_shows 22 = .ok (.ifCond .ne 5, 3) := by decide +kernel
theorem dX1_shows_25 : decode cX1_shows 25 = .ok (.iconst 0, 1) := by decide +kernel
theorem dX1_shows_26 : decode cX1_shows 26 = .ok (.ireturn, 1) := by decide +kernel
theorem dX1_shows_27 : decode cX1_shows 27 = .ok (.aload_n 0, 1) := by decide +kernel
theorem dX1_shows_28 : decode cX1_shows 28 = .ok (.iload_n 1, 1) := by decide +kernel
theorem dX1_shows_29 : decode cX1_shows 29 = .ok (.iconst (-1), 1) := by decide +kernel
theorem dX1_shows_30 : decode cX1_shows 30 = .ok (.iconst 0, 1) := by decide +kernel
theorem dX1_shows_31 : decode cX1_shows 31 = .ok (.invokevirtual 36, 3) := by decide +kernel
theorem dX1_shows_34 : decode cX1_shows 34 = .ok (.istore 4, 2) := by decide +kernel
theorem dX1_shows_36 : decode cX1_shows 36 = .ok (.aload_n 0, 1) := by decide +kernel
theorem dX1_shows_37 : decode cX1_shows 37 = .ok (.iload_n 1, 1) := by decide +kernel
theorem dX1_shows_38 : decode cX1_shows 38 = .ok (.iload_n 2, 1) := by decide +kernel
theorem dX1_shows_39 : decode cX1_shows 39 = .ok (.iload_n 3, 1) := by decide +kernel
theorem dX1_shows_40 : decode cX1_shows 40 = .ok (.invokevirtual 36, 3) := by decide +kernel
theorem dX1_shows_43 : decode cX1_shows 43 = .ok (.iload 4, 2) := by decide +kernel
theorem dX1_shows_45 : decode cX1_shows 45 = .ok (.if_icmp .eq 7, 3) := by decide +kernel
theorem dX1_shows_48 : decode cX1_shows 48 = .ok (.iconst 1, 1) := by decide +kernel
theorem dX1_shows_49 : decode cX1_shows 49 = .ok (.goto 4, 3) := by decide +kernel
theorem dX1_shows_52 : decode cX1_shows 52 = .ok (.iconst 0, 1) := by decide +kernel
theorem dX1_shows_53 : decode cX1_shows 53 = .ok (.ireturn, 1) := by decide +kernel
theorem dX1_test_0 : decode cX1_test 0 = .ok (.aload_n 0, 1) := by decide +kernel
theorem dX1_test_1 : decode cX1_test 1 = .ok (.iload_n 1, 1) := by decide +kernel
theorem dX1_test_2 : decode cX1_test 2 = .ok (.iload_n 2, 1) := by decide +kernel
theorem dX1_test_3 : decode cX1_test 3 = .ok (.iconst 0, 1) := by decide +kernel
theorem dX1_test_4 : decode cX1_test 4 = .ok (.invokevirtual 40, 3) := by decide +kernel
theorem dX1_test_7 : decode cX1_test 7 = .ok (.ireturn, 1) := by decide +kernel
theorem dX1_testFrom_0 : decode cX1_testFrom 0 = .ok (.iconst 0, 1) := by decide +kernel
theorem dX1_testFrom_1 : decode cX1_testFrom 1 = .ok (.istore 4, 2) := by decide +kernel
theorem dX1_testFrom_3 : decode cX1_testFrom 3 = .ok (.iload 4, 2) := by decide +kernel
theorem dX1_testFrom_5 : decode cX1_testFrom 5 = .ok (.bipush 32, 2) := by decide +kernel
theorem dX1_testFrom_7 : decode cX1_testFrom 7 = .ok (.if_icmp .ge 29, 3) := by decide +kernel
theorem dX1_testFrom_10 : decode cX1_testFrom 10 = .ok (.iload 4, 2) := by decide +kernel
theorem dX1_testFrom_12 : decode cX1_testFrom 12 = .ok (.iload_n 3, 1) := by decide +kernel
theorem dX1_testFrom_13 : decode cX1_testFrom 13 = .ok (.if_icmp .lt 17, 3) := by decide +kernel
theorem dX1_testFrom_16 : decode cX1_testFrom 16 = .ok (.aload_n 0, 1) := by decide +kernel
theorem dX1_testFrom_17 : decode cX1_testFrom 17 = .ok (.iload 4, 2) := by decide +kernel
theorem dX1_testFrom_19 : decode cX1_testFrom 19 = .ok (.iload_n 1, 1) := by decide +kernel
theorem dX1_testFrom_20 : decode cX1_testFrom 20 = .ok (.iload_n 2, 1) := by decide +kernel
theorem dX1_testFrom_21 : decode cX1_testFrom 21 = .ok (.invokevirtual 43, 3) := by decide +kernel
theorem dX1_testFrom_24 : decode cX1_testFrom 24 = .ok (.ifCond .eq 6, 3) := by decide +kernel
theorem dX1_testFrom_27 : decode cX1_testFrom 27 = .ok (.iload 4, 2) := by decide +kernel
theorem dX1_testFrom_29 : decode cX1_testFrom 29 = .ok (.ireturn, 1) := by decide +kernel
theorem dX1_testFrom_30 : decode cX1_testFrom 30 = .ok (.iinc 4 1, 3) := by decide +kernel
theorem dX1_testFrom_33 : decode cX1_testFrom 33 = .ok (.goto (-30), 3) := by decide +kernel
theorem dX1_testFrom_36 : decode cX1_testFrom 36 = .ok (.iconst (-1), 1) := by decide +kernel
theorem dX1_testFrom_37 : decode cX1_testFrom 37 = .ok (.ireturn, 1) := by decide +kernel
theorem dX1_hidden_0 : decode cX1_hidden 0 = .ok (.iconst 0, 1) := by decide +kernel
theorem dX1_hidden_1 : decode cX1_hidden 1 = .ok (.istore_n 2, 1) := by decide +kernel
theorem dX1_hidden_2 : decode cX1_hidden 2 = .ok (.iconst 0, 1) := by decide +kernel
theorem dX1_hidden_3 : decode cX1_hidden 3 = .ok (.istore_n 3, 1) := by decide +kernel
theorem dX1_hidden_4 : decode cX1_hidden 4 = .ok (.iload_n 3, 1) := by decide +kernel
theorem dX1_hidden_5 : decode cX1_hidden 5 = .ok (.aload_n 0, 1) := by decide +kernel
theorem dX1_hidden_6 : decode cX1_hidden 6 = .ok (.getfield 22, 3) := by decide +kernel
theorem dX1_hidden_9 : decode cX1_hidden 9 = .ok (.if_icmp .ge 37, 3) := by decide +kernel
theorem dX1_hidden_12 : decode cX1_hidden 12 = .ok (.iload_n 1, 1) := by decide +kernel
theorem dX1_hidden_13 : decode cX1_hidden 13 = .ok (.ifCond .eq 8, 3) := by decide +kernel
theorem dX1_hidden_16 : decode cX1_hidden 16 = .ok (.iload_n 1, 1) := by decide +kernel
theorem dX1_hidden_17 : decode cX1_hidden 17 = .ok (.iconst 1, 1) := by decide +kernel
theorem dX1_hidden_18 : decode cX1_hidden 18 = .ok (.if_icmp .ne 28, 3) := by decide +kernel
theorem dX1_hidden_21 : decode cX1_hidden 21 = .ok (.aload_n 0, 1) := by decide +kernel
theorem dX1_hidden_22 : decode cX1_hidden 22 = .ok (.iload_n 3, 1) := by decide +kernel
theorem dX1_hidden_23 : decode cX1_hidden 23 = .ok (.iload_n 1, 1) := by decide +kernel
theorem dX1_hidden_24 : decode cX1_hidden 24 = .ok (.invokevirtual 47, 3) := by decide +kernel
theorem dX1_hidden_27 : decode cX1_hidden 27 = .ok (.ifCond .ge 11, 3) := by decide +kernel
theorem dX1_hidden_30 : decode cX1_hidden 30 = .ok (.iload_n 2, 1) := by decide +kernel
theorem dX1_hidden_31 : decode cX1_hidden 31 = .ok (.iconst 1, 1) := by decide +kernel
theorem dX1_hidden_32 : decode cX1_hidden 32 = .ok (.iload_n 3, 1) := by decide +kernel
theorem dX1_hidden_33 : decode cX1_hidden 33 = .ok (.ishl, 1) := by decide +kernel
theorem dX1_hidden_34 : decode cX1_hidden 34 = .ok (.ior, 1) := by decide +kernel
theorem dX1_hidden_35 : decode cX1_hidden 35 = .ok (.goto 4, 3) := by decide +kernel
theorem dX1_hidden_38 : decode cX1_hidden 38 = .ok (.iload_n 2, 1) := by decide +kernel
theorem dX1_hidden_39 : decode cX1_hidden 39 = .ok (.istore_n 2, 1) := by decide +kernel
theorem dX1_hidden_40 : decode cX1_hidden 40 = .ok (.iinc 3 1, 3) := by decide +kernel
theorem dX1_hidden_43 : decode cX1_hidden 43 = .ok (.goto (-39), 3) := by decide +kernel
theorem dX1_hidden_46 : decode cX1_hidden 46 = .ok (.iload_n 2, 1) := by decide +kernel
theorem dX1_hidden_47 : decode cX1_hidden 47 = .ok (.ireturn, 1) := by decide +kernel
theorem dX1_shownBy_0 : decode cX1_shownBy 0 = .ok (.iconst 0, 1) := by decide +kernel
theorem dX1_shownBy_1 : decode cX1_shownBy 1 = .ok (.istore_n 2, 1) := by decide +kernel
theorem dX1_shownBy_2 : decode cX1_shownBy 2 = .ok (.iconst 0, 1) := by decide +kernel
theorem dX1_shownBy_3 : decode cX1_shownBy 3 = .ok (.istore_n 3, 1) := by decide +kernel
theorem dX1_shownBy_4 : decode cX1_shownBy 4 = .ok (.iload_n 3, 1) := by decide +kernel
theorem dX1_shownBy_5 : decode cX1_shownBy 5 = .ok (.aload_n 0, 1) := by decide +kernel
theorem dX1_shownBy_6 : decode cX1_shownBy 6 = .ok (.getfield 22, 3) := by decide +kernel
theorem dX1_shownBy_9 : decode cX1_shownBy 9 = .ok (.if_icmp .ge 43, 3) := by decide +kernel
theorem dX1_shownBy_12 : decode cX1_shownBy 12 = .ok (.iload_n 2, 1) := by decide +kernel
theorem dX1_shownBy_13 : decode cX1_shownBy 13 = .ok (.aload_n 0, 1) := by decide +kernel
theorem dX1_shownBy_14 : decode cX1_shownBy 14 = .ok (.iload_n 1, 1) := by decide +kernel
theorem dX1_shownBy_15 : decode cX1_shownBy 15 = .ok (.iload_n 3, 1) := by decide +kernel
theorem dX1_shownBy_16 : decode cX1_shownBy 16 = .ok (.iconst 0, 1) := by decide +kernel
theorem dX1_shownBy_17 : decode cX1_shownBy 17 = .ok (.invokevirtual 43, 3) := by decide +kernel
theorem dX1_shownBy_20 : decode cX1_shownBy 20 = .ok (.ifCond .eq 7, 3) := by decide +kernel
theorem dX1_shownBy_23 : decode cX1_shownBy 23 = .ok (.iconst 1, 1) := by decide +kernel
theorem dX1_shownBy_24 : decode cX1_shownBy 24 = .ok (.goto 4, 3) := by decide +kernel
theorem dX1_shownBy_27 : decode cX1_shownBy 27 = .ok (.iconst 0, 1) := by decide +kernel
theorem dX1_shownBy_28 : decode cX1_shownBy 28 = .ok (.iadd, 1) := by decide +kernel
theorem dX1_shownBy_29 : decode cX1_shownBy 29 = .ok (.aload_n 0, 1) := by decide +kernel
theorem dX1_shownBy_30 : decode cX1_shownBy 30 = .ok (.iload_n 1, 1) := by decide +kernel
theorem dX1_shownBy_31 : decode cX1_shownBy 31 = .ok (.iload_n 3, 1) := by decide +kernel
theorem dX1_shownBy_32 : decode cX1_shownBy 32 = .ok (.iconst 1, 1) := by decide +kernel
theorem dX1_shownBy_33 : decode cX1_shownBy 33 = .ok (.invokevirtual 43, 3) := by decide +kernel
theorem dX1_shownBy_36 : decode cX1_shownBy 36 = .ok (.ifCond .eq 7, 3) := by decide +kernel
theorem dX1_shownBy_39 : decode cX1_shownBy 39 = .ok (.iconst 1, 1) := by decide +kernel
theorem dX1_shownBy_40 : decode cX1_shownBy 40 = .ok (.goto 4, 3) := by decide +kernel
theorem dX1_shownBy_43 : decode cX1_shownBy 43 = .ok (.iconst 0, 1) := by decide +kernel
theorem dX1_shownBy_44 : decode cX1_shownBy 44 = .ok (.iadd, 1) := by decide +kernel
theorem dX1_shownBy_45 : decode cX1_shownBy 45 = .ok (.istore_n 2, 1) := by decide +kernel
theorem dX1_shownBy_46 : decode cX1_shownBy 46 = .ok (.iinc 3 1, 3) := by decide +kernel
theorem dX1_shownBy_49 : decode cX1_shownBy 49 = .ok (.goto (-45), 3) := by decide +kernel
theorem dX1_shownBy_52 : decode cX1_shownBy 52 = .ok (.aload_n 0, 1) := by decide +kernel
theorem dX1_shownBy_53 : decode cX1_shownBy 53 = .ok (.iload_n 1, 1) := by decide +kernel
theorem dX1_shownBy_54 : decode cX1_shownBy 54 = .ok (.invokevirtual 33, 3) := by decide +kernel
theorem dX1_shownBy_57 : decode cX1_shownBy 57 = .ok (.ifCond .eq 7, 3) := by decide +kernel
theorem dX1_shownBy_60 : decode cX1_shownBy 60 = .ok (.iload_n 2, 1) := by decide +kernel
theorem dX1_shownBy_61 : decode cX1_shownBy 61 = .ok (.goto 4, 3) := by decide +kernel
theorem dX1_shownBy_64 : decode cX1_shownBy 64 = .ok (.iconst (-1), 1) := by decide +kernel
theorem dX1_shownBy_65 : decode cX1_shownBy 65 = .ok (.ireturn, 1) := by decide +kernel
theorem dX1_bestVector_0 : decode cX1_bestVector 0 = .ok (.iconst 0, 1) := by decide +kernel
theorem dX1_bestVector_1 : decode cX1_bestVector 1 = .ok (.istore_n 1, 1) := by decide +kernel
theorem dX1_bestVector_2 : decode cX1_bestVector 2 = .ok (.iconst (-1), 1) := by decide +kernel
theorem dX1_bestVector_3 : decode cX1_bestVector 3 = .ok (.istore_n 2, 1) := by decide +kernel
theorem dX1_bestVector_4 : decode cX1_bestVector 4 = .ok (.iconst 0, 1) := by decide +kernel
theorem dX1_bestVector_5 : decode cX1_bestVector 5 = .ok (.istore_n 3, 1) := by decide +kernel
theorem dX1_bestVector_6 : decode cX1_bestVector 6 = .ok (.iload_n 3, 1) := by decide +kernel
theorem dX1_bestVector_7 : decode cX1_bestVector 7 = .ok (.bipush 32, 2) := by decide +kernel
theorem dX1_bestVector_9 : decode cX1_bestVector 9 = .ok (.if_icmp .ge 41, 3) := by decide +kernel
theorem dX1_bestVector_12 : decode cX1_bestVector 12 = .ok (.aload_n 0, 1) := by decide +kernel
theorem dX1_bestVector_13 : decode cX1_bestVector 13 = .ok (.iload_n 3, 1) := by decide +kernel
theorem dX1_bestVector_14 : decode cX1_bestVector 14 = .ok (.invokevirtual 51, 3) := by decide +kernel
theorem dX1_bestVector_17 : decode cX1_bestVector 17 = .ok (.istore 4, 2) := by decide +kernel
theorem dX1_bestVector_19 : decode cX1_bestVector 19 = .ok (.iload 4, 2) := by decide +kernel
theorem dX1_bestVector_21 : decode cX1_bestVector 21 = .ok (.iload_n 2, 1) := by decide +kernel
theorem dX1_bestVector_22 : decode cX1_bestVector 22 = .ok (.if_icmp .le 7, 3) := by decide +kernel
theorem dX1_bestVector_25 : decode cX1_bestVector 25 = .ok (.iload_n 3, 1) := by decide +kernel
theorem dX1_bestVector_26 : decode cX1_bestVector 26 = .ok (.goto 4, 3) := by decide +kernel
theorem dX1_bestVector_29 : decode cX1_bestVector 29 = .ok (.iload_n 1, 1) := by decide +kernel
theorem dX1_bestVector_30 : decode cX1_bestVector 30 = .ok (.istore_n 1, 1) := by decide +kernel
theorem dX1_bestVector_31 : decode cX1_bestVector 31 = .ok (.iload 4, 2) := by decide +kernel
theorem dX1_bestVector_33 : decode cX1_bestVector 33 = .ok (.iload_n 2, 1) := by decide +kernel
theorem dX1_bestVector_34 : decode cX1_bestVector 34 = .ok (.if_icmp .le 8, 3) := by decide +kernel
theorem dX1_bestVector_37 : decode cX1_bestVector 37 = .ok (.iload 4, 2) := by decide +kernel
theorem dX1_bestVector_39 : decode cX1_bestVector 39 = .ok (.goto 4, 3) := by decide +kernel
theorem dX1_bestVector_42 : decode cX1_bestVector 42 = .ok (.iload_n 2, 1) := by decide +kernel
theorem dX1_bestVector_43 : decode cX1_bestVector 43 = .ok (.istore_n 2, 1) := by decide +kernel
theorem dX1_bestVector_44 : decode cX1_bestVector 44 = .ok (.iinc 3 1, 3) := by decide +kernel
theorem dX1_bestVector_47 : decode cX1_bestVector 47 = .ok (.goto (-41), 3) := by decide +kernel
theorem dX1_bestVector_50 : decode cX1_bestVector 50 = .ok (.iload_n 1, 1) := by decide +kernel
theorem dX1_bestVector_51 : decode cX1_bestVector 51 = .ok (.ireturn, 1) := by decide +kernel
theorem dX1_alike_0 : decode cX1_alike 0 = .ok (.aload_n 0, 1) := by decide +kernel
theorem dX1_alike_1 : decode cX1_alike 1 = .ok (.iload_n 1, 1) := by decide +kernel
theorem dX1_alike_2 : decode cX1_alike 2 = .ok (.invokevirtual 26, 3) := by decide +kernel
theorem dX1_alike_5 : decode cX1_alike 5 = .ok (.ifCond .eq 35, 3) := by decide +kernel
theorem dX1_alike_8 : decode cX1_alike 8 = .ok (.aload_n 0, 1) := by decide +kernel
theorem dX1_alike_9 : decode cX1_alike 9 = .ok (.iload_n 3, 1) := by decide +kernel
theorem dX1_alike_10 : decode cX1_alike 10 = .ok (.invokevirtual 26, 3) := by decide +kernel
theorem dX1_alike_13 : decode cX1_alike 13 = .ok (.ifCond .eq 27, 3) := by decide +kernel
theorem dX1_alike_16 : decode cX1_alike 16 = .ok (.iload_n 2, 1) := by decide +kernel
theorem dX1_alike_17 : decode cX1_alike 17 = .ok (.ifCond .eq 8, 3) := by decide +kernel
theorem dX1_alike_20 : decode cX1_alike 20 = .ok (.iload_n 2, 1) := by decide +kernel
theorem dX1_alike_21 : decode cX1_alike 21 = .ok (.iconst 1, 1) := by decide +kernel
theorem dX1_alike_22 : decode cX1_alike 22 = .ok (.if_icmp .ne 18, 3) := by decide +kernel
theorem dX1_alike_25 : decode cX1_alike 25 = .ok (.iload 4, 2) := by decide +kernel
theorem dX1_alike_27 : decode cX1_alike 27 = .ok (.ifCond .eq 9, 3) := by decide +kernel
theorem dX1_alike_30 : decode cX1_alike 30 = .ok (.iload 4, 2) := by decide +kernel
theorem dX1_alike_32 : decode cX1_alike 32 = .ok (.iconst 1, 1) := by decide +kernel
theorem dX1_alike_33 : decode cX1_alike 33 = .ok (.if_icmp .ne 7, 3) := by decide +kernel
theorem dX1_alike_36 : decode cX1_alike 36 = .ok (.iconst 1, 1) := by decide +kernel
theorem dX1_alike_37 : decode cX1_alike 37 = .ok (.goto 4, 3) := by decide +kernel
theorem dX1_alike_40 : decode cX1_alike 40 = .ok (.iconst 0, 1) := by decide +kernel
theorem dX1_alike_41 : decode cX1_alike 41 = .ok (.istore 5, 2) := by decide +kernel
theorem dX1_alike_43 : decode cX1_alike 43 = .ok (.iconst 0, 1) := by decide +kernel
theorem dX1_alike_44 : decode cX1_alike 44 = .ok (.istore 6, 2) := by decide +kernel
theorem dX1_alike_46 : decode cX1_alike 46 = .ok (.iload 6, 2) := by decide +kernel
theorem dX1_alike_48 : decode cX1_alike 48 = .ok (.bipush 32, 2) := by decide +kernel
theorem dX1_alike_50 : decode cX1_alike 50 = .ok (.if_icmp .ge 41, 3) := by decide +kernel
theorem dX1_alike_53 : decode cX1_alike 53 = .ok (.iload 5, 2) := by decide +kernel
theorem dX1_alike_55 : decode cX1_alike 55 = .ok (.ifCond .eq 36, 3) := by decide +kernel
theorem dX1_alike_58 : decode cX1_alike 58 = .ok (.aload_n 0, 1) := by decide +kernel
theorem dX1_alike_59 : decode cX1_alike 59 = .ok (.iload 6, 2) := by decide +kernel
theorem dX1_alike_61 : decode cX1_alike 61 = .ok (.iload_n 1, 1) := by decide +kernel
theorem dX1_alike_62 : decode cX1_alike 62 = .ok (.iload_n 2, 1) := by decide +kernel
theorem dX1_alike_63 : decode cX1_alike 63 = .ok (.invokevirtual 43, 3) := by decide +kernel
theorem dX1_alike_66 : decode cX1_alike 66 = .ok (.aload_n 0, 1) := by decide +kernel
theorem dX1_alike_67 : decode cX1_alike 67 = .ok (.iload 6, 2) := by decide +kernel
theorem dX1_alike_69 : decode cX1_alike 69 = .ok (.iload_n 3, 1) := by decide +kernel
theorem dX1_alike_70 : decode cX1_alike 70 = .ok (.iload 4, 2) := by decide +kernel
theorem dX1_alike_72 : decode cX1_alike 72 = .ok (.invokevirtual 43, 3) := by decide +kernel
theorem dX1_alike_75 : decode cX1_alike 75 = .ok (.if_icmp .ne 7, 3) := by decide +kernel
theorem dX1_alike_78 : decode cX1_alike 78 = .ok (.iconst 1, 1) := by decide +kernel
theorem dX1_alike_79 : decode cX1_alike 79 = .ok (.goto 4, 3) := by decide +kernel
theorem dX1_alike_82 : decode cX1_alike 82 = .ok (.iconst 0, 1) := by decide +kernel
theorem dX1_alike_83 : decode cX1_alike 83 = .ok (.istore 5, 2) := by decide +kernel
theorem dX1_alike_85 : decode cX1_alike 85 = .ok (.iinc 6 1, 3) := by decide +kernel
theorem dX1_alike_88 : decode cX1_alike 88 = .ok (.goto (-42), 3) := by decide +kernel
theorem dX1_alike_91 : decode cX1_alike 91 = .ok (.iload 5, 2) := by decide +kernel
theorem dX1_alike_93 : decode cX1_alike 93 = .ok (.ireturn, 1) := by decide +kernel
theorem dX1_ones_0 : decode cX1_ones 0 = .ok (.iconst 0, 1) := by decide +kernel
theorem dX1_ones_1 : decode cX1_ones 1 = .ok (.istore_n 2, 1) := by decide +kernel
theorem dX1_ones_2 : decode cX1_ones 2 = .ok (.iconst 0, 1) := by decide +kernel
theorem dX1_ones_3 : decode cX1_ones 3 = .ok (.istore_n 3, 1) := by decide +kernel
theorem dX1_ones_4 : decode cX1_ones 4 = .ok (.iload_n 3, 1) := by decide +kernel
theorem dX1_ones_5 : decode cX1_ones 5 = .ok (.bipush 32, 2) := by decide +kernel
theorem dX1_ones_7 : decode cX1_ones 7 = .ok (.if_icmp .ge 26, 3) := by decide +kernel
theorem dX1_ones_10 : decode cX1_ones 10 = .ok (.aload_n 0, 1) := by decide +kernel
theorem dX1_ones_11 : decode cX1_ones 11 = .ok (.iload_n 1, 1) := by decide +kernel
theorem dX1_ones_12 : decode cX1_ones 12 = .ok (.invokevirtual 26, 3) := by decide +kernel
theorem dX1_ones_15 : decode cX1_ones 15 = .ok (.ifCond .eq 18, 3) := by decide +kernel
theorem dX1_ones_18 : decode cX1_ones 18 = .ok (.iload_n 2, 1) := by decide +kernel
theorem dX1_ones_19 : decode cX1_ones 19 = .ok (.aload_n 0, 1) := by decide +kernel
theorem dX1_ones_20 : decode cX1_ones 20 = .ok (.iload_n 1, 1) := by decide +kernel
theorem dX1_ones_21 : decode cX1_ones 21 = .ok (.iload_n 3, 1) := by decide +kernel
theorem dX1_ones_22 : decode cX1_ones 22 = .ok (.invokevirtual 55, 3) := by decide +kernel
theorem dX1_ones_25 : decode cX1_ones 25 = .ok (.iadd, 1) := by decide +kernel
theorem dX1_ones_26 : decode cX1_ones 26 = .ok (.istore_n 2, 1) := by decide +kernel
theorem dX1_ones_27 : decode cX1_ones 27 = .ok (.iinc 3 1, 3) := by decide +kernel
theorem dX1_ones_30 : decode cX1_ones 30 = .ok (.goto (-26), 3) := by decide +kernel
theorem dX1_ones_33 : decode cX1_ones 33 = .ok (.aload_n 0, 1) := by decide +kernel
theorem dX1_ones_34 : decode cX1_ones 34 = .ok (.iload_n 1, 1) := by decide +kernel
theorem dX1_ones_35 : decode cX1_ones 35 = .ok (.invokevirtual 26, 3) := by decide +kernel
theorem dX1_ones_38 : decode cX1_ones 38 = .ok (.ifCond .eq 7, 3) := by decide +kernel
theorem dX1_ones_41 : decode cX1_ones 41 = .ok (.iload_n 2, 1) := by decide +kernel
theorem dX1_ones_42 : decode cX1_ones 42 = .ok (.goto 4, 3) := by decide +kernel
theorem dX1_ones_45 : decode cX1_ones 45 = .ok (.iconst (-1), 1) := by decide +kernel
theorem dX1_ones_46 : decode cX1_ones 46 = .ok (.ireturn, 1) := by decide +kernel
end
section
/-! ===== Int32 by its bits: bt x i ===== -/
def bt (x : Int32) (i : Nat) : Bool := x.toBitVec.getLsbD i
theorem b_ext {x y : Int32} (h : ∀ i, i < 32 → bt x i = bt y i) : x = y := Int32.toBitVec_inj.mp (BitVec.eq_of_getLsbD_eq (fun i hi => h i hi))
theorem b_or (x y : Int32) (i : Nat) : bt (x ||| y) i = (bt x i || bt y i) := by unfold bt; rw [Int32.toBitVec_or, BitVec.getLsbD_or]
theorem b_and (x y : Int32) (i : Nat) : bt (x &&& y) i = (bt x i && bt y i) := by unfold bt; rw [Int32.toBitVec_and, BitVec.getLsbD_and]
theorem b_xor (x y : Int32) (i : Nat) : bt (x ^^^ y) i = (bt x i ^^ bt y i) := by unfold bt; rw [Int32.toBitVec_xor, BitVec.getLsbD_xor]
theorem b_big {x : Int32} {i : Nat} (h : 32 ≤ i) : bt x i = false := BitVec.getLsbD_of_ge _ _ h
theorem b_m1 : ∀ i, i < 32 → bt (-1) i = true := by decide +kernel
theorem b_0 (i : Nat) : bt 0 i = false := BitVec.getLsbD_zero
theorem s_l : ∀ n, n < 32 → ((nI n &&& 31).toBitVec.smod 32).toNat = n := by decide +kernel
theorem s_u : ∀ n, n < 32 → (((nI n).toUInt32 &&& Int32.toUInt32 31).toBitVec % 32).toNat = n := by decide +kernel
theorem b_shl (n : Nat) (hn : n < 32) (x : Int32) {i : Nat} (hi : i < 32) : bt (x <<< (nI n &&& 31)) i = (decide (n ≤ i) && bt x (i - n)) := by
  unfold bt
  rw [Int32.toBitVec_shiftLeft]
  show (x.toBitVec <<< ((nI n &&& 31).toBitVec.smod 32).toNat).getLsbD i = _
  rw [s_l n hn, BitVec.getLsbD_shiftLeft]
  rcases Nat.lt_or_ge i n with h | h
  · simp [h, Nat.not_le.mpr h]
  · simp [hi, h, Nat.not_lt.mpr h]
theorem b_ushr (n : Nat) (hn : n < 32) (x : Int32) (i : Nat) : bt ((x.toUInt32 >>> ((nI n).toUInt32 &&& Int32.toUInt32 31)).toInt32) i = bt x (n + i) := by
  show (x.toUInt32 >>> ((nI n).toUInt32 &&& Int32.toUInt32 31)).toBitVec.getLsbD i = x.toUInt32.toBitVec.getLsbD (n + i)
  rw [UInt32.toBitVec_shiftRight]
  show (x.toUInt32.toBitVec >>> (((nI n).toUInt32 &&& Int32.toUInt32 31).toBitVec % 32).toNat).getLsbD i = _
  rw [s_u n hn, BitVec.getLsbD_ushiftRight]
theorem b_sshr (n : Nat) (hn : n < 32) (x : Int32) {i : Nat} (hi : i < 32) : bt (x >>> (nI n &&& 31)) i = if n + i < 32 then bt x (n + i) else bt x 31 := by
  unfold bt
  rw [Int32.toBitVec_shiftRight]
  show (x.toBitVec.sshiftRight ((nI n &&& 31).toBitVec.smod 32).toNat).getLsbD i = _
  rw [s_l n hn, BitVec.getLsbD_sshiftRight, BitVec.msb_eq_getLsbD_last]
  simp [hi]
/-! ===== own rows on bits ===== -/
def bI (b : Bool) : Int32 := nI b.toNat
theorem bI_t : bI true = nI 1 := rfl
theorem bI_f : bI false = nI 0 := rfl
theorem bI_1 : bI true = 1 := by decide
theorem bI_0 : bI false = 0 := by decide
theorem bI_inj {a b : Bool} (h : bI a = bI b) : a = b := by
  revert h; cases a <;> cases b <;> decide
theorem b_one : ∀ i, i < 32 → bt 1 i = decide (i = 0) := by decide +kernel
theorem b_bI (b : Bool) : ∀ i, i < 32 → bt (bI b) i = (b && decide (i = 0)) := by
  cases b
  · intro i _; exact b_0 i
  · intro i hi; rw [bI_1, b_one i hi]; simp
theorem b_nI (k i : Nat) (h : i < 32) : bt (nI k) i = k.testBit i := by
  show (BitVec.ofNat 32 k).getLsbD i = _
  rw [BitVec.getLsbD_ofNat]
  simp [h]
theorem e_sshr (x : Int32) (k : Nat) (hk : k < 32) : (x >>> (nI k &&& 31)) &&& nI 1 = bI (bt x k) := by
  apply b_ext
  intro i hi
  rw [b_and, b_bI _ i hi, b_sshr k hk x hi, show (nI 1 : Int32) = 1 from rfl, b_one i hi]
  by_cases h : i = 0
  · subst h; simp [hk]
  · simp [h]
theorem e_ushr (x : Int32) (k : Nat) (hk : k < 32) : ((x.toUInt32 >>> ((nI k).toUInt32 &&& Int32.toUInt32 31)).toInt32) &&& nI 1 = bI (bt x k) := by
  apply b_ext
  intro i hi
  rw [b_and, b_bI _ i hi, b_ushr k hk x i, show (nI 1 : Int32) = 1 from rfl, b_one i hi]
  by_cases h : i = 0
  · subst h; simp
  · simp [h]
theorem e_shlb (b : Bool) (k : Nat) (hk : k < 32) : ∀ i, i < 32 → bt (bI b <<< (nI k &&& 31)) i = (b && decide (i = k)) := by
  intro i hi
  rw [b_shl k hk _ hi]
  by_cases h : k ≤ i
  · rw [b_bI _ _ (by omega)]
    by_cases h2 : i = k
    · subst h2; simp
    · have : ¬ i - k = 0 := by omega
      simp [h2, this]
  · have : ¬ i = k := by omega
    simp [h, this]
/-! ===== circuits ===== -/
def gv (k : Nat) (a b : Bool) : Bool := if k = 0 then a && b else if k = 1 then a || b else if k = 2 then a ^^ b else if k = 3 then !(a && b) else if k = 4 then !(a || b) else !a
theorem gv_5 {k : Nat} (h : ¬ k < 5) (a b c : Bool) : gv k a b = gv k a c := by
  unfold gv
  rw [if_neg (by omega), if_neg (by omega), if_neg (by omega), if_neg (by omega), if_neg (by omega), if_neg (by omega), if_neg (by omega), if_neg (by omega), if_neg (by omega), if_neg (by omega)]
/-- the lines' values, row by row: line ln is stuck at v, the vector is q -/
def tb (kk ff ss : Nat → Nat) (ln : Nat) (v : Bool) (q : Nat) : Nat → Nat → Bool
  | 0, _ => false
  | i + 1, j => if j = i then (if i = ln then v else if i < 5 then q.testBit i else gv (kk i) (tb kk ff ss ln v q i (ff i)) (tb kk ff ss ln v q i (ss i))) else tb kk ff ss ln v q i j
def vl (kk ff ss : Nat → Nat) (ln : Nat) (v : Bool) (q j : Nat) : Bool := tb kk ff ss ln v q (j + 1) j
theorem tb_vl {kk ff ss : Nat → Nat} {ln : Nat} {v : Bool} {q : Nat} : ∀ (i j : Nat), j < i → tb kk ff ss ln v q i j = vl kk ff ss ln v q j := by
  intro i
  induction i with
  | zero => intro j h; omega
  | succ i ih =>
    intro j h
    by_cases e : j = i
    · subst e; rfl
    · rw [← ih j (by omega)]
      show (if j = i then _ else _) = _
      rw [if_neg e]
theorem vl_eq {kk ff ss : Nat → Nat} (ln : Nat) (v : Bool) (q : Nat) {i : Nat} (h : 5 ≤ i → ff i < i ∧ ss i < i) : vl kk ff ss ln v q i = if i = ln then v else if i < 5 then q.testBit i else gv (kk i) (vl kk ff ss ln v q (ff i)) (vl kk ff ss ln v q (ss i)) := by
  show (if i = i then (if i = ln then v else if i < 5 then q.testBit i else gv (kk i) (tb kk ff ss ln v q i (ff i)) (tb kk ff ss ln v q i (ss i))) else tb kk ff ss ln v q i i) = _
  rw [if_pos rfl]
  by_cases h1 : i = ln
  · rw [if_pos h1, if_pos h1]
  · rw [if_neg h1, if_neg h1]
    by_cases h2 : i < 5
    · rw [if_pos h2, if_pos h2]
    · rw [if_neg h2, if_neg h2, tb_vl _ _ (h (by omega)).1, tb_vl _ _ (h (by omega)).2]
/-- the sound circuit: no line is stuck -/
abbrev v0 (kk ff ss : Nat → Nat) (q j : Nat) : Bool := vl kk ff ss 99 false q j
/-- a watched line below i differs -/
def shw (kk ff ss : Nat → Nat) (w : Int32) (ln : Nat) (v : Bool) (q : Nat) : Nat → Bool
  | 0 => false
  | i + 1 => shw kk ff ss w ln v q i || (bt w i && (v0 kk ff ss q i ^^ vl kk ff ss ln v q i))
theorem shw_iff {kk ff ss : Nat → Nat} {w : Int32} {ln : Nat} {v : Bool} {q : Nat} : ∀ i, shw kk ff ss w ln v q i = true ↔ ∃ j, j < i ∧ bt w j = true ∧ v0 kk ff ss q j ≠ vl kk ff ss ln v q j := by
  intro i
  induction i with
  | zero => exact ⟨fun h => (by cases h), fun ⟨j, h, _⟩ => by omega⟩
  | succ i ih =>
    show (shw kk ff ss w ln v q i || (bt w i && (v0 kk ff ss q i ^^ vl kk ff ss ln v q i))) = true ↔ _
    rw [Bool.or_eq_true, ih, Bool.and_eq_true]
    constructor
    · rintro (⟨j, h1, h2⟩ | ⟨h1, h2⟩)
      · exact ⟨j, by omega, h2⟩
      · refine ⟨i, by omega, h1, fun e => ?_⟩
        rw [e] at h2
        simp at h2
    · rintro ⟨j, h1, h2, h3⟩
      by_cases e : j = i
      · subst e
        refine Or.inr ⟨h2, ?_⟩
        revert h3
        generalize v0 kk ff ss q j = a
        generalize vl kk ff ss ln v q j = b
        cases a <;> cases b <;> simp
      · exact Or.inl ⟨j, by omega, h2, h3⟩
abbrev TC : Type := Nat × (Nat → Nat) × (Nat → Nat) × (Nat → Nat) × Int32
def wfC (n : Nat) (kk ff ss : Nat → Nat) : Prop := 5 ≤ n ∧ n ≤ 16 ∧ ∀ i, kk i ≤ 5 ∧ ff i ≤ i ∧ ss i ≤ i ∧ (5 ≤ i → ff i < i ∧ ss i < i)
/-- a number below n, or none -/
def lnX (n : Nat) (p : Int32) : Option Nat := if 0 ≤ p ∧ p.toNatClampNeg < n then some p.toNatClampNeg else none
theorem lnX_some {n j : Nat} (h : j < n) (hn : n < 2 ^ 31) : lnX n (nI j) = some j := by
  unfold lnX
  rw [nI_clamp (by omega), if_pos ⟨nI_pos' (by omega), h⟩]
/-- what isLine, isVector, isBit answer -/
def isX (n : Nat) (p r : Int32) : Prop := (r = nI 1 ∧ ∃ j, j < n ∧ p = nI j) ∨ (r = nI 0 ∧ lnX n p = none)
theorem isX_neg {n : Nat} {p : Int32} (h : p < 0) : isX n p (nI 0) := by
  refine Or.inr ⟨rfl, ?_⟩
  unfold lnX
  rw [if_neg (fun q => Int32.not_le.mpr h q.1)]
theorem isX_ge {n : Nat} {p : Int32} (hn : n < 2 ^ 31) (h : nI n ≤ p) : isX n p (nI 0) := by
  refine Or.inr ⟨rfl, ?_⟩
  unfold lnX
  rw [if_neg]
  rintro ⟨h1, h2⟩
  obtain ⟨j, hj, e⟩ := nI_of (x := p) (Int32.not_lt.mpr h1)
  subst e
  rw [nI_clamp hj] at h2
  rw [nI_leI hn hj] at h
  omega
theorem isX_in {n : Nat} {p : Int32} (hn : n < 2 ^ 31) (h0 : ¬ p < 0) (h : ¬ nI n ≤ p) : isX n p (nI 1) := by
  obtain ⟨j, hj, e⟩ := nI_of h0
  subst e
  rw [nI_leI hn hj] at h
  exact Or.inl ⟨rfl, j, by omega, rfl⟩
end
section
/-! ===== what the small methods compute ===== -/
def pat (i : Nat) : Nat → Int32
  | 0 => nI 0
  | k + 1 => pat i k ||| (((nI k >>> (nI i &&& 31)) &&& nI 1) <<< (nI k &&& 31))
theorem pat_bits (i : Nat) (hi : i < 32) : ∀ k, k ≤ 32 → ∀ q, q < 32 → bt (pat i k) q = (decide (q < k) && q.testBit i) := by
  intro k
  induction k with
  | zero => intro _ q _; exact b_0 q
  | succ k ih =>
    intro hk q hq
    show bt (pat i k ||| (((nI k >>> (nI i &&& 31)) &&& nI 1) <<< (nI k &&& 31))) q = _
    rw [b_or, ih (by omega) q hq, e_sshr _ i hi, b_nI _ _ hi, e_shlb _ k (by omega) q hq]
    by_cases h : q = k
    · subst h; simp
    · have e : (q < k + 1) = (q < k) := by
        apply propext; omega
      simp [h, e]
def apI (k : Nat) (x y : Int32) : Int32 := if k = 0 then x &&& y else if k = 1 then x ||| y else if k = 2 then x ^^^ y else if k = 3 then (x &&& y) ^^^ (-1) else if k = 4 then (x ||| y) ^^^ (-1) else x ^^^ (-1)
theorem ap_bits (k : Nat) (x y : Int32) (q : Nat) (hq : q < 32) : bt (apI k x y) q = gv k (bt x q) (bt y q) := by
  unfold apI gv
  by_cases h0 : k = 0
  · rw [if_pos h0, if_pos h0, b_and]
  rw [if_neg h0, if_neg h0]
  by_cases h1 : k = 1
  · rw [if_pos h1, if_pos h1, b_or]
  rw [if_neg h1, if_neg h1]
  by_cases h2 : k = 2
  · rw [if_pos h2, if_pos h2, b_xor]
  rw [if_neg h2, if_neg h2]
  by_cases h3 : k = 3
  · rw [if_pos h3, if_pos h3, b_xor, b_and, b_m1 q hq, Bool.xor_true]
  rw [if_neg h3, if_neg h3]
  by_cases h4 : k = 4
  · rw [if_pos h4, if_pos h4, b_xor, b_or, b_m1 q hq, Bool.xor_true]
  rw [if_neg h4, if_neg h4, b_xor, b_m1 q hq, Bool.xor_true]
def mgI (k : Nat) (x y : Int32) : Int32 := if k = 0 then x &&& y else if k = 1 then x ||| y else if k = 2 then x ^^^ y else if k = 3 then nI 1 - (x &&& y) else if k = 4 then nI 1 - (x ||| y) else nI 1 - x
theorem mg_all : ∀ k, k < 6 → ∀ a b : Bool, mgI k (bI a) (bI b) = bI (gv k a b) := by decide +kernel
theorem mg_row {k : Nat} {x y : Int32} {a b : Bool} (hk : k ≤ 5) (hx : x = bI a) (hy : k ≠ 5 → y = bI b) : mgI k x y = bI (gv k a b) := by
  subst hx
  by_cases h : k = 5
  · subst h
    show nI 1 - bI a = bI (!a)
    cases a <;> decide
  · rw [hy h]
    exact mg_all k (by omega) a b
def tn (x : Nat) : Nat := if x = 2 then 2 else 1 - x
def oAnd (x y : Nat) : Nat := if x = 0 ∨ y = 0 then 0 else if x = 2 ∨ y = 2 then 2 else 1
def oOr (x y : Nat) : Nat := if x = 1 ∨ y = 1 then 1 else if x = 2 ∨ y = 2 then 2 else 0
def oa (k x y : Nat) : Nat := if k = 0 ∨ k = 3 then (if k = 0 then oAnd x y else tn (oAnd x y)) else if k = 1 ∨ k = 4 then (if k = 1 then oOr x y else tn (oOr x y)) else if k = 2 then (if x = 2 ∨ y = 2 then 2 else x ^^^ y) else tn x
def oaC (k x y : Nat) (a b : Bool) : Bool := decide ((x = 2 ∨ x = a.toNat) ∧ (y = 2 ∨ y = b.toNat) → (oa k x y = 2 ∨ oa k x y = (gv k a b).toNat))
theorem oa_chk : ∀ k, k < 6 → ∀ x, x < 3 → ∀ y, y < 3 → ∀ a b : Bool, oaC k x y a b = true := by decide +kernel
theorem oa_all (k : Nat) (hk : k < 6) (x : Nat) (hx : x < 3) (y : Nat) (hy : y < 3) (a b : Bool) (h1 : x = 2 ∨ x = a.toNat) (h2 : y = 2 ∨ y = b.toNat) : oa k x y = 2 ∨ oa k x y = (gv k a b).toNat :=
  of_decide_eq_true (oa_chk k hk x hx y hy a b) ⟨h1, h2⟩
theorem oa_lt : ∀ k, k < 6 → ∀ x, x < 3 → ∀ y, y < 3 → oa k x y < 3 := by decide +kernel
theorem oa_2 : ∀ k, k < 6 → ∀ x, x < 2 → ∀ y, y < 2 → oa k x y < 2 := by decide +kernel
/-! ===== deciding: what imply knows ===== -/
def Cm (dc : Nat → Nat) (q : Nat) : Prop := ∀ i, i < 5 → dc i = 2 ∨ dc i = (q.testBit i).toNat
def aD (dc : Nat → Nat) : Prop := ∀ i, i < 5 → dc i ≠ 2
def iJ (kk ff ss : Nat → Nat) (ln : Nat) (v : Bool) (dc : Nat → Nat) (j g b : Nat) (d : Bool) : Prop :=
  g < 3 ∧ b < 3 ∧ (∀ q, Cm dc q → (g = 2 ∨ g = (v0 kk ff ss q j).toNat) ∧ (b = 2 ∨ b = (vl kk ff ss ln v q j).toNat) ∧ (d = false → v0 kk ff ss q j = vl kk ff ss ln v q j)) ∧ (d = true → g ≠ 2 → b ≠ 2 → g ≠ b) ∧ (aD dc → g ≠ 2 ∧ b ≠ 2)
def iR (kk ff ss : Nat → Nat) (ln : Nat) (v : Bool) (dc : Nat → Nat) (j g b : Nat) (sp : Bool) : Prop :=
  g < 3 ∧ b < 3 ∧ (∀ q, Cm dc q → (g = 2 ∨ g = (v0 kk ff ss q j).toNat) ∧ (j ≠ ln → (b = 2 ∨ b = (vl kk ff ss ln v q j).toNat) ∧ (sp = false → v0 kk ff ss q j = vl kk ff ss ln v q j))) ∧ (aD dc → g ≠ 2 ∧ b ≠ 2)
theorem iR_in {kk ff ss : Nat → Nat} {ln : Nat} {v : Bool} {dc : Nat → Nat} {j : Nat} (hj : j < 5) (h3 : dc j < 3) : iR kk ff ss ln v dc j (dc j) (dc j) false := by
  have e0 : ∀ q, v0 kk ff ss q j = q.testBit j := fun q => by
    rw [show v0 kk ff ss q j = _ from vl_eq 99 false q (fun h => by omega), if_neg (by omega), if_pos hj]
  refine ⟨h3, h3, fun q hc => ⟨?_, fun hne => ?_⟩, fun ha => ⟨ha j hj, ha j hj⟩⟩
  · rw [e0]; exact hc j hj
  · have e1 : vl kk ff ss ln v q j = q.testBit j := by
      rw [vl_eq ln v q (fun h => by omega), if_neg hne, if_pos hj]
    rw [e0, e1]
    exact ⟨hc j hj, fun _ => rfl⟩
theorem iR_gate {kk ff ss : Nat → Nat} {ln : Nat} {v : Bool} {dc : Nat → Nat} {j g1 b1 g2 b2 : Nat} {d1 d2 : Bool} (h5 : 5 ≤ j) (h16 : j < 16) (hk : kk j ≤ 5) (hf : ff j < j) (hs : ss j < j)
    (H1 : iJ kk ff ss ln v dc (ff j) g1 b1 d1) (H2 : iJ kk ff ss ln v dc (ss j) g2 b2 d2) : iR kk ff ss ln v dc j (oa (kk j) g1 g2) (oa (kk j) b1 b2) (d1 || d2) := by
  obtain ⟨p1, p2, p3, -, p5⟩ := H1
  obtain ⟨r1, r2, r3, -, r5⟩ := H2
  refine ⟨oa_lt _ (by omega) _ p1 _ r1, oa_lt _ (by omega) _ p2 _ r2, fun q hc => ⟨?_, fun hne => ?_⟩, fun ha => ?_⟩
  · rw [show v0 kk ff ss q j = _ from vl_eq 99 false q (fun _ => ⟨hf, hs⟩), if_neg (by omega), if_neg (by omega)]
    exact oa_all _ (by omega) _ p1 _ r1 _ _ (p3 q hc).1 (r3 q hc).1
  · have e1 : vl kk ff ss ln v q j = gv (kk j) (vl kk ff ss ln v q (ff j)) (vl kk ff ss ln v q (ss j)) := by
      rw [vl_eq ln v q (fun _ => ⟨hf, hs⟩), if_neg hne, if_neg (by omega)]
    have e0 : v0 kk ff ss q j = gv (kk j) (v0 kk ff ss q (ff j)) (v0 kk ff ss q (ss j)) := by
      rw [show v0 kk ff ss q j = _ from vl_eq 99 false q (fun _ => ⟨hf, hs⟩), if_neg (by omega), if_neg (by omega)]
    refine ⟨?_, fun hd => ?_⟩
    · rw [e1]
      exact oa_all _ (by omega) _ p2 _ r2 _ _ (p3 q hc).2.1 (r3 q hc).2.1
    · rw [Bool.or_eq_false_iff] at hd
      rw [e0, e1, (p3 q hc).2.2 hd.1, (r3 q hc).2.2 hd.2]
  · have a1 := p5 ha
    have a2 := r5 ha
    have c1 := oa_2 (kk j) (by omega) g1 (by omega) g2 (by omega)
    have c2 := oa_2 (kk j) (by omega) b1 (by omega) b2 (by omega)
    exact ⟨by omega, by omega⟩
/-- the fault is put in, and it is seen whether the line may differ -/
theorem iJ_fin {kk ff ss : Nat → Nat} {ln : Nat} {v : Bool} {dc : Nat → Nat} {j g b b' : Nat} {sp sp' d : Bool} (H : iR kk ff ss ln v dc j g b sp) (hf : ln < 16 → 5 ≤ ln → ff ln < ln ∧ ss ln < ln) (hj : j < 16)
    (h1 : j = ln → b' = v.toNat ∧ sp' = true) (h2 : j ≠ ln → b' = b ∧ sp' = sp) (hd : d = (sp' && !((decide (g ≠ 2) && decide (b' ≠ 2)) && decide (g = b')))) : iJ kk ff ss ln v dc j g b' d := by
  obtain ⟨p1, p2, p3, p4⟩ := H
  by_cases e : j = ln
  · subst e
    obtain ⟨rfl, rfl⟩ := h1 rfl
    have hv : v.toNat < 2 := by cases v <;> decide
    have el : ∀ q, vl kk ff ss j v q j = v := fun q => by
      rw [vl_eq j v q (fun h5 => hf hj h5), if_pos rfl]
    refine ⟨p1, by omega, fun q hc => ⟨(p3 q hc).1, Or.inr (by rw [el]), fun h => ?_⟩, fun h hg hb e2 => ?_, fun ha => ⟨(p4 ha).1, by omega⟩⟩
    · rw [hd] at h
      have h9 : g ≠ 2 ∧ g = v.toNat := by
        simp at h
        exact ⟨h.1.1, h.2⟩
      rw [el]
      rcases (p3 q hc).1 with h3 | h3
      · exact absurd h3 h9.1
      · have := h3.symm.trans h9.2
        revert this
        generalize v0 kk ff ss q j = a
        cases a <;> cases v <;> decide
    · rw [hd] at h
      simp [hg, hb, e2] at h
  · obtain ⟨rfl, rfl⟩ := h2 e
    refine ⟨p1, p2, fun q hc => ⟨(p3 q hc).1, ((p3 q hc).2 e).1, fun h => ?_⟩, fun h hg hb e2 => ?_, p4⟩
    · rw [hd] at h
      cases hs : sp'
      · exact ((p3 q hc).2 e).2 hs
      · rw [hs] at h
        have h9 : g ≠ 2 ∧ b' ≠ 2 ∧ g = b' := by
          simp at h
          exact ⟨h.1.1, h.1.2, h.2⟩
        have q1 := (p3 q hc).1.resolve_left h9.1
        have q2 := ((p3 q hc).2 e).1.resolve_left h9.2.1
        have := q1.symm.trans (h9.2.2.trans q2)
        revert this
        generalize v0 kk ff ss q j = a
        generalize vl kk ff ss ln v q j = c
        cases a <;> cases c <;> decide
    · rw [hd] at h
      subst e2
      simp [hg] at h
/-- the loop of imply at row i -/
def iInv (kk ff ss : Nat → Nat) (w : Int32) (ln : Nat) (v : Bool) (dc : Nat → Nat) (i : Nat) (go ba ma : Nat → Int32) (a : Nat) : Prop :=
  ∃ (gg bb : Nat → Nat) (dd : Nat → Bool), (∀ j, j < i → go j = nI (gg j) ∧ ba j = nI (bb j) ∧ ma j = bI (dd j) ∧ iJ kk ff ss ln v dc j (gg j) (bb j) (dd j)) ∧
    a < 3 ∧ (a = 0 → ∀ j, j < i → bt w j = true → dd j = false) ∧ (a = 1 → ∃ j, j < i ∧ bt w j = true ∧ dd j = true ∧ gg j ≠ 2 ∧ bb j ≠ 2) ∧ (a = 2 → ∃ j, j < i ∧ (gg j = 2 ∨ bb j = 2))
theorem iInv_0 {kk ff ss : Nat → Nat} {w : Int32} {ln : Nat} {v : Bool} {dc : Nat → Nat} {go ba ma : Nat → Int32} : iInv kk ff ss w ln v dc 0 go ba ma 0 :=
  ⟨fun _ => 0, fun _ => 0, fun _ => false, fun j h => by omega, by decide, fun _ j h => by omega, fun h => by omega, fun h => by omega⟩
theorem iInv_s {kk ff ss : Nat → Nat} {w : Int32} {ln : Nat} {v : Bool} {dc : Nat → Nat} {i : Nat} {go ba ma go' ba' ma' : Nat → Int32} {a a' g b : Nat} {d : Bool} (H : iInv kk ff ss w ln v dc i go ba ma a)
    (hne : ∀ j, j < i → go' j = go j ∧ ba' j = ba j ∧ ma' j = ma j) (hg : go' i = nI g) (hb : ba' i = nI b) (hm : ma' i = bI d) (hJ : iJ kk ff ss ln v dc i g b d)
    (ha : a' = if (bt w i && d && decide (a ≠ 1)) = true then (if g ≠ 2 ∧ b ≠ 2 then 1 else 2) else a) : iInv kk ff ss w ln v dc (i + 1) go' ba' ma' a' := by
  obtain ⟨gg, bb, dd, h1, h2, h3, h4, h5⟩ := H
  have ng : ∀ {α : Type} (f : Nat → α) (x : α) (j : Nat), j < i → (if j = i then x else f j) = f j := fun f x j h => if_neg (by omega)
  refine ⟨fun j => if j = i then g else gg j, fun j => if j = i then b else bb j, fun j => if j = i then d else dd j, fun j hj => ?_, ?_, ?_, ?_, ?_⟩
  · by_cases e : j = i
    · subst e
      simp only [if_true]
      exact ⟨hg, hb, hm, hJ⟩
    · have hj : j < i := by omega
      obtain ⟨n1, n2, n3⟩ := hne j hj
      simp only [if_neg e]
      rw [n1, n2, n3]
      exact h1 j hj
  · rw [ha]
    split
    · split <;> omega
    · exact h2
  · intro e j hj hw
    by_cases c : (bt w i && d && decide (a ≠ 1)) = true
    · rw [if_pos c] at ha
      split at ha <;> omega
    · rw [if_neg c] at ha
      have ea : a = 0 := by omega
      by_cases ej : j = i
      · subst ej
        simp only [if_true]
        cases hdd : d
        · rfl
        · exact absurd (by rw [hw, hdd, ea]; decide) c
      · simp only [if_neg ej]
        exact h3 ea j (by omega) hw
  · intro e
    by_cases c : (bt w i && d && decide (a ≠ 1)) = true
    · rw [if_pos c] at ha
      simp only [Bool.and_eq_true] at c
      by_cases st : g ≠ 2 ∧ b ≠ 2
      · refine ⟨i, by omega, c.1.1, ?_⟩
        simp only [if_true]
        exact ⟨c.1.2, st.1, st.2⟩
      · rw [if_neg st] at ha
        omega
    · rw [if_neg c] at ha
      obtain ⟨j, j1, j2, j3, j4⟩ := h4 (by omega)
      refine ⟨j, by omega, j2, ?_⟩
      have hn : ¬ j = i := by omega
      simp only [if_neg hn]
      exact ⟨j3, j4⟩
  · intro e
    by_cases c : (bt w i && d && decide (a ≠ 1)) = true
    · rw [if_pos c] at ha
      by_cases st : g ≠ 2 ∧ b ≠ 2
      · rw [if_pos st] at ha
        omega
      · refine ⟨i, by omega, ?_⟩
        simp only [if_true]
        omega
    · rw [if_neg c] at ha
      obtain ⟨j, j1, j2⟩ := h5 (by omega)
      refine ⟨j, by omega, ?_⟩
      have hn : ¬ j = i := by omega
      simp only [if_neg hn]
      exact j2
/-- what imply's answer says -/
def iEnd (kk ff ss : Nat → Nat) (w : Int32) (n ln : Nat) (v : Bool) (dc : Nat → Nat) (a : Nat) : Prop := a < 3 ∧ (a = 0 → ∀ q, Cm dc q → shw kk ff ss w ln v q n = false) ∧ (a = 1 → ∀ q, Cm dc q → shw kk ff ss w ln v q n = true) ∧ (aD dc → a ≠ 2)
theorem iInv_e {kk ff ss : Nat → Nat} {w : Int32} {n ln : Nat} {v : Bool} {dc : Nat → Nat} {go ba ma : Nat → Int32} {a : Nat} (H : iInv kk ff ss w ln v dc n go ba ma a) : iEnd kk ff ss w n ln v dc a := by
  obtain ⟨gg, bb, dd, h1, h2, h3, h4, h5⟩ := H
  refine ⟨h2, fun e q hc => ?_, fun e q hc => ?_, fun hd e => ?_⟩
  · cases hx : shw kk ff ss w ln v q n
    · rfl
    · obtain ⟨j, j1, j2, j3⟩ := (shw_iff n).mp hx
      exact absurd (((h1 j j1).2.2.2.2.2.1 q hc).2.2 (h3 e j j1 j2)) j3
  · obtain ⟨j, j1, j2, j3, j4, j5⟩ := h4 e
    refine (shw_iff n).mpr ⟨j, j1, j2, fun h => ?_⟩
    obtain ⟨-, -, -, k1, k2, k3, k4, -⟩ := h1 j j1
    have q1 := (k3 q hc).1.resolve_left j4
    have q2 := (k3 q hc).2.1.resolve_left j5
    exact k4 j3 j4 j5 (by rw [q1, q2, h])
  · obtain ⟨j, j1, j2⟩ := h5 e
    have := (h1 j j1).2.2.2.2.2.2.2 hd
    omega
/-! ===== the search ===== -/
def dcF (nx vc j : Nat) : Nat := if j < nx then 2 else (vc.testBit j).toNat
def fst0 (P : Nat → Bool) : Nat → Nat → Int32
  | 0, _ => -1
  | f + 1, k => if P k = true then nI k else fst0 P f (k + 1)
theorem fs_hit {P : Nat → Bool} : ∀ (f k q : Nat), k ≤ q → q < k + f → (∀ x, k ≤ x → x < q → P x = false) → P q = true → fst0 P f k = nI q := by
  intro f
  induction f with
  | zero => intro k q h1 h2; omega
  | succ f ih =>
    intro k q h1 h2 h3 h4
    show (if P k = true then nI k else fst0 P f (k + 1)) = nI q
    by_cases e : k = q
    · subst e; rw [if_pos h4]
    · rw [if_neg (by rw [h3 k (Nat.le_refl _) (by omega)]; decide)]
      exact ih (k + 1) q (by omega) (by omega) (fun x a b => h3 x (by omega) b) h4
theorem fs_no {P : Nat → Bool} : ∀ (f k : Nat), (∀ x, k ≤ x → x < k + f → P x = false) → fst0 P f k = -1 := by
  intro f
  induction f with
  | zero => intro k _; rfl
  | succ f ih =>
    intro k h
    show (if P k = true then nI k else fst0 P f (k + 1)) = -1
    rw [if_neg (by rw [h k (Nat.le_refl _) (by omega)]; decide)]
    exact ih (k + 1) (fun x a b => h x (by omega) (by omega))
def tfr (sh : Nat → Bool) (fr : Int32) : Int32 := fst0 (fun k => decide (fr ≤ nI k) && sh k) 32 0
theorem tfr_hit {sh : Nat → Bool} {fr vc : Nat} (hf : fr ≤ vc) (hv : vc < 32) (h1 : ∀ q, q < vc → fr ≤ q → sh q = false) (h2 : sh vc = true) : tfr sh (nI fr) = nI vc := by
  refine fs_hit 32 0 vc (by omega) (by omega) (fun x _ hx => ?_) ?_
  · by_cases h : fr ≤ x
    · rw [h1 x hx h, Bool.and_false]
    · rw [decide_eq_false (by rw [nI_leI (by omega) (by omega)]; exact h), Bool.false_and]
  · rw [h2, decide_eq_true (by rw [nI_leI (by omega) (by omega)]; exact hf)]
    rfl
theorem tfr_no {sh : Nat → Bool} {fr : Nat} (hf : fr < 32) (h1 : ∀ q, q < 32 → fr ≤ q → sh q = false) : tfr sh (nI fr) = -1 := by
  refine fs_no 32 0 (fun x _ hx => ?_)
  by_cases h : fr ≤ x
  · rw [h1 x (by omega) h, Bool.and_false]
  · rw [decide_eq_false (by rw [nI_leI (by omega) (by omega)]; exact h), Bool.false_and]
theorem fs_congr {P P' : Nat → Bool} : ∀ (f k : Nat), (∀ x, k ≤ x → x < k + f → P x = P' x) → fst0 P f k = fst0 P' f k := by
  intro f
  induction f with
  | zero => intro k _; rfl
  | succ f ih =>
    intro k h
    show (if P k = true then nI k else fst0 P f (k + 1)) = (if P' k = true then nI k else fst0 P' f (k + 1))
    rw [h k (Nat.le_refl _) (by omega), ih (k + 1) (fun x a b => h x (by omega) (by omega))]
theorem tfr_neg {sh : Nat → Bool} {p : Int32} (h : p < 0) : tfr sh p = tfr sh (nI 0) := by
  refine fs_congr 32 0 (fun x _ hx => ?_)
  rw [decide_eq_true (Int32.le_trans (Int32.le_of_lt h) (nI_pos' (by omega))), decide_eq_true (by rw [nI_leI (by omega) (by omega)]; omega)]
theorem tfr_big {sh : Nat → Bool} {p : Int32} (h : nI 31 < p) : tfr sh p = -1 := by
  refine fs_no 32 0 (fun x _ hx => ?_)
  rw [decide_eq_false, Bool.false_and]
  intro h2
  have h3 := Int32.lt_of_lt_of_le h h2
  rw [nI_ltI (by omega) (by omega)] at h3
  omega
def cmC (nx vc q i : Nat) : Bool := decide (vc % 2 ^ nx = 0 ∧ vc ≤ q ∧ q < vc + 2 ^ nx → (dcF nx vc i = 2 ∨ dcF nx vc i = (q.testBit i).toNat))
theorem cm_chk : ∀ nx, nx < 6 → ∀ vc, vc < 32 → ∀ q, q < 32 → ∀ i, i < 5 → cmC nx vc q i = true := by decide +kernel
theorem dc_cm {nx vc q : Nat} (hx : nx < 6) (hv : vc < 32) (hq : q < 32) (h0 : vc % 2 ^ nx = 0) (h1 : vc ≤ q) (h2 : q < vc + 2 ^ nx) : Cm (dcF nx vc) q := fun i hi => of_decide_eq_true (cm_chk nx hx vc hv q hq i hi) ⟨h0, h1, h2⟩
theorem dc_hi : ∀ nx, nx < 6 → ∀ vc, vc < 32 → vc % 2 ^ nx = 0 → vc + 2 ^ nx ≤ 32 := by decide +kernel
theorem dc_gr : ∀ nx, nx < 6 → ∀ vc, vc < 32 → vc % 2 ^ nx = 0 → (nI vc ||| ((nI 1 <<< (nI nx &&& 31)) - nI 1)) = nI (vc + 2 ^ nx - 1) := by decide +kernel
theorem dc_dn : ∀ nx, nx < 5 → ∀ vc, vc < 32 → vc % 2 ^ (nx + 1) = 0 → vc % 2 ^ nx = 0 ∧ ∀ j, j < 5 → dcF nx vc j = if j = nx then 0 else dcF (nx + 1) vc j := by decide +kernel
def upC (i vc : Nat) : Bool := decide (vc % 2 ^ i = 0 ∧ dcF i vc i = 1 → vc - 2 ^ i < 32 ∧ (vc - 2 ^ i) % 2 ^ (i + 1) = 0 ∧ (vc - 2 ^ i) + 2 ^ (i + 1) = vc + 2 ^ i ∧ (nI vc &&& ((nI 1 <<< (nI i &&& 31)) ^^^ (-1))) = nI (vc - 2 ^ i))
def upD (i vc j : Nat) : Bool := decide (vc % 2 ^ i = 0 ∧ dcF i vc i = 1 → dcF (i + 1) (vc - 2 ^ i) j = if j = i then 2 else dcF i vc j)
theorem up_chk : ∀ i, i < 5 → ∀ vc, vc < 32 → upC i vc = true := by decide +kernel
theorem up_chd : ∀ i, i < 5 → ∀ vc, vc < 32 → ∀ j, j < 5 → upD i vc j = true := by decide +kernel
theorem dc_up {i vc : Nat} (hi : i < 5) (hv : vc < 32) (h0 : vc % 2 ^ i = 0) (h1 : dcF i vc i = 1) : (vc - 2 ^ i < 32 ∧ (vc - 2 ^ i) % 2 ^ (i + 1) = 0 ∧ (vc - 2 ^ i) + 2 ^ (i + 1) = vc + 2 ^ i ∧ (nI vc &&& ((nI 1 <<< (nI i &&& 31)) ^^^ (-1))) = nI (vc - 2 ^ i)) ∧ ∀ j, j < 5 → dcF (i + 1) (vc - 2 ^ i) j = if j = i then 2 else dcF i vc j :=
  ⟨of_decide_eq_true (up_chk i hi vc hv) ⟨h0, h1⟩, fun j hj => of_decide_eq_true (up_chd i hi vc hv j hj) ⟨h0, h1⟩⟩
def stC (i vc : Nat) : Bool := decide (vc % 2 ^ i = 0 ∧ ¬ dcF i vc i = 1 → vc + 2 ^ i < 32 ∧ (vc + 2 ^ i) % 2 ^ i = 0 ∧ (nI vc ||| (nI 1 <<< (nI i &&& 31))) = nI (vc + 2 ^ i))
def stD (i vc j : Nat) : Bool := decide (vc % 2 ^ i = 0 ∧ ¬ dcF i vc i = 1 → dcF i (vc + 2 ^ i) j = if j = i then 1 else dcF i vc j)
theorem st_chk : ∀ i, i < 5 → ∀ vc, vc < 32 → stC i vc = true := by decide +kernel
theorem st_chd : ∀ i, i < 5 → ∀ vc, vc < 32 → ∀ j, j < 5 → stD i vc j = true := by decide +kernel
theorem dc_st {i vc : Nat} (hi : i < 5) (hv : vc < 32) (h0 : vc % 2 ^ i = 0) (h1 : ¬ dcF i vc i = 1) : (vc + 2 ^ i < 32 ∧ (vc + 2 ^ i) % 2 ^ i = 0 ∧ (nI vc ||| (nI 1 <<< (nI i &&& 31))) = nI (vc + 2 ^ i)) ∧ ∀ j, j < 5 → dcF i (vc + 2 ^ i) j = if j = i then 1 else dcF i vc j :=
  ⟨of_decide_eq_true (st_chk i hi vc hv) ⟨h0, h1⟩, fun j hj => of_decide_eq_true (st_chd i hi vc hv j hj) ⟨h0, h1⟩⟩
theorem dc_3 (nx vc j : Nat) : dcF nx vc j < 3 := by
  unfold dcF
  split
  · omega
  · cases vc.testBit j <;> decide
theorem dc_ad {vc : Nat} : aD (dcF 0 vc) := fun i _ => by
  unfold dcF
  rw [if_neg (by omega)]
  cases vc.testBit i <;> decide
/-! ===== the answers ===== -/
abbrev sC (C : TC) (l : Nat) (v : Bool) (q : Nat) : Bool := shw C.2.1 C.2.2.1 C.2.2.2.1 C.2.2.2.2 l v q C.1
abbrev vC (C : TC) (q j : Nat) : Bool := v0 C.2.1 C.2.2.1 C.2.2.2.1 q j
def r_value (C : TC) (p q : Int32) : Int32 := match lnX C.1 p, lnX 32 q with
  | some j, some k => bI (vC C k j)
  | _, _ => -1
def r_shows (C : TC) (q p v : Int32) : Int32 := match lnX C.1 p, lnX 2 v, lnX 32 q with
  | some l, some b, some k => bI (sC C l (b == 1) k)
  | _, _, _ => nI 0
def r_testFrom (C : TC) (p v fr : Int32) : Int32 := match lnX C.1 p, lnX 2 v with
  | some l, some b => tfr (sC C l (b == 1)) fr
  | _, _ => -1
def hid (C : TC) (v : Int32) : Nat → Int32
  | 0 => nI 0
  | i + 1 => if r_testFrom C (nI i) v (nI 0) < 0 then hid C v i ||| (nI 1 <<< (nI i &&& 31)) else hid C v i
def r_hidden (C : TC) (v : Int32) : Int32 := match lnX 2 v with
  | some _ => hid C v C.1
  | none => nI 0
def cnt (C : TC) (q : Int32) : Nat → Int32
  | 0 => nI 0
  | i + 1 => (cnt C q i + r_shows C q (nI i) (nI 0)) + r_shows C q (nI i) (nI 1)
def r_shownBy (C : TC) (q : Int32) : Int32 := match lnX 32 q with
  | some _ => cnt C q C.1
  | none => -1
def bst (C : TC) : Nat → Int32 × Int32
  | 0 => (nI 0, -1)
  | k + 1 => if (bst C k).2 < r_shownBy C (nI k) then (nI k, r_shownBy C (nI k)) else bst C k
def r_best (C : TC) : Int32 := (bst C 32).1
def alk (C : TC) (a v b w : Int32) : Nat → Bool
  | 0 => true
  | k + 1 => alk C a v b w k && decide (r_shows C (nI k) a v = r_shows C (nI k) b w)
def r_alike (C : TC) (a v b w : Int32) : Int32 := match lnX C.1 a, lnX 2 v, lnX C.1 b, lnX 2 w with
  | some _, some _, some _, some _ => bI (alk C a v b w 32)
  | _, _, _, _ => nI 0
def one (C : TC) (p : Int32) : Nat → Int32
  | 0 => nI 0
  | k + 1 => one C p k + r_value C p (nI k)
def r_ones (C : TC) (p : Int32) : Int32 := match lnX C.1 p with
  | some _ => one C p 32
  | none => -1
def upn (f : Nat → Nat) (k v : Nat) : Nat → Nat := fun i => if i = k then v else f i
theorem upn_nI (f : Nat → Nat) (k v : Nat) : upd (fun i => nI (f i)) k (nI v) = fun i => nI (upn f k v i) := by
  funext i
  unfold upd upn
  by_cases h : i = k
  · rw [if_pos h, if_pos h]
  · rw [if_neg h, if_neg h]
def g_ok (C : TC) (k x y : Int32) : Option (Nat × Nat × Nat) := match lnX 6 k, lnX C.1 x with
  | some k', some x' => if k' = 5 then some (k', x', x') else (match lnX C.1 y with
    | some y' => some (k', x', y')
    | none => none)
  | _, _ => none
def c_gate (C : TC) (k x y : Int32) : Int32 × TC := match g_ok C k x y with
  | none => (-1, C)
  | some (k', x', y') => if C.1 < 16 then (nI C.1, (C.1 + 1, upn C.2.1 C.1 k', upn C.2.2.1 C.1 x', upn C.2.2.2.1 C.1 y', C.2.2.2.2)) else (-2, C)
def c_drop (C : TC) : Int32 × TC := if C.1 = 5 then (-1, C) else (nI (C.1 - 1), (C.1 - 1, C.2.1, C.2.2.1, C.2.2.2.1, C.2.2.2.2 &&& ((nI 1 <<< (nI (C.1 - 1) &&& 31)) ^^^ (-1))))
def c_watch (C : TC) (p : Int32) (on : Bool) : Int32 × TC := match lnX C.1 p with
  | none => (nI 0, C)
  | some j => (nI 1, (C.1, C.2.1, C.2.2.1, C.2.2.2.1, if on = true then C.2.2.2.2 ||| (nI 1 <<< (nI j &&& 31)) else C.2.2.2.2 &&& ((nI 1 <<< (nI j &&& 31)) ^^^ (-1))))
abbrev wfT (C : TC) : Prop := wfC C.1 C.2.1 C.2.2.1 C.2.2.2.1
theorem lnX_lt {n j : Nat} {p : Int32} (h : lnX n p = some j) : j < n := by
  unfold lnX at h
  split at h
  · rename_i q
    cases h
    exact q.2
  · cases h
theorem g_ok_lt {C : TC} {k x y : Int32} {a b c : Nat} (h : g_ok C k x y = some (a, b, c)) : a ≤ 5 ∧ b < C.1 ∧ c < C.1 := by
  unfold g_ok at h
  cases h1 : lnX 6 k with
  | none => rw [h1] at h; cases h
  | some k' =>
    cases h2 : lnX C.1 x with
    | none => rw [h1, h2] at h; cases h
    | some x' =>
      rw [h1, h2] at h
      have b1 := lnX_lt h1
      have b2 := lnX_lt h2
      by_cases e : k' = 5
      · simp only [if_pos e] at h
        cases h
        exact ⟨by omega, b2, b2⟩
      · simp only [if_neg e] at h
        cases h3 : lnX C.1 y with
        | none => rw [h3] at h; cases h
        | some y' =>
          rw [h3] at h
          have b3 := lnX_lt h3
          cases h
          exact ⟨by omega, b2, b3⟩
theorem wf_gate {C : TC} {k x y : Int32} (h : wfT C) : wfT (c_gate C k x y).2 := by
  unfold c_gate
  cases e : g_ok C k x y with
  | none => exact h
  | some t =>
    obtain ⟨a, b, c⟩ := t
    obtain ⟨b1, b2, b3⟩ := g_ok_lt e
    by_cases h16 : C.1 < 16
    · simp only [if_pos h16]
      obtain ⟨h1, h2, h3⟩ := h
      refine ⟨by show 5 ≤ C.1 + 1; omega, by show C.1 + 1 ≤ 16; omega, fun i => ?_⟩
      show upn C.2.1 C.1 a i ≤ 5 ∧ upn C.2.2.1 C.1 b i ≤ i ∧ upn C.2.2.2.1 C.1 c i ≤ i ∧ (5 ≤ i → upn C.2.2.1 C.1 b i < i ∧ upn C.2.2.2.1 C.1 c i < i)
      unfold upn
      by_cases ei : i = C.1
      · simp only [if_pos ei]
        exact ⟨b1, by omega, by omega, fun _ => ⟨by omega, by omega⟩⟩
      · simp only [if_neg ei]
        exact h3 i
    · simp only [if_neg h16]
      exact h
theorem wf_drop {C : TC} (h : wfT C) : wfT (c_drop C).2 := by
  unfold c_drop
  by_cases e : C.1 = 5
  · rw [if_pos e]; exact h
  · rw [if_neg e]
    obtain ⟨h1, h2, h3⟩ := h
    exact ⟨by show 5 ≤ C.1 - 1; omega, by show C.1 - 1 ≤ 16; omega, h3⟩
theorem wf_watch {C : TC} {p : Int32} {on : Bool} (h : wfT C) : wfT (c_watch C p on).2 := by
  unfold c_watch
  cases lnX C.1 p <;> exact h
end
section
/-! ===== the two worlds ===== -/
abbrev vwCl : List vw_C := [(RX0, TX0, 11), (RX1, TX1, 6)]
abbrev TZ : Type := Nat → Nat → Int32
abbrev TS : Type := TC × TZ
abbrev wB (ad : Nat → Nat) (d : Nat → ClassId) (n : Nat) (kk ff ss : Nat → Nat) (w : Int32) (so fa de go ba ma : Nat → Int32) : va_W :=
  [(ad 0, .inr (0, [.int (nI n), .ref (ad 1), .ref (ad 2), .ref (ad 3), .int w, .ref (ad 4), .ref (ad 5), .ref (ad 6), .ref (ad 7), .ref (ad 8), .ref (ad 9)])),
   (ad 1, .inl (d 0, 16, .inl (fun i => nI (kk i)))), (ad 2, .inl (d 0, 16, .inl (fun i => nI (ff i)))), (ad 3, .inl (d 0, 16, .inl (fun i => nI (ss i)))),
   (ad 4, .inl (d 1, 16, .inl so)), (ad 5, .inl (d 1, 16, .inl fa)), (ad 6, .inl (d 0, 5, .inl de)), (ad 7, .inl (d 0, 16, .inl go)), (ad 8, .inl (d 0, 16, .inl ba)), (ad 9, .inl (d 2, 16, .inl ma))]
abbrev wC (ad : Nat → Nat) (d : Nat → ClassId) (u : TS) : va_W := wB ad d u.1.1 u.1.2.1 u.1.2.2.1 u.1.2.2.2.1 u.1.2.2.2.2 (u.2 0) (u.2 1) (u.2 2) (u.2 3) (u.2 4) (u.2 5)
abbrev tyA (d : Nat → ClassId) : List (ClassId × FieldType) := [(d 0, .byte), (d 1, .int), (d 2, .boolean)]
/-- six scratch arrays as one -/
def zz (so fa de go ba ma : Nat → Int32) : TZ := fun k => match k with
  | 0 => so
  | 1 => fa
  | 2 => de
  | 3 => go
  | 4 => ba
  | _ => ma
abbrev PA (D : va_G) (ad : Nat → Nat) (d : Nat → ClassId) (u : TS) (sz : Nat) (av : List Value) : Array Value → State → Prop := va_Pc av (fun U => U.heap.size = sz ∧ va_P D vwCl (wC ad d u) U.heap ∧ va_K D vwCl (tyA d) U ∧ va_D (fun _ => True) (wC ad d u))
abbrev BA (D : va_G) (ad : Nat → Nat) (d : Nat → ClassId) (A : Nat → Prop) (u : TS) (t : State) : Prop := va_P D vwCl (wC ad d u) t.heap ∧ va_K D vwCl (tyA d) t ∧ va_D A (wC ad d u)
theorem PA_blind {D : va_G} {ad : Nat → Nat} {d : Nat → ClassId} {u : TS} {sz : Nat} {av : List Value} : FrameBlind (PA D ad d u sz av) := fun a U g mk q => by
  obtain ⟨q0, q1, qP, qK, qD⟩ := q
  exact ⟨q0, q1, qP, va_K.moved (u := U) (U := U.calling g mk a) (Vm.Alike.refl U.vm) qK, qD⟩
/-- a contract of TestPatterns: its state u, an int comes back -/
abbrev MetA (l : Launch) (D : va_G) (ad : Nat → Nat) (d : Nat → ClassId) (y : MethodName) (ws : List Cond) (rm : Room) (u : TS) (sz : Nat) (av : List Value) (post : Int32 → TS → Prop) : Prop :=
  Met l y ws rm (PA D ad d u sz av) (va_Qi post (BA D ad d (va_A (wC ad d u) sz)) (va_A (wC ad d u) sz)) 0 0 (va_A (wC ad d u) sz)
abbrev MetAv (l : Launch) (D : va_G) (ad : Nat → Nat) (d : Nat → ClassId) (y : MethodName) (ws : List Cond) (rm : Room) (u : TS) (sz : Nat) (av : List Value) (post : TS → Prop) : Prop :=
  Met l y ws rm (PA D ad d u sz av) (va_Qv post (BA D ad d (va_A (wC ad d u) sz)) (va_A (wC ad d u) sz)) 0 0 (va_A (wC ad d u) sz)
/-- a contract of TestPatterns that writes nothing -/
abbrev MetAS (l : Launch) (D : va_G) (ad : Nat → Nat) (d : Nat → ClassId) (y : MethodName) (ws : List Cond) (rm : Room) (u : TS) (sz : Nat) (av : List Value) (post : Int32 → Prop) : Prop :=
  Met l y ws rm (PA D ad d u sz av) (vp_Si post) 0 0 (fun _ => False)
/-- a contract of a static method that writes nothing -/
abbrev MetSS (l : Launch) (y : MethodName) (ws : List Cond) (rm : Room) (av : List Value) (post : Int32 → Prop) : Prop :=
  Met l y ws rm (va_Pc av (fun _ => True)) (vp_Si post) 0 0 (fun _ => False)
/-! the reference -/
abbrev TM : Type := TC × (Nat → Int32)
def yyF (kk ss : Nat → Nat) (i : Nat) : Nat := if kk i = 5 then 0 else ss i
abbrev wO (ad : Nat → Nat) (d : ClassId) (n : Nat) (kk ff yy : Nat → Nat) (w : Int32) (va : Nat → Int32) : va_W :=
  [(ad 0, .inr (1, [.int (nI n), .ref (ad 1), .ref (ad 2), .ref (ad 3), .int w, .ref (ad 4)])),
   (ad 1, .inl (d, 16, .inl (fun i => nI (kk i)))), (ad 2, .inl (d, 16, .inl (fun i => nI (ff i)))), (ad 3, .inl (d, 16, .inl (fun i => nI (yy i)))), (ad 4, .inl (d, 16, .inl va))]
abbrev wN (ad : Nat → Nat) (d : ClassId) (n : Nat) (kk ff ss : Nat → Nat) (w : Int32) (va : Nat → Int32) : va_W :=
  [(ad 0, .inr (1, [.int (nI n), .ref (ad 1), .ref (ad 2), .ref (ad 3), .int w, .ref (ad 4)])),
   (ad 1, .inl (d, 16, .inl (fun i => nI (kk i)))), (ad 2, .inl (d, 16, .inl (fun i => nI (ff i)))), (ad 3, .inl (d, 16, .inl (fun i => nI (yyF kk ss i)))), (ad 4, .inl (d, 16, .inl va))]
abbrev wM (ad : Nat → Nat) (d : ClassId) (u : TM) : va_W := wN ad d u.1.1 u.1.2.1 u.1.2.2.1 u.1.2.2.2.1 u.1.2.2.2.2 u.2
abbrev PM (D : va_G) (ad : Nat → Nat) (d : ClassId) (u : TM) (sz : Nat) (av : List Value) : Array Value → State → Prop := va_Pc av (fun U => U.heap.size = sz ∧ va_P D vwCl (wM ad d u) U.heap ∧ va_K D vwCl [(d, .int)] U ∧ va_D (fun _ => True) (wM ad d u))
abbrev BM (D : va_G) (ad : Nat → Nat) (d : ClassId) (A : Nat → Prop) (u : TM) (t : State) : Prop := va_P D vwCl (wM ad d u) t.heap ∧ va_K D vwCl [(d, .int)] t ∧ va_D A (wM ad d u)
theorem PM_blind {D : va_G} {ad : Nat → Nat} {d : ClassId} {u : TM} {sz : Nat} {av : List Value} : FrameBlind (PM D ad d u sz av) := fun a U g mk q => by
  obtain ⟨q0, q1, qP, qK, qD⟩ := q
  exact ⟨q0, q1, qP, va_K.moved (u := U) (U := U.calling g mk a) (Vm.Alike.refl U.vm) qK, qD⟩
abbrev MetM (l : Launch) (D : va_G) (ad : Nat → Nat) (d : ClassId) (y : MethodName) (ws : List Cond) (rm : Room) (u : TM) (sz : Nat) (av : List Value) (post : Int32 → TM → Prop) : Prop :=
  Met l y ws rm (PM D ad d u sz av) (va_Qi post (BM D ad d (va_A (wM ad d u) sz)) (va_A (wM ad d u) sz)) 0 0 (va_A (wM ad d u) sz)
abbrev MetMS (l : Launch) (D : va_G) (ad : Nat → Nat) (d : ClassId) (y : MethodName) (ws : List Cond) (rm : Room) (u : TM) (sz : Nat) (av : List Value) (post : Int32 → Prop) : Prop :=
  Met l y ws rm (PM D ad d u sz av) (vp_Si post) 0 0 (fun _ => False)
/-! ===== rows of this claim: arrays at a numbered place, calls ===== -/
section OWN
variable {p : Program} {l : Launch} {e : Env} {R : Room} {s : State} {m : MethodId} {args : Array Value} {below : List Frame} {meth : Method} {c : Code} {H : Heap} {locs : List Loc} {cells slots : Nat} {Q : State → Prop}
variable {cc : ByteArray} {pc : Nat} {ls : Array Slot} {rest : List Value} {D : va_G} {cl : List vw_C} {A : Nat → Prop} {a : Nat} {tys : List (ClassId × FieldType)} {ws : va_W} {H0 : Heap}
/-- the number on the stack under another name -/
theorem k_ti {x y : Int32} (h : x = y) (k : W p l e R s m args below meth c H locs cells slots Q (F0 m pc ls (.int y :: rest))) : W p l e R s m args below meth c H locs cells slots Q (F0 m pc ls (.int x :: rest)) := by
  rw [h]; exact k
theorem k_ild (hx : p.tables.exec = Jvm.exec) (hb : c.code = cc) (hK : va_K D cl tys s) (hP : va_P D cl ws H) (q0 t0 : Nat) {cA : ClassId} {n : Nat} {f : Nat → Int32} (ha : ws[q0]? = some (a, .inl (cA, n, .inl f))) (ht : tys[t0]? = some (cA, .int)) {j : Nat} (hn : n ≤ 16) (hj : j < n) {v : Int32} (hv : f j = v) (hdg : decode cc pc = .ok (.iaload, 1))
    (kk : W p l e R s m args below meth c H locs cells slots Q (F0 m (pc + 1) ls (.int v :: rest))) : W p l e R s m args below meth c H locs cells slots Q (F0 m pc ls (.int (nI j) :: .ref a :: rest)) := by
  refine va_iald hx hb hK hP q0 t0 ha ht (vp_in_nI hj (by omega)) hdg ?_
  rw [nI_clamp (by omega), hv]
  exact kk
theorem k_bld (hx : p.tables.exec = Jvm.exec) (hb : c.code = cc) (hK : va_K D cl tys s) (hP : va_P D cl ws H) (q0 t0 : Nat) {cA : ClassId} {n : Nat} {f : Nat → Int32} (ha : ws[q0]? = some (a, .inl (cA, n, .inl f))) (ht : tys[t0]? = some (cA, .byte)) {j : Nat} (hn : n ≤ 16) (hj : j < n) {v : Int32} (hv : f j = v) (hdg : decode cc pc = .ok (.baload, 1))
    (kk : W p l e R s m args below meth c H locs cells slots Q (F0 m (pc + 1) ls (.int v :: rest))) : W p l e R s m args below meth c H locs cells slots Q (F0 m pc ls (.int (nI j) :: .ref a :: rest)) := by
  refine va_bald hx hb hK hP q0 t0 ha ht (vp_in_nI hj (by omega)) hdg ?_
  rw [nI_clamp (by omega), hv]
  exact kk
theorem k_zld (hx : p.tables.exec = Jvm.exec) (hb : c.code = cc) (hK : va_K D cl tys s) (hP : va_P D cl ws H) (q0 t0 : Nat) {cA : ClassId} {n : Nat} {f : Nat → Int32} (ha : ws[q0]? = some (a, .inl (cA, n, .inl f))) (ht : tys[t0]? = some (cA, .boolean)) {j : Nat} (hn : n ≤ 16) (hj : j < n) {v : Int32} (hv : f j = v) (hdg : decode cc pc = .ok (.baload, 1))
    (kk : W p l e R s m args below meth c H locs cells slots Q (F0 m (pc + 1) ls (.int v :: rest))) : W p l e R s m args below meth c H locs cells slots Q (F0 m pc ls (.int (nI j) :: .ref a :: rest)) := by
  refine va_zald hx hb hK hP q0 t0 ha ht (vp_in_nI hj (by omega)) hdg ?_
  rw [nI_clamp (by omega), hv]
  exact kk
theorem k_ist (hx : p.tables.exec = Jvm.exec) (hb : c.code = cc) (hK : va_K D cl tys s) (hP : va_P D cl ws H) (hD : va_D A ws) (hS : va_S A H0 H locs) (q0 t0 : Nat) {cA : ClassId} {n : Nat} {f : Nat → Int32} (ha : ws[q0]? = some (a, .inl (cA, n, .inl f))) (ht : tys[t0]? = some (cA, .int)) {j : Nat} {x : Int32} (hn : n ≤ 16) (hj : j < n) (hdg : decode cc pc = .ok (.iastore, 1))
    (kk : ∀ (H1 : Heap) (locs1 : List Loc), va_P D cl (ws.set q0 (a, .inl (cA, n, .inl (upd f j x)))) H1 → va_D A (ws.set q0 (a, .inl (cA, n, .inl (upd f j x)))) → va_S A H0 H1 locs1 → W p l e R s m args below meth c H1 locs1 cells slots Q (F0 m (pc + 1) ls rest)) : W p l e R s m args below meth c H locs cells slots Q (F0 m pc ls (.int x :: .int (nI j) :: .ref a :: rest)) := by
  refine va_iast hx hb hK hP hD hS q0 t0 ha ht (vp_in_nI hj (by omega)) hdg ?_
  rw [nI_clamp (by omega)]
  exact kk
theorem k_bst (hx : p.tables.exec = Jvm.exec) (hb : c.code = cc) (hK : va_K D cl tys s) (hP : va_P D cl ws H) (hD : va_D A ws) (hS : va_S A H0 H locs) (q0 t0 : Nat) {cA : ClassId} {n : Nat} {f : Nat → Int32} (ha : ws[q0]? = some (a, .inl (cA, n, .inl f))) (ht : tys[t0]? = some (cA, .byte)) {j : Nat} {x y : Int32} (hn : n ≤ 16) (hj : j < n) (hxy : vp_nar .byte x = y) (hdg : decode cc pc = .ok (.bastore, 1))
    (kk : ∀ (H1 : Heap) (locs1 : List Loc), va_P D cl (ws.set q0 (a, .inl (cA, n, .inl (upd f j y)))) H1 → va_D A (ws.set q0 (a, .inl (cA, n, .inl (upd f j y)))) → va_S A H0 H1 locs1 → W p l e R s m args below meth c H1 locs1 cells slots Q (F0 m (pc + 1) ls rest)) : W p l e R s m args below meth c H locs cells slots Q (F0 m pc ls (.int x :: .int (nI j) :: .ref a :: rest)) := by
  refine va_bast hx hb hK hP hD hS q0 t0 ha ht (vp_in_nI hj (by omega)) hdg ?_
  rw [nI_clamp (by omega), hxy]
  exact kk
theorem k_zst (hx : p.tables.exec = Jvm.exec) (hb : c.code = cc) (hK : va_K D cl tys s) (hP : va_P D cl ws H) (hD : va_D A ws) (hS : va_S A H0 H locs) (q0 t0 : Nat) {cA : ClassId} {n : Nat} {f : Nat → Int32} (ha : ws[q0]? = some (a, .inl (cA, n, .inl f))) (ht : tys[t0]? = some (cA, .boolean)) {j : Nat} {x y : Int32} (hn : n ≤ 16) (hj : j < n) (hxy : vp_nar .boolean x = y) (hdg : decode cc pc = .ok (.bastore, 1))
    (kk : ∀ (H1 : Heap) (locs1 : List Loc), va_P D cl (ws.set q0 (a, .inl (cA, n, .inl (upd f j y)))) H1 → va_D A (ws.set q0 (a, .inl (cA, n, .inl (upd f j y)))) → va_S A H0 H1 locs1 → W p l e R s m args below meth c H1 locs1 cells slots Q (F0 m (pc + 1) ls rest)) : W p l e R s m args below meth c H locs cells slots Q (F0 m pc ls (.int x :: .int (nI j) :: .ref a :: rest)) := by
  refine va_zast hx hb hK hP hD hS q0 t0 ha ht (vp_in_nI hj (by omega)) hdg ?_
  rw [nI_clamp (by omega), hxy]
  exact kk
theorem k_ge {x y : Nat} (hx0 : x < 2 ^ 31) (hy0 : y < 2 ^ 31) {off : Int} {tgt : Nat} (hx : p.tables.exec = Jvm.exec) (hb : c.code = cc) (hdg : decode cc pc = .ok (.if_icmp .ge off, 3)) (ht : (pc : Int) + off = (tgt : Int))
    (kt : y ≤ x → W p l e R s m args below meth c H locs cells slots Q (F0 m tgt ls rest)) (kf : x < y → W p l e R s m args below meth c H locs cells slots Q (F0 m (pc + 3) ls rest)) : W p l e R s m args below meth c H locs cells slots Q (F0 m pc ls (.int (nI y) :: .int (nI x) :: rest)) :=
  lv_icmp_ge hx hb hdg ht (fun h => kt ((nI_leI hy0 hx0).mp h)) (fun h => kf (by rw [nI_leI hy0 hx0] at h; omega))
theorem k_lt {x y : Nat} (hx0 : x < 2 ^ 31) (hy0 : y < 2 ^ 31) {off : Int} {tgt : Nat} (hx : p.tables.exec = Jvm.exec) (hb : c.code = cc) (hdg : decode cc pc = .ok (.if_icmp .lt off, 3)) (ht : (pc : Int) + off = (tgt : Int))
    (kt : x < y → W p l e R s m args below meth c H locs cells slots Q (F0 m tgt ls rest)) (kf : y ≤ x → W p l e R s m args below meth c H locs cells slots Q (F0 m (pc + 3) ls rest)) : W p l e R s m args below meth c H locs cells slots Q (F0 m pc ls (.int (nI y) :: .int (nI x) :: rest)) :=
  lv_icmp_lt hx hb hdg ht (fun h => kt ((nI_ltI hx0 hy0).mp h)) (fun h => kf (by rw [nI_ltI hx0 hy0] at h; omega))
theorem k_gt {x y : Nat} (hx0 : x < 2 ^ 31) (hy0 : y < 2 ^ 31) {off : Int} {tgt : Nat} (hx : p.tables.exec = Jvm.exec) (hb : c.code = cc) (hdg : decode cc pc = .ok (.if_icmp .gt off, 3)) (ht : (pc : Int) + off = (tgt : Int))
    (kt : y < x → W p l e R s m args below meth c H locs cells slots Q (F0 m tgt ls rest)) (kf : x ≤ y → W p l e R s m args below meth c H locs cells slots Q (F0 m (pc + 3) ls rest)) : W p l e R s m args below meth c H locs cells slots Q (F0 m pc ls (.int (nI y) :: .int (nI x) :: rest)) :=
  lv_icmp_gt hx hb hdg ht (fun h => kt ((nI_ltI hy0 hx0).mp h)) (fun h => kf (by rw [nI_ltI hy0 hx0] at h; omega))
theorem k_eq {x y : Nat} (hx0 : x < 2 ^ 31) (hy0 : y < 2 ^ 31) {off : Int} {tgt : Nat} (hx : p.tables.exec = Jvm.exec) (hb : c.code = cc) (hdg : decode cc pc = .ok (.if_icmp .eq off, 3)) (ht : (pc : Int) + off = (tgt : Int))
    (kt : x = y → W p l e R s m args below meth c H locs cells slots Q (F0 m tgt ls rest)) (kf : x ≠ y → W p l e R s m args below meth c H locs cells slots Q (F0 m (pc + 3) ls rest)) : W p l e R s m args below meth c H locs cells slots Q (F0 m pc ls (.int (nI y) :: .int (nI x) :: rest)) :=
  lv_icmp_eq hx hb hdg ht (fun h => kt ((nI_eq hx0 hy0).mp h)) (fun h => kf (fun q => h ((nI_eq hx0 hy0).mpr q)))
theorem k_ne {x y : Nat} (hx0 : x < 2 ^ 31) (hy0 : y < 2 ^ 31) {off : Int} {tgt : Nat} (hx : p.tables.exec = Jvm.exec) (hb : c.code = cc) (hdg : decode cc pc = .ok (.if_icmp .ne off, 3)) (ht : (pc : Int) + off = (tgt : Int))
    (kt : x ≠ y → W p l e R s m args below meth c H locs cells slots Q (F0 m tgt ls rest)) (kf : x = y → W p l e R s m args below meth c H locs cells slots Q (F0 m (pc + 3) ls rest)) : W p l e R s m args below meth c H locs cells slots Q (F0 m pc ls (.int (nI y) :: .int (nI x) :: rest)) :=
  lv_icmp_ne hx hb hdg ht (fun h => kt (fun q => h ((nI_eq hx0 hy0).mpr q))) (fun h => kf ((nI_eq hx0 hy0).mp h))
theorem k_if_eq {x : Nat} (hx0 : x < 2 ^ 31) {off : Int} {tgt : Nat} (hx : p.tables.exec = Jvm.exec) (hb : c.code = cc) (hdg : decode cc pc = .ok (.ifCond .eq off, 3)) (ht : (pc : Int) + off = (tgt : Int))
    (kt : x = 0 → W p l e R s m args below meth c H locs cells slots Q (F0 m tgt ls rest)) (kf : x ≠ 0 → W p l e R s m args below meth c H locs cells slots Q (F0 m (pc + 3) ls rest)) : W p l e R s m args below meth c H locs cells slots Q (F0 m pc ls (.int (nI x) :: rest)) :=
  lv_if_eq hx hb hdg ht (fun h => kt ((nI_eq hx0 (by omega : 0 < 2 ^ 31)).mp (h.trans nI_0.symm))) (fun h => kf (fun q => h (by rw [q, nI_0])))
theorem k_if_ne {x : Nat} (hx0 : x < 2 ^ 31) {off : Int} {tgt : Nat} (hx : p.tables.exec = Jvm.exec) (hb : c.code = cc) (hdg : decode cc pc = .ok (.ifCond .ne off, 3)) (ht : (pc : Int) + off = (tgt : Int))
    (kt : x ≠ 0 → W p l e R s m args below meth c H locs cells slots Q (F0 m tgt ls rest)) (kf : x = 0 → W p l e R s m args below meth c H locs cells slots Q (F0 m (pc + 3) ls rest)) : W p l e R s m args below meth c H locs cells slots Q (F0 m pc ls (.int (nI x) :: rest)) :=
  lv_if_ne hx hb hdg ht (fun h => kt (fun q => h (by rw [q, nI_0]))) (fun h => kf ((nI_eq hx0 (by omega : 0 < 2 ^ 31)).mp (h.trans nI_0.symm)))
variable {nL index maxL nA : Nat} {Ts wc : List Cond} {own : String} {y : MethodName} {bytes : ByteArray} {ret : Option FieldType} {rm : Room} {As st : List Value} {ad : Nat → Nat}
/-- a call of a static method that writes nothing -/
theorem k_callS {post : Int32 → Prop} (S : CallFix p m c cc nL s args Ts own) (hM : MetSS l y wc rm As post) (cw : CallB R s args own index y bytes maxL ret wc rm 0 0 nA ∧ (Cond.static y).before args s = true) (hn : As.length = nA) (hsize : ls.size = nL) (hst : st = As.reverse ++ rest) (hW : (rest.map fun v => v.category).sum ≤ 8) (hdg : decode cc pc = .ok (.invokestatic index, 3)) (hf : cells + 0 ≤ R.cells ∧ slots + 0 ≤ R.slots)
    (kk : ∀ r : Int32, post r → W p l e R s m args below meth c H locs cells slots Q (F0 m (pc + 3) ls (.int r :: rest))) : W p l e R s m args below meth c H locs cells slots Q (F0 m pc ls st) :=
  vp_callSi (W.runS S hM cw ⟨fun _ _ _ _ q => q, fun _ _ _ => ⟨rfl, trivial⟩⟩ rfl hn hsize hst (lv_room hW) hdg hf) kk
section OA
variable {d : Nat → ClassId} {u : TS}
/-- a call of a method of TestPatterns that writes nothing -/
theorem k_callAS {post : Int32 → Prop} (S : CallFix p m c cc nL s args Ts own) (hM : MetAS l D ad d y wc rm u H.size (.ref (ad 0) :: As) post) (cw : CallW R s args own RX0 index y bytes maxL ret wc rm 0 0 nA) (hP : va_P D vwCl (wC ad d u) H) (hD : va_D A (wC ad d u)) (hK : va_K D vwCl (tyA d) s) (hn : As.length = nA) (hsize : ls.size = nL) (hst : st = As.reverse ++ .ref (ad 0) :: rest) (hW : (rest.map fun v => v.category).sum ≤ 8) (hdg : decode cc pc = .ok (.invokevirtual index, 3)) (hf : cells + 0 ≤ R.cells ∧ slots + 0 ≤ R.slots)
    (kk : ∀ r : Int32, post r → W p l e R s m args below meth c H locs cells slots Q (F0 m (pc + 3) ls (.int r :: rest))) : W p l e R s m args below meth c H locs cells slots Q (F0 m pc ls st) :=
  vp_callSi (W.runV S hM cw ⟨PA_blind, va_recv hK hP (ci := 0) (q0 := 0) rfl rfl, fun U hU hW => ⟨rfl, by rw [hU], by rw [hU]; exact hP, va_K.moved hW.alike hK, hD.weaken (fun _ _ _ _ => trivial)⟩⟩ rfl hn hsize hst (lv_room hW) hdg hf) kk
/-- a call of a method of TestPatterns, an int comes back -/
theorem k_callA {post : Int32 → TS → Prop} (S : CallFix p m c cc nL s args Ts own) (hM : MetA l D ad d y wc rm u H.size (.ref (ad 0) :: As) post) (cw : CallW R s args own RX0 index y bytes maxL ret wc rm 0 0 nA) (hP : va_P D vwCl (wC ad d u) H) (hD : va_D A (wC ad d u)) (hK : va_K D vwCl (tyA d) s) (hS : va_S A H0 H locs) (hA : ∀ q, H0.size ≤ q → A q) (hn : As.length = nA) (hsize : ls.size = nL) (hst : st = As.reverse ++ .ref (ad 0) :: rest) (hW : (rest.map fun v => v.category).sum ≤ 8) (hdg : decode cc pc = .ok (.invokevirtual index, 3)) (hf : cells + 0 ≤ R.cells ∧ slots + 0 ≤ R.slots)
    (kk : ∀ (r : Int32) (u1 : TS) (H1 : Heap) (locs1 : List Loc), post r u1 → va_P D vwCl (wC ad d u1) H1 → va_D A (wC ad d u1) → va_S A H0 H1 locs1 → W p l e R s m args below meth c H1 locs1 cells slots Q (F0 m (pc + 3) ls (.int r :: rest))) : W p l e R s m args below meth c H locs cells slots Q (F0 m pc ls st) := by
  have hFc := va_free (wc := wC ad d u) hD hS hA [0, 1, 2, 3, 4, 5, 6, 7, 8, 9] rfl
  refine va_calli (va_runV S hM cw ⟨PA_blind, va_recv hK hP (ci := 0) (q0 := 0) rfl rfl, fun U hU hW => ⟨rfl, by rw [hU], by rw [hU]; exact hP, va_K.moved hW.alike hK, hD.weaken (fun _ _ _ _ => trivial)⟩⟩ rfl hn hsize hst (lv_room hW) hdg hf) hS (fun q _ h => hFc q h) hFc (fun r u1 t H1 locs1 ht hvm hp hB hz1 hk1 hS1 => ?_)
  obtain ⟨hP1, hK1, hD1⟩ := hB
  rw [ht] at hP1
  exact kk r u1 H1 locs1 hp hP1 (hD1.weaken (fun _ _ _ h => hFc _ h)) hS1
theorem k_callAv {post : TS → Prop} (S : CallFix p m c cc nL s args Ts own) (hM : MetAv l D ad d y wc rm u H.size (.ref (ad 0) :: As) post) (cw : CallW R s args own RX0 index y bytes maxL ret wc rm 0 0 nA) (hP : va_P D vwCl (wC ad d u) H) (hD : va_D A (wC ad d u)) (hK : va_K D vwCl (tyA d) s) (hS : va_S A H0 H locs) (hA : ∀ q, H0.size ≤ q → A q) (hn : As.length = nA) (hsize : ls.size = nL) (hst : st = As.reverse ++ .ref (ad 0) :: rest) (hW : (rest.map fun v => v.category).sum ≤ 8) (hdg : decode cc pc = .ok (.invokevirtual index, 3)) (hf : cells + 0 ≤ R.cells ∧ slots + 0 ≤ R.slots)
    (kk : ∀ (u1 : TS) (H1 : Heap) (locs1 : List Loc), post u1 → va_P D vwCl (wC ad d u1) H1 → va_D A (wC ad d u1) → va_S A H0 H1 locs1 → W p l e R s m args below meth c H1 locs1 cells slots Q (F0 m (pc + 3) ls rest)) : W p l e R s m args below meth c H locs cells slots Q (F0 m pc ls st) := by
  have hFc := va_free (wc := wC ad d u) hD hS hA [0, 1, 2, 3, 4, 5, 6, 7, 8, 9] rfl
  refine va_callv (va_runV S hM cw ⟨PA_blind, va_recv hK hP (ci := 0) (q0 := 0) rfl rfl, fun U hU hW => ⟨rfl, by rw [hU], by rw [hU]; exact hP, va_K.moved hW.alike hK, hD.weaken (fun _ _ _ _ => trivial)⟩⟩ rfl hn hsize hst (lv_room hW) hdg hf) hS (fun q _ h => hFc q h) hFc (fun u1 t H1 locs1 ht hvm hp hB hz1 hk1 hS1 => ?_)
  obtain ⟨hP1, hK1, hD1⟩ := hB
  rw [ht] at hP1
  exact kk u1 H1 locs1 hp hP1 (hD1.weaken (fun _ _ _ h => hFc _ h)) hS1
end OA
section OM
variable {d : ClassId} {u : TM}
theorem k_callMS {post : Int32 → Prop} (S : CallFix p m c cc nL s args Ts own) (hM : MetMS l D ad d y wc rm u H.size (.ref (ad 0) :: As) post) (cw : CallW R s args own RX1 index y bytes maxL ret wc rm 0 0 nA) (hP : va_P D vwCl (wM ad d u) H) (hD : va_D A (wM ad d u)) (hK : va_K D vwCl [(d, .int)] s) (hn : As.length = nA) (hsize : ls.size = nL) (hst : st = As.reverse ++ .ref (ad 0) :: rest) (hW : (rest.map fun v => v.category).sum ≤ 8) (hdg : decode cc pc = .ok (.invokevirtual index, 3)) (hf : cells + 0 ≤ R.cells ∧ slots + 0 ≤ R.slots)
    (kk : ∀ r : Int32, post r → W p l e R s m args below meth c H locs cells slots Q (F0 m (pc + 3) ls (.int r :: rest))) : W p l e R s m args below meth c H locs cells slots Q (F0 m pc ls st) :=
  vp_callSi (W.runV S hM cw ⟨PM_blind, va_recv hK hP (ci := 1) (q0 := 0) rfl rfl, fun U hU hW => ⟨rfl, by rw [hU], by rw [hU]; exact hP, va_K.moved hW.alike hK, hD.weaken (fun _ _ _ _ => trivial)⟩⟩ rfl hn hsize hst (lv_room hW) hdg hf) kk
theorem k_callM {post : Int32 → TM → Prop} (S : CallFix p m c cc nL s args Ts own) (hM : MetM l D ad d y wc rm u H.size (.ref (ad 0) :: As) post) (cw : CallW R s args own RX1 index y bytes maxL ret wc rm 0 0 nA) (hP : va_P D vwCl (wM ad d u) H) (hD : va_D A (wM ad d u)) (hK : va_K D vwCl [(d, .int)] s) (hS : va_S A H0 H locs) (hA : ∀ q, H0.size ≤ q → A q) (hn : As.length = nA) (hsize : ls.size = nL) (hst : st = As.reverse ++ .ref (ad 0) :: rest) (hW : (rest.map fun v => v.category).sum ≤ 8) (hdg : decode cc pc = .ok (.invokevirtual index, 3)) (hf : cells + 0 ≤ R.cells ∧ slots + 0 ≤ R.slots)
    (kk : ∀ (r : Int32) (u1 : TM) (H1 : Heap) (locs1 : List Loc), post r u1 → va_P D vwCl (wM ad d u1) H1 → va_D A (wM ad d u1) → va_S A H0 H1 locs1 → W p l e R s m args below meth c H1 locs1 cells slots Q (F0 m (pc + 3) ls (.int r :: rest))) : W p l e R s m args below meth c H locs cells slots Q (F0 m pc ls st) := by
  have hFc := va_free (wc := wM ad d u) hD hS hA [0, 1, 2, 3, 4] rfl
  refine va_calli (va_runV S hM cw ⟨PM_blind, va_recv hK hP (ci := 1) (q0 := 0) rfl rfl, fun U hU hW => ⟨rfl, by rw [hU], by rw [hU]; exact hP, va_K.moved hW.alike hK, hD.weaken (fun _ _ _ _ => trivial)⟩⟩ rfl hn hsize hst (lv_room hW) hdg hf) hS (fun q _ h => hFc q h) hFc (fun r u1 t H1 locs1 ht hvm hp hB hz1 hk1 hS1 => ?_)
  obtain ⟨hP1, hK1, hD1⟩ := hB
  rw [ht] at hP1
  exact kk r u1 H1 locs1 hp hP1 (hD1.weaken (fun _ _ _ h => hFc _ h)) hS1
end OM
end OWN
theorem k_inc (i : Nat) : nI i + Int32.ofInt 1 = nI (i + 1) := nI_1 i
theorem k_nb : ∀ j, j < 128 → (nI j).toInt8.toInt32 = nI j := by decide +kernel
theorem k_vb : ∀ j, j < 128 → vp_nar .byte (nI j) = nI j := by decide +kernel
theorem k_vz (b : Bool) : vp_nar .boolean (bI b) = bI b := by cases b <;> decide +kernel
end
section
section OWN2
variable {p : Program} {l : Launch} {e : Env} {R : Room} {s : State} {m : MethodId} {args : Array Value} {below : List Frame} {meth : Method} {c : Code} {H : Heap} {locs : List Loc} {cells slots : Nat} {Q : State → Prop}
variable {cc : ByteArray} {pc : Nat} {ls : Array Slot} {rest : List Value}
theorem k_bif_eq {b : Bool} {off : Int} {tgt : Nat} (hx : p.tables.exec = Jvm.exec) (hb : c.code = cc) (hdg : decode cc pc = .ok (.ifCond .eq off, 3)) (ht : (pc : Int) + off = (tgt : Int))
    (kt : b = false → W p l e R s m args below meth c H locs cells slots Q (F0 m tgt ls rest)) (kf : b = true → W p l e R s m args below meth c H locs cells slots Q (F0 m (pc + 3) ls rest)) : W p l e R s m args below meth c H locs cells slots Q (F0 m pc ls (.int (bI b) :: rest)) := by
  refine lv_if_eq hx hb hdg ht (fun h => kt ?_) (fun h => kf ?_)
  · cases b
    · rfl
    · exact absurd h (by decide)
  · cases b
    · exact absurd rfl h
    · rfl
theorem k_bif_ne {b : Bool} {off : Int} {tgt : Nat} (hx : p.tables.exec = Jvm.exec) (hb : c.code = cc) (hdg : decode cc pc = .ok (.ifCond .ne off, 3)) (ht : (pc : Int) + off = (tgt : Int))
    (kt : b = true → W p l e R s m args below meth c H locs cells slots Q (F0 m tgt ls rest)) (kf : b = false → W p l e R s m args below meth c H locs cells slots Q (F0 m (pc + 3) ls rest)) : W p l e R s m args below meth c H locs cells slots Q (F0 m pc ls (.int (bI b) :: rest)) := by
  refine lv_if_ne hx hb hdg ht (fun h => kt ?_) (fun h => kf ?_)
  · cases b
    · exact absurd rfl h
    · rfl
  · cases b
    · rfl
    · exact absurd h (by decide)
end OWN2

set_option maxHeartbeats 4000000 in
set_option maxRecDepth 100000 in
theorem mA_isLine (l : Launch) (D : va_G) (ad : Nat → Nat) (d : Nat → ClassId) (n : Nat) (kk ff ss : Nat → Nat) (w : Int32) (so fa de go ba ma : Nat → Int32) (sz : Nat) (p1 : Int32) (hn : n ≤ 16) : MetAS l D ad d yX0_isLine (ws_ yX0_isLine cX0_isLine 2 (some .boolean)) ({ frames := 0, cells := 0, slots := 0, locals := 0 }) ((n, kk, ff, ss, w), zz so fa de go ba ma) sz [.ref (ad 0), .int p1] (fun r => isX n p1 r) := by
  refine Met.ofW (cc := cX0_isLine) (maxL := 2) (ret := (some .boolean)) (by decide) rfl ?_
  intro p e s m args below meth c s₁ B hml hv
  obtain ⟨rfl, hsz, hP, hK, hD0⟩ := hv
  have hx := B.exec
  have hb := B.bytes
  have hr := B.returns
  have hts := atoms_spec (ws := (ws_ yX0_isLine cX0_isLine 2 (some .boolean))) B.pre
  have hts : ∀ w ∈ lw_all, w.before _ s = true := fun w h => hts w (List.mem_cons_of_mem _ h)
  have hown : s.vm.findClass RX0 = some m.cls := findClass_of_methodNamed B.named
  have hlocks := B.notSynchronized
  subst hsz
  have hD := hD0
  have hP : va_P D vwCl (wB ad d n kk ff ss w so fa de go ba ma) s.heap := hP
  have hl := lv_entry ([.ref (ad 0), .int p1]) (n := 2) (Nat.le_of_ble_eq_true rfl)
  rw [lg_entry_eq]
  generalize (lg_sl ([.ref (ad 0), .int p1]) ++ List.replicate (2 - (lg_sl ([.ref (ad 0), .int p1])).length) Slot.unset).toArray = ls at hl ⊢
  have hl : lv_has ls 2 [(0, .ref (ad 0)), (1, .int p1)] := hl
  refine lv_iload_n hx hb dX0_isLine_0 rfl (lv_at hl 1 rfl) ?_
  refine lv_if_lt (tgt := 16) hx hb dX0_isLine_1 (by decide) (fun c1 => ?_) (fun c1 => ?_)
  · refine lv_iconst (v := nI 0) hx hb dX0_isLine_16 (by decide) ?_
    exact W.zret (v := nI 0) hx hb hr (rfl) (fun t9 ht9 _ => ⟨nI 0, rfl, isX_neg c1, ht9⟩) (fun q h => by cases h) dX0_isLine_17
  · refine lv_iload_n hx hb dX0_isLine_4 rfl (lv_at hl 1 rfl) ?_
    refine lv_aload_n hx hb dX0_isLine_5 rfl (lv_at hl 0 rfl) ?_
    refine va_get (D := D) (ci := 0) (v := .int (nI n)) (C := RX0) (T := TX0) (N := 11) hx hb hts in_X0 hown hK hP 0 rfl rfl 0 (by decide) (hts _ q20) (fun _ h9 => h9) rfl dX0_isLine_6 ?_
    refine lv_icmp_ge (tgt := 16) hx hb dX0_isLine_9 (by decide) (fun c2 => ?_) (fun c2 => ?_)
    · refine lv_iconst (v := nI 0) hx hb dX0_isLine_16 (by decide) ?_
      exact W.zret (v := nI 0) hx hb hr (rfl) (fun t9 ht9 _ => ⟨nI 0, rfl, isX_ge (by omega) c2, ht9⟩) (fun q h => by cases h) dX0_isLine_17
    · refine lv_iconst (v := nI 1) hx hb dX0_isLine_12 (by decide) ?_
      refine lv_goto (tgt := 17) hx hb dX0_isLine_13 (by decide) ?_
      exact W.zret (v := nI 1) hx hb hr (rfl) (fun t9 ht9 _ => ⟨nI 1, rfl, isX_in (by omega) c1 c2, ht9⟩) (fun q h => by cases h) dX0_isLine_17

set_option maxHeartbeats 4000000 in
set_option maxRecDepth 100000 in
theorem mM_is (l : Launch) (D : va_G) (ad : Nat → Nat) (d : ClassId) (n : Nat) (kk ff ss : Nat → Nat) (w : Int32) (va : Nat → Int32) (sz : Nat) (p1 : Int32) (hn : n ≤ 16) : MetMS l D ad d yX1_is (ws_ yX1_is cX1_is 2 (some .boolean)) ({ frames := 0, cells := 0, slots := 0, locals := 0 }) ((n, kk, ff, ss, w), va) sz [.ref (ad 0), .int p1] (fun r => isX n p1 r) := by
  refine Met.ofW (cc := cX1_is) (maxL := 2) (ret := (some .boolean)) (by decide) rfl ?_
  intro p e s m args below meth c s₁ B hml hv
  obtain ⟨rfl, hsz, hP, hK, hD0⟩ := hv
  have hx := B.exec
  have hb := B.bytes
  have hr := B.returns
  have hts := atoms_spec (ws := (ws_ yX1_is cX1_is 2 (some .boolean))) B.pre
  have hts : ∀ w ∈ lw_all, w.before _ s = true := fun w h => hts w (List.mem_cons_of_mem _ h)
  have hown : s.vm.findClass RX1 = some m.cls := findClass_of_methodNamed B.named
  have hlocks := B.notSynchronized
  subst hsz
  have hD := hD0
  have hP : va_P D vwCl (wO ad d n kk ff (yyF kk ss) w va) s.heap := hP
  have hl := lv_entry ([.ref (ad 0), .int p1]) (n := 2) (Nat.le_of_ble_eq_true rfl)
  rw [lg_entry_eq]
  generalize (lg_sl ([.ref (ad 0), .int p1]) ++ List.replicate (2 - (lg_sl ([.ref (ad 0), .int p1])).length) Slot.unset).toArray = ls at hl ⊢
  have hl : lv_has ls 2 [(0, .ref (ad 0)), (1, .int p1)] := hl
  refine lv_iload_n hx hb dX1_is_0 rfl (lv_at hl 1 rfl) ?_
  refine lv_if_lt (tgt := 16) hx hb dX1_is_1 (by decide) (fun c1 => ?_) (fun c1 => ?_)
  · refine lv_iconst (v := nI 0) hx hb dX1_is_16 (by decide) ?_
    exact W.zret (v := nI 0) hx hb hr (rfl) (fun t9 ht9 _ => ⟨nI 0, rfl, isX_neg c1, ht9⟩) (fun q h => by cases h) dX1_is_17
  · refine lv_iload_n hx hb dX1_is_4 rfl (lv_at hl 1 rfl) ?_
    refine lv_aload_n hx hb dX1_is_5 rfl (lv_at hl 0 rfl) ?_
    refine va_get (D := D) (ci := 1) (v := .int (nI n)) (C := RX1) (T := TX1) (N := 6) hx hb hts in_X1 hown hK hP 0 rfl rfl 0 (by decide) (hts _ q162) (fun _ h9 => h9) rfl dX1_is_6 ?_
    refine lv_icmp_ge (tgt := 16) hx hb dX1_is_9 (by decide) (fun c2 => ?_) (fun c2 => ?_)
    · refine lv_iconst (v := nI 0) hx hb dX1_is_16 (by decide) ?_
      exact W.zret (v := nI 0) hx hb hr (rfl) (fun t9 ht9 _ => ⟨nI 0, rfl, isX_ge (by omega) c2, ht9⟩) (fun q h => by cases h) dX1_is_17
    · refine lv_iconst (v := nI 1) hx hb dX1_is_12 (by decide) ?_
      refine lv_goto (tgt := 17) hx hb dX1_is_13 (by decide) ?_
      exact W.zret (v := nI 1) hx hb hr (rfl) (fun t9 ht9 _ => ⟨nI 1, rfl, isX_in (by omega) c1 c2, ht9⟩) (fun q h => by cases h) dX1_is_17

theorem k_nz (b : Bool) : narrow .boolean (.int (bI b)) = .int (bI b) := by cases b <;> rfl
theorem k_31 {x : Int32} (h : nI 31 < x) : nI 32 ≤ x := by
  rw [Int32.le_iff_toInt_le, nI_toInt (by omega)]
  rw [Int32.lt_iff_toInt_lt, nI_toInt (by omega)] at h
  omega
theorem k_32 {x : Int32} (h : nI 32 ≤ x) : nI 31 < x := by
  rw [Int32.lt_iff_toInt_lt, nI_toInt (by omega)]
  rw [Int32.le_iff_toInt_le, nI_toInt (by omega)] at h
  omega

set_option maxHeartbeats 4000000 in
set_option maxRecDepth 100000 in
theorem mS_isVector (l : Launch) (p1 : Int32) : MetSS l yX0_isVector (ws_ yX0_isVector cX0_isVector 1 (some .boolean)) ({ frames := 0, cells := 0, slots := 0, locals := 0 }) [.int p1] (fun r => isX 32 p1 r) := by
  refine Met.ofW (cc := cX0_isVector) (maxL := 1) (ret := (some .boolean)) (by decide) rfl ?_
  intro p e s m args below meth c s₁ B hml hv
  obtain ⟨rfl, -⟩ := hv
  have hx := B.exec
  have hb := B.bytes
  have hr := B.returns
  have hts := atoms_spec (ws := (ws_ yX0_isVector cX0_isVector 1 (some .boolean))) B.pre
  have hts : ∀ w ∈ lw_all, w.before _ s = true := fun w h => hts w (List.mem_cons_of_mem _ h)
  have hown : s.vm.findClass RX0 = some m.cls := findClass_of_methodNamed B.named
  have hlocks := B.notSynchronized
  have hl := lv_entry ([.int p1]) (n := 1) (Nat.le_of_ble_eq_true rfl)
  rw [lg_entry_eq]
  generalize (lg_sl ([.int p1]) ++ List.replicate (1 - (lg_sl ([.int p1])).length) Slot.unset).toArray = ls at hl ⊢
  have hl : lv_has ls 1 [(0, .int p1)] := hl
  refine lv_iload_n hx hb dX0_isVector_0 rfl (lv_at hl 0 rfl) ?_
  refine lv_if_lt (tgt := 14) hx hb dX0_isVector_1 (by decide) (fun c1 => ?_) (fun c1 => ?_)
  · refine lv_iconst (v := nI 0) hx hb dX0_isVector_14 (by decide) ?_
    exact W.zret (v := nI 0) hx hb hr (rfl) (fun t9 ht9 _ => ⟨nI 0, rfl, isX_neg c1, ht9⟩) (fun q h => by cases h) dX0_isVector_15
  · refine lv_iload_n hx hb dX0_isVector_4 rfl (lv_at hl 0 rfl) ?_
    refine lv_bipush (v := nI 32) hx hb dX0_isVector_5 (by decide) ?_
    refine lv_icmp_ge (tgt := 14) hx hb dX0_isVector_7 (by decide) (fun c2 => ?_) (fun c2 => ?_)
    · refine lv_iconst (v := nI 0) hx hb dX0_isVector_14 (by decide) ?_
      exact W.zret (v := nI 0) hx hb hr (rfl) (fun t9 ht9 _ => ⟨nI 0, rfl, isX_ge (by omega) c2, ht9⟩) (fun q h => by cases h) dX0_isVector_15
    · refine lv_iconst (v := nI 1) hx hb dX0_isVector_10 (by decide) ?_
      refine lv_goto (tgt := 15) hx hb dX0_isVector_11 (by decide) ?_
      exact W.zret (v := nI 1) hx hb hr (rfl) (fun t9 ht9 _ => ⟨nI 1, rfl, isX_in (by omega) c1 c2, ht9⟩) (fun q h => by cases h) dX0_isVector_15

set_option maxHeartbeats 4000000 in
set_option maxRecDepth 100000 in
theorem mM_vector (l : Launch) (D : va_G) (ad : Nat → Nat) (d : ClassId) (n : Nat) (kk ff ss : Nat → Nat) (w : Int32) (va : Nat → Int32) (sz : Nat) (p1 : Int32) : MetMS l D ad d yX1_vector (ws_ yX1_vector cX1_vector 2 (some .boolean)) ({ frames := 0, cells := 0, slots := 0, locals := 0 }) ((n, kk, ff, ss, w), va) sz [.ref (ad 0), .int p1] (fun r => isX 32 p1 r) := by
  refine Met.ofW (cc := cX1_vector) (maxL := 2) (ret := (some .boolean)) (by decide) rfl ?_
  intro p e s m args below meth c s₁ B hml hv
  obtain ⟨rfl, hsz, hP, hK, hD0⟩ := hv
  have hx := B.exec
  have hb := B.bytes
  have hr := B.returns
  have hts := atoms_spec (ws := (ws_ yX1_vector cX1_vector 2 (some .boolean))) B.pre
  have hts : ∀ w ∈ lw_all, w.before _ s = true := fun w h => hts w (List.mem_cons_of_mem _ h)
  have hown : s.vm.findClass RX1 = some m.cls := findClass_of_methodNamed B.named
  have hlocks := B.notSynchronized
  subst hsz
  have hD := hD0
  have hP : va_P D vwCl (wO ad d n kk ff (yyF kk ss) w va) s.heap := hP
  have hl := lv_entry ([.ref (ad 0), .int p1]) (n := 2) (Nat.le_of_ble_eq_true rfl)
  rw [lg_entry_eq]
  generalize (lg_sl ([.ref (ad 0), .int p1]) ++ List.replicate (2 - (lg_sl ([.ref (ad 0), .int p1])).length) Slot.unset).toArray = ls at hl ⊢
  have hl : lv_has ls 2 [(0, .ref (ad 0)), (1, .int p1)] := hl
  refine lv_iload_n hx hb dX1_vector_0 rfl (lv_at hl 1 rfl) ?_
  refine lv_if_lt (tgt := 14) hx hb dX1_vector_1 (by decide) (fun c1 => ?_) (fun c1 => ?_)
  · refine lv_iconst (v := nI 0) hx hb dX1_vector_14 (by decide) ?_
    exact W.zret (v := nI 0) hx hb hr (rfl) (fun t9 ht9 _ => ⟨nI 0, rfl, isX_neg c1, ht9⟩) (fun q h => by cases h) dX1_vector_15
  · refine lv_iload_n hx hb dX1_vector_4 rfl (lv_at hl 1 rfl) ?_
    refine lv_bipush (v := nI 31) hx hb dX1_vector_5 (by decide) ?_
    refine lv_icmp_gt (tgt := 14) hx hb dX1_vector_7 (by decide) (fun c2 => ?_) (fun c2 => ?_)
    · refine lv_iconst (v := nI 0) hx hb dX1_vector_14 (by decide) ?_
      exact W.zret (v := nI 0) hx hb hr (rfl) (fun t9 ht9 _ => ⟨nI 0, rfl, isX_ge (by omega) (k_31 c2), ht9⟩) (fun q h => by cases h) dX1_vector_15
    · refine lv_iconst (v := nI 1) hx hb dX1_vector_10 (by decide) ?_
      refine lv_goto (tgt := 15) hx hb dX1_vector_11 (by decide) ?_
      exact W.zret (v := nI 1) hx hb hr (rfl) (fun t9 ht9 _ => ⟨nI 1, rfl, isX_in (by omega) c1 (fun h => c2 (k_32 h)), ht9⟩) (fun q h => by cases h) dX1_vector_15

theorem isB_no {x : Int32} (h0 : ¬ x = 0) (h1 : ¬ x = nI 1) : isX 2 x (nI 0) := by
  refine Or.inr ⟨rfl, ?_⟩
  unfold lnX
  rw [if_neg]
  rintro ⟨a, b⟩
  obtain ⟨j, hj, e⟩ := nI_of (x := x) (Int32.not_lt.mpr a)
  subst e
  rw [nI_clamp hj] at b
  rcases (show j = 0 ∨ j = 1 by omega) with rfl | rfl
  · exact h0 rfl
  · exact h1 rfl

set_option maxHeartbeats 4000000 in
set_option maxRecDepth 100000 in
theorem mS_isBit (l : Launch) (p1 : Int32) : MetSS l yX0_isBit (ws_ yX0_isBit cX0_isBit 1 (some .boolean)) ({ frames := 0, cells := 0, slots := 0, locals := 0 }) [.int p1] (fun r => isX 2 p1 r) := by
  refine Met.ofW (cc := cX0_isBit) (maxL := 1) (ret := (some .boolean)) (by decide) rfl ?_
  intro p e s m args below meth c s₁ B hml hv
  obtain ⟨rfl, -⟩ := hv
  have hx := B.exec
  have hb := B.bytes
  have hr := B.returns
  have hts := atoms_spec (ws := (ws_ yX0_isBit cX0_isBit 1 (some .boolean))) B.pre
  have hts : ∀ w ∈ lw_all, w.before _ s = true := fun w h => hts w (List.mem_cons_of_mem _ h)
  have hown : s.vm.findClass RX0 = some m.cls := findClass_of_methodNamed B.named
  have hlocks := B.notSynchronized
  have hl := lv_entry ([.int p1]) (n := 1) (Nat.le_of_ble_eq_true rfl)
  rw [lg_entry_eq]
  generalize (lg_sl ([.int p1]) ++ List.replicate (1 - (lg_sl ([.int p1])).length) Slot.unset).toArray = ls at hl ⊢
  have hl : lv_has ls 1 [(0, .int p1)] := hl
  refine lv_iload_n hx hb dX0_isBit_0 rfl (lv_at hl 0 rfl) ?_
  refine lv_if_eq (tgt := 9) hx hb dX0_isBit_1 (by decide) (fun c1 => ?_) (fun c1 => ?_)
  · refine lv_iconst (v := nI 1) hx hb dX0_isBit_9 (by decide) ?_
    refine lv_goto (tgt := 14) hx hb dX0_isBit_10 (by decide) ?_
    exact W.zret (v := nI 1) hx hb hr (rfl) (fun t9 ht9 _ => ⟨nI 1, rfl, Or.inl ⟨rfl, 0, by decide, c1⟩, ht9⟩) (fun q h => by cases h) dX0_isBit_14
  · refine lv_iload_n hx hb dX0_isBit_4 rfl (lv_at hl 0 rfl) ?_
    refine lv_iconst (v := nI 1) hx hb dX0_isBit_5 (by decide) ?_
    refine lv_icmp_ne (tgt := 13) hx hb dX0_isBit_6 (by decide) (fun c2 => ?_) (fun c2 => ?_)
    · refine lv_iconst (v := nI 0) hx hb dX0_isBit_13 (by decide) ?_
      exact W.zret (v := nI 0) hx hb hr (rfl) (fun t9 ht9 _ => ⟨nI 0, rfl, isB_no c1 c2, ht9⟩) (fun q h => by cases h) dX0_isBit_14
    · refine lv_iconst (v := nI 1) hx hb dX0_isBit_9 (by decide) ?_
      refine lv_goto (tgt := 14) hx hb dX0_isBit_10 (by decide) ?_
      exact W.zret (v := nI 1) hx hb hr (rfl) (fun t9 ht9 _ => ⟨nI 1, rfl, Or.inl ⟨rfl, 1, by decide, c2⟩, ht9⟩) (fun q h => by cases h) dX0_isBit_14

set_option maxHeartbeats 4000000 in
set_option maxRecDepth 100000 in
theorem mS_pattern (l : Launch) (i : Nat) (hi : i < 5) : MetSS l yX0_pattern (ws_ yX0_pattern cX0_pattern 3 (some .int)) ({ frames := 0, cells := 0, slots := 0, locals := 0 }) [.int (nI i)] (fun r => r = pat i 32) := by
  refine Met.ofW (cc := cX0_pattern) (maxL := 3) (ret := (some .int)) (by decide) rfl ?_
  intro p e s m args below meth c s₁ B hml hv
  obtain ⟨rfl, -⟩ := hv
  have hx := B.exec
  have hb := B.bytes
  have hr := B.returns
  have hts := atoms_spec (ws := (ws_ yX0_pattern cX0_pattern 3 (some .int))) B.pre
  have hts : ∀ w ∈ lw_all, w.before _ s = true := fun w h => hts w (List.mem_cons_of_mem _ h)
  have hown : s.vm.findClass RX0 = some m.cls := findClass_of_methodNamed B.named
  have hlocks := B.notSynchronized
  have hl := lv_entry ([.int (nI i)]) (n := 3) (Nat.le_of_ble_eq_true rfl)
  rw [lg_entry_eq]
  generalize (lg_sl ([.int (nI i)]) ++ List.replicate (3 - (lg_sl ([.int (nI i)])).length) Slot.unset).toArray = ls at hl ⊢
  have hl : lv_has ls 3 [(0, .int (nI i))] := hl
  refine lv_iconst (v := nI 0) hx hb dX0_pattern_0 (by decide) ?_
  refine lv_istore_n (lv' := [(1, .int (nI 0)), (0, .int (nI i))]) hx hb dX0_pattern_1 rfl hl (by decide) rfl (fun ls hl => ?_)
  refine lv_iconst (v := nI 0) hx hb dX0_pattern_2 (by decide) ?_
  refine lv_istore_n (lv' := [(2, .int (nI 0)), (1, .int (nI 0)), (0, .int (nI i))]) hx hb dX0_pattern_3 rfl hl (by decide) rfl (fun ls hl => ?_)
  have loop : ∀ (f q : Nat), q + f = 32 → ∀ ls : Array Slot, lv_has ls 3 [(0, .int (nI i)), (1, .int (pat i q)), (2, .int (nI q))] → W p l e (headSpec (ws_ yX0_pattern cX0_pattern 3 (some .int)) ({ frames := 0, cells := 0, slots := 0, locals := 0 })).room s m ([.int (nI i)] : List Value).toArray below meth c s.heap [] 0 0 (MQ below (vp_Si (fun r => r = pat i 32)) ([.int (nI i)] : List Value).toArray s 0 0 (fun _ => False)) (F0 m 4 ls []) := by
    intro f
    induction f with
    | zero =>
      intro q hq ls hl
      have hq : q = 32 := by omega
      subst hq
      refine lv_iload_n hx hb dX0_pattern_4 rfl (lv_at hl 2 rfl) ?_
      refine lv_bipush (v := nI 32) hx hb dX0_pattern_5 (by decide) ?_
      refine k_ge (by omega) (by omega) (tgt := 26) hx hb dX0_pattern_7 (by decide) (fun c1 => ?_) (fun c1 => absurd c1 (by omega))
      refine lv_iload_n hx hb dX0_pattern_26 rfl (lv_at hl 1 rfl) ?_
      exact W.iret (v := pat i 32) hx hb hr (fun t9 ht9 _ => ⟨pat i 32, rfl, rfl, ht9⟩) (fun q h => by cases h) dX0_pattern_27
    | succ f ih =>
      intro q hq ls hl
      refine lv_iload_n hx hb dX0_pattern_4 rfl (lv_at hl 2 rfl) ?_
      refine lv_bipush (v := nI 32) hx hb dX0_pattern_5 (by decide) ?_
      refine k_ge (by omega) (by omega) (tgt := 26) hx hb dX0_pattern_7 (by decide) (fun c1 => absurd c1 (by omega)) (fun c1 => ?_)
      refine lv_iload_n hx hb dX0_pattern_10 rfl (lv_at hl 1 rfl) ?_
      refine lv_iload_n hx hb dX0_pattern_11 rfl (lv_at hl 2 rfl) ?_
      refine lv_iload_n hx hb dX0_pattern_12 rfl (lv_at hl 0 rfl) ?_
      refine lv_ishr hx hb dX0_pattern_13 ?_
      refine lv_iconst (v := nI 1) hx hb dX0_pattern_14 (by decide) ?_
      refine lv_iand hx hb dX0_pattern_15 ?_
      refine lv_iload_n hx hb dX0_pattern_16 rfl (lv_at hl 2 rfl) ?_
      refine lv_ishl hx hb dX0_pattern_17 ?_
      refine lv_ior hx hb dX0_pattern_18 ?_
      refine lv_istore_n (lv' := [(1, .int (pat i (q + 1))), (0, .int (nI i)), (2, .int (nI q))]) hx hb dX0_pattern_19 rfl hl (by decide) rfl (fun ls hl => ?_)
      refine lv_iinc (v := nI (q + 1)) (lv' := [(2, .int (nI (q + 1))), (1, .int (pat i (q + 1))), (0, .int (nI i))]) hx hb dX0_pattern_20 hl (k := 2) rfl (k_inc q) (by decide) rfl (fun ls hl => ?_)
      refine lv_goto (tgt := 4) hx hb dX0_pattern_23 (by decide) ?_
      exact ih (q + 1) (by omega) ls (lv_sub hl [2, 1, 0] rfl)
  exact loop 32 0 rfl ls (lv_sub hl [2, 1, 0] rfl)

set_option maxHeartbeats 4000000 in
set_option maxRecDepth 100000 in
theorem mS_apply (l : Launch) (t : Nat) (x y : Int32) (ht0 : t ≤ 5) : MetSS l yX0_apply (ws_ yX0_apply cX0_apply 3 (some .int)) ({ frames := 0, cells := 0, slots := 0, locals := 0 }) [.int (nI t), .int x, .int y] (fun r => r = apI t x y) := by
  refine Met.ofW (cc := cX0_apply) (maxL := 3) (ret := (some .int)) (by decide) rfl ?_
  intro p e s m args below meth c s₁ B hml hv
  obtain ⟨rfl, -⟩ := hv
  have hx := B.exec
  have hb := B.bytes
  have hr := B.returns
  have hts := atoms_spec (ws := (ws_ yX0_apply cX0_apply 3 (some .int))) B.pre
  have hts : ∀ w ∈ lw_all, w.before _ s = true := fun w h => hts w (List.mem_cons_of_mem _ h)
  have hown : s.vm.findClass RX0 = some m.cls := findClass_of_methodNamed B.named
  have hlocks := B.notSynchronized
  have hl := lv_entry ([.int (nI t), .int x, .int y]) (n := 3) (Nat.le_of_ble_eq_true rfl)
  rw [lg_entry_eq]
  generalize (lg_sl ([.int (nI t), .int x, .int y]) ++ List.replicate (3 - (lg_sl ([.int (nI t), .int x, .int y])).length) Slot.unset).toArray = ls at hl ⊢
  have hl : lv_has ls 3 [(0, .int (nI t)), (1, .int x), (2, .int y)] := hl
  refine lv_iload_n hx hb dX0_apply_0 rfl (lv_at hl 0 rfl) ?_
  refine k_if_ne (by omega) (tgt := 8) hx hb dX0_apply_1 (by decide) (fun c1 => ?_) (fun c1 => ?_)
  · refine lv_iload_n hx hb dX0_apply_8 rfl (lv_at hl 0 rfl) ?_
    refine lv_iconst (v := nI 1) hx hb dX0_apply_9 (by decide) ?_
    refine k_ne (by omega) (by omega) (tgt := 17) hx hb dX0_apply_10 (by decide) (fun c2 => ?_) (fun c2 => ?_)
    · refine lv_iload_n hx hb dX0_apply_17 rfl (lv_at hl 0 rfl) ?_
      refine lv_iconst (v := nI 2) hx hb dX0_apply_18 (by decide) ?_
      refine k_ne (by omega) (by omega) (tgt := 26) hx hb dX0_apply_19 (by decide) (fun c3 => ?_) (fun c3 => ?_)
      · refine lv_iload_n hx hb dX0_apply_26 rfl (lv_at hl 0 rfl) ?_
        refine lv_iconst (v := nI 3) hx hb dX0_apply_27 (by decide) ?_
        refine k_ne (by omega) (by omega) (tgt := 37) hx hb dX0_apply_28 (by decide) (fun c4 => ?_) (fun c4 => ?_)
        · refine lv_iload_n hx hb dX0_apply_37 rfl (lv_at hl 0 rfl) ?_
          refine lv_iconst (v := nI 4) hx hb dX0_apply_38 (by decide) ?_
          refine k_ne (by omega) (by omega) (tgt := 50) hx hb dX0_apply_39 (by decide) (fun c5 => ?_) (fun c5 => ?_)
          · refine lv_iload_n hx hb dX0_apply_50 rfl (lv_at hl 1 rfl) ?_
            refine lv_iconst (v := (-1)) hx hb dX0_apply_51 (by decide) ?_
            refine lv_ixor hx hb dX0_apply_52 ?_
            exact W.iret (v := x ^^^ (-1)) hx hb hr (fun t9 ht9 _ => ⟨x ^^^ (-1), rfl, by unfold apI; rw [if_neg c1, if_neg c2, if_neg c3, if_neg c4, if_neg c5], ht9⟩) (fun q h => by cases h) dX0_apply_53
          · refine lv_iload_n hx hb dX0_apply_42 rfl (lv_at hl 1 rfl) ?_
            refine lv_iload_n hx hb dX0_apply_43 rfl (lv_at hl 2 rfl) ?_
            refine lv_ior hx hb dX0_apply_44 ?_
            refine lv_iconst (v := (-1)) hx hb dX0_apply_45 (by decide) ?_
            refine lv_ixor hx hb dX0_apply_46 ?_
            refine lv_goto (tgt := 53) hx hb dX0_apply_47 (by decide) ?_
            exact W.iret (v := (x ||| y) ^^^ (-1)) hx hb hr (fun t9 ht9 _ => ⟨(x ||| y) ^^^ (-1), rfl, by subst c5; rfl, ht9⟩) (fun q h => by cases h) dX0_apply_53
        · refine lv_iload_n hx hb dX0_apply_31 rfl (lv_at hl 1 rfl) ?_
          refine lv_iload_n hx hb dX0_apply_32 rfl (lv_at hl 2 rfl) ?_
          refine lv_iand hx hb dX0_apply_33 ?_
          refine lv_iconst (v := (-1)) hx hb dX0_apply_34 (by decide) ?_
          refine lv_ixor hx hb dX0_apply_35 ?_
          exact W.iret (v := (x &&& y) ^^^ (-1)) hx hb hr (fun t9 ht9 _ => ⟨(x &&& y) ^^^ (-1), rfl, by subst c4; rfl, ht9⟩) (fun q h => by cases h) dX0_apply_36
      · refine lv_iload_n hx hb dX0_apply_22 rfl (lv_at hl 1 rfl) ?_
        refine lv_iload_n hx hb dX0_apply_23 rfl (lv_at hl 2 rfl) ?_
        refine lv_ixor hx hb dX0_apply_24 ?_
        exact W.iret (v := x ^^^ y) hx hb hr (fun t9 ht9 _ => ⟨x ^^^ y, rfl, by subst c3; rfl, ht9⟩) (fun q h => by cases h) dX0_apply_25
    · refine lv_iload_n hx hb dX0_apply_13 rfl (lv_at hl 1 rfl) ?_
      refine lv_iload_n hx hb dX0_apply_14 rfl (lv_at hl 2 rfl) ?_
      refine lv_ior hx hb dX0_apply_15 ?_
      exact W.iret (v := x ||| y) hx hb hr (fun t9 ht9 _ => ⟨x ||| y, rfl, by subst c2; rfl, ht9⟩) (fun q h => by cases h) dX0_apply_16
  · refine lv_iload_n hx hb dX0_apply_4 rfl (lv_at hl 1 rfl) ?_
    refine lv_iload_n hx hb dX0_apply_5 rfl (lv_at hl 2 rfl) ?_
    refine lv_iand hx hb dX0_apply_6 ?_
    exact W.iret (v := x &&& y) hx hb hr (fun t9 ht9 _ => ⟨x &&& y, rfl, by subst c1; rfl, ht9⟩) (fun q h => by cases h) dX0_apply_7

theorem tn_sub {x : Nat} (h : x < 3) (h2 : x ≠ 2) : nI 1 - nI x = nI (tn x) := by
  rcases (show x = 0 ∨ x = 1 by omega) with rfl | rfl <;> decide

set_option maxHeartbeats 4000000 in
set_option maxRecDepth 100000 in
theorem mS_turned (l : Launch) (x : Nat) (hx3 : x < 3) : MetSS l yX0_turned (ws_ yX0_turned cX0_turned 1 (some .int)) ({ frames := 0, cells := 0, slots := 0, locals := 0 }) [.int (nI x)] (fun r => r = nI (tn x)) := by
  refine Met.ofW (cc := cX0_turned) (maxL := 1) (ret := (some .int)) (by decide) rfl ?_
  intro p e s m args below meth c s₁ B hml hv
  obtain ⟨rfl, -⟩ := hv
  have hx := B.exec
  have hb := B.bytes
  have hr := B.returns
  have hts := atoms_spec (ws := (ws_ yX0_turned cX0_turned 1 (some .int))) B.pre
  have hts : ∀ w ∈ lw_all, w.before _ s = true := fun w h => hts w (List.mem_cons_of_mem _ h)
  have hown : s.vm.findClass RX0 = some m.cls := findClass_of_methodNamed B.named
  have hlocks := B.notSynchronized
  have hl := lv_entry ([.int (nI x)]) (n := 1) (Nat.le_of_ble_eq_true rfl)
  rw [lg_entry_eq]
  generalize (lg_sl ([.int (nI x)]) ++ List.replicate (1 - (lg_sl ([.int (nI x)])).length) Slot.unset).toArray = ls at hl ⊢
  have hl : lv_has ls 1 [(0, .int (nI x))] := hl
  refine lv_iload_n hx hb dX0_turned_0 rfl (lv_at hl 0 rfl) ?_
  refine lv_iconst (v := nI 2) hx hb dX0_turned_1 (by decide) ?_
  refine k_ne (by omega) (by omega) (tgt := 9) hx hb dX0_turned_2 (by decide) (fun c1 => ?_) (fun c1 => ?_)
  · refine lv_iconst (v := nI 1) hx hb dX0_turned_9 (by decide) ?_
    refine lv_iload_n hx hb dX0_turned_10 rfl (lv_at hl 0 rfl) ?_
    refine lv_isub hx hb dX0_turned_11 ?_
    exact W.iret (v := nI 1 - nI x) hx hb hr (fun t9 ht9 _ => ⟨nI 1 - nI x, rfl, tn_sub hx3 c1, ht9⟩) (fun q h => by cases h) dX0_turned_12
  · refine lv_iconst (v := nI 2) hx hb dX0_turned_5 (by decide) ?_
    refine lv_goto (tgt := 12) hx hb dX0_turned_6 (by decide) ?_
    exact W.iret (v := nI 2) hx hb hr (fun t9 ht9 _ => ⟨nI 2, rfl, by subst c1; rfl, ht9⟩) (fun q h => by cases h) dX0_turned_12
end
section
theorem oa_xc : ∀ x, x < 3 → ∀ y, y < 3 → ¬ (x = 2 ∨ y = 2) → nI x ^^^ nI y = nI (oa 2 x y) := by decide +kernel
theorem oa_x {t x y : Nat} (hx : x < 3) (hy : y < 3) (ht : t = 2) (h : ¬ (x = 2 ∨ y = 2)) : nI x ^^^ nI y = nI (oa t x y) := by
  subst ht
  exact oa_xc x hx y hy h

set_option maxHeartbeats 4000000 in
set_option maxRecDepth 100000 in
theorem mS_openApply (l : Launch) (t x y : Nat) (ht0 : t ≤ 5) (hx3 : x < 3) (hy3 : y < 3) : MetSS l yX0_openApply (ws_ yX0_openApply cX0_openApply 7 (some .int)) ({ frames := 1, cells := 0, slots := 0, locals := 20 }) [.int (nI t), .int (nI x), .int (nI y)] (fun r => r = nI (oa t x y)) := by
  refine Met.ofW (cc := cX0_openApply) (maxL := 7) (ret := (some .int)) (by decide) rfl ?_
  intro p e s m args below meth c s₁ B hml hv
  obtain ⟨rfl, -⟩ := hv
  have hx := B.exec
  have hb := B.bytes
  have hr := B.returns
  have hts := atoms_spec (ws := (ws_ yX0_openApply cX0_openApply 7 (some .int))) B.pre
  have hts : ∀ w ∈ lw_all, w.before _ s = true := fun w h => hts w (List.mem_cons_of_mem _ h)
  have hown : s.vm.findClass RX0 = some m.cls := findClass_of_methodNamed B.named
  have hlocks := B.notSynchronized
  have hl := lv_entry ([.int (nI t), .int (nI x), .int (nI y)]) (n := 7) (Nat.le_of_ble_eq_true rfl)
  rw [lg_entry_eq]
  generalize (lg_sl ([.int (nI t), .int (nI x), .int (nI y)]) ++ List.replicate (7 - (lg_sl ([.int (nI t), .int (nI x), .int (nI y)])).length) Slot.unset).toArray = ls at hl ⊢
  have hl : lv_has ls 7 [(0, .int (nI t)), (1, .int (nI x)), (2, .int (nI y))] := hl
  have K75 : ∀ (b : Nat), (b < 3) → (b = oAnd x y) → (t = 0 ∨ t = 3) → ∀ (ls : Array Slot), lv_has ls 7 [(0, .int (nI t)), (1, .int (nI x)), (2, .int (nI y))] → W p l e (headSpec (ws_ yX0_openApply cX0_openApply 7 (some .int)) ({ frames := 1, cells := 0, slots := 0, locals := 20 })).room s m ([.int (nI t), .int (nI x), .int (nI y)] : List Value).toArray below meth c s.heap [] 0 0 (MQ below (vp_Si (fun r => r = nI (oa t x y))) ([.int (nI t), .int (nI x), .int (nI y)] : List Value).toArray s 0 0 (fun _ => False)) (F0 m 75 ls [.int (nI b)]) := by
    intro b hb3 eb ht ls hl
    refine lv_istore (lv' := [(6, .int (nI b)), (0, .int (nI t)), (1, .int (nI x)), (2, .int (nI y))]) hx hb dX0_openApply_75 hl (by decide) rfl (fun ls hl => ?_)
    refine lv_iload_n hx hb dX0_openApply_77 rfl (lv_at hl 1 rfl) ?_
    refine k_if_ne (by omega) (tgt := 86) hx hb dX0_openApply_78 (by decide) (fun c1 => ?_) (fun c1 => ?_)
    · refine lv_iload hx hb dX0_openApply_86 (lv_at hl 0 rfl) ?_
      refine k_callS (As := [.int (nI b)]) (rest := []) ⟨hx, hb, hml, hown, hts⟩ (mS_turned l b hb3) (va_cwS 1 hts (lw_S q128 q129 q10 q130) rfl rfl rfl (by decide +kernel) ⟨Nat.le_of_ble_eq_true rfl, Nat.le_of_ble_eq_true rfl⟩) rfl hl.1 rfl (Nat.le_of_ble_eq_true rfl) dX0_openApply_88 ⟨Nat.zero_le _, Nat.zero_le _⟩ (fun r hp => ?_)
      exact W.iret (v := r) hx hb hr (fun t9 ht9 _ => ⟨r, rfl, by rw [hp, eb]; unfold oa; rw [if_pos ht, if_neg c1], ht9⟩) (fun q h => by cases h) dX0_openApply_91
    · refine lv_iload hx hb dX0_openApply_81 (lv_at hl 0 rfl) ?_
      refine lv_goto (tgt := 91) hx hb dX0_openApply_83 (by decide) ?_
      exact W.iret (v := nI b) hx hb hr (fun t9 ht9 _ => ⟨nI b, rfl, by rw [eb]; unfold oa; rw [if_pos ht, if_pos c1], ht9⟩) (fun q h => by cases h) dX0_openApply_91
  have K121 : ∀ (b : Nat), (b < 3) → (b = oOr x y) → (t = 1 ∨ t = 4) → ∀ (ls : Array Slot), lv_has ls 7 [(0, .int (nI t)), (1, .int (nI x)), (2, .int (nI y))] → W p l e (headSpec (ws_ yX0_openApply cX0_openApply 7 (some .int)) ({ frames := 1, cells := 0, slots := 0, locals := 20 })).room s m ([.int (nI t), .int (nI x), .int (nI y)] : List Value).toArray below meth c s.heap [] 0 0 (MQ below (vp_Si (fun r => r = nI (oa t x y))) ([.int (nI t), .int (nI x), .int (nI y)] : List Value).toArray s 0 0 (fun _ => False)) (F0 m 121 ls [.int (nI b)]) := by
    intro b hb3 eb ht ls hl
    refine lv_istore (lv' := [(6, .int (nI b)), (0, .int (nI t)), (1, .int (nI x)), (2, .int (nI y))]) hx hb dX0_openApply_121 hl (by decide) rfl (fun ls hl => ?_)
    refine lv_iload_n hx hb dX0_openApply_123 rfl (lv_at hl 1 rfl) ?_
    refine lv_iconst (v := nI 1) hx hb dX0_openApply_124 (by decide) ?_
    refine k_ne (by omega) (by omega) (tgt := 133) hx hb dX0_openApply_125 (by decide) (fun c1 => ?_) (fun c1 => ?_)
    · refine lv_iload hx hb dX0_openApply_133 (lv_at hl 0 rfl) ?_
      refine k_callS (As := [.int (nI b)]) (rest := []) ⟨hx, hb, hml, hown, hts⟩ (mS_turned l b hb3) (va_cwS 1 hts (lw_S q128 q129 q10 q130) rfl rfl rfl (by decide +kernel) ⟨Nat.le_of_ble_eq_true rfl, Nat.le_of_ble_eq_true rfl⟩) rfl hl.1 rfl (Nat.le_of_ble_eq_true rfl) dX0_openApply_135 ⟨Nat.zero_le _, Nat.zero_le _⟩ (fun r hp => ?_)
      exact W.iret (v := r) hx hb hr (fun t9 ht9 _ => ⟨r, rfl, by rw [hp, eb]; unfold oa; rw [if_neg (by omega), if_pos ht, if_neg c1], ht9⟩) (fun q h => by cases h) dX0_openApply_138
    · refine lv_iload hx hb dX0_openApply_128 (lv_at hl 0 rfl) ?_
      refine lv_goto (tgt := 138) hx hb dX0_openApply_130 (by decide) ?_
      exact W.iret (v := nI b) hx hb hr (fun t9 ht9 _ => ⟨nI b, rfl, by rw [eb]; unfold oa; rw [if_neg (by omega), if_pos ht, if_pos c1], ht9⟩) (fun q h => by cases h) dX0_openApply_138
  have K48 : ∀ (z o pn : Bool), (z = decide (x = 0 ∨ y = 0)) → (o = decide (x = 1 ∨ y = 1)) → (pn = decide (x = 2 ∨ y = 2)) → ∀ (ls : Array Slot), lv_has ls 7 [(0, .int (nI t)), (1, .int (nI x)), (2, .int (nI y)), (3, .int (bI z)), (4, .int (bI o)), (5, .int (bI pn))] → W p l e (headSpec (ws_ yX0_openApply cX0_openApply 7 (some .int)) ({ frames := 1, cells := 0, slots := 0, locals := 20 })).room s m ([.int (nI t), .int (nI x), .int (nI y)] : List Value).toArray below meth c s.heap [] 0 0 (MQ below (vp_Si (fun r => r = nI (oa t x y))) ([.int (nI t), .int (nI x), .int (nI y)] : List Value).toArray s 0 0 (fun _ => False)) (F0 m 48 ls []) := by
    intro z o pn ez eo ep ls hl
    refine lv_iload_n hx hb dX0_openApply_48 rfl (lv_at hl 0 rfl) ?_
    refine k_if_eq (by omega) (tgt := 57) hx hb dX0_openApply_49 (by decide) (fun c1 => ?_) (fun c1 => ?_)
    · refine lv_iload_n hx hb dX0_openApply_57 rfl (lv_at hl 3 rfl) ?_
      refine k_bif_eq (tgt := 65) hx hb dX0_openApply_58 (by decide) (fun c3 => ?_) (fun c3 => ?_)
      · refine lv_iload hx hb dX0_openApply_65 (lv_at hl 5 rfl) ?_
        refine k_bif_eq (tgt := 74) hx hb dX0_openApply_67 (by decide) (fun c4 => ?_) (fun c4 => ?_)
        · refine lv_iconst (v := nI 1) hx hb dX0_openApply_74 (by decide) ?_
          exact K75 1 (by omega) (by unfold oAnd; rw [if_neg (by exact of_decide_eq_false (ez.symm.trans c3)), if_neg (by exact of_decide_eq_false (ep.symm.trans c4))]) (Or.inl c1) ls (lv_sub hl [0, 1, 2] rfl)
        · refine lv_iconst (v := nI 2) hx hb dX0_openApply_70 (by decide) ?_
          refine lv_goto (tgt := 75) hx hb dX0_openApply_71 (by decide) ?_
          exact K75 2 (by omega) (by unfold oAnd; rw [if_neg (by exact of_decide_eq_false (ez.symm.trans c3)), if_pos (by exact of_decide_eq_true (ep.symm.trans c4))]) (Or.inl c1) ls (lv_sub hl [0, 1, 2] rfl)
      · refine lv_iconst (v := nI 0) hx hb dX0_openApply_61 (by decide) ?_
        refine lv_goto (tgt := 75) hx hb dX0_openApply_62 (by decide) ?_
        exact K75 0 (by omega) (by unfold oAnd; rw [if_pos (by exact of_decide_eq_true (ez.symm.trans c3))]) (Or.inl c1) ls (lv_sub hl [0, 1, 2] rfl)
    · refine lv_iload_n hx hb dX0_openApply_52 rfl (lv_at hl 0 rfl) ?_
      refine lv_iconst (v := nI 3) hx hb dX0_openApply_53 (by decide) ?_
      refine k_ne (by omega) (by omega) (tgt := 92) hx hb dX0_openApply_54 (by decide) (fun c2 => ?_) (fun c2 => ?_)
      · refine lv_iload_n hx hb dX0_openApply_92 rfl (lv_at hl 0 rfl) ?_
        refine lv_iconst (v := nI 1) hx hb dX0_openApply_93 (by decide) ?_
        refine k_eq (by omega) (by omega) (tgt := 102) hx hb dX0_openApply_94 (by decide) (fun c5 => ?_) (fun c5 => ?_)
        · refine lv_iload hx hb dX0_openApply_102 (lv_at hl 4 rfl) ?_
          refine k_bif_eq (tgt := 111) hx hb dX0_openApply_104 (by decide) (fun c3 => ?_) (fun c3 => ?_)
          · refine lv_iload hx hb dX0_openApply_111 (lv_at hl 5 rfl) ?_
            refine k_bif_eq (tgt := 120) hx hb dX0_openApply_113 (by decide) (fun c4 => ?_) (fun c4 => ?_)
            · refine lv_iconst (v := nI 0) hx hb dX0_openApply_120 (by decide) ?_
              exact K121 0 (by omega) (by unfold oOr; rw [if_neg (by exact of_decide_eq_false (eo.symm.trans c3)), if_neg (by exact of_decide_eq_false (ep.symm.trans c4))]) (Or.inl c5) ls (lv_sub hl [0, 1, 2] rfl)
            · refine lv_iconst (v := nI 2) hx hb dX0_openApply_116 (by decide) ?_
              refine lv_goto (tgt := 121) hx hb dX0_openApply_117 (by decide) ?_
              exact K121 2 (by omega) (by unfold oOr; rw [if_neg (by exact of_decide_eq_false (eo.symm.trans c3)), if_pos (by exact of_decide_eq_true (ep.symm.trans c4))]) (Or.inl c5) ls (lv_sub hl [0, 1, 2] rfl)
          · refine lv_iconst (v := nI 1) hx hb dX0_openApply_107 (by decide) ?_
            refine lv_goto (tgt := 121) hx hb dX0_openApply_108 (by decide) ?_
            exact K121 1 (by omega) (by unfold oOr; rw [if_pos (by exact of_decide_eq_true (eo.symm.trans c3))]) (Or.inl c5) ls (lv_sub hl [0, 1, 2] rfl)
        · refine lv_iload_n hx hb dX0_openApply_97 rfl (lv_at hl 0 rfl) ?_
          refine lv_iconst (v := nI 4) hx hb dX0_openApply_98 (by decide) ?_
          refine k_ne (by omega) (by omega) (tgt := 139) hx hb dX0_openApply_99 (by decide) (fun c6 => ?_) (fun c6 => ?_)
          · refine lv_iload_n hx hb dX0_openApply_139 rfl (lv_at hl 0 rfl) ?_
            refine lv_iconst (v := nI 2) hx hb dX0_openApply_140 (by decide) ?_
            refine k_ne (by omega) (by omega) (tgt := 157) hx hb dX0_openApply_141 (by decide) (fun c7 => ?_) (fun c7 => ?_)
            · refine lv_iload_n hx hb dX0_openApply_157 rfl (lv_at hl 1 rfl) ?_
              refine k_callS (As := [.int (nI x)]) (rest := []) ⟨hx, hb, hml, hown, hts⟩ (mS_turned l x hx3) (va_cwS 1 hts (lw_S q128 q129 q10 q130) rfl rfl rfl (by decide +kernel) ⟨Nat.le_of_ble_eq_true rfl, Nat.le_of_ble_eq_true rfl⟩) rfl hl.1 rfl (Nat.le_of_ble_eq_true rfl) dX0_openApply_158 ⟨Nat.zero_le _, Nat.zero_le _⟩ (fun r hp => ?_)
              exact W.iret (v := r) hx hb hr (fun t9 ht9 _ => ⟨r, rfl, by rw [hp]; unfold oa; rw [if_neg (by omega), if_neg (by omega), if_neg (by omega)], ht9⟩) (fun q h => by cases h) dX0_openApply_161
            · refine lv_iload hx hb dX0_openApply_144 (lv_at hl 5 rfl) ?_
              refine k_bif_eq (tgt := 153) hx hb dX0_openApply_146 (by decide) (fun c8 => ?_) (fun c8 => ?_)
              · refine lv_iload_n hx hb dX0_openApply_153 rfl (lv_at hl 1 rfl) ?_
                refine lv_iload_n hx hb dX0_openApply_154 rfl (lv_at hl 2 rfl) ?_
                refine lv_ixor hx hb dX0_openApply_155 ?_
                exact W.iret (v := nI x ^^^ nI y) hx hb hr (fun t9 ht9 _ => ⟨nI x ^^^ nI y, rfl, oa_x hx3 hy3 c7 (by exact of_decide_eq_false (ep.symm.trans c8)), ht9⟩) (fun q h => by cases h) dX0_openApply_156
              · refine lv_iconst (v := nI 2) hx hb dX0_openApply_149 (by decide) ?_
                refine lv_goto (tgt := 156) hx hb dX0_openApply_150 (by decide) ?_
                exact W.iret (v := nI 2) hx hb hr (fun t9 ht9 _ => ⟨nI 2, rfl, by unfold oa; rw [if_neg (by omega), if_neg (by omega), if_pos c7, if_pos (by exact of_decide_eq_true (ep.symm.trans c8))], ht9⟩) (fun q h => by cases h) dX0_openApply_156
          · refine lv_iload hx hb dX0_openApply_102 (lv_at hl 4 rfl) ?_
            refine k_bif_eq (tgt := 111) hx hb dX0_openApply_104 (by decide) (fun c3 => ?_) (fun c3 => ?_)
            · refine lv_iload hx hb dX0_openApply_111 (lv_at hl 5 rfl) ?_
              refine k_bif_eq (tgt := 120) hx hb dX0_openApply_113 (by decide) (fun c4 => ?_) (fun c4 => ?_)
              · refine lv_iconst (v := nI 0) hx hb dX0_openApply_120 (by decide) ?_
                exact K121 0 (by omega) (by unfold oOr; rw [if_neg (by exact of_decide_eq_false (eo.symm.trans c3)), if_neg (by exact of_decide_eq_false (ep.symm.trans c4))]) (Or.inr c6) ls (lv_sub hl [0, 1, 2] rfl)
              · refine lv_iconst (v := nI 2) hx hb dX0_openApply_116 (by decide) ?_
                refine lv_goto (tgt := 121) hx hb dX0_openApply_117 (by decide) ?_
                exact K121 2 (by omega) (by unfold oOr; rw [if_neg (by exact of_decide_eq_false (eo.symm.trans c3)), if_pos (by exact of_decide_eq_true (ep.symm.trans c4))]) (Or.inr c6) ls (lv_sub hl [0, 1, 2] rfl)
            · refine lv_iconst (v := nI 1) hx hb dX0_openApply_107 (by decide) ?_
              refine lv_goto (tgt := 121) hx hb dX0_openApply_108 (by decide) ?_
              exact K121 1 (by omega) (by unfold oOr; rw [if_pos (by exact of_decide_eq_true (eo.symm.trans c3))]) (Or.inr c6) ls (lv_sub hl [0, 1, 2] rfl)
      · refine lv_iload_n hx hb dX0_openApply_57 rfl (lv_at hl 3 rfl) ?_
        refine k_bif_eq (tgt := 65) hx hb dX0_openApply_58 (by decide) (fun c3 => ?_) (fun c3 => ?_)
        · refine lv_iload hx hb dX0_openApply_65 (lv_at hl 5 rfl) ?_
          refine k_bif_eq (tgt := 74) hx hb dX0_openApply_67 (by decide) (fun c4 => ?_) (fun c4 => ?_)
          · refine lv_iconst (v := nI 1) hx hb dX0_openApply_74 (by decide) ?_
            exact K75 1 (by omega) (by unfold oAnd; rw [if_neg (by exact of_decide_eq_false (ez.symm.trans c3)), if_neg (by exact of_decide_eq_false (ep.symm.trans c4))]) (Or.inr c2) ls (lv_sub hl [0, 1, 2] rfl)
          · refine lv_iconst (v := nI 2) hx hb dX0_openApply_70 (by decide) ?_
            refine lv_goto (tgt := 75) hx hb dX0_openApply_71 (by decide) ?_
            exact K75 2 (by omega) (by unfold oAnd; rw [if_neg (by exact of_decide_eq_false (ez.symm.trans c3)), if_pos (by exact of_decide_eq_true (ep.symm.trans c4))]) (Or.inr c2) ls (lv_sub hl [0, 1, 2] rfl)
        · refine lv_iconst (v := nI 0) hx hb dX0_openApply_61 (by decide) ?_
          refine lv_goto (tgt := 75) hx hb dX0_openApply_62 (by decide) ?_
          exact K75 0 (by omega) (by unfold oAnd; rw [if_pos (by exact of_decide_eq_true (ez.symm.trans c3))]) (Or.inr c2) ls (lv_sub hl [0, 1, 2] rfl)
  have K31 : ∀ (z o : Bool), (z = decide (x = 0 ∨ y = 0)) → (o = decide (x = 1 ∨ y = 1)) → ∀ (ls : Array Slot), lv_has ls 7 [(0, .int (nI t)), (1, .int (nI x)), (2, .int (nI y)), (3, .int (bI z)), (4, .int (bI o))] → W p l e (headSpec (ws_ yX0_openApply cX0_openApply 7 (some .int)) ({ frames := 1, cells := 0, slots := 0, locals := 20 })).room s m ([.int (nI t), .int (nI x), .int (nI y)] : List Value).toArray below meth c s.heap [] 0 0 (MQ below (vp_Si (fun r => r = nI (oa t x y))) ([.int (nI t), .int (nI x), .int (nI y)] : List Value).toArray s 0 0 (fun _ => False)) (F0 m 31 ls []) := by
    intro z o ez eo ls hl
    refine lv_iload_n hx hb dX0_openApply_31 rfl (lv_at hl 1 rfl) ?_
    refine lv_iconst (v := nI 2) hx hb dX0_openApply_32 (by decide) ?_
    refine k_eq (by omega) (by omega) (tgt := 41) hx hb dX0_openApply_33 (by decide) (fun c1 => ?_) (fun c1 => ?_)
    · refine lv_iconst (v := nI 1) hx hb dX0_openApply_41 (by decide) ?_
      refine lv_goto (tgt := 46) hx hb dX0_openApply_42 (by decide) ?_
      refine lv_istore (lv' := [(5, .int (bI true)), (0, .int (nI t)), (1, .int (nI x)), (2, .int (nI y)), (3, .int (bI z)), (4, .int (bI o))]) hx hb dX0_openApply_46 hl (by decide) rfl (fun ls hl => ?_)
      exact K48 z o true ez eo ((decide_eq_true (Or.inl c1)).symm) ls (lv_sub hl [1, 2, 3, 4, 5, 0] rfl)
    · refine lv_iload_n hx hb dX0_openApply_36 rfl (lv_at hl 2 rfl) ?_
      refine lv_iconst (v := nI 2) hx hb dX0_openApply_37 (by decide) ?_
      refine k_ne (by omega) (by omega) (tgt := 45) hx hb dX0_openApply_38 (by decide) (fun c2 => ?_) (fun c2 => ?_)
      · refine lv_iconst (v := nI 0) hx hb dX0_openApply_45 (by decide) ?_
        refine lv_istore (lv' := [(5, .int (bI false)), (0, .int (nI t)), (1, .int (nI x)), (2, .int (nI y)), (3, .int (bI z)), (4, .int (bI o))]) hx hb dX0_openApply_46 hl (by decide) rfl (fun ls hl => ?_)
        exact K48 z o false ez eo ((decide_eq_false (by omega)).symm) ls (lv_sub hl [1, 2, 3, 4, 5, 0] rfl)
      · refine lv_iconst (v := nI 1) hx hb dX0_openApply_41 (by decide) ?_
        refine lv_goto (tgt := 46) hx hb dX0_openApply_42 (by decide) ?_
        refine lv_istore (lv' := [(5, .int (bI true)), (0, .int (nI t)), (1, .int (nI x)), (2, .int (nI y)), (3, .int (bI z)), (4, .int (bI o))]) hx hb dX0_openApply_46 hl (by decide) rfl (fun ls hl => ?_)
        exact K48 z o true ez eo ((decide_eq_true (Or.inr c2)).symm) ls (lv_sub hl [1, 2, 3, 4, 5, 0] rfl)
  have K14 : ∀ (z : Bool), (z = decide (x = 0 ∨ y = 0)) → ∀ (ls : Array Slot), lv_has ls 7 [(0, .int (nI t)), (1, .int (nI x)), (2, .int (nI y)), (3, .int (bI z))] → W p l e (headSpec (ws_ yX0_openApply cX0_openApply 7 (some .int)) ({ frames := 1, cells := 0, slots := 0, locals := 20 })).room s m ([.int (nI t), .int (nI x), .int (nI y)] : List Value).toArray below meth c s.heap [] 0 0 (MQ below (vp_Si (fun r => r = nI (oa t x y))) ([.int (nI t), .int (nI x), .int (nI y)] : List Value).toArray s 0 0 (fun _ => False)) (F0 m 14 ls []) := by
    intro z ez ls hl
    refine lv_iload_n hx hb dX0_openApply_14 rfl (lv_at hl 1 rfl) ?_
    refine lv_iconst (v := nI 1) hx hb dX0_openApply_15 (by decide) ?_
    refine k_eq (by omega) (by omega) (tgt := 24) hx hb dX0_openApply_16 (by decide) (fun c1 => ?_) (fun c1 => ?_)
    · refine lv_iconst (v := nI 1) hx hb dX0_openApply_24 (by decide) ?_
      refine lv_goto (tgt := 29) hx hb dX0_openApply_25 (by decide) ?_
      refine lv_istore (lv' := [(4, .int (bI true)), (0, .int (nI t)), (1, .int (nI x)), (2, .int (nI y)), (3, .int (bI z))]) hx hb dX0_openApply_29 hl (by decide) rfl (fun ls hl => ?_)
      exact K31 z true ez ((decide_eq_true (Or.inl c1)).symm) ls (lv_sub hl [1, 2, 3, 4, 0] rfl)
    · refine lv_iload_n hx hb dX0_openApply_19 rfl (lv_at hl 2 rfl) ?_
      refine lv_iconst (v := nI 1) hx hb dX0_openApply_20 (by decide) ?_
      refine k_ne (by omega) (by omega) (tgt := 28) hx hb dX0_openApply_21 (by decide) (fun c2 => ?_) (fun c2 => ?_)
      · refine lv_iconst (v := nI 0) hx hb dX0_openApply_28 (by decide) ?_
        refine lv_istore (lv' := [(4, .int (bI false)), (0, .int (nI t)), (1, .int (nI x)), (2, .int (nI y)), (3, .int (bI z))]) hx hb dX0_openApply_29 hl (by decide) rfl (fun ls hl => ?_)
        exact K31 z false ez ((decide_eq_false (by omega)).symm) ls (lv_sub hl [1, 2, 3, 4, 0] rfl)
      · refine lv_iconst (v := nI 1) hx hb dX0_openApply_24 (by decide) ?_
        refine lv_goto (tgt := 29) hx hb dX0_openApply_25 (by decide) ?_
        refine lv_istore (lv' := [(4, .int (bI true)), (0, .int (nI t)), (1, .int (nI x)), (2, .int (nI y)), (3, .int (bI z))]) hx hb dX0_openApply_29 hl (by decide) rfl (fun ls hl => ?_)
        exact K31 z true ez ((decide_eq_true (Or.inr c2)).symm) ls (lv_sub hl [1, 2, 3, 4, 0] rfl)
  refine lv_iload_n hx hb dX0_openApply_0 rfl (lv_at hl 1 rfl) ?_
  refine k_if_eq (by omega) (tgt := 8) hx hb dX0_openApply_1 (by decide) (fun c1 => ?_) (fun c1 => ?_)
  · refine lv_iconst (v := nI 1) hx hb dX0_openApply_8 (by decide) ?_
    refine lv_goto (tgt := 13) hx hb dX0_openApply_9 (by decide) ?_
    refine lv_istore_n (lv' := [(3, .int (bI true)), (0, .int (nI t)), (1, .int (nI x)), (2, .int (nI y))]) hx hb dX0_openApply_13 rfl hl (by decide) rfl (fun ls hl => ?_)
    exact K14 true ((decide_eq_true (Or.inl c1)).symm) ls (lv_sub hl [1, 2, 3, 0] rfl)
  · refine lv_iload_n hx hb dX0_openApply_4 rfl (lv_at hl 2 rfl) ?_
    refine k_if_ne (by omega) (tgt := 12) hx hb dX0_openApply_5 (by decide) (fun c2 => ?_) (fun c2 => ?_)
    · refine lv_iconst (v := nI 0) hx hb dX0_openApply_12 (by decide) ?_
      refine lv_istore_n (lv' := [(3, .int (bI false)), (0, .int (nI t)), (1, .int (nI x)), (2, .int (nI y))]) hx hb dX0_openApply_13 rfl hl (by decide) rfl (fun ls hl => ?_)
      exact K14 false ((decide_eq_false (by omega)).symm) ls (lv_sub hl [1, 2, 3, 0] rfl)
    · refine lv_iconst (v := nI 1) hx hb dX0_openApply_8 (by decide) ?_
      refine lv_goto (tgt := 13) hx hb dX0_openApply_9 (by decide) ?_
      refine lv_istore_n (lv' := [(3, .int (bI true)), (0, .int (nI t)), (1, .int (nI x)), (2, .int (nI y))]) hx hb dX0_openApply_13 rfl hl (by decide) rfl (fun ls hl => ?_)
      exact K14 true ((decide_eq_true (Or.inr c2)).symm) ls (lv_sub hl [1, 2, 3, 0] rfl)
end
section
/-! ===== all vectors at once: pure rows ===== -/
theorem sim_s {so : Nat → Int32} {r : Int32} {i : Nat} {V : Nat → Nat → Bool} (h : ∀ j, j < i → ∀ q, q < 32 → bt (so j) q = V q j) (hr : ∀ q, q < 32 → bt r q = V q i) : ∀ j, j < i + 1 → ∀ q, q < 32 → bt (upd so i r j) q = V q j := by
  intro j hj q hq
  by_cases e : j = i
  · subst e; rw [pk_us]; exact hr q hq
  · rw [pk_un e]; exact h j (by omega) q hq
theorem sim_k {so : Nat → Int32} {r : Int32} {i : Nat} {V : Nat → Nat → Bool} (h : ∀ j, j < i → ∀ q, q < 32 → bt (so j) q = V q j) : ∀ j, j < i → ∀ q, q < 32 → bt (upd so i r j) q = V q j := by
  intro j hj q hq
  rw [pk_un (by omega)]
  exact h j hj q hq
theorem sim_in {kk ff ss : Nat → Nat} {ln : Nat} {v : Bool} {i : Nat} (hi : i < 5) (hne : i ≠ ln) : ∀ q, q < 32 → bt (pat i 32) q = vl kk ff ss ln v q i := by
  intro q hq
  rw [pat_bits i (by omega) 32 (by omega) q hq, vl_eq ln v q (fun h => by omega), if_neg hne, if_pos hi, decide_eq_true hq, Bool.true_and]
theorem sim_gate {kk ff ss : Nat → Nat} {so : Nat → Int32} {ln : Nat} {v : Bool} {i : Nat} (hi : 5 ≤ i) (hf : ff i < i) (hs : ss i < i) (hne : i ≠ ln) (h : ∀ j, j < i → ∀ q, q < 32 → bt (so j) q = vl kk ff ss ln v q j) : ∀ q, q < 32 → bt (apI (kk i) (so (ff i)) (so (ss i))) q = vl kk ff ss ln v q i := by
  intro q hq
  rw [ap_bits _ _ _ q hq, h _ hf q hq, h _ hs q hq, vl_eq ln v q (fun _ => ⟨hf, hs⟩), if_neg hne, if_neg (by omega)]
theorem sh_in {kk ff ss : Nat → Nat} {x : Int32} {ln : Nat} {v : Bool} {i : Nat} (hi : i < 5) (hne : i ≠ ln) (h : ∀ q, q < 32 → bt x q = v0 kk ff ss q i) : ∀ q, q < 32 → bt x q = vl kk ff ss ln v q i := by
  intro q hq
  rw [h q hq, show v0 kk ff ss q i = _ from vl_eq 99 false q (fun h => by omega), vl_eq ln v q (fun h => by omega), if_neg hne, if_pos hi, if_neg (by omega), if_pos hi]
theorem sh_ln {kk ff ss : Nat → Nat} {x : Int32} {ln : Nat} {v : Bool} (hf : 5 ≤ ln → ff ln < ln ∧ ss ln < ln) (h : ∀ q, q < 32 → bt x q = v) : ∀ q, q < 32 → bt x q = vl kk ff ss ln v q ln := by
  intro q hq
  rw [h q hq, vl_eq ln v q hf, if_pos rfl]
theorem sto_t {v : Bool} (h : bI v = nI 1) : ∀ q, q < 32 → bt (-1) q = v := by
  intro q hq
  rw [b_m1 q hq]
  cases v
  · exact absurd h (by decide)
  · rfl
theorem sto_f {v : Bool} (h : ¬ bI v = nI 1) : ∀ q, q < 32 → bt (nI 0) q = v := by
  intro q _
  rw [show bt (nI 0) q = false from b_0 q]
  cases v
  · rfl
  · exact absurd rfl h
theorem df_t {kk ff ss : Nat → Nat} {w df x y : Int32} {ln : Nat} {v : Bool} {i : Nat} (hw : bt w i = true) (h : ∀ q, q < 32 → bt df q = shw kk ff ss w ln v q i) (hx : ∀ q, q < 32 → bt x q = v0 kk ff ss q i) (hy : ∀ q, q < 32 → bt y q = vl kk ff ss ln v q i) : ∀ q, q < 32 → bt (df ||| (x ^^^ y)) q = shw kk ff ss w ln v q (i + 1) := by
  intro q hq
  show _ = (shw kk ff ss w ln v q i || (bt w i && (v0 kk ff ss q i ^^ vl kk ff ss ln v q i)))
  rw [b_or, b_xor, h q hq, hx q hq, hy q hq, hw, Bool.true_and]
theorem df_f {kk ff ss : Nat → Nat} {w df : Int32} {ln : Nat} {v : Bool} {i : Nat} (hw : bt w i = false) (h : ∀ q, q < 32 → bt df q = shw kk ff ss w ln v q i) : ∀ q, q < 32 → bt (df ||| nI 0) q = shw kk ff ss w ln v q (i + 1) := by
  intro q hq
  show _ = (shw kk ff ss w ln v q i || (bt w i && (v0 kk ff ss q i ^^ vl kk ff ss ln v q i)))
  rw [b_or, h q hq, hw, Bool.false_and, show bt (nI 0) q = false from b_0 q]

set_option maxHeartbeats 4000000 in
set_option maxRecDepth 100000 in
theorem mA_simulateSound (l : Launch) (D : va_G) (ad : Nat → Nat) (d : Nat → ClassId) (n : Nat) (kk ff ss : Nat → Nat) (w : Int32) (so fa de go ba ma : Nat → Int32) (sz : Nat)  (hw : wfC n kk ff ss) : MetAv l D ad d yX0_simulateSound (ws_ yX0_simulateSound cX0_simulateSound 2 none) ({ frames := 1, cells := 0, slots := 0, locals := 22 }) ((n, kk, ff, ss, w), zz so fa de go ba ma) sz [.ref (ad 0)] (fun u1 : TS => ∃ so1 : Nat → Int32, u1 = ((n, kk, ff, ss, w), zz so1 fa de go ba ma) ∧ ∀ j, j < n → ∀ q, q < 32 → bt (so1 j) q = v0 kk ff ss q j) := by
  refine Met.ofW (cc := cX0_simulateSound) (maxL := 2) (ret := none) (by decide) rfl ?_
  intro p e s m args below meth c s₁ B hml hv
  obtain ⟨rfl, hsz, hP, hK, hD0⟩ := hv
  have hx := B.exec
  have hb := B.bytes
  have hr := B.returns
  have hts := atoms_spec (ws := (ws_ yX0_simulateSound cX0_simulateSound 2 none)) B.pre
  have hts : ∀ w ∈ lw_all, w.before _ s = true := fun w h => hts w (List.mem_cons_of_mem _ h)
  have hown : s.vm.findClass RX0 = some m.cls := findClass_of_methodNamed B.named
  have hlocks := B.notSynchronized
  subst hsz
  have hD := hD0.self (sz := s.heap.size)
  generalize hAe : va_A (wC ad d ((n, kk, ff, ss, w), zz so fa de go ba ma)) s.heap.size = A at hD ⊢
  have hA : ∀ q : Nat, s.heap.size ≤ q → A q := fun q h => by rw [← hAe]; exact Or.inr h
  have hS : va_S A s.heap s.heap [] := va_S.rf
  have hD : va_D A (wB ad d n kk ff ss w so fa de go ba ma) := hD
  have hP : va_P D vwCl (wB ad d n kk ff ss w so fa de go ba ma) s.heap := hP
  have hl := lv_entry ([.ref (ad 0)]) (n := 2) (Nat.le_of_ble_eq_true rfl)
  rw [lg_entry_eq]
  generalize (lg_sl ([.ref (ad 0)]) ++ List.replicate (2 - (lg_sl ([.ref (ad 0)])).length) Slot.unset).toArray = ls at hl ⊢
  have hl : lv_has ls 2 [(0, .ref (ad 0))] := hl
  obtain ⟨hn5, hn16, hwf⟩ := hw
  refine lv_iconst (v := nI 0) hx hb dX0_simulateSound_0 (by decide) ?_
  refine lv_istore_n (lv' := [(1, .int (nI 0)), (0, .ref (ad 0))]) hx hb dX0_simulateSound_1 rfl hl (by decide) rfl (fun ls hl => ?_)
  have loop : ∀ (f i : Nat) (so : Nat → Int32), i ≤ n → n + 1 ≤ i + f → (∀ j, j < i → ∀ q, q < 32 → bt (so j) q = v0 kk ff ss q j) → ∀ (H : Heap) (locs : List Loc), va_P D vwCl (wB ad d n kk ff ss w so fa de go ba ma) H → va_D A (wB ad d n kk ff ss w so fa de go ba ma) → va_S A s.heap H locs → ∀ (ls : Array Slot), lv_has ls 2 [(0, .ref (ad 0)), (1, .int (nI i))] → W p l e (headSpec (ws_ yX0_simulateSound cX0_simulateSound 2 none) ({ frames := 1, cells := 0, slots := 0, locals := 22 })).room s m ([.ref (ad 0)] : List Value).toArray below meth c H locs 0 0 (MQ below (va_Qv (fun u1 : TS => ∃ so1 : Nat → Int32, u1 = ((n, kk, ff, ss, w), zz so1 fa de go ba ma) ∧ ∀ j, j < n → ∀ q, q < 32 → bt (so1 j) q = v0 kk ff ss q j) (BA D ad d A) A) ([.ref (ad 0)] : List Value).toArray s 0 0 A) (F0 m 2 ls []) := by
    intro f
    induction f with
    | zero =>
      intro i so h1 h2
      exact absurd h2 (by omega)
    | succ f ih =>
      intro i so hi hf hso H locs hP hD hS ls hl
      obtain ⟨w1, w2, w3, w4⟩ := hwf i
      refine lv_iload_n hx hb dX0_simulateSound_2 rfl (lv_at hl 1 rfl) ?_
      refine lv_aload_n hx hb dX0_simulateSound_3 rfl (lv_at hl 0 rfl) ?_
      refine va_get (D := D) (ci := 0) (v := .int (nI n)) (C := RX0) (T := TX0) (N := 11) hx hb hts in_X0 hown hK hP 0 rfl rfl 0 (by decide) (hts _ q20) (fun _ h9 => h9) rfl dX0_simulateSound_4 ?_
      refine k_ge (by omega) (by omega) (tgt := 65) hx hb dX0_simulateSound_7 (by decide) (fun c1 => ?_) (fun c1 => ?_)
      · have e : i = n := by omega
        subst e
        exact W.vret hx hb hr (fun t9 ht9 hW9 => ⟨⟨((i, kk, ff, ss, w), zz so fa de go ba ma), rfl, ⟨so, rfl, hso⟩, by rw [ht9]; exact hP, va_K.moved hW9.alike hK, hD⟩, hS.F ht9⟩) hS.2.2 dX0_simulateSound_65
      · refine lv_aload_n hx hb dX0_simulateSound_10 rfl (lv_at hl 0 rfl) ?_
        refine va_get (D := D) (ci := 0) (v := .ref (ad 4)) (C := RX0) (T := TX0) (N := 11) hx hb hts in_X0 hown hK hP 0 rfl rfl 5 (by decide) (hts _ q25) (fun _ h9 => h9) rfl dX0_simulateSound_11 ?_
        refine lv_iload_n hx hb dX0_simulateSound_14 rfl (lv_at hl 1 rfl) ?_
        refine lv_iload_n hx hb dX0_simulateSound_15 rfl (lv_at hl 1 rfl) ?_
        refine lv_iconst (v := nI 5) hx hb dX0_simulateSound_16 (by decide) ?_
        refine k_ge (by omega) (by omega) (tgt := 27) hx hb dX0_simulateSound_17 (by decide) (fun c2 => ?_) (fun c2 => ?_)
        · obtain ⟨w5, w6⟩ := w4 c2
          refine lv_aload_n hx hb dX0_simulateSound_27 rfl (lv_at hl 0 rfl) ?_
          refine va_get (D := D) (ci := 0) (v := .ref (ad 1)) (C := RX0) (T := TX0) (N := 11) hx hb hts in_X0 hown hK hP 0 rfl rfl 1 (by decide) (hts _ q21) (fun _ h9 => h9) rfl dX0_simulateSound_28 ?_
          refine lv_iload_n hx hb dX0_simulateSound_31 rfl (lv_at hl 1 rfl) ?_
          refine k_bld hx hb hK hP 1 0 rfl rfl (v := nI (kk i)) (by decide) (by omega) (rfl) dX0_simulateSound_32 ?_
          refine lv_aload_n hx hb dX0_simulateSound_33 rfl (lv_at hl 0 rfl) ?_
          refine va_get (D := D) (ci := 0) (v := .ref (ad 4)) (C := RX0) (T := TX0) (N := 11) hx hb hts in_X0 hown hK hP 0 rfl rfl 5 (by decide) (hts _ q25) (fun _ h9 => h9) rfl dX0_simulateSound_34 ?_
          refine lv_aload_n hx hb dX0_simulateSound_37 rfl (lv_at hl 0 rfl) ?_
          refine va_get (D := D) (ci := 0) (v := .ref (ad 2)) (C := RX0) (T := TX0) (N := 11) hx hb hts in_X0 hown hK hP 0 rfl rfl 2 (by decide) (hts _ q22) (fun _ h9 => h9) rfl dX0_simulateSound_38 ?_
          refine lv_iload_n hx hb dX0_simulateSound_41 rfl (lv_at hl 1 rfl) ?_
          refine k_bld hx hb hK hP 2 0 rfl rfl (v := nI (ff i)) (by decide) (by omega) (rfl) dX0_simulateSound_42 ?_
          refine k_ild hx hb hK hP 4 1 rfl rfl (v := so (ff i)) (by decide) (by omega) (rfl) dX0_simulateSound_43 ?_
          refine lv_aload_n hx hb dX0_simulateSound_44 rfl (lv_at hl 0 rfl) ?_
          refine va_get (D := D) (ci := 0) (v := .ref (ad 4)) (C := RX0) (T := TX0) (N := 11) hx hb hts in_X0 hown hK hP 0 rfl rfl 5 (by decide) (hts _ q25) (fun _ h9 => h9) rfl dX0_simulateSound_45 ?_
          refine lv_aload_n hx hb dX0_simulateSound_48 rfl (lv_at hl 0 rfl) ?_
          refine va_get (D := D) (ci := 0) (v := .ref (ad 3)) (C := RX0) (T := TX0) (N := 11) hx hb hts in_X0 hown hK hP 0 rfl rfl 3 (by decide) (hts _ q23) (fun _ h9 => h9) rfl dX0_simulateSound_49 ?_
          refine lv_iload_n hx hb dX0_simulateSound_52 rfl (lv_at hl 1 rfl) ?_
          refine k_bld hx hb hK hP 3 0 rfl rfl (v := nI (ss i)) (by decide) (by omega) (rfl) dX0_simulateSound_53 ?_
          refine k_ild hx hb hK hP 4 1 rfl rfl (v := so (ss i)) (by decide) (by omega) (rfl) dX0_simulateSound_54 ?_
          refine k_callS (As := [.int (nI (kk i)), .int (so (ff i)), .int (so (ss i))]) (rest := [.int (nI i), .ref (ad 4)]) ⟨hx, hb, hml, hown, hts⟩ (mS_apply l (kk i) (so (ff i)) (so (ss i)) w1) (va_cwS 3 hts (lw_S q95 q96 q10 q97) rfl rfl rfl (by decide +kernel) ⟨Nat.le_of_ble_eq_true rfl, Nat.le_of_ble_eq_true rfl⟩) rfl hl.1 rfl (Nat.le_of_ble_eq_true rfl) dX0_simulateSound_55 ⟨Nat.zero_le _, Nat.zero_le _⟩ (fun r hp => ?_)
          refine k_ti (y := apI (kk i) (so (ff i)) (so (ss i))) (hp) ?_
          refine k_ist hx hb hK hP hD hS 4 1 rfl rfl (by decide) (by omega) dX0_simulateSound_58 (fun H locs hP hD hS => ?_)
          have hP : va_P D vwCl (wB ad d n kk ff ss w (upd so i (apI (kk i) (so (ff i)) (so (ss i)))) fa de go ba ma) H := hP
          have hD : va_D A (wB ad d n kk ff ss w (upd so i (apI (kk i) (so (ff i)) (so (ss i)))) fa de go ba ma) := hD
          refine lv_iinc (v := nI (i + 1)) (lv' := [(1, .int (nI (i + 1))), (0, .ref (ad 0))]) hx hb dX0_simulateSound_59 hl (k := 1) rfl (k_inc i) (by decide) rfl (fun ls hl => ?_)
          refine lv_goto (tgt := 2) hx hb dX0_simulateSound_62 (by decide) ?_
          exact ih (i + 1) (upd so i (apI (kk i) (so (ff i)) (so (ss i)))) (by omega) (by omega) (sim_s hso (sim_gate c2 w5 w6 (by omega) hso)) _ _ hP hD hS ls (lv_sub hl [1, 0] rfl)
        · refine lv_iload_n hx hb dX0_simulateSound_20 rfl (lv_at hl 1 rfl) ?_
          refine k_callS (As := [.int (nI i)]) (rest := [.int (nI i), .ref (ad 4)]) ⟨hx, hb, hml, hown, hts⟩ (mS_pattern l i c2) (va_cwS 1 hts (lw_S q92 q93 q10 q94) rfl rfl rfl (by decide +kernel) ⟨Nat.le_of_ble_eq_true rfl, Nat.le_of_ble_eq_true rfl⟩) rfl hl.1 rfl (Nat.le_of_ble_eq_true rfl) dX0_simulateSound_21 ⟨Nat.zero_le _, Nat.zero_le _⟩ (fun r hp => ?_)
          refine k_ti (y := pat i 32) (hp) ?_
          refine lv_goto (tgt := 58) hx hb dX0_simulateSound_24 (by decide) ?_
          refine k_ist hx hb hK hP hD hS 4 1 rfl rfl (by decide) (by omega) dX0_simulateSound_58 (fun H locs hP hD hS => ?_)
          have hP : va_P D vwCl (wB ad d n kk ff ss w (upd so i (pat i 32)) fa de go ba ma) H := hP
          have hD : va_D A (wB ad d n kk ff ss w (upd so i (pat i 32)) fa de go ba ma) := hD
          refine lv_iinc (v := nI (i + 1)) (lv' := [(1, .int (nI (i + 1))), (0, .ref (ad 0))]) hx hb dX0_simulateSound_59 hl (k := 1) rfl (k_inc i) (by decide) rfl (fun ls hl => ?_)
          refine lv_goto (tgt := 2) hx hb dX0_simulateSound_62 (by decide) ?_
          exact ih (i + 1) (upd so i (pat i 32)) (by omega) (by omega) (sim_s hso (sim_in c2 (by omega))) _ _ hP hD hS ls (lv_sub hl [1, 0] rfl)
  exact loop (n + 1) 0 so (by omega) (by omega) (fun j h => by omega) _ _ hP hD hS ls (lv_sub hl [1, 0] rfl)

theorem sim_j {so : Nat → Int32} {i : Nat} {V : Nat → Nat → Bool} (h : ∀ j, j < i → ∀ q, q < 32 → bt (so j) q = V q j) (hr : ∀ q, q < 32 → bt (so i) q = V q i) : ∀ j, j < i + 1 → ∀ q, q < 32 → bt (so j) q = V q j := by
  intro j hj q hq
  by_cases e : j = i
  · subst e; exact hr q hq
  · exact h j (by omega) q hq

set_option maxHeartbeats 4000000 in
set_option maxRecDepth 100000 in
theorem mA_shownSet (l : Launch) (D : va_G) (ad : Nat → Nat) (d : Nat → ClassId) (n : Nat) (kk ff ss : Nat → Nat) (w : Int32) (so fa de go ba ma : Nat → Int32) (sz : Nat) (ln : Nat) (v : Bool) (hw : wfC n kk ff ss) (hln : ln < n) : MetA l D ad d yX0_shownSet (ws_ yX0_shownSet cX0_shownSet 5 (some .int)) ({ frames := 2, cells := 0, slots := 0, locals := 43 }) ((n, kk, ff, ss, w), zz so fa de go ba ma) sz [.ref (ad 0), .int (nI ln), .int (bI v)] (fun (r : Int32) (u1 : TS) => ∃ so1 fa1 : Nat → Int32, u1 = ((n, kk, ff, ss, w), zz so1 fa1 de go ba ma) ∧ ∀ q, q < 32 → bt r q = shw kk ff ss w ln v q n) := by
  refine Met.ofW (cc := cX0_shownSet) (maxL := 5) (ret := (some .int)) (by decide) rfl ?_
  intro p e s m args below meth c s₁ B hml hv
  obtain ⟨rfl, hsz, hP, hK, hD0⟩ := hv
  have hx := B.exec
  have hb := B.bytes
  have hr := B.returns
  have hts := atoms_spec (ws := (ws_ yX0_shownSet cX0_shownSet 5 (some .int))) B.pre
  have hts : ∀ w ∈ lw_all, w.before _ s = true := fun w h => hts w (List.mem_cons_of_mem _ h)
  have hown : s.vm.findClass RX0 = some m.cls := findClass_of_methodNamed B.named
  have hlocks := B.notSynchronized
  subst hsz
  have hD := hD0.self (sz := s.heap.size)
  generalize hAe : va_A (wC ad d ((n, kk, ff, ss, w), zz so fa de go ba ma)) s.heap.size = A at hD ⊢
  have hA : ∀ q : Nat, s.heap.size ≤ q → A q := fun q h => by rw [← hAe]; exact Or.inr h
  have hS : va_S A s.heap s.heap [] := va_S.rf
  have hD : va_D A (wB ad d n kk ff ss w so fa de go ba ma) := hD
  have hP : va_P D vwCl (wB ad d n kk ff ss w so fa de go ba ma) s.heap := hP
  have hl := lv_entry ([.ref (ad 0), .int (nI ln), .int (bI v)]) (n := 5) (Nat.le_of_ble_eq_true rfl)
  rw [lg_entry_eq]
  generalize (lg_sl ([.ref (ad 0), .int (nI ln), .int (bI v)]) ++ List.replicate (5 - (lg_sl ([.ref (ad 0), .int (nI ln), .int (bI v)])).length) Slot.unset).toArray = ls at hl ⊢
  have hl : lv_has ls 5 [(0, .ref (ad 0)), (1, .int (nI ln)), (2, .int (bI v))] := hl
  refine lv_aload_n hx hb dX0_shownSet_0 rfl (lv_at hl 0 rfl) ?_
  refine k_callAv (u := ((n, kk, ff, ss, w), zz so fa de go ba ma)) (As := []) (rest := []) ⟨hx, hb, hml, hown, hts⟩ (mA_simulateSound l D ad d n kk ff ss w so fa de go ba ma s.heap.size hw) (cwV 0 hts (lw_V q88 q90 qs1 q10 q91) rfl rfl rfl (by decide +kernel) ⟨Nat.le_of_ble_eq_true rfl, Nat.le_of_ble_eq_true rfl⟩) hP hD hK hS hA rfl hl.1 rfl (Nat.le_of_ble_eq_true rfl) dX0_shownSet_1 ⟨Nat.zero_le _, Nat.zero_le _⟩ (fun u1 H locs hp hP hD hS => ?_)
  obtain ⟨so1, rfl, hso⟩ := hp
  have hP : va_P D vwCl (wB ad d n kk ff ss w so1 fa de go ba ma) H := hP
  have hD : va_D A (wB ad d n kk ff ss w so1 fa de go ba ma) := hD
  obtain ⟨hn5, hn16, hwf⟩ := hw
  refine lv_iconst (v := nI 0) hx hb dX0_shownSet_4 (by decide) ?_
  refine lv_istore_n (lv' := [(3, .int (nI 0)), (0, .ref (ad 0)), (1, .int (nI ln)), (2, .int (bI v))]) hx hb dX0_shownSet_5 rfl hl (by decide) rfl (fun ls hl => ?_)
  refine lv_iconst (v := nI 0) hx hb dX0_shownSet_6 (by decide) ?_
  refine lv_istore (lv' := [(4, .int (nI 0)), (3, .int (nI 0)), (0, .ref (ad 0)), (1, .int (nI ln)), (2, .int (bI v))]) hx hb dX0_shownSet_7 hl (by decide) rfl (fun ls hl => ?_)
  have loop : ∀ (f i : Nat) (fa : Nat → Int32) (df : Int32), i ≤ n → n + 1 ≤ i + f → (∀ j, j < i → ∀ q, q < 32 → bt (fa j) q = vl kk ff ss ln v q j) → (∀ q, q < 32 → bt df q = shw kk ff ss w ln v q i) → ∀ (H : Heap) (locs : List Loc), va_P D vwCl (wB ad d n kk ff ss w so1 fa de go ba ma) H → va_D A (wB ad d n kk ff ss w so1 fa de go ba ma) → va_S A s.heap H locs → ∀ (ls : Array Slot), lv_has ls 5 [(0, .ref (ad 0)), (1, .int (nI ln)), (2, .int (bI v)), (3, .int df), (4, .int (nI i))] → W p l e (headSpec (ws_ yX0_shownSet cX0_shownSet 5 (some .int)) ({ frames := 2, cells := 0, slots := 0, locals := 43 })).room s m ([.ref (ad 0), .int (nI ln), .int (bI v)] : List Value).toArray below meth c H locs 0 0 (MQ below (va_Qi (fun (r : Int32) (u1 : TS) => ∃ so1 fa1 : Nat → Int32, u1 = ((n, kk, ff, ss, w), zz so1 fa1 de go ba ma) ∧ ∀ q, q < 32 → bt r q = shw kk ff ss w ln v q n) (BA D ad d A) A) ([.ref (ad 0), .int (nI ln), .int (bI v)] : List Value).toArray s 0 0 A) (F0 m 9 ls []) := by
    intro f
    induction f with
    | zero =>
      intro i fa df h1 h2
      exact absurd h2 (by omega)
    | succ f ih =>
      intro i fa df hi hf hfa hdf H locs hP hD hS ls hl
      obtain ⟨w1, w2, w3, w4⟩ := hwf i
      refine lv_iload hx hb dX0_shownSet_9 (lv_at hl 4 rfl) ?_
      refine lv_aload_n hx hb dX0_shownSet_11 rfl (lv_at hl 0 rfl) ?_
      refine va_get (D := D) (ci := 0) (v := .int (nI n)) (C := RX0) (T := TX0) (N := 11) hx hb hts in_X0 hown hK hP 0 rfl rfl 0 (by decide) (hts _ q20) (fun _ h9 => h9) rfl dX0_shownSet_12 ?_
      refine k_ge (by omega) (by omega) (tgt := 138) hx hb dX0_shownSet_15 (by decide) (fun c1 => ?_) (fun c1 => ?_)
      · have e : i = n := by omega
        subst e
        refine lv_iload_n hx hb dX0_shownSet_138 rfl (lv_at hl 3 rfl) ?_
        exact W.iret (v := df) hx hb hr (fun t9 ht9 hW9 => ⟨⟨df, ((i, kk, ff, ss, w), zz so1 fa de go ba ma), rfl, ⟨so1, fa, rfl, hdf⟩, by rw [ht9]; exact hP, va_K.moved hW9.alike hK, hD⟩, hS.F ht9⟩) hS.2.2 dX0_shownSet_139
      · have K98 : ∀ (fa2 : Nat → Int32), (∀ j, j < i + 1 → ∀ q, q < 32 → bt (fa2 j) q = vl kk ff ss ln v q j) → ∀ (H : Heap) (locs : List Loc), va_P D vwCl (wB ad d n kk ff ss w so1 fa2 de go ba ma) H → va_D A (wB ad d n kk ff ss w so1 fa2 de go ba ma) → va_S A s.heap H locs → ∀ (ls : Array Slot), lv_has ls 5 [(0, .ref (ad 0)), (1, .int (nI ln)), (2, .int (bI v)), (3, .int df), (4, .int (nI i))] → W p l e (headSpec (ws_ yX0_shownSet cX0_shownSet 5 (some .int)) ({ frames := 2, cells := 0, slots := 0, locals := 43 })).room s m ([.ref (ad 0), .int (nI ln), .int (bI v)] : List Value).toArray below meth c H locs 0 0 (MQ below (va_Qi (fun (r : Int32) (u1 : TS) => ∃ so1 fa1 : Nat → Int32, u1 = ((n, kk, ff, ss, w), zz so1 fa1 de go ba ma) ∧ ∀ q, q < 32 → bt r q = shw kk ff ss w ln v q n) (BA D ad d A) A) ([.ref (ad 0), .int (nI ln), .int (bI v)] : List Value).toArray s 0 0 A) (F0 m 98 ls []) := by
          intro fa2 hfa2 H locs hP hD hS ls hl
          refine lv_iload_n hx hb dX0_shownSet_98 rfl (lv_at hl 3 rfl) ?_
          refine lv_aload_n hx hb dX0_shownSet_99 rfl (lv_at hl 0 rfl) ?_
          refine va_get (D := D) (ci := 0) (v := .int w) (C := RX0) (T := TX0) (N := 11) hx hb hts in_X0 hown hK hP 0 rfl rfl 4 (by decide) (hts _ q24) (fun _ h9 => h9) rfl dX0_shownSet_100 ?_
          refine lv_iload hx hb dX0_shownSet_103 (lv_at hl 4 rfl) ?_
          refine lv_ishr hx hb dX0_shownSet_105 ?_
          refine lv_iconst (v := nI 1) hx hb dX0_shownSet_106 (by decide) ?_
          refine lv_iand hx hb dX0_shownSet_107 ?_
          refine k_ti (y := bI (bt w i)) (e_sshr w i (by omega)) ?_
          refine k_bif_eq (tgt := 129) hx hb dX0_shownSet_108 (by decide) (fun c3 => ?_) (fun c3 => ?_)
          · refine lv_iconst (v := nI 0) hx hb dX0_shownSet_129 (by decide) ?_
            refine lv_ior hx hb dX0_shownSet_130 ?_
            refine lv_istore_n (lv' := [(3, .int (df ||| nI 0)), (0, .ref (ad 0)), (1, .int (nI ln)), (2, .int (bI v)), (4, .int (nI i))]) hx hb dX0_shownSet_131 rfl hl (by decide) rfl (fun ls hl => ?_)
            refine lv_iinc (v := nI (i + 1)) (lv' := [(4, .int (nI (i + 1))), (3, .int (df ||| nI 0)), (0, .ref (ad 0)), (1, .int (nI ln)), (2, .int (bI v))]) hx hb dX0_shownSet_132 hl (k := 4) rfl (k_inc i) (by decide) rfl (fun ls hl => ?_)
            refine lv_goto (tgt := 9) hx hb dX0_shownSet_135 (by decide) ?_
            exact ih (i + 1) fa2 (df ||| nI 0) (by omega) (by omega) hfa2 (df_f c3 hdf) _ _ hP hD hS ls (lv_sub hl [2, 3, 4, 1, 0] rfl)
          · refine lv_aload_n hx hb dX0_shownSet_111 rfl (lv_at hl 0 rfl) ?_
            refine va_get (D := D) (ci := 0) (v := .ref (ad 4)) (C := RX0) (T := TX0) (N := 11) hx hb hts in_X0 hown hK hP 0 rfl rfl 5 (by decide) (hts _ q25) (fun _ h9 => h9) rfl dX0_shownSet_112 ?_
            refine lv_iload hx hb dX0_shownSet_115 (lv_at hl 4 rfl) ?_
            refine k_ild hx hb hK hP 4 1 rfl rfl (v := so1 i) (by decide) (by omega) (rfl) dX0_shownSet_117 ?_
            refine lv_aload_n hx hb dX0_shownSet_118 rfl (lv_at hl 0 rfl) ?_
            refine va_get (D := D) (ci := 0) (v := .ref (ad 5)) (C := RX0) (T := TX0) (N := 11) hx hb hts in_X0 hown hK hP 0 rfl rfl 6 (by decide) (hts _ q26) (fun _ h9 => h9) rfl dX0_shownSet_119 ?_
            refine lv_iload hx hb dX0_shownSet_122 (lv_at hl 4 rfl) ?_
            refine k_ild hx hb hK hP 5 1 rfl rfl (v := fa2 i) (by decide) (by omega) (rfl) dX0_shownSet_124 ?_
            refine lv_ixor hx hb dX0_shownSet_125 ?_
            refine lv_goto (tgt := 130) hx hb dX0_shownSet_126 (by decide) ?_
            refine lv_ior hx hb dX0_shownSet_130 ?_
            refine lv_istore_n (lv' := [(3, .int (df ||| ((so1 i) ^^^ (fa2 i)))), (0, .ref (ad 0)), (1, .int (nI ln)), (2, .int (bI v)), (4, .int (nI i))]) hx hb dX0_shownSet_131 rfl hl (by decide) rfl (fun ls hl => ?_)
            refine lv_iinc (v := nI (i + 1)) (lv' := [(4, .int (nI (i + 1))), (3, .int (df ||| ((so1 i) ^^^ (fa2 i)))), (0, .ref (ad 0)), (1, .int (nI ln)), (2, .int (bI v))]) hx hb dX0_shownSet_132 hl (k := 4) rfl (k_inc i) (by decide) rfl (fun ls hl => ?_)
            refine lv_goto (tgt := 9) hx hb dX0_shownSet_135 (by decide) ?_
            exact ih (i + 1) fa2 (df ||| ((so1 i) ^^^ (fa2 i))) (by omega) (by omega) hfa2 (df_t c3 hdf (hso i c1) (hfa2 i (by omega))) _ _ hP hD hS ls (lv_sub hl [2, 3, 4, 1, 0] rfl)
        have K75 : ∀ (fa1 : Nat → Int32), (∀ j, j < i → ∀ q, q < 32 → bt (fa1 j) q = vl kk ff ss ln v q j) → (i ≠ ln → ∀ q, q < 32 → bt (fa1 i) q = vl kk ff ss ln v q i) → ∀ (H : Heap) (locs : List Loc), va_P D vwCl (wB ad d n kk ff ss w so1 fa1 de go ba ma) H → va_D A (wB ad d n kk ff ss w so1 fa1 de go ba ma) → va_S A s.heap H locs → ∀ (ls : Array Slot), lv_has ls 5 [(0, .ref (ad 0)), (1, .int (nI ln)), (2, .int (bI v)), (3, .int df), (4, .int (nI i))] → W p l e (headSpec (ws_ yX0_shownSet cX0_shownSet 5 (some .int)) ({ frames := 2, cells := 0, slots := 0, locals := 43 })).room s m ([.ref (ad 0), .int (nI ln), .int (bI v)] : List Value).toArray below meth c H locs 0 0 (MQ below (va_Qi (fun (r : Int32) (u1 : TS) => ∃ so1 fa1 : Nat → Int32, u1 = ((n, kk, ff, ss, w), zz so1 fa1 de go ba ma) ∧ ∀ q, q < 32 → bt r q = shw kk ff ss w ln v q n) (BA D ad d A) A) ([.ref (ad 0), .int (nI ln), .int (bI v)] : List Value).toArray s 0 0 A) (F0 m 75 ls []) := by
          intro fa1 hfa1 hr1 H locs hP hD hS ls hl
          refine lv_iload hx hb dX0_shownSet_75 (lv_at hl 4 rfl) ?_
          refine lv_iload_n hx hb dX0_shownSet_77 rfl (lv_at hl 1 rfl) ?_
          refine k_ne (by omega) (by omega) (tgt := 98) hx hb dX0_shownSet_78 (by decide) (fun c4 => ?_) (fun c4 => ?_)
          · exact K98 fa1 (sim_j hfa1 (hr1 c4)) _ _ hP hD hS ls (lv_sub hl [0, 1, 2, 3, 4] rfl)
          · refine lv_aload_n hx hb dX0_shownSet_81 rfl (lv_at hl 0 rfl) ?_
            refine va_get (D := D) (ci := 0) (v := .ref (ad 5)) (C := RX0) (T := TX0) (N := 11) hx hb hts in_X0 hown hK hP 0 rfl rfl 6 (by decide) (hts _ q26) (fun _ h9 => h9) rfl dX0_shownSet_82 ?_
            refine lv_iload hx hb dX0_shownSet_85 (lv_at hl 4 rfl) ?_
            refine lv_iload_n hx hb dX0_shownSet_87 rfl (lv_at hl 2 rfl) ?_
            refine lv_iconst (v := nI 1) hx hb dX0_shownSet_88 (by decide) ?_
            refine lv_icmp_ne (tgt := 96) hx hb dX0_shownSet_89 (by decide) (fun c5 => ?_) (fun c5 => ?_)
            · refine lv_iconst (v := nI 0) hx hb dX0_shownSet_96 (by decide) ?_
              refine k_ist hx hb hK hP hD hS 5 1 rfl rfl (by decide) (by omega) dX0_shownSet_97 (fun H locs hP hD hS => ?_)
              have hP : va_P D vwCl (wB ad d n kk ff ss w so1 (upd fa1 i (nI 0)) de go ba ma) H := hP
              have hD : va_D A (wB ad d n kk ff ss w so1 (upd fa1 i (nI 0)) de go ba ma) := hD
              exact K98 (upd fa1 i (nI 0)) (by subst c4; exact sim_s hfa1 (sh_ln w4 (sto_f c5))) _ _ hP hD hS ls (lv_sub hl [0, 1, 2, 3, 4] rfl)
            · refine lv_iconst (v := (-1)) hx hb dX0_shownSet_92 (by decide) ?_
              refine lv_goto (tgt := 97) hx hb dX0_shownSet_93 (by decide) ?_
              refine k_ist hx hb hK hP hD hS 5 1 rfl rfl (by decide) (by omega) dX0_shownSet_97 (fun H locs hP hD hS => ?_)
              have hP : va_P D vwCl (wB ad d n kk ff ss w so1 (upd fa1 i (-1)) de go ba ma) H := hP
              have hD : va_D A (wB ad d n kk ff ss w so1 (upd fa1 i (-1)) de go ba ma) := hD
              exact K98 (upd fa1 i (-1)) (by subst c4; exact sim_s hfa1 (sh_ln w4 (sto_t c5))) _ _ hP hD hS ls (lv_sub hl [0, 1, 2, 3, 4] rfl)
        refine lv_aload_n hx hb dX0_shownSet_18 rfl (lv_at hl 0 rfl) ?_
        refine va_get (D := D) (ci := 0) (v := .ref (ad 5)) (C := RX0) (T := TX0) (N := 11) hx hb hts in_X0 hown hK hP 0 rfl rfl 6 (by decide) (hts _ q26) (fun _ h9 => h9) rfl dX0_shownSet_19 ?_
        refine lv_iload hx hb dX0_shownSet_22 (lv_at hl 4 rfl) ?_
        refine lv_iload hx hb dX0_shownSet_24 (lv_at hl 4 rfl) ?_
        refine lv_iconst (v := nI 5) hx hb dX0_shownSet_26 (by decide) ?_
        refine k_ge (by omega) (by omega) (tgt := 40) hx hb dX0_shownSet_27 (by decide) (fun c2 => ?_) (fun c2 => ?_)
        · obtain ⟨w5, w6⟩ := w4 c2
          refine lv_aload_n hx hb dX0_shownSet_40 rfl (lv_at hl 0 rfl) ?_
          refine va_get (D := D) (ci := 0) (v := .ref (ad 1)) (C := RX0) (T := TX0) (N := 11) hx hb hts in_X0 hown hK hP 0 rfl rfl 1 (by decide) (hts _ q21) (fun _ h9 => h9) rfl dX0_shownSet_41 ?_
          refine lv_iload hx hb dX0_shownSet_44 (lv_at hl 4 rfl) ?_
          refine k_bld hx hb hK hP 1 0 rfl rfl (v := nI (kk i)) (by decide) (by omega) (rfl) dX0_shownSet_46 ?_
          refine lv_aload_n hx hb dX0_shownSet_47 rfl (lv_at hl 0 rfl) ?_
          refine va_get (D := D) (ci := 0) (v := .ref (ad 5)) (C := RX0) (T := TX0) (N := 11) hx hb hts in_X0 hown hK hP 0 rfl rfl 6 (by decide) (hts _ q26) (fun _ h9 => h9) rfl dX0_shownSet_48 ?_
          refine lv_aload_n hx hb dX0_shownSet_51 rfl (lv_at hl 0 rfl) ?_
          refine va_get (D := D) (ci := 0) (v := .ref (ad 2)) (C := RX0) (T := TX0) (N := 11) hx hb hts in_X0 hown hK hP 0 rfl rfl 2 (by decide) (hts _ q22) (fun _ h9 => h9) rfl dX0_shownSet_52 ?_
          refine lv_iload hx hb dX0_shownSet_55 (lv_at hl 4 rfl) ?_
          refine k_bld hx hb hK hP 2 0 rfl rfl (v := nI (ff i)) (by decide) (by omega) (rfl) dX0_shownSet_57 ?_
          refine k_ild hx hb hK hP 5 1 rfl rfl (v := fa (ff i)) (by decide) (by omega) (rfl) dX0_shownSet_58 ?_
          refine lv_aload_n hx hb dX0_shownSet_59 rfl (lv_at hl 0 rfl) ?_
          refine va_get (D := D) (ci := 0) (v := .ref (ad 5)) (C := RX0) (T := TX0) (N := 11) hx hb hts in_X0 hown hK hP 0 rfl rfl 6 (by decide) (hts _ q26) (fun _ h9 => h9) rfl dX0_shownSet_60 ?_
          refine lv_aload_n hx hb dX0_shownSet_63 rfl (lv_at hl 0 rfl) ?_
          refine va_get (D := D) (ci := 0) (v := .ref (ad 3)) (C := RX0) (T := TX0) (N := 11) hx hb hts in_X0 hown hK hP 0 rfl rfl 3 (by decide) (hts _ q23) (fun _ h9 => h9) rfl dX0_shownSet_64 ?_
          refine lv_iload hx hb dX0_shownSet_67 (lv_at hl 4 rfl) ?_
          refine k_bld hx hb hK hP 3 0 rfl rfl (v := nI (ss i)) (by decide) (by omega) (rfl) dX0_shownSet_69 ?_
          refine k_ild hx hb hK hP 5 1 rfl rfl (v := fa (ss i)) (by decide) (by omega) (rfl) dX0_shownSet_70 ?_
          refine k_callS (As := [.int (nI (kk i)), .int (fa (ff i)), .int (fa (ss i))]) (rest := [.int (nI i), .ref (ad 5)]) ⟨hx, hb, hml, hown, hts⟩ (mS_apply l (kk i) (fa (ff i)) (fa (ss i)) w1) (va_cwS 3 hts (lw_S q95 q96 q10 q97) rfl rfl rfl (by decide +kernel) ⟨Nat.le_of_ble_eq_true rfl, Nat.le_of_ble_eq_true rfl⟩) rfl hl.1 rfl (Nat.le_of_ble_eq_true rfl) dX0_shownSet_71 ⟨Nat.zero_le _, Nat.zero_le _⟩ (fun r hp => ?_)
          refine k_ti (y := apI (kk i) (fa (ff i)) (fa (ss i))) (hp) ?_
          refine k_ist hx hb hK hP hD hS 5 1 rfl rfl (by decide) (by omega) dX0_shownSet_74 (fun H locs hP hD hS => ?_)
          have hP : va_P D vwCl (wB ad d n kk ff ss w so1 (upd fa i (apI (kk i) (fa (ff i)) (fa (ss i)))) de go ba ma) H := hP
          have hD : va_D A (wB ad d n kk ff ss w so1 (upd fa i (apI (kk i) (fa (ff i)) (fa (ss i)))) de go ba ma) := hD
          exact K75 (upd fa i (apI (kk i) (fa (ff i)) (fa (ss i)))) (sim_k hfa) (fun hne => by rw [pk_us]; exact sim_gate c2 w5 w6 hne hfa) _ _ hP hD hS ls (lv_sub hl [0, 1, 2, 3, 4] rfl)
        · refine lv_aload_n hx hb dX0_shownSet_30 rfl (lv_at hl 0 rfl) ?_
          refine va_get (D := D) (ci := 0) (v := .ref (ad 4)) (C := RX0) (T := TX0) (N := 11) hx hb hts in_X0 hown hK hP 0 rfl rfl 5 (by decide) (hts _ q25) (fun _ h9 => h9) rfl dX0_shownSet_31 ?_
          refine lv_iload hx hb dX0_shownSet_34 (lv_at hl 4 rfl) ?_
          refine k_ild hx hb hK hP 4 1 rfl rfl (v := so1 i) (by decide) (by omega) (rfl) dX0_shownSet_36 ?_
          refine lv_goto (tgt := 74) hx hb dX0_shownSet_37 (by decide) ?_
          refine k_ist hx hb hK hP hD hS 5 1 rfl rfl (by decide) (by omega) dX0_shownSet_74 (fun H locs hP hD hS => ?_)
          have hP : va_P D vwCl (wB ad d n kk ff ss w so1 (upd fa i (so1 i)) de go ba ma) H := hP
          have hD : va_D A (wB ad d n kk ff ss w so1 (upd fa i (so1 i)) de go ba ma) := hD
          exact K75 (upd fa i (so1 i)) (sim_k hfa) (fun hne => by rw [pk_us]; exact sh_in c2 hne (hso i c1)) _ _ hP hD hS ls (lv_sub hl [0, 1, 2, 3, 4] rfl)
  exact loop (n + 1) 0 fa (nI 0) (by omega) (by omega) (fun j h => by omega) (fun q _ => b_0 q) _ _ hP hD hS ls (lv_sub hl [2, 3, 4, 1, 0] rfl)
end
section
theorem iInv_a {kk ff ss : Nat → Nat} {w : Int32} {ln : Nat} {v : Bool} {dc : Nat → Nat} {i : Nat} {go ba ma : Nat → Int32} {a : Nat} (H : iInv kk ff ss w ln v dc i go ba ma a) : a < 3 := by
  obtain ⟨_, _, _, -, h, -⟩ := H
  exact h
theorem k_nbB (v : Bool) : (bI v).toInt8.toInt32 = bI v := by cases v <;> decide +kernel
theorem k_vbB (v : Bool) : vp_nar .byte (bI v) = bI v := by cases v <;> decide +kernel
theorem stT {g b : Nat} {st : Bool} (h : st = (decide (g ≠ 2) && decide (b ≠ 2))) (c : st = true) : g ≠ 2 ∧ b ≠ 2 := by
  rw [h, Bool.and_eq_true] at c
  exact ⟨of_decide_eq_true c.1, of_decide_eq_true c.2⟩
theorem stF {g b : Nat} {st : Bool} (h : st = (decide (g ≠ 2) && decide (b ≠ 2))) (c : st = false) : ¬ (g ≠ 2 ∧ b ≠ 2) := by
  rintro ⟨h1, h2⟩
  rw [h, decide_eq_true h1, decide_eq_true h2] at c
  exact absurd c (by decide)

set_option maxHeartbeats 4000000 in
set_option maxRecDepth 100000 in
theorem mA_imply (l : Launch) (D : va_G) (ad : Nat → Nat) (d : Nat → ClassId) (n : Nat) (kk ff ss : Nat → Nat) (w : Int32) (so fa de go ba ma : Nat → Int32) (sz : Nat) (ln : Nat) (v : Bool) (dc : Nat → Nat) (hw : wfC n kk ff ss) (hln : ln < n) (hdc : ∀ j, j < 5 → de j = nI (dc j) ∧ dc j < 3) : MetA l D ad d yX0_imply (ws_ yX0_imply cX0_imply 7 (some .int)) ({ frames := 2, cells := 0, slots := 0, locals := 46 }) ((n, kk, ff, ss, w), zz so fa de go ba ma) sz [.ref (ad 0), .int (nI ln), .int (bI v)] (fun (r : Int32) (u1 : TS) => ∃ (go1 ba1 ma1 : Nat → Int32) (a : Nat), u1 = ((n, kk, ff, ss, w), zz so fa de go1 ba1 ma1) ∧ r = nI a ∧ iEnd kk ff ss w n ln v dc a) := by
  refine Met.ofW (cc := cX0_imply) (maxL := 7) (ret := (some .int)) (by decide) rfl ?_
  intro p e s m args below meth c s₁ B hml hv
  obtain ⟨rfl, hsz, hP, hK, hD0⟩ := hv
  have hx := B.exec
  have hb := B.bytes
  have hr := B.returns
  have hts := atoms_spec (ws := (ws_ yX0_imply cX0_imply 7 (some .int))) B.pre
  have hts : ∀ w ∈ lw_all, w.before _ s = true := fun w h => hts w (List.mem_cons_of_mem _ h)
  have hown : s.vm.findClass RX0 = some m.cls := findClass_of_methodNamed B.named
  have hlocks := B.notSynchronized
  subst hsz
  have hD := hD0.self (sz := s.heap.size)
  generalize hAe : va_A (wC ad d ((n, kk, ff, ss, w), zz so fa de go ba ma)) s.heap.size = A at hD ⊢
  have hA : ∀ q : Nat, s.heap.size ≤ q → A q := fun q h => by rw [← hAe]; exact Or.inr h
  have hS : va_S A s.heap s.heap [] := va_S.rf
  have hD : va_D A (wB ad d n kk ff ss w so fa de go ba ma) := hD
  have hP : va_P D vwCl (wB ad d n kk ff ss w so fa de go ba ma) s.heap := hP
  have hl := lv_entry ([.ref (ad 0), .int (nI ln), .int (bI v)]) (n := 7) (Nat.le_of_ble_eq_true rfl)
  rw [lg_entry_eq]
  generalize (lg_sl ([.ref (ad 0), .int (nI ln), .int (bI v)]) ++ List.replicate (7 - (lg_sl ([.ref (ad 0), .int (nI ln), .int (bI v)])).length) Slot.unset).toArray = ls at hl ⊢
  have hl : lv_has ls 7 [(0, .ref (ad 0)), (1, .int (nI ln)), (2, .int (bI v))] := hl
  obtain ⟨hn5, hn16, hwf⟩ := hw
  refine lv_iconst (v := nI 0) hx hb dX0_imply_0 (by decide) ?_
  refine lv_istore_n (lv' := [(3, .int (nI 0)), (0, .ref (ad 0)), (1, .int (nI ln)), (2, .int (bI v))]) hx hb dX0_imply_1 rfl hl (by decide) rfl (fun ls hl => ?_)
  refine lv_iconst (v := nI 0) hx hb dX0_imply_2 (by decide) ?_
  refine lv_istore (lv' := [(4, .int (nI 0)), (3, .int (nI 0)), (0, .ref (ad 0)), (1, .int (nI ln)), (2, .int (bI v))]) hx hb dX0_imply_3 hl (by decide) rfl (fun ls hl => ?_)
  have loop : ∀ (f i : Nat) (go ba ma : Nat → Int32) (a : Nat), i ≤ n → n + 1 ≤ i + f → (iInv kk ff ss w ln v dc i go ba ma a) → ∀ (H : Heap) (locs : List Loc), va_P D vwCl (wB ad d n kk ff ss w so fa de go ba ma) H → va_D A (wB ad d n kk ff ss w so fa de go ba ma) → va_S A s.heap H locs → ∀ (ls : Array Slot), lv_has ls 7 [(0, .ref (ad 0)), (1, .int (nI ln)), (2, .int (bI v)), (3, .int (nI a)), (4, .int (nI i))] → W p l e (headSpec (ws_ yX0_imply cX0_imply 7 (some .int)) ({ frames := 2, cells := 0, slots := 0, locals := 46 })).room s m ([.ref (ad 0), .int (nI ln), .int (bI v)] : List Value).toArray below meth c H locs 0 0 (MQ below (va_Qi (fun (r : Int32) (u1 : TS) => ∃ (go1 ba1 ma1 : Nat → Int32) (a : Nat), u1 = ((n, kk, ff, ss, w), zz so fa de go1 ba1 ma1) ∧ r = nI a ∧ iEnd kk ff ss w n ln v dc a) (BA D ad d A) A) ([.ref (ad 0), .int (nI ln), .int (bI v)] : List Value).toArray s 0 0 A) (F0 m 5 ls []) := by
    intro f
    induction f with
    | zero =>
      intro i go ba ma a h1 h2
      exact absurd h2 (by omega)
    | succ f ih =>
      intro i go ba ma a hi hf hinv H locs hP hD hS ls hl
      obtain ⟨w1, w2, w3, w4⟩ := hwf i
      have ha3 := iInv_a hinv
      refine lv_iload hx hb dX0_imply_5 (lv_at hl 4 rfl) ?_
      refine lv_aload_n hx hb dX0_imply_7 rfl (lv_at hl 0 rfl) ?_
      refine va_get (D := D) (ci := 0) (v := .int (nI n)) (C := RX0) (T := TX0) (N := 11) hx hb hts in_X0 hown hK hP 0 rfl rfl 0 (by decide) (hts _ q20) (fun _ h9 => h9) rfl dX0_imply_8 ?_
      refine k_ge (by omega) (by omega) (tgt := 305) hx hb dX0_imply_11 (by decide) (fun c1 => ?_) (fun c1 => ?_)
      · have e : i = n := by omega
        subst e
        refine lv_iload_n hx hb dX0_imply_305 rfl (lv_at hl 3 rfl) ?_
        exact W.iret (v := nI a) hx hb hr (fun t9 ht9 hW9 => ⟨⟨nI a, ((i, kk, ff, ss, w), zz so fa de go ba ma), rfl, ⟨go, ba, ma, a, rfl, rfl, iInv_e hinv⟩, by rw [ht9]; exact hP, va_K.moved hW9.alike hK, hD⟩, hS.F ht9⟩) hS.2.2 dX0_imply_306
      · have K193 : ∀ (g1 b2 : Nat) (sp2 : Bool) (go1 ba2 : Nat → Int32), (∀ dv : Bool, dv = (sp2 && !((decide (g1 ≠ 2) && decide (b2 ≠ 2)) && decide (g1 = b2))) → iJ kk ff ss ln v dc i g1 b2 dv) → (g1 < 3) → (b2 < 3) → (go1 i = nI g1) → (ba2 i = nI b2) → (∀ j, j < i → go1 j = go j ∧ ba2 j = ba j) → ∀ (H : Heap) (locs : List Loc), va_P D vwCl (wB ad d n kk ff ss w so fa de go1 ba2 ma) H → va_D A (wB ad d n kk ff ss w so fa de go1 ba2 ma) → va_S A s.heap H locs → ∀ (ls : Array Slot), lv_has ls 7 [(0, .ref (ad 0)), (1, .int (nI ln)), (2, .int (bI v)), (3, .int (nI a)), (4, .int (nI i)), (5, .int (bI sp2))] → W p l e (headSpec (ws_ yX0_imply cX0_imply 7 (some .int)) ({ frames := 2, cells := 0, slots := 0, locals := 46 })).room s m ([.ref (ad 0), .int (nI ln), .int (bI v)] : List Value).toArray below meth c H locs 0 0 (MQ below (va_Qi (fun (r : Int32) (u1 : TS) => ∃ (go1 ba1 ma1 : Nat → Int32) (a : Nat), u1 = ((n, kk, ff, ss, w), zz so fa de go1 ba1 ma1) ∧ r = nI a ∧ iEnd kk ff ss w n ln v dc a) (BA D ad d A) A) ([.ref (ad 0), .int (nI ln), .int (bI v)] : List Value).toArray s 0 0 A) (F0 m 193 ls []) := by
          intro g1 b2 sp2 go1 ba2 hJ hg3 hb3 hg hb2 hne H locs hP hD hS ls hl
          have K222 : ∀ (st : Bool), (st = (decide (g1 ≠ 2) && decide (b2 ≠ 2))) → ∀ (H : Heap) (locs : List Loc), va_P D vwCl (wB ad d n kk ff ss w so fa de go1 ba2 ma) H → va_D A (wB ad d n kk ff ss w so fa de go1 ba2 ma) → va_S A s.heap H locs → ∀ (ls : Array Slot), lv_has ls 7 [(0, .ref (ad 0)), (1, .int (nI ln)), (2, .int (bI v)), (3, .int (nI a)), (4, .int (nI i)), (5, .int (bI sp2)), (6, .int (bI st))] → W p l e (headSpec (ws_ yX0_imply cX0_imply 7 (some .int)) ({ frames := 2, cells := 0, slots := 0, locals := 46 })).room s m ([.ref (ad 0), .int (nI ln), .int (bI v)] : List Value).toArray below meth c H locs 0 0 (MQ below (va_Qi (fun (r : Int32) (u1 : TS) => ∃ (go1 ba1 ma1 : Nat → Int32) (a : Nat), u1 = ((n, kk, ff, ss, w), zz so fa de go1 ba1 ma1) ∧ r = nI a ∧ iEnd kk ff ss w n ln v dc a) (BA D ad d A) A) ([.ref (ad 0), .int (nI ln), .int (bI v)] : List Value).toArray s 0 0 A) (F0 m 222 ls []) := by
            intro st hst H locs hP hD hS ls hl
            have K260 : ∀ (dv : Bool), (dv = (sp2 && !((decide (g1 ≠ 2) && decide (b2 ≠ 2)) && decide (g1 = b2)))) → ∀ (H : Heap) (locs : List Loc), va_P D vwCl (wB ad d n kk ff ss w so fa de go1 ba2 ma) H → va_D A (wB ad d n kk ff ss w so fa de go1 ba2 ma) → va_S A s.heap H locs → ∀ (ls : Array Slot), lv_has ls 7 [(0, .ref (ad 0)), (1, .int (nI ln)), (2, .int (bI v)), (3, .int (nI a)), (4, .int (nI i)), (5, .int (bI sp2)), (6, .int (bI st))] → W p l e (headSpec (ws_ yX0_imply cX0_imply 7 (some .int)) ({ frames := 2, cells := 0, slots := 0, locals := 46 })).room s m ([.ref (ad 0), .int (nI ln), .int (bI v)] : List Value).toArray below meth c H locs 0 0 (MQ below (va_Qi (fun (r : Int32) (u1 : TS) => ∃ (go1 ba1 ma1 : Nat → Int32) (a : Nat), u1 = ((n, kk, ff, ss, w), zz so fa de go1 ba1 ma1) ∧ r = nI a ∧ iEnd kk ff ss w n ln v dc a) (BA D ad d A) A) ([.ref (ad 0), .int (nI ln), .int (bI v)] : List Value).toArray s 0 0 A) (F0 m 260 ls [.int (bI dv), .int (nI i), .ref (ad 9)]) := by
              intro dv hd H locs hP hD hS ls hl
              refine k_zst hx hb hK hP hD hS 9 2 rfl rfl (y := bI dv) (by decide) (by omega) (k_vz _) dX0_imply_260 (fun H locs hP hD hS => ?_)
              have hP : va_P D vwCl (wB ad d n kk ff ss w so fa de go1 ba2 (upd ma i (bI dv))) H := hP
              have hD : va_D A (wB ad d n kk ff ss w so fa de go1 ba2 (upd ma i (bI dv))) := hD
              refine lv_aload_n hx hb dX0_imply_261 rfl (lv_at hl 0 rfl) ?_
              refine va_get (D := D) (ci := 0) (v := .int w) (C := RX0) (T := TX0) (N := 11) hx hb hts in_X0 hown hK hP 0 rfl rfl 4 (by decide) (hts _ q24) (fun _ h9 => h9) rfl dX0_imply_262 ?_
              refine lv_iload hx hb dX0_imply_265 (lv_at hl 4 rfl) ?_
              refine lv_ishr hx hb dX0_imply_267 ?_
              refine lv_iconst (v := nI 1) hx hb dX0_imply_268 (by decide) ?_
              refine lv_iand hx hb dX0_imply_269 ?_
              refine k_ti (y := bI (bt w i)) (e_sshr w i (by omega)) ?_
              refine k_bif_eq (tgt := 299) hx hb dX0_imply_270 (by decide) (fun c5 => ?_) (fun c5 => ?_)
              · refine lv_iinc (v := nI (i + 1)) (lv' := [(4, .int (nI (i + 1))), (0, .ref (ad 0)), (1, .int (nI ln)), (2, .int (bI v)), (3, .int (nI a)), (5, .int (bI sp2)), (6, .int (bI st))]) hx hb dX0_imply_299 hl (k := 4) rfl (k_inc i) (by decide) rfl (fun ls hl => ?_)
                refine lv_goto (tgt := 5) hx hb dX0_imply_302 (by decide) ?_
                exact ih (i + 1) go1 ba2 (upd ma i (bI dv)) a (by omega) (by omega) (iInv_s hinv (fun j hj => ⟨(hne j hj).1, (hne j hj).2, pk_un (by omega)⟩) hg hb2 pk_us (hJ dv hd) ((if_neg (by simp [c5])).symm)) _ _ hP hD hS ls (lv_sub hl [1, 2, 3, 4, 0] rfl)
              · refine lv_aload_n hx hb dX0_imply_273 rfl (lv_at hl 0 rfl) ?_
                refine va_get (D := D) (ci := 0) (v := .ref (ad 9)) (C := RX0) (T := TX0) (N := 11) hx hb hts in_X0 hown hK hP 0 rfl rfl 10 (by decide) (hts _ q30) (fun _ h9 => h9) rfl dX0_imply_274 ?_
                refine lv_iload hx hb dX0_imply_277 (lv_at hl 4 rfl) ?_
                refine k_zld hx hb hK hP 9 2 rfl rfl (v := bI dv) (by decide) (by omega) (pk_us) dX0_imply_279 ?_
                refine k_bif_eq (tgt := 299) hx hb dX0_imply_280 (by decide) (fun c6 => ?_) (fun c6 => ?_)
                · refine lv_iinc (v := nI (i + 1)) (lv' := [(4, .int (nI (i + 1))), (0, .ref (ad 0)), (1, .int (nI ln)), (2, .int (bI v)), (3, .int (nI a)), (5, .int (bI sp2)), (6, .int (bI st))]) hx hb dX0_imply_299 hl (k := 4) rfl (k_inc i) (by decide) rfl (fun ls hl => ?_)
                  refine lv_goto (tgt := 5) hx hb dX0_imply_302 (by decide) ?_
                  exact ih (i + 1) go1 ba2 (upd ma i (bI dv)) a (by omega) (by omega) (iInv_s hinv (fun j hj => ⟨(hne j hj).1, (hne j hj).2, pk_un (by omega)⟩) hg hb2 pk_us (hJ dv hd) ((if_neg (by simp [c6])).symm)) _ _ hP hD hS ls (lv_sub hl [1, 2, 3, 4, 0] rfl)
                · refine lv_iload_n hx hb dX0_imply_283 rfl (lv_at hl 3 rfl) ?_
                  refine lv_iconst (v := nI 1) hx hb dX0_imply_284 (by decide) ?_
                  refine k_eq (by omega) (by omega) (tgt := 299) hx hb dX0_imply_285 (by decide) (fun c7 => ?_) (fun c7 => ?_)
                  · refine lv_iinc (v := nI (i + 1)) (lv' := [(4, .int (nI (i + 1))), (0, .ref (ad 0)), (1, .int (nI ln)), (2, .int (bI v)), (3, .int (nI a)), (5, .int (bI sp2)), (6, .int (bI st))]) hx hb dX0_imply_299 hl (k := 4) rfl (k_inc i) (by decide) rfl (fun ls hl => ?_)
                    refine lv_goto (tgt := 5) hx hb dX0_imply_302 (by decide) ?_
                    exact ih (i + 1) go1 ba2 (upd ma i (bI dv)) a (by omega) (by omega) (iInv_s hinv (fun j hj => ⟨(hne j hj).1, (hne j hj).2, pk_un (by omega)⟩) hg hb2 pk_us (hJ dv hd) ((if_neg (by simp [c7])).symm)) _ _ hP hD hS ls (lv_sub hl [1, 2, 3, 4, 0] rfl)
                  · refine lv_iload hx hb dX0_imply_288 (lv_at hl 6 rfl) ?_
                    refine k_bif_eq (tgt := 297) hx hb dX0_imply_290 (by decide) (fun c8 => ?_) (fun c8 => ?_)
                    · refine lv_iconst (v := nI 2) hx hb dX0_imply_297 (by decide) ?_
                      refine lv_istore_n (lv' := [(3, .int (nI 2)), (0, .ref (ad 0)), (1, .int (nI ln)), (2, .int (bI v)), (4, .int (nI i)), (5, .int (bI sp2)), (6, .int (bI st))]) hx hb dX0_imply_298 rfl hl (by decide) rfl (fun ls hl => ?_)
                      refine lv_iinc (v := nI (i + 1)) (lv' := [(4, .int (nI (i + 1))), (3, .int (nI 2)), (0, .ref (ad 0)), (1, .int (nI ln)), (2, .int (bI v)), (5, .int (bI sp2)), (6, .int (bI st))]) hx hb dX0_imply_299 hl (k := 4) rfl (k_inc i) (by decide) rfl (fun ls hl => ?_)
                      refine lv_goto (tgt := 5) hx hb dX0_imply_302 (by decide) ?_
                      exact ih (i + 1) go1 ba2 (upd ma i (bI dv)) 2 (by omega) (by omega) (iInv_s hinv (fun j hj => ⟨(hne j hj).1, (hne j hj).2, pk_un (by omega)⟩) hg hb2 pk_us (hJ dv hd) (by rw [if_pos (by simp [c5, c6, c7]), if_neg (stF hst c8)])) _ _ hP hD hS ls (lv_sub hl [2, 3, 4, 1, 0] rfl)
                    · refine lv_iconst (v := nI 1) hx hb dX0_imply_293 (by decide) ?_
                      refine lv_goto (tgt := 298) hx hb dX0_imply_294 (by decide) ?_
                      refine lv_istore_n (lv' := [(3, .int (nI 1)), (0, .ref (ad 0)), (1, .int (nI ln)), (2, .int (bI v)), (4, .int (nI i)), (5, .int (bI sp2)), (6, .int (bI st))]) hx hb dX0_imply_298 rfl hl (by decide) rfl (fun ls hl => ?_)
                      refine lv_iinc (v := nI (i + 1)) (lv' := [(4, .int (nI (i + 1))), (3, .int (nI 1)), (0, .ref (ad 0)), (1, .int (nI ln)), (2, .int (bI v)), (5, .int (bI sp2)), (6, .int (bI st))]) hx hb dX0_imply_299 hl (k := 4) rfl (k_inc i) (by decide) rfl (fun ls hl => ?_)
                      refine lv_goto (tgt := 5) hx hb dX0_imply_302 (by decide) ?_
                      exact ih (i + 1) go1 ba2 (upd ma i (bI dv)) 1 (by omega) (by omega) (iInv_s hinv (fun j hj => ⟨(hne j hj).1, (hne j hj).2, pk_un (by omega)⟩) hg hb2 pk_us (hJ dv hd) (by rw [if_pos (by simp [c5, c6, c7]), if_pos (stT hst c8)])) _ _ hP hD hS ls (lv_sub hl [2, 3, 4, 1, 0] rfl)
            refine lv_aload_n hx hb dX0_imply_222 rfl (lv_at hl 0 rfl) ?_
            refine va_get (D := D) (ci := 0) (v := .ref (ad 9)) (C := RX0) (T := TX0) (N := 11) hx hb hts in_X0 hown hK hP 0 rfl rfl 10 (by decide) (hts _ q30) (fun _ h9 => h9) rfl dX0_imply_223 ?_
            refine lv_iload hx hb dX0_imply_226 (lv_at hl 4 rfl) ?_
            refine lv_iload hx hb dX0_imply_228 (lv_at hl 5 rfl) ?_
            refine k_bif_eq (tgt := 259) hx hb dX0_imply_230 (by decide) (fun c9 => ?_) (fun c9 => ?_)
            · refine lv_iconst (v := nI 0) hx hb dX0_imply_259 (by decide) ?_
              exact K260 false (by rw [c9]; rfl) _ _ hP hD hS ls (lv_sub hl [0, 1, 2, 3, 4, 5, 6] rfl)
            · refine lv_iload hx hb dX0_imply_233 (lv_at hl 6 rfl) ?_
              refine k_bif_eq (tgt := 255) hx hb dX0_imply_235 (by decide) (fun c10 => ?_) (fun c10 => ?_)
              · refine lv_iconst (v := nI 1) hx hb dX0_imply_255 (by decide) ?_
                refine lv_goto (tgt := 260) hx hb dX0_imply_256 (by decide) ?_
                exact K260 true (by rw [c9, ← hst, c10]; rfl) _ _ hP hD hS ls (lv_sub hl [0, 1, 2, 3, 4, 5, 6] rfl)
              · refine lv_aload_n hx hb dX0_imply_238 rfl (lv_at hl 0 rfl) ?_
                refine va_get (D := D) (ci := 0) (v := .ref (ad 7)) (C := RX0) (T := TX0) (N := 11) hx hb hts in_X0 hown hK hP 0 rfl rfl 8 (by decide) (hts _ q28) (fun _ h9 => h9) rfl dX0_imply_239 ?_
                refine lv_iload hx hb dX0_imply_242 (lv_at hl 4 rfl) ?_
                refine k_bld hx hb hK hP 7 0 rfl rfl (v := nI g1) (by decide) (by omega) (hg) dX0_imply_244 ?_
                refine lv_aload_n hx hb dX0_imply_245 rfl (lv_at hl 0 rfl) ?_
                refine va_get (D := D) (ci := 0) (v := .ref (ad 8)) (C := RX0) (T := TX0) (N := 11) hx hb hts in_X0 hown hK hP 0 rfl rfl 9 (by decide) (hts _ q29) (fun _ h9 => h9) rfl dX0_imply_246 ?_
                refine lv_iload hx hb dX0_imply_249 (lv_at hl 4 rfl) ?_
                refine k_bld hx hb hK hP 8 0 rfl rfl (v := nI b2) (by decide) (by omega) (hb2) dX0_imply_251 ?_
                refine k_eq (by omega) (by omega) (tgt := 259) hx hb dX0_imply_252 (by decide) (fun c11 => ?_) (fun c11 => ?_)
                · refine lv_iconst (v := nI 0) hx hb dX0_imply_259 (by decide) ?_
                  exact K260 false (by rw [c9, ← hst, c10, decide_eq_true c11]; rfl) _ _ hP hD hS ls (lv_sub hl [0, 1, 2, 3, 4, 5, 6] rfl)
                · refine lv_iconst (v := nI 1) hx hb dX0_imply_255 (by decide) ?_
                  refine lv_goto (tgt := 260) hx hb dX0_imply_256 (by decide) ?_
                  exact K260 true (by rw [c9, ← hst, c10, decide_eq_false c11]; rfl) _ _ hP hD hS ls (lv_sub hl [0, 1, 2, 3, 4, 5, 6] rfl)
          refine lv_aload_n hx hb dX0_imply_193 rfl (lv_at hl 0 rfl) ?_
          refine va_get (D := D) (ci := 0) (v := .ref (ad 7)) (C := RX0) (T := TX0) (N := 11) hx hb hts in_X0 hown hK hP 0 rfl rfl 8 (by decide) (hts _ q28) (fun _ h9 => h9) rfl dX0_imply_194 ?_
          refine lv_iload hx hb dX0_imply_197 (lv_at hl 4 rfl) ?_
          refine k_bld hx hb hK hP 7 0 rfl rfl (v := nI g1) (by decide) (by omega) (hg) dX0_imply_199 ?_
          refine lv_iconst (v := nI 2) hx hb dX0_imply_200 (by decide) ?_
          refine k_eq (by omega) (by omega) (tgt := 219) hx hb dX0_imply_201 (by decide) (fun c3 => ?_) (fun c3 => ?_)
          · refine lv_iconst (v := nI 0) hx hb dX0_imply_219 (by decide) ?_
            refine lv_istore (lv' := [(6, .int (bI false)), (0, .ref (ad 0)), (1, .int (nI ln)), (2, .int (bI v)), (3, .int (nI a)), (4, .int (nI i)), (5, .int (bI sp2))]) hx hb dX0_imply_220 hl (by decide) rfl (fun ls hl => ?_)
            exact K222 false (by rw [c3]; rfl) _ _ hP hD hS ls (lv_sub hl [1, 2, 3, 4, 5, 6, 0] rfl)
          · refine lv_aload_n hx hb dX0_imply_204 rfl (lv_at hl 0 rfl) ?_
            refine va_get (D := D) (ci := 0) (v := .ref (ad 8)) (C := RX0) (T := TX0) (N := 11) hx hb hts in_X0 hown hK hP 0 rfl rfl 9 (by decide) (hts _ q29) (fun _ h9 => h9) rfl dX0_imply_205 ?_
            refine lv_iload hx hb dX0_imply_208 (lv_at hl 4 rfl) ?_
            refine k_bld hx hb hK hP 8 0 rfl rfl (v := nI b2) (by decide) (by omega) (hb2) dX0_imply_210 ?_
            refine lv_iconst (v := nI 2) hx hb dX0_imply_211 (by decide) ?_
            refine k_eq (by omega) (by omega) (tgt := 219) hx hb dX0_imply_212 (by decide) (fun c4 => ?_) (fun c4 => ?_)
            · refine lv_iconst (v := nI 0) hx hb dX0_imply_219 (by decide) ?_
              refine lv_istore (lv' := [(6, .int (bI false)), (0, .ref (ad 0)), (1, .int (nI ln)), (2, .int (bI v)), (3, .int (nI a)), (4, .int (nI i)), (5, .int (bI sp2))]) hx hb dX0_imply_220 hl (by decide) rfl (fun ls hl => ?_)
              exact K222 false (by rw [c4, decide_eq_true c3]; rfl) _ _ hP hD hS ls (lv_sub hl [1, 2, 3, 4, 5, 6, 0] rfl)
            · refine lv_iconst (v := nI 1) hx hb dX0_imply_215 (by decide) ?_
              refine lv_goto (tgt := 220) hx hb dX0_imply_216 (by decide) ?_
              refine lv_istore (lv' := [(6, .int (bI true)), (0, .ref (ad 0)), (1, .int (nI ln)), (2, .int (bI v)), (3, .int (nI a)), (4, .int (nI i)), (5, .int (bI sp2))]) hx hb dX0_imply_220 hl (by decide) rfl (fun ls hl => ?_)
              exact K222 true (by rw [decide_eq_true c3, decide_eq_true c4]; rfl) _ _ hP hD hS ls (lv_sub hl [1, 2, 3, 4, 5, 6, 0] rfl)
        have K175 : ∀ (g1 b1 : Nat) (sp : Bool) (go1 ba1 : Nat → Int32), (iR kk ff ss ln v dc i g1 b1 sp) → (go1 i = nI g1) → (ba1 i = nI b1) → (∀ j, j < i → go1 j = go j ∧ ba1 j = ba j) → ∀ (H : Heap) (locs : List Loc), va_P D vwCl (wB ad d n kk ff ss w so fa de go1 ba1 ma) H → va_D A (wB ad d n kk ff ss w so fa de go1 ba1 ma) → va_S A s.heap H locs → ∀ (ls : Array Slot), lv_has ls 7 [(0, .ref (ad 0)), (1, .int (nI ln)), (2, .int (bI v)), (3, .int (nI a)), (4, .int (nI i)), (5, .int (bI sp))] → W p l e (headSpec (ws_ yX0_imply cX0_imply 7 (some .int)) ({ frames := 2, cells := 0, slots := 0, locals := 46 })).room s m ([.ref (ad 0), .int (nI ln), .int (bI v)] : List Value).toArray below meth c H locs 0 0 (MQ below (va_Qi (fun (r : Int32) (u1 : TS) => ∃ (go1 ba1 ma1 : Nat → Int32) (a : Nat), u1 = ((n, kk, ff, ss, w), zz so fa de go1 ba1 ma1) ∧ r = nI a ∧ iEnd kk ff ss w n ln v dc a) (BA D ad d A) A) ([.ref (ad 0), .int (nI ln), .int (bI v)] : List Value).toArray s 0 0 A) (F0 m 175 ls []) := by
          intro g1 b1 sp go1 ba1 hR hg hb1 hne H locs hP hD hS ls hl
          have hff : ln < 16 → 5 ≤ ln → ff ln < ln ∧ ss ln < ln := fun _ h5 => (hwf ln).2.2.2 h5
          refine lv_iload hx hb dX0_imply_175 (lv_at hl 4 rfl) ?_
          refine lv_iload_n hx hb dX0_imply_177 rfl (lv_at hl 1 rfl) ?_
          refine k_ne (by omega) (by omega) (tgt := 193) hx hb dX0_imply_178 (by decide) (fun c3 => ?_) (fun c3 => ?_)
          · exact K193 g1 b1 sp go1 ba1 (fun dv hd => iJ_fin hR hff (by omega) (fun h => absurd h c3) (fun _ => ⟨rfl, rfl⟩) hd) hR.1 hR.2.1 hg hb1 hne _ _ hP hD hS ls (lv_sub hl [0, 1, 2, 3, 4, 5] rfl)
          · have hv2 : v.toNat < 2 := Bool.toNat_lt v
            refine lv_aload_n hx hb dX0_imply_181 rfl (lv_at hl 0 rfl) ?_
            refine va_get (D := D) (ci := 0) (v := .ref (ad 8)) (C := RX0) (T := TX0) (N := 11) hx hb hts in_X0 hown hK hP 0 rfl rfl 9 (by decide) (hts _ q29) (fun _ h9 => h9) rfl dX0_imply_182 ?_
            refine lv_iload hx hb dX0_imply_185 (lv_at hl 4 rfl) ?_
            refine lv_iload_n hx hb dX0_imply_187 rfl (lv_at hl 2 rfl) ?_
            refine lv_i2b (v := bI v) hx hb dX0_imply_188 (k_nbB v) ?_
            refine k_bst hx hb hK hP hD hS 8 0 rfl rfl (y := bI v) (by decide) (by omega) (k_vbB v) dX0_imply_189 (fun H locs hP hD hS => ?_)
            have hP : va_P D vwCl (wB ad d n kk ff ss w so fa de go1 (upd ba1 i (bI v)) ma) H := hP
            have hD : va_D A (wB ad d n kk ff ss w so fa de go1 (upd ba1 i (bI v)) ma) := hD
            refine lv_iconst (v := nI 1) hx hb dX0_imply_190 (by decide) ?_
            refine lv_istore (lv' := [(5, .int (bI true)), (0, .ref (ad 0)), (1, .int (nI ln)), (2, .int (bI v)), (3, .int (nI a)), (4, .int (nI i))]) hx hb dX0_imply_191 hl (by decide) rfl (fun ls hl => ?_)
            exact K193 g1 v.toNat true go1 (upd ba1 i (bI v)) (fun dv hd => iJ_fin hR hff (by omega) (fun _ => ⟨rfl, rfl⟩) (fun h => absurd c3 h) hd) hR.1 (by omega) hg pk_us (fun j hj => ⟨(hne j hj).1, (pk_un (by omega)).trans (hne j hj).2⟩) _ _ hP hD hS ls (lv_sub hl [1, 2, 3, 4, 5, 0] rfl)
        refine lv_iconst (v := nI 0) hx hb dX0_imply_14 (by decide) ?_
        refine lv_istore (lv' := [(5, .int (bI false)), (0, .ref (ad 0)), (1, .int (nI ln)), (2, .int (bI v)), (3, .int (nI a)), (4, .int (nI i))]) hx hb dX0_imply_15 hl (by decide) rfl (fun ls hl => ?_)
        refine lv_iload hx hb dX0_imply_17 (lv_at hl 5 rfl) ?_
        refine lv_iconst (v := nI 5) hx hb dX0_imply_19 (by decide) ?_
        refine k_ge (by omega) (by omega) (tgt := 54) hx hb dX0_imply_20 (by decide) (fun c2 => ?_) (fun c2 => ?_)
        · obtain ⟨w5, w6⟩ := w4 c2
          have hinv0 := hinv
          obtain ⟨gg, bb, dd, h1, -⟩ := hinv0
          obtain ⟨e1, e2, e3, e4⟩ := h1 (ff i) w5
          obtain ⟨f1, f2, f3, f4⟩ := h1 (ss i) w6
          have o1 : oa (kk i) (gg (ff i)) (gg (ss i)) < 3 := oa_lt _ (by omega) _ e4.1 _ f4.1
          have o2 : oa (kk i) (bb (ff i)) (bb (ss i)) < 3 := oa_lt _ (by omega) _ e4.2.1 _ f4.2.1
          have hR := iR_gate c2 (by omega) w1 w5 w6 e4 f4
          refine lv_aload_n hx hb dX0_imply_54 rfl (lv_at hl 1 rfl) ?_
          refine va_get (D := D) (ci := 0) (v := .ref (ad 7)) (C := RX0) (T := TX0) (N := 11) hx hb hts in_X0 hown hK hP 0 rfl rfl 8 (by decide) (hts _ q28) (fun _ h9 => h9) rfl dX0_imply_55 ?_
          refine lv_iload hx hb dX0_imply_58 (lv_at hl 5 rfl) ?_
          refine lv_aload_n hx hb dX0_imply_60 rfl (lv_at hl 1 rfl) ?_
          refine va_get (D := D) (ci := 0) (v := .ref (ad 1)) (C := RX0) (T := TX0) (N := 11) hx hb hts in_X0 hown hK hP 0 rfl rfl 1 (by decide) (hts _ q21) (fun _ h9 => h9) rfl dX0_imply_61 ?_
          refine lv_iload hx hb dX0_imply_64 (lv_at hl 5 rfl) ?_
          refine k_bld hx hb hK hP 1 0 rfl rfl (v := nI (kk i)) (by decide) (by omega) (rfl) dX0_imply_66 ?_
          refine lv_aload_n hx hb dX0_imply_67 rfl (lv_at hl 1 rfl) ?_
          refine va_get (D := D) (ci := 0) (v := .ref (ad 7)) (C := RX0) (T := TX0) (N := 11) hx hb hts in_X0 hown hK hP 0 rfl rfl 8 (by decide) (hts _ q28) (fun _ h9 => h9) rfl dX0_imply_68 ?_
          refine lv_aload_n hx hb dX0_imply_71 rfl (lv_at hl 1 rfl) ?_
          refine va_get (D := D) (ci := 0) (v := .ref (ad 2)) (C := RX0) (T := TX0) (N := 11) hx hb hts in_X0 hown hK hP 0 rfl rfl 2 (by decide) (hts _ q22) (fun _ h9 => h9) rfl dX0_imply_72 ?_
          refine lv_iload hx hb dX0_imply_75 (lv_at hl 5 rfl) ?_
          refine k_bld hx hb hK hP 2 0 rfl rfl (v := nI (ff i)) (by decide) (by omega) (rfl) dX0_imply_77 ?_
          refine k_bld hx hb hK hP 7 0 rfl rfl (v := nI (gg (ff i))) (by decide) (by omega) (e1) dX0_imply_78 ?_
          refine lv_aload_n hx hb dX0_imply_79 rfl (lv_at hl 1 rfl) ?_
          refine va_get (D := D) (ci := 0) (v := .ref (ad 7)) (C := RX0) (T := TX0) (N := 11) hx hb hts in_X0 hown hK hP 0 rfl rfl 8 (by decide) (hts _ q28) (fun _ h9 => h9) rfl dX0_imply_80 ?_
          refine lv_aload_n hx hb dX0_imply_83 rfl (lv_at hl 1 rfl) ?_
          refine va_get (D := D) (ci := 0) (v := .ref (ad 3)) (C := RX0) (T := TX0) (N := 11) hx hb hts in_X0 hown hK hP 0 rfl rfl 3 (by decide) (hts _ q23) (fun _ h9 => h9) rfl dX0_imply_84 ?_
          refine lv_iload hx hb dX0_imply_87 (lv_at hl 5 rfl) ?_
          refine k_bld hx hb hK hP 3 0 rfl rfl (v := nI (ss i)) (by decide) (by omega) (rfl) dX0_imply_89 ?_
          refine k_bld hx hb hK hP 7 0 rfl rfl (v := nI (gg (ss i))) (by decide) (by omega) (f1) dX0_imply_90 ?_
          refine k_callS (As := [.int (nI (kk i)), .int (nI (gg (ff i))), .int (nI (gg (ss i)))]) (rest := [.int (nI i), .ref (ad 7)]) ⟨hx, hb, hml, hown, hts⟩ (mS_openApply l (kk i) (gg (ff i)) (gg (ss i)) w1 e4.1 f4.1) (va_cwS 3 hts (lw_S q125 q126 q10 q127) rfl rfl rfl (by decide +kernel) ⟨Nat.le_of_ble_eq_true rfl, Nat.le_of_ble_eq_true rfl⟩) rfl hl.1 rfl (Nat.le_of_ble_eq_true rfl) dX0_imply_91 ⟨Nat.zero_le _, Nat.zero_le _⟩ (fun r hp => ?_)
          refine k_ti (y := nI (oa (kk i) (gg (ff i)) (gg (ss i)))) (hp) ?_
          refine lv_i2b (v := nI (oa (kk i) (gg (ff i)) (gg (ss i)))) hx hb dX0_imply_94 (k_nb _ (by omega)) ?_
          refine k_bst hx hb hK hP hD hS 7 0 rfl rfl (y := nI (oa (kk i) (gg (ff i)) (gg (ss i)))) (by decide) (by omega) (k_vb _ (by omega)) dX0_imply_95 (fun H locs hP hD hS => ?_)
          have hP : va_P D vwCl (wB ad d n kk ff ss w so fa de (upd go i (nI (oa (kk i) (gg (ff i)) (gg (ss i))))) ba ma) H := hP
          have hD : va_D A (wB ad d n kk ff ss w so fa de (upd go i (nI (oa (kk i) (gg (ff i)) (gg (ss i))))) ba ma) := hD
          refine lv_aload_n hx hb dX0_imply_96 rfl (lv_at hl 1 rfl) ?_
          refine va_get (D := D) (ci := 0) (v := .ref (ad 8)) (C := RX0) (T := TX0) (N := 11) hx hb hts in_X0 hown hK hP 0 rfl rfl 9 (by decide) (hts _ q29) (fun _ h9 => h9) rfl dX0_imply_97 ?_
          refine lv_iload hx hb dX0_imply_100 (lv_at hl 5 rfl) ?_
          refine lv_aload_n hx hb dX0_imply_102 rfl (lv_at hl 1 rfl) ?_
          refine va_get (D := D) (ci := 0) (v := .ref (ad 1)) (C := RX0) (T := TX0) (N := 11) hx hb hts in_X0 hown hK hP 0 rfl rfl 1 (by decide) (hts _ q21) (fun _ h9 => h9) rfl dX0_imply_103 ?_
          refine lv_iload hx hb dX0_imply_106 (lv_at hl 5 rfl) ?_
          refine k_bld hx hb hK hP 1 0 rfl rfl (v := nI (kk i)) (by decide) (by omega) (rfl) dX0_imply_108 ?_
          refine lv_aload_n hx hb dX0_imply_109 rfl (lv_at hl 1 rfl) ?_
          refine va_get (D := D) (ci := 0) (v := .ref (ad 8)) (C := RX0) (T := TX0) (N := 11) hx hb hts in_X0 hown hK hP 0 rfl rfl 9 (by decide) (hts _ q29) (fun _ h9 => h9) rfl dX0_imply_110 ?_
          refine lv_aload_n hx hb dX0_imply_113 rfl (lv_at hl 1 rfl) ?_
          refine va_get (D := D) (ci := 0) (v := .ref (ad 2)) (C := RX0) (T := TX0) (N := 11) hx hb hts in_X0 hown hK hP 0 rfl rfl 2 (by decide) (hts _ q22) (fun _ h9 => h9) rfl dX0_imply_114 ?_
          refine lv_iload hx hb dX0_imply_117 (lv_at hl 5 rfl) ?_
          refine k_bld hx hb hK hP 2 0 rfl rfl (v := nI (ff i)) (by decide) (by omega) (rfl) dX0_imply_119 ?_
          refine k_bld hx hb hK hP 8 0 rfl rfl (v := nI (bb (ff i))) (by decide) (by omega) (e2) dX0_imply_120 ?_
          refine lv_aload_n hx hb dX0_imply_121 rfl (lv_at hl 1 rfl) ?_
          refine va_get (D := D) (ci := 0) (v := .ref (ad 8)) (C := RX0) (T := TX0) (N := 11) hx hb hts in_X0 hown hK hP 0 rfl rfl 9 (by decide) (hts _ q29) (fun _ h9 => h9) rfl dX0_imply_122 ?_
          refine lv_aload_n hx hb dX0_imply_125 rfl (lv_at hl 1 rfl) ?_
          refine va_get (D := D) (ci := 0) (v := .ref (ad 3)) (C := RX0) (T := TX0) (N := 11) hx hb hts in_X0 hown hK hP 0 rfl rfl 3 (by decide) (hts _ q23) (fun _ h9 => h9) rfl dX0_imply_126 ?_
          refine lv_iload hx hb dX0_imply_129 (lv_at hl 5 rfl) ?_
          refine k_bld hx hb hK hP 3 0 rfl rfl (v := nI (ss i)) (by decide) (by omega) (rfl) dX0_imply_131 ?_
          refine k_bld hx hb hK hP 8 0 rfl rfl (v := nI (bb (ss i))) (by decide) (by omega) (f2) dX0_imply_132 ?_
          refine k_callS (As := [.int (nI (kk i)), .int (nI (bb (ff i))), .int (nI (bb (ss i)))]) (rest := [.int (nI i), .ref (ad 8)]) ⟨hx, hb, hml, hown, hts⟩ (mS_openApply l (kk i) (bb (ff i)) (bb (ss i)) w1 e4.2.1 f4.2.1) (va_cwS 3 hts (lw_S q125 q126 q10 q127) rfl rfl rfl (by decide +kernel) ⟨Nat.le_of_ble_eq_true rfl, Nat.le_of_ble_eq_true rfl⟩) rfl hl.1 rfl (Nat.le_of_ble_eq_true rfl) dX0_imply_133 ⟨Nat.zero_le _, Nat.zero_le _⟩ (fun r hp => ?_)
          refine k_ti (y := nI (oa (kk i) (bb (ff i)) (bb (ss i)))) (hp) ?_
          refine lv_i2b (v := nI (oa (kk i) (bb (ff i)) (bb (ss i)))) hx hb dX0_imply_136 (k_nb _ (by omega)) ?_
          refine k_bst hx hb hK hP hD hS 8 0 rfl rfl (y := nI (oa (kk i) (bb (ff i)) (bb (ss i)))) (by decide) (by omega) (k_vb _ (by omega)) dX0_imply_137 (fun H locs hP hD hS => ?_)
          have hP : va_P D vwCl (wB ad d n kk ff ss w so fa de (upd go i (nI (oa (kk i) (gg (ff i)) (gg (ss i))))) (upd ba i (nI (oa (kk i) (bb (ff i)) (bb (ss i))))) ma) H := hP
          have hD : va_D A (wB ad d n kk ff ss w so fa de (upd go i (nI (oa (kk i) (gg (ff i)) (gg (ss i))))) (upd ba i (nI (oa (kk i) (bb (ff i)) (bb (ss i))))) ma) := hD
          refine lv_aload_n hx hb dX0_imply_138 rfl (lv_at hl 1 rfl) ?_
          refine va_get (D := D) (ci := 0) (v := .ref (ad 9)) (C := RX0) (T := TX0) (N := 11) hx hb hts in_X0 hown hK hP 0 rfl rfl 10 (by decide) (hts _ q30) (fun _ h9 => h9) rfl dX0_imply_139 ?_
          refine lv_aload_n hx hb dX0_imply_142 rfl (lv_at hl 1 rfl) ?_
          refine va_get (D := D) (ci := 0) (v := .ref (ad 2)) (C := RX0) (T := TX0) (N := 11) hx hb hts in_X0 hown hK hP 0 rfl rfl 2 (by decide) (hts _ q22) (fun _ h9 => h9) rfl dX0_imply_143 ?_
          refine lv_iload hx hb dX0_imply_146 (lv_at hl 5 rfl) ?_
          refine k_bld hx hb hK hP 2 0 rfl rfl (v := nI (ff i)) (by decide) (by omega) (rfl) dX0_imply_148 ?_
          refine k_zld hx hb hK hP 9 2 rfl rfl (v := bI (dd (ff i))) (by decide) (by omega) (e3) dX0_imply_149 ?_
          refine k_bif_ne (tgt := 168) hx hb dX0_imply_150 (by decide) (fun c3 => ?_) (fun c3 => ?_)
          · refine lv_iconst (v := nI 1) hx hb dX0_imply_168 (by decide) ?_
            refine lv_goto (tgt := 173) hx hb dX0_imply_169 (by decide) ?_
            refine lv_istore (lv' := [(5, .int (bI true)), (0, .ref (ad 0)), (1, .int (nI ln)), (2, .int (bI v)), (3, .int (nI a)), (4, .int (nI i))]) hx hb dX0_imply_173 hl (by decide) rfl (fun ls hl => ?_)
            exact K175 _ _ true (upd go i (nI (oa (kk i) (gg (ff i)) (gg (ss i))))) (upd ba i (nI (oa (kk i) (bb (ff i)) (bb (ss i))))) (by rw [c3] at hR; exact hR) pk_us pk_us (fun j hj => ⟨pk_un (by omega), pk_un (by omega)⟩) _ _ hP hD hS ls (lv_sub hl [1, 2, 3, 4, 5, 0] rfl)
          · refine lv_aload_n hx hb dX0_imply_153 rfl (lv_at hl 1 rfl) ?_
            refine va_get (D := D) (ci := 0) (v := .ref (ad 9)) (C := RX0) (T := TX0) (N := 11) hx hb hts in_X0 hown hK hP 0 rfl rfl 10 (by decide) (hts _ q30) (fun _ h9 => h9) rfl dX0_imply_154 ?_
            refine lv_aload_n hx hb dX0_imply_157 rfl (lv_at hl 1 rfl) ?_
            refine va_get (D := D) (ci := 0) (v := .ref (ad 3)) (C := RX0) (T := TX0) (N := 11) hx hb hts in_X0 hown hK hP 0 rfl rfl 3 (by decide) (hts _ q23) (fun _ h9 => h9) rfl dX0_imply_158 ?_
            refine lv_iload hx hb dX0_imply_161 (lv_at hl 5 rfl) ?_
            refine k_bld hx hb hK hP 3 0 rfl rfl (v := nI (ss i)) (by decide) (by omega) (rfl) dX0_imply_163 ?_
            refine k_zld hx hb hK hP 9 2 rfl rfl (v := bI (dd (ss i))) (by decide) (by omega) (f3) dX0_imply_164 ?_
            refine k_bif_eq (tgt := 172) hx hb dX0_imply_165 (by decide) (fun c4 => ?_) (fun c4 => ?_)
            · refine lv_iconst (v := nI 0) hx hb dX0_imply_172 (by decide) ?_
              refine lv_istore (lv' := [(5, .int (bI false)), (0, .ref (ad 0)), (1, .int (nI ln)), (2, .int (bI v)), (3, .int (nI a)), (4, .int (nI i))]) hx hb dX0_imply_173 hl (by decide) rfl (fun ls hl => ?_)
              exact K175 _ _ false (upd go i (nI (oa (kk i) (gg (ff i)) (gg (ss i))))) (upd ba i (nI (oa (kk i) (bb (ff i)) (bb (ss i))))) (by rw [c3, c4] at hR; exact hR) pk_us pk_us (fun j hj => ⟨pk_un (by omega), pk_un (by omega)⟩) _ _ hP hD hS ls (lv_sub hl [1, 2, 3, 4, 5, 0] rfl)
            · refine lv_iconst (v := nI 1) hx hb dX0_imply_168 (by decide) ?_
              refine lv_goto (tgt := 173) hx hb dX0_imply_169 (by decide) ?_
              refine lv_istore (lv' := [(5, .int (bI true)), (0, .ref (ad 0)), (1, .int (nI ln)), (2, .int (bI v)), (3, .int (nI a)), (4, .int (nI i))]) hx hb dX0_imply_173 hl (by decide) rfl (fun ls hl => ?_)
              exact K175 _ _ true (upd go i (nI (oa (kk i) (gg (ff i)) (gg (ss i))))) (upd ba i (nI (oa (kk i) (bb (ff i)) (bb (ss i))))) (by rw [c3, c4] at hR; exact hR) pk_us pk_us (fun j hj => ⟨pk_un (by omega), pk_un (by omega)⟩) _ _ hP hD hS ls (lv_sub hl [1, 2, 3, 4, 5, 0] rfl)
        · obtain ⟨d1, d2⟩ := hdc i c2
          refine lv_aload_n hx hb dX0_imply_23 rfl (lv_at hl 1 rfl) ?_
          refine va_get (D := D) (ci := 0) (v := .ref (ad 7)) (C := RX0) (T := TX0) (N := 11) hx hb hts in_X0 hown hK hP 0 rfl rfl 8 (by decide) (hts _ q28) (fun _ h9 => h9) rfl dX0_imply_24 ?_
          refine lv_iload hx hb dX0_imply_27 (lv_at hl 5 rfl) ?_
          refine lv_aload_n hx hb dX0_imply_29 rfl (lv_at hl 1 rfl) ?_
          refine va_get (D := D) (ci := 0) (v := .ref (ad 6)) (C := RX0) (T := TX0) (N := 11) hx hb hts in_X0 hown hK hP 0 rfl rfl 7 (by decide) (hts _ q27) (fun _ h9 => h9) rfl dX0_imply_30 ?_
          refine lv_iload hx hb dX0_imply_33 (lv_at hl 5 rfl) ?_
          refine k_bld hx hb hK hP 6 0 rfl rfl (v := nI (dc i)) (by decide) (by omega) (d1) dX0_imply_35 ?_
          refine k_bst hx hb hK hP hD hS 7 0 rfl rfl (y := nI (dc i)) (by decide) (by omega) (k_vb _ (by omega)) dX0_imply_36 (fun H locs hP hD hS => ?_)
          have hP : va_P D vwCl (wB ad d n kk ff ss w so fa de (upd go i (nI (dc i))) ba ma) H := hP
          have hD : va_D A (wB ad d n kk ff ss w so fa de (upd go i (nI (dc i))) ba ma) := hD
          refine lv_aload_n hx hb dX0_imply_37 rfl (lv_at hl 1 rfl) ?_
          refine va_get (D := D) (ci := 0) (v := .ref (ad 8)) (C := RX0) (T := TX0) (N := 11) hx hb hts in_X0 hown hK hP 0 rfl rfl 9 (by decide) (hts _ q29) (fun _ h9 => h9) rfl dX0_imply_38 ?_
          refine lv_iload hx hb dX0_imply_41 (lv_at hl 5 rfl) ?_
          refine lv_aload_n hx hb dX0_imply_43 rfl (lv_at hl 1 rfl) ?_
          refine va_get (D := D) (ci := 0) (v := .ref (ad 6)) (C := RX0) (T := TX0) (N := 11) hx hb hts in_X0 hown hK hP 0 rfl rfl 7 (by decide) (hts _ q27) (fun _ h9 => h9) rfl dX0_imply_44 ?_
          refine lv_iload hx hb dX0_imply_47 (lv_at hl 5 rfl) ?_
          refine k_bld hx hb hK hP 6 0 rfl rfl (v := nI (dc i)) (by decide) (by omega) (d1) dX0_imply_49 ?_
          refine k_bst hx hb hK hP hD hS 8 0 rfl rfl (y := nI (dc i)) (by decide) (by omega) (k_vb _ (by omega)) dX0_imply_50 (fun H locs hP hD hS => ?_)
          have hP : va_P D vwCl (wB ad d n kk ff ss w so fa de (upd go i (nI (dc i))) (upd ba i (nI (dc i))) ma) H := hP
          have hD : va_D A (wB ad d n kk ff ss w so fa de (upd go i (nI (dc i))) (upd ba i (nI (dc i))) ma) := hD
          refine lv_goto (tgt := 175) hx hb dX0_imply_51 (by decide) ?_
          exact K175 (dc i) (dc i) false (upd go i (nI (dc i))) (upd ba i (nI (dc i))) (iR_in c2 d2) pk_us pk_us (fun j hj => ⟨pk_un (by omega), pk_un (by omega)⟩) _ _ hP hD hS ls (lv_sub hl [1, 2, 3, 4, 5, 0] rfl)
  exact loop (n + 1) 0 go ba ma 0 (by omega) (by omega) iInv_0 _ _ hP hD hS ls (lv_sub hl [2, 3, 4, 1, 0] rfl)
end
section
theorem k_sa (i : Nat) : (nI i - nI 1) + nI 1 = nI i := Int32.sub_add_cancel _ _
theorem k_sp (i : Nat) : nI (i + 1) - nI 1 = nI i := nI_pred i
theorem k_sd (i : Nat) : (nI (i + 1) - nI 1) + Int32.ofInt (-1) = nI i - nI 1 := by
  rw [k_sp, Int32.sub_eq_add_neg, show (Int32.ofInt (-1)) = -nI 1 by decide]
theorem k_nx : ∀ i, i < 6 → (0 ≤ nI i - nI 1 ↔ 1 ≤ i) := by decide +kernel
theorem de_up {de : Nat → Int32} {f g : Nat → Nat} {k x : Nat} (h : ∀ j, j < 5 → de j = nI (f j)) (hg : ∀ j, j < 5 → g j = if j = k then x else f j) : ∀ j, j < 5 → upd de k (nI x) j = nI (g j) := by
  intro j hj
  rw [hg j hj]
  by_cases e : j = k
  · subst e; rw [pk_us, if_pos rfl]
  · rw [pk_un e, if_neg e]; exact h j hj

set_option maxHeartbeats 4000000 in
set_option maxRecDepth 100000 in
theorem mA_search (l : Launch) (D : va_G) (ad : Nat → Nat) (d : Nat → ClassId) (n : Nat) (kk ff ss : Nat → Nat) (w : Int32) (so fa de go ba ma : Nat → Int32) (sz : Nat) (ln : Nat) (v : Bool) (fr : Nat) (hw : wfC n kk ff ss) (hln : ln < n) (hfr : fr < 32) : MetA l D ad d yX0_search (ws_ yX0_search cX0_search 10 (some .int)) ({ frames := 3, cells := 0, slots := 0, locals := 72 }) ((n, kk, ff, ss, w), zz so fa de go ba ma) sz [.ref (ad 0), .int (nI ln), .int (bI v), .int (nI fr)] (fun (r : Int32) (u1 : TS) => ∃ de1 go1 ba1 ma1 : Nat → Int32, u1 = ((n, kk, ff, ss, w), zz so fa de1 go1 ba1 ma1) ∧ r = tfr (fun q => shw kk ff ss w ln v q n) (nI fr)) := by
  refine Met.ofW (cc := cX0_search) (maxL := 10) (ret := (some .int)) (by decide) rfl ?_
  intro p e s m args below meth c s₁ B hml hv
  obtain ⟨rfl, hsz, hP, hK, hD0⟩ := hv
  have hx := B.exec
  have hb := B.bytes
  have hr := B.returns
  have hts := atoms_spec (ws := (ws_ yX0_search cX0_search 10 (some .int))) B.pre
  have hts : ∀ w ∈ lw_all, w.before _ s = true := fun w h => hts w (List.mem_cons_of_mem _ h)
  have hown : s.vm.findClass RX0 = some m.cls := findClass_of_methodNamed B.named
  have hlocks := B.notSynchronized
  subst hsz
  have hD := hD0.self (sz := s.heap.size)
  generalize hAe : va_A (wC ad d ((n, kk, ff, ss, w), zz so fa de go ba ma)) s.heap.size = A at hD ⊢
  have hA : ∀ q : Nat, s.heap.size ≤ q → A q := fun q h => by rw [← hAe]; exact Or.inr h
  have hS : va_S A s.heap s.heap [] := va_S.rf
  have hD : va_D A (wB ad d n kk ff ss w so fa de go ba ma) := hD
  have hP : va_P D vwCl (wB ad d n kk ff ss w so fa de go ba ma) s.heap := hP
  have hl := lv_entry ([.ref (ad 0), .int (nI ln), .int (bI v), .int (nI fr)]) (n := 10) (Nat.le_of_ble_eq_true rfl)
  rw [lg_entry_eq]
  generalize (lg_sl ([.ref (ad 0), .int (nI ln), .int (bI v), .int (nI fr)]) ++ List.replicate (10 - (lg_sl ([.ref (ad 0), .int (nI ln), .int (bI v), .int (nI fr)])).length) Slot.unset).toArray = ls at hl ⊢
  have hl : lv_has ls 10 [(0, .ref (ad 0)), (1, .int (nI ln)), (2, .int (bI v)), (3, .int (nI fr))] := hl
  have main : ∀ (f : Nat) (nx vc r : Nat) (de go ba ma : Nat → Int32), 6 * (32 - vc) + nx < f → (r + (6 * (32 - vc) + nx) ≤ 197) → (nx ≤ 5) → (vc < 32) → (vc % 2 ^ nx = 0) → (∀ j, j < 5 → de j = nI (dcF nx vc j)) → (∀ q, q < vc → fr ≤ q → shw kk ff ss w ln v q n = false) → ∀ (H : Heap) (locs : List Loc), va_P D vwCl (wB ad d n kk ff ss w so fa de go ba ma) H → va_D A (wB ad d n kk ff ss w so fa de go ba ma) → va_S A s.heap H locs → ∀ (ls : Array Slot), lv_has ls 10 [(0, .ref (ad 0)), (1, .int (nI ln)), (2, .int (bI v)), (3, .int (nI fr)), (4, .int (nI nx - nI 1)), (5, .int (nI vc)), (6, .int (nI r))] → W p l e (headSpec (ws_ yX0_search cX0_search 10 (some .int)) ({ frames := 3, cells := 0, slots := 0, locals := 72 })).room s m ([.ref (ad 0), .int (nI ln), .int (bI v), .int (nI fr)] : List Value).toArray below meth c H locs 0 0 (MQ below (va_Qi (fun (r : Int32) (u1 : TS) => ∃ de1 go1 ba1 ma1 : Nat → Int32, u1 = ((n, kk, ff, ss, w), zz so fa de1 go1 ba1 ma1) ∧ r = tfr (fun q => shw kk ff ss w ln v q n) (nI fr)) (BA D ad d A) A) ([.ref (ad 0), .int (nI ln), .int (bI v), .int (nI fr)] : List Value).toArray s 0 0 A) (F0 m 32 ls []) := by
    intro f
    induction f with
    | zero =>
      intro nx vc r de go ba ma h1
      exact absurd h1 (by omega)
    | succ f ihm =>
      intro nx vc r de go ba ma hms hr0 hnx hvc hmod hde hlow H locs hP hD hS ls hl
      have hp2 := dc_hi nx (by omega) vc hvc hmod
      have hp1 : 1 ≤ 2 ^ nx := Nat.one_le_two_pow
      refine lv_iload hx hb dX0_search_32 (lv_at hl 6 rfl) ?_
      refine lv_sipush (v := nI 256) hx hb dX0_search_34 (by decide) ?_
      refine k_ge (by omega) (by omega) (tgt := 200) hx hb dX0_search_37 (by decide) (fun c1 => absurd c1 (by omega)) (fun c1 => ?_)
      refine lv_iload hx hb dX0_search_40 (lv_at hl 5 rfl) ?_
      refine lv_iconst (v := nI 1) hx hb dX0_search_42 (by decide) ?_
      refine lv_iload hx hb dX0_search_43 (lv_at hl 4 rfl) ?_
      refine lv_iconst (v := nI 1) hx hb dX0_search_45 (by decide) ?_
      refine lv_iadd hx hb dX0_search_46 ?_
      refine k_ti (y := nI nx) (k_sa nx) ?_
      refine lv_ishl hx hb dX0_search_47 ?_
      refine lv_iconst (v := nI 1) hx hb dX0_search_48 (by decide) ?_
      refine lv_isub hx hb dX0_search_49 ?_
      refine lv_ior hx hb dX0_search_50 ?_
      refine k_ti (y := nI (vc + 2 ^ nx - 1)) (dc_gr nx (by omega) vc hvc hmod) ?_
      have K69 : ∀ (a : Nat) (go ba ma : Nat → Int32), (a < 3) → (a = 0 → ∀ q, vc ≤ q → q < vc + 2 ^ nx → fr ≤ q → shw kk ff ss w ln v q n = false) → (a = 1 → ∀ q, vc ≤ q → q < vc + 2 ^ nx → shw kk ff ss w ln v q n = true) → (nx = 0 → a ≠ 2) → (a ≠ 0 → fr < vc + 2 ^ nx) → ∀ (H : Heap) (locs : List Loc), va_P D vwCl (wB ad d n kk ff ss w so fa de go ba ma) H → va_D A (wB ad d n kk ff ss w so fa de go ba ma) → va_S A s.heap H locs → ∀ (ls : Array Slot), lv_has ls 10 [(0, .ref (ad 0)), (1, .int (nI ln)), (2, .int (bI v)), (3, .int (nI fr)), (4, .int (nI nx - nI 1)), (5, .int (nI vc)), (6, .int (nI r))] → W p l e (headSpec (ws_ yX0_search cX0_search 10 (some .int)) ({ frames := 3, cells := 0, slots := 0, locals := 72 })).room s m ([.ref (ad 0), .int (nI ln), .int (bI v), .int (nI fr)] : List Value).toArray below meth c H locs 0 0 (MQ below (va_Qi (fun (r : Int32) (u1 : TS) => ∃ de1 go1 ba1 ma1 : Nat → Int32, u1 = ((n, kk, ff, ss, w), zz so fa de1 go1 ba1 ma1) ∧ r = tfr (fun q => shw kk ff ss w ln v q n) (nI fr)) (BA D ad d A) A) ([.ref (ad 0), .int (nI ln), .int (bI v), .int (nI fr)] : List Value).toArray s 0 0 A) (F0 m 69 ls [.int (nI a)]) := by
        intro a go ba ma ha3 hF0 hF1 hF2 hF3 H locs hP hD hS ls hl
        refine lv_istore (lv' := [(8, .int (nI a)), (0, .ref (ad 0)), (1, .int (nI ln)), (2, .int (bI v)), (3, .int (nI fr)), (4, .int (nI nx - nI 1)), (5, .int (nI vc)), (6, .int (nI r))]) hx hb dX0_search_69 hl (by decide) rfl (fun ls hl => ?_)
        refine lv_iload hx hb dX0_search_71 (lv_at hl 0 rfl) ?_
        refine lv_iconst (v := nI 1) hx hb dX0_search_73 (by decide) ?_
        have K83 : (a = 1 → vc < fr) → ∀ (H : Heap) (locs : List Loc), va_P D vwCl (wB ad d n kk ff ss w so fa de go ba ma) H → va_D A (wB ad d n kk ff ss w so fa de go ba ma) → va_S A s.heap H locs → ∀ (ls : Array Slot), lv_has ls 10 [(0, .ref (ad 0)), (1, .int (nI ln)), (2, .int (bI v)), (3, .int (nI fr)), (4, .int (nI nx - nI 1)), (5, .int (nI vc)), (6, .int (nI r)), (8, .int (nI a))] → W p l e (headSpec (ws_ yX0_search cX0_search 10 (some .int)) ({ frames := 3, cells := 0, slots := 0, locals := 72 })).room s m ([.ref (ad 0), .int (nI ln), .int (bI v), .int (nI fr)] : List Value).toArray below meth c H locs 0 0 (MQ below (va_Qi (fun (r : Int32) (u1 : TS) => ∃ de1 go1 ba1 ma1 : Nat → Int32, u1 = ((n, kk, ff, ss, w), zz so fa de1 go1 ba1 ma1) ∧ r = tfr (fun q => shw kk ff ss w ln v q n) (nI fr)) (BA D ad d A) A) ([.ref (ad 0), .int (nI ln), .int (bI v), .int (nI fr)] : List Value).toArray s 0 0 A) (F0 m 83 ls []) := by
          intro  hno H locs hP hD hS ls hl
          refine lv_iload hx hb dX0_search_83 (lv_at hl 7 rfl) ?_
          refine k_if_eq (by omega) (tgt := 96) hx hb dX0_search_85 (by decide) (fun c5 => ?_) (fun c5 => ?_)
          · refine lv_iload hx hb dX0_search_96 (lv_at hl 7 rfl) ?_
            refine k_if_eq (by omega) (tgt := 115) hx hb dX0_search_98 (by decide) (fun c9 => ?_) (fun c9 => absurd c5 (by omega))
            refine lv_iload hx hb dX0_search_115 (lv_at hl 4 rfl) ?_
            refine lv_iconst (v := nI 1) hx hb dX0_search_117 (by decide) ?_
            refine lv_iadd hx hb dX0_search_118 ?_
            refine k_ti (y := nI nx) (k_sa nx) ?_
            refine lv_istore (lv' := [(9, .int (nI nx)), (0, .ref (ad 0)), (1, .int (nI ln)), (2, .int (bI v)), (3, .int (nI fr)), (4, .int (nI nx - nI 1)), (5, .int (nI vc)), (6, .int (nI r)), (8, .int (nI a))]) hx hb dX0_search_119 hl (by decide) rfl (fun ls hl => ?_)
            have inner : ∀ (f i : Nat) (vi : Nat) (de : Nat → Int32), i ≤ 5 → 5 + 1 ≤ i + f → (nx ≤ i) → (vi + 2 ^ i = vc + 2 ^ nx) → (vi < 32) → (vi % 2 ^ i = 0) → (∀ j, j < 5 → de j = nI (dcF i vi j)) → ∀ (H : Heap) (locs : List Loc), va_P D vwCl (wB ad d n kk ff ss w so fa de go ba ma) H → va_D A (wB ad d n kk ff ss w so fa de go ba ma) → va_S A s.heap H locs → ∀ (ls : Array Slot), lv_has ls 10 [(0, .ref (ad 0)), (1, .int (nI ln)), (2, .int (bI v)), (3, .int (nI fr)), (5, .int (nI vi)), (6, .int (nI r)), (9, .int (nI i))] → W p l e (headSpec (ws_ yX0_search cX0_search 10 (some .int)) ({ frames := 3, cells := 0, slots := 0, locals := 72 })).room s m ([.ref (ad 0), .int (nI ln), .int (bI v), .int (nI fr)] : List Value).toArray below meth c H locs 0 0 (MQ below (va_Qi (fun (r : Int32) (u1 : TS) => ∃ de1 go1 ba1 ma1 : Nat → Int32, u1 = ((n, kk, ff, ss, w), zz so fa de1 go1 ba1 ma1) ∧ r = tfr (fun q => shw kk ff ss w ln v q n) (nI fr)) (BA D ad d A) A) ([.ref (ad 0), .int (nI ln), .int (bI v), .int (nI fr)] : List Value).toArray s 0 0 A) (F0 m 121 ls []) := by
              intro f
              induction f with
              | zero =>
                intro i vi de h1 h2
                exact absurd h2 (by omega)
              | succ f ih =>
                intro i vi de hi hf hni hev hvi himod hdi H locs hP hD hS ls hl
                have hq1 : 1 ≤ 2 ^ i := Nat.one_le_two_pow
                refine lv_iload hx hb dX0_search_121 (lv_at hl 6 rfl) ?_
                refine lv_iconst (v := nI 5) hx hb dX0_search_123 (by decide) ?_
                refine k_ge (by omega) (by omega) (tgt := 163) hx hb dX0_search_124 (by decide) (fun c6 => ?_) (fun c6 => ?_)
                · have e5 : i = 5 := by omega
                  subst e5
                  refine lv_iload hx hb dX0_search_163 (lv_at hl 6 rfl) ?_
                  refine lv_iconst (v := nI 5) hx hb dX0_search_165 (by decide) ?_
                  refine k_ne (by omega) (by omega) (tgt := 171) hx hb dX0_search_166 (by decide) (fun c7 => absurd rfl c7) (fun c7 => ?_)
                  refine lv_iconst (v := (-1)) hx hb dX0_search_169 (by decide) ?_
                  exact W.iret (v := -1) hx hb hr (fun t9 ht9 hW9 => ⟨⟨-1, ((n, kk, ff, ss, w), zz so fa de go ba ma), rfl, ⟨de, go, ba, ma, rfl, (tfr_no hfr (fun q hq hfq => by
                      have e0 : vi = 0 := by omega
                      rcases Nat.lt_or_ge q vc with h | h
                      · exact hlow q h hfq
                      · exact hF0 c5 q h (by omega) hfq)).symm⟩, by rw [ht9]; exact hP, va_K.moved hW9.alike hK, hD⟩, hS.F ht9⟩) hS.2.2 dX0_search_170
                · refine lv_aload_n hx hb dX0_search_127 rfl (lv_at hl 0 rfl) ?_
                  refine va_get (D := D) (ci := 0) (v := .ref (ad 6)) (C := RX0) (T := TX0) (N := 11) hx hb hts in_X0 hown hK hP 0 rfl rfl 7 (by decide) (hts _ q27) (fun _ h9 => h9) rfl dX0_search_128 ?_
                  refine lv_iload hx hb dX0_search_131 (lv_at hl 6 rfl) ?_
                  refine k_bld hx hb hK hP 6 0 rfl rfl (v := nI (dcF i vi i)) (by decide) (by omega) (hdi i c6) dX0_search_133 ?_
                  refine lv_iconst (v := nI 1) hx hb dX0_search_134 (by decide) ?_
                  have h3 := dc_3 i vi i
                  refine k_ne (by omega) (by omega) (tgt := 163) hx hb dX0_search_135 (by decide) (fun c7 => ?_) (fun c7 => ?_)
                  · obtain ⟨⟨t1, t2, t3⟩, t4⟩ := dc_st c6 hvi himod c7
                    refine lv_iload hx hb dX0_search_163 (lv_at hl 6 rfl) ?_
                    refine lv_iconst (v := nI 5) hx hb dX0_search_165 (by decide) ?_
                    refine k_ne (by omega) (by omega) (tgt := 171) hx hb dX0_search_166 (by decide) (fun c8 => ?_) (fun c8 => absurd c8 (by omega))
                    refine lv_aload_n hx hb dX0_search_171 rfl (lv_at hl 0 rfl) ?_
                    refine va_get (D := D) (ci := 0) (v := .ref (ad 6)) (C := RX0) (T := TX0) (N := 11) hx hb hts in_X0 hown hK hP 0 rfl rfl 7 (by decide) (hts _ q27) (fun _ h9 => h9) rfl dX0_search_172 ?_
                    refine lv_iload hx hb dX0_search_175 (lv_at hl 6 rfl) ?_
                    refine lv_iconst (v := nI 1) hx hb dX0_search_177 (by decide) ?_
                    refine k_bst hx hb hK hP hD hS 6 0 rfl rfl (y := nI 1) (by decide) (by omega) (k_vb _ (by omega)) dX0_search_178 (fun H locs hP hD hS => ?_)
                    have hP : va_P D vwCl (wB ad d n kk ff ss w so fa (upd de i (nI 1)) go ba ma) H := hP
                    have hD : va_D A (wB ad d n kk ff ss w so fa (upd de i (nI 1)) go ba ma) := hD
                    refine lv_iload hx hb dX0_search_179 (lv_at hl 4 rfl) ?_
                    refine lv_iconst (v := nI 1) hx hb dX0_search_181 (by decide) ?_
                    refine lv_iload hx hb dX0_search_182 (lv_at hl 6 rfl) ?_
                    refine lv_ishl hx hb dX0_search_184 ?_
                    refine lv_ior hx hb dX0_search_185 ?_
                    refine k_ti (y := nI (vi + 2 ^ i)) (t3) ?_
                    refine lv_istore (lv' := [(5, .int (nI (vi + 2 ^ i))), (0, .ref (ad 0)), (1, .int (nI ln)), (2, .int (bI v)), (3, .int (nI fr)), (6, .int (nI r)), (9, .int (nI i))]) hx hb dX0_search_186 hl (by decide) rfl (fun ls hl => ?_)
                    refine lv_iload hx hb dX0_search_188 (lv_at hl 6 rfl) ?_
                    refine lv_iconst (v := nI 1) hx hb dX0_search_190 (by decide) ?_
                    refine lv_isub hx hb dX0_search_191 ?_
                    refine lv_istore (lv' := [(4, .int (nI i - nI 1)), (5, .int (nI (vi + 2 ^ i))), (0, .ref (ad 0)), (1, .int (nI ln)), (2, .int (bI v)), (3, .int (nI fr)), (6, .int (nI r)), (9, .int (nI i))]) hx hb dX0_search_192 hl (by decide) rfl (fun ls hl => ?_)
                    refine lv_iinc (v := nI (r + 1)) (lv' := [(6, .int (nI (r + 1))), (4, .int (nI i - nI 1)), (5, .int (nI (vi + 2 ^ i))), (0, .ref (ad 0)), (1, .int (nI ln)), (2, .int (bI v)), (3, .int (nI fr)), (9, .int (nI i))]) hx hb dX0_search_194 hl (k := 6) rfl (k_inc r) (by decide) rfl (fun ls hl => ?_)
                    refine lv_goto (tgt := 32) hx hb dX0_search_197 (by decide) ?_
                    exact ihm i (vi + 2 ^ i) (r + 1) (upd de i (nI 1)) go ba ma (by omega) (by omega) (by omega) t1 t2 (de_up hdi t4) (fun q hq hfq => by
                        rcases Nat.lt_or_ge q vc with h | h
                        · exact hlow q h hfq
                        · exact hF0 c5 q h (by omega) hfq) _ _ hP hD hS ls (lv_sub hl [3, 4, 5, 6, 1, 2, 0] rfl)
                  · obtain ⟨⟨t1, t2, t3, t4⟩, t5⟩ := dc_up c6 hvi himod c7
                    refine lv_aload_n hx hb dX0_search_138 rfl (lv_at hl 0 rfl) ?_
                    refine va_get (D := D) (ci := 0) (v := .ref (ad 6)) (C := RX0) (T := TX0) (N := 11) hx hb hts in_X0 hown hK hP 0 rfl rfl 7 (by decide) (hts _ q27) (fun _ h9 => h9) rfl dX0_search_139 ?_
                    refine lv_iload hx hb dX0_search_142 (lv_at hl 6 rfl) ?_
                    refine lv_iconst (v := nI 2) hx hb dX0_search_144 (by decide) ?_
                    refine k_bst hx hb hK hP hD hS 6 0 rfl rfl (y := nI 2) (by decide) (by omega) (k_vb _ (by omega)) dX0_search_145 (fun H locs hP hD hS => ?_)
                    have hP : va_P D vwCl (wB ad d n kk ff ss w so fa (upd de i (nI 2)) go ba ma) H := hP
                    have hD : va_D A (wB ad d n kk ff ss w so fa (upd de i (nI 2)) go ba ma) := hD
                    refine lv_iload hx hb dX0_search_146 (lv_at hl 4 rfl) ?_
                    refine lv_iconst (v := nI 1) hx hb dX0_search_148 (by decide) ?_
                    refine lv_iload hx hb dX0_search_149 (lv_at hl 6 rfl) ?_
                    refine lv_ishl hx hb dX0_search_151 ?_
                    refine lv_iconst (v := (-1)) hx hb dX0_search_152 (by decide) ?_
                    refine lv_ixor hx hb dX0_search_153 ?_
                    refine lv_iand hx hb dX0_search_154 ?_
                    refine k_ti (y := nI (vi - 2 ^ i)) (t4) ?_
                    refine lv_istore (lv' := [(5, .int (nI (vi - 2 ^ i))), (0, .ref (ad 0)), (1, .int (nI ln)), (2, .int (bI v)), (3, .int (nI fr)), (6, .int (nI r)), (9, .int (nI i))]) hx hb dX0_search_155 hl (by decide) rfl (fun ls hl => ?_)
                    refine lv_iinc (v := nI (i + 1)) (lv' := [(9, .int (nI (i + 1))), (5, .int (nI (vi - 2 ^ i))), (0, .ref (ad 0)), (1, .int (nI ln)), (2, .int (bI v)), (3, .int (nI fr)), (6, .int (nI r))]) hx hb dX0_search_157 hl (k := 6) rfl (k_inc i) (by decide) rfl (fun ls hl => ?_)
                    refine lv_goto (tgt := 121) hx hb dX0_search_160 (by decide) ?_
                    exact ih (i + 1) (vi - 2 ^ i) (upd de i (nI 2)) (by omega) (by omega) (by omega) (by omega) t1 t2 (de_up hdi t5) _ _ hP hD hS ls (lv_sub hl [2, 3, 4, 5, 1, 6, 0] rfl)
            exact inner 6 nx vc de (by omega) (by omega) (Nat.le_refl _) rfl hvc hmod hde _ _ hP hD hS ls (lv_sub hl [1, 2, 3, 4, 6, 7, 0] rfl)
          · refine lv_iload hx hb dX0_search_88 (lv_at hl 4 rfl) ?_
            have c6k := k_nx nx (by omega)
            refine lv_if_ge (tgt := 96) hx hb dX0_search_90 (by decide) (fun c6 => ?_) (fun c6 => ?_)
            · have c6 := c6k.mp c6
              refine lv_iload hx hb dX0_search_96 (lv_at hl 7 rfl) ?_
              refine k_if_eq (by omega) (tgt := 115) hx hb dX0_search_98 (by decide) (fun c9 => absurd c9 c5) (fun c9 => ?_)
              obtain ⟨nx1, rfl⟩ : ∃ z, nx = z + 1 := ⟨nx - 1, by omega⟩
              obtain ⟨t1, t2⟩ := dc_dn nx1 (by omega) vc hvc hmod
              refine lv_aload_n hx hb dX0_search_101 rfl (lv_at hl 0 rfl) ?_
              refine va_get (D := D) (ci := 0) (v := .ref (ad 6)) (C := RX0) (T := TX0) (N := 11) hx hb hts in_X0 hown hK hP 0 rfl rfl 7 (by decide) (hts _ q27) (fun _ h9 => h9) rfl dX0_search_102 ?_
              refine lv_iload hx hb dX0_search_105 (lv_at hl 4 rfl) ?_
              refine k_ti (y := nI nx1) (k_sp nx1) ?_
              refine lv_iconst (v := nI 0) hx hb dX0_search_107 (by decide) ?_
              refine k_bst hx hb hK hP hD hS 6 0 rfl rfl (y := nI 0) (by decide) (by omega) (k_vb _ (by omega)) dX0_search_108 (fun H locs hP hD hS => ?_)
              have hP : va_P D vwCl (wB ad d n kk ff ss w so fa (upd de nx1 (nI 0)) go ba ma) H := hP
              have hD : va_D A (wB ad d n kk ff ss w so fa (upd de nx1 (nI 0)) go ba ma) := hD
              refine lv_iinc (v := nI nx1 - nI 1) (lv' := [(4, .int (nI nx1 - nI 1)), (0, .ref (ad 0)), (1, .int (nI ln)), (2, .int (bI v)), (3, .int (nI fr)), (5, .int (nI vc)), (6, .int (nI r)), (8, .int (nI a))]) hx hb dX0_search_109 hl (k := 4) rfl (k_sd nx1) (by decide) rfl (fun ls hl => ?_)
              refine lv_goto (tgt := 194) hx hb dX0_search_112 (by decide) ?_
              refine lv_iinc (v := nI (r + 1)) (lv' := [(6, .int (nI (r + 1))), (4, .int (nI nx1 - nI 1)), (0, .ref (ad 0)), (1, .int (nI ln)), (2, .int (bI v)), (3, .int (nI fr)), (5, .int (nI vc)), (8, .int (nI a))]) hx hb dX0_search_194 hl (k := 6) rfl (k_inc r) (by decide) rfl (fun ls hl => ?_)
              refine lv_goto (tgt := 32) hx hb dX0_search_197 (by decide) ?_
              exact ihm nx1 vc (r + 1) (upd de nx1 (nI 0)) go ba ma (by omega) (by omega) (by omega) hvc t1 (de_up hde t2) hlow _ _ hP hD hS ls (lv_sub hl [2, 3, 4, 5, 1, 6, 0] rfl)
            · have hn0 : nx = 0 := by
                rcases Nat.eq_zero_or_pos nx with h | h
                · exact h
                · exact absurd ((k_nx nx (by omega)).mpr h) (by first | exact c6 | exact Int32.not_le.mpr c6)
              subst hn0
              have hfv : fr < vc + 1 := hF3 c5
              refine lv_iload hx hb dX0_search_93 (lv_at hl 5 rfl) ?_
              exact W.iret (v := nI vc) hx hb hr (fun t9 ht9 hW9 => ⟨⟨nI vc, ((n, kk, ff, ss, w), zz so fa de go ba ma), rfl, ⟨de, go, ba, ma, rfl, (tfr_hit (by omega) hvc hlow (hF1 (by have := hF2 rfl; omega) vc (Nat.le_refl _) (by omega))).symm⟩, by rw [ht9]; exact hP, va_K.moved hW9.alike hK, hD⟩, hS.F ht9⟩) hS.2.2 dX0_search_95
        refine k_ne (by omega) (by omega) (tgt := 83) hx hb dX0_search_74 (by decide) (fun c3 => ?_) (fun c3 => ?_)
        · exact K83  (fun h => absurd h c3) _ _ hP hD hS ls (lv_sub hl [1, 2, 3, 4, 5, 6, 7, 0] rfl)
        · refine lv_iload hx hb dX0_search_77 (lv_at hl 6 rfl) ?_
          refine lv_iload_n hx hb dX0_search_79 rfl (lv_at hl 4 rfl) ?_
          refine k_ge (by omega) (by omega) (tgt := 93) hx hb dX0_search_80 (by decide) (fun c4 => ?_) (fun c4 => ?_)
          · refine lv_iload hx hb dX0_search_93 (lv_at hl 6 rfl) ?_
            exact W.iret (v := nI vc) hx hb hr (fun t9 ht9 hW9 => ⟨⟨nI vc, ((n, kk, ff, ss, w), zz so fa de go ba ma), rfl, ⟨de, go, ba, ma, rfl, (tfr_hit c4 hvc hlow (hF1 c3 vc (Nat.le_refl _) (by omega))).symm⟩, by rw [ht9]; exact hP, va_K.moved hW9.alike hK, hD⟩, hS.F ht9⟩) hS.2.2 dX0_search_95
          · exact K83  (fun _ => c4) _ _ hP hD hS ls (lv_sub hl [1, 2, 3, 4, 5, 6, 7, 0] rfl)
      refine lv_istore (lv' := [(7, .int (nI (vc + 2 ^ nx - 1))), (0, .ref (ad 0)), (1, .int (nI ln)), (2, .int (bI v)), (3, .int (nI fr)), (4, .int (nI nx - nI 1)), (5, .int (nI vc)), (6, .int (nI r))]) hx hb dX0_search_51 hl (by decide) rfl (fun ls hl => ?_)
      refine lv_iload hx hb dX0_search_53 (lv_at hl 0 rfl) ?_
      refine lv_iload_n hx hb dX0_search_55 rfl (lv_at hl 4 rfl) ?_
      refine k_ge (by omega) (by omega) (tgt := 63) hx hb dX0_search_56 (by decide) (fun c2 => ?_) (fun c2 => ?_)
      · refine lv_aload_n hx hb dX0_search_63 rfl (lv_at hl 1 rfl) ?_
        refine lv_iload_n hx hb dX0_search_64 rfl (lv_at hl 2 rfl) ?_
        refine lv_iload_n hx hb dX0_search_65 rfl (lv_at hl 3 rfl) ?_
        refine k_callA (u := ((n, kk, ff, ss, w), zz so fa de go ba ma)) (As := [.int (nI ln), .int (bI v)]) (rest := []) ⟨hx, hb, hml, hown, hts⟩ (mA_imply l D ad d n kk ff ss w so fa de go ba ma H.size ln v (dcF nx vc) hw hln (fun j hj => ⟨hde j hj, dc_3 nx vc j⟩)) (cwV 2 hts (lw_V q121 q123 qs4 q10 q124) rfl rfl rfl (by decide +kernel) ⟨Nat.le_of_ble_eq_true rfl, Nat.le_of_ble_eq_true rfl⟩) hP hD hK hS hA rfl hl.1 rfl (Nat.le_of_ble_eq_true rfl) dX0_search_66 ⟨Nat.zero_le _, Nat.zero_le _⟩ (fun r1 u1 H locs hp hP hD hS => ?_)
        obtain ⟨go1, ba1, ma1, a, rfl, rfl, q1, q2, q3, q4⟩ := hp
        have hP : va_P D vwCl (wB ad d n kk ff ss w so fa de go1 ba1 ma1) H := hP
        have hD : va_D A (wB ad d n kk ff ss w so fa de go1 ba1 ma1) := hD
        exact K69 a go1 ba1 ma1 q1 (fun h q h1 h2 _ => q2 h q (dc_cm (by omega) hvc (by omega) hmod h1 h2)) (fun h q h1 h2 => q3 h q (dc_cm (by omega) hvc (by omega) hmod h1 h2)) (fun h => by subst h; exact q4 dc_ad) (fun _ => by omega) _ _ hP hD hS ls (lv_sub hl [1, 2, 3, 4, 5, 6, 7] rfl)
      · refine lv_iconst (v := nI 0) hx hb dX0_search_59 (by decide) ?_
        refine lv_goto (tgt := 69) hx hb dX0_search_60 (by decide) ?_
        exact K69 0 go ba ma (by decide) (fun _ q h1 h2 h3 => absurd h3 (by omega)) (fun h => absurd h (by decide)) (fun _ => by decide) (fun h => absurd rfl h) _ _ hP hD hS ls (lv_sub hl [1, 2, 3, 4, 5, 6, 7] rfl)
  refine lv_iconst (v := nI 0) hx hb dX0_search_0 (by decide) ?_
  refine lv_istore (lv' := [(4, .int (nI 0)), (0, .ref (ad 0)), (1, .int (nI ln)), (2, .int (bI v)), (3, .int (nI fr))]) hx hb dX0_search_1 hl (by decide) rfl (fun ls hl => ?_)
  have fill : ∀ (f i : Nat) (de : Nat → Int32), i ≤ 5 → 5 + 1 ≤ i + f → (∀ j, j < i → de j = nI 2) → ∀ (H : Heap) (locs : List Loc), va_P D vwCl (wB ad d n kk ff ss w so fa de go ba ma) H → va_D A (wB ad d n kk ff ss w so fa de go ba ma) → va_S A s.heap H locs → ∀ (ls : Array Slot), lv_has ls 10 [(0, .ref (ad 0)), (1, .int (nI ln)), (2, .int (bI v)), (3, .int (nI fr)), (4, .int (nI i))] → W p l e (headSpec (ws_ yX0_search cX0_search 10 (some .int)) ({ frames := 3, cells := 0, slots := 0, locals := 72 })).room s m ([.ref (ad 0), .int (nI ln), .int (bI v), .int (nI fr)] : List Value).toArray below meth c H locs 0 0 (MQ below (va_Qi (fun (r : Int32) (u1 : TS) => ∃ de1 go1 ba1 ma1 : Nat → Int32, u1 = ((n, kk, ff, ss, w), zz so fa de1 go1 ba1 ma1) ∧ r = tfr (fun q => shw kk ff ss w ln v q n) (nI fr)) (BA D ad d A) A) ([.ref (ad 0), .int (nI ln), .int (bI v), .int (nI fr)] : List Value).toArray s 0 0 A) (F0 m 3 ls []) := by
    intro f
    induction f with
    | zero =>
      intro i de h1 h2
      exact absurd h2 (by omega)
    | succ f ih =>
      intro i de hi hf hde H locs hP hD hS ls hl
      refine lv_iload hx hb dX0_search_3 (lv_at hl 4 rfl) ?_
      refine lv_iconst (v := nI 5) hx hb dX0_search_5 (by decide) ?_
      refine k_ge (by omega) (by omega) (tgt := 23) hx hb dX0_search_6 (by decide) (fun c1 => ?_) (fun c1 => ?_)
      · have e5 : i = 5 := by omega
        subst e5
        refine lv_iconst (v := nI 4) hx hb dX0_search_23 (by decide) ?_
        refine k_ti (y := nI 5 - nI 1) (by decide) ?_
        refine lv_istore (lv' := [(4, .int (nI 5 - nI 1)), (0, .ref (ad 0)), (1, .int (nI ln)), (2, .int (bI v)), (3, .int (nI fr))]) hx hb dX0_search_24 hl (by decide) rfl (fun ls hl => ?_)
        refine lv_iconst (v := nI 0) hx hb dX0_search_26 (by decide) ?_
        refine lv_istore (lv' := [(5, .int (nI 0)), (4, .int (nI 5 - nI 1)), (0, .ref (ad 0)), (1, .int (nI ln)), (2, .int (bI v)), (3, .int (nI fr))]) hx hb dX0_search_27 hl (by decide) rfl (fun ls hl => ?_)
        refine lv_iconst (v := nI 0) hx hb dX0_search_29 (by decide) ?_
        refine lv_istore (lv' := [(6, .int (nI 0)), (5, .int (nI 0)), (4, .int (nI 5 - nI 1)), (0, .ref (ad 0)), (1, .int (nI ln)), (2, .int (bI v)), (3, .int (nI fr))]) hx hb dX0_search_30 hl (by decide) rfl (fun ls hl => ?_)
        exact main 198 5 0 0 de go ba ma (by decide) (by decide) (by decide) (by decide) (by decide) (fun j hj => (hde j hj).trans (by unfold dcF; rw [if_pos hj])) (fun q hq => absurd hq (by omega)) _ _ hP hD hS ls (lv_sub hl [3, 4, 5, 6, 2, 1, 0] rfl)
      · refine lv_aload_n hx hb dX0_search_9 rfl (lv_at hl 0 rfl) ?_
        refine va_get (D := D) (ci := 0) (v := .ref (ad 6)) (C := RX0) (T := TX0) (N := 11) hx hb hts in_X0 hown hK hP 0 rfl rfl 7 (by decide) (hts _ q27) (fun _ h9 => h9) rfl dX0_search_10 ?_
        refine lv_iload hx hb dX0_search_13 (lv_at hl 4 rfl) ?_
        refine lv_iconst (v := nI 2) hx hb dX0_search_15 (by decide) ?_
        refine k_bst hx hb hK hP hD hS 6 0 rfl rfl (y := nI 2) (by decide) (by omega) (k_vb _ (by omega)) dX0_search_16 (fun H locs hP hD hS => ?_)
        have hP : va_P D vwCl (wB ad d n kk ff ss w so fa (upd de i (nI 2)) go ba ma) H := hP
        have hD : va_D A (wB ad d n kk ff ss w so fa (upd de i (nI 2)) go ba ma) := hD
        refine lv_iinc (v := nI (i + 1)) (lv' := [(4, .int (nI (i + 1))), (0, .ref (ad 0)), (1, .int (nI ln)), (2, .int (bI v)), (3, .int (nI fr))]) hx hb dX0_search_17 hl (k := 4) rfl (k_inc i) (by decide) rfl (fun ls hl => ?_)
        refine lv_goto (tgt := 3) hx hb dX0_search_20 (by decide) ?_
        exact ih (i + 1) (upd de i (nI 2)) (by omega) (by omega) (fun j hj => by
            by_cases e : j = i
            · subst e; exact pk_us
            · exact (pk_un e).trans (hde j (by omega))) _ _ hP hD hS ls (lv_sub hl [1, 2, 3, 4, 0] rfl)
  exact fill 6 0 de (by decide) (by decide) (fun j h => by omega) _ _ hP hD hS ls (lv_sub hl [1, 2, 3, 4, 0] rfl)
end
section
/-! ===== the answers, case by case ===== -/
theorem lnX_bI (v : Bool) : lnX 2 (bI v) = some v.toNat := lnX_some (Bool.toNat_lt v) (by decide)
theorem bI_b1 (v : Bool) : (v.toNat == 1) = v := by cases v <;> rfl
theorem isX_bit {p r : Int32} (h : isX 2 p r) : (r = nI 1 ∧ ∃ v : Bool, p = bI v) ∨ (r = nI 0 ∧ lnX 2 p = none) := by
  rcases h with ⟨h1, j, hj, h2⟩ | h
  · refine Or.inl ⟨h1, j == 1, ?_⟩
    rcases (show j = 0 ∨ j = 1 by omega) with rfl | rfl
    · exact h2
    · exact h2
  · exact Or.inr h
theorem bit_or (p : Int32) : (∃ v : Bool, p = bI v) ∨ lnX 2 p = none := by
  cases h : lnX 2 p with
  | none => exact Or.inr rfl
  | some j =>
    refine Or.inl ⟨j == 1, ?_⟩
    have hj := lnX_lt h
    unfold lnX at h
    split at h
    · rename_i q
      obtain ⟨k, hk, e⟩ := nI_of (x := p) (Int32.not_lt.mpr q.1)
      subst e
      rw [nI_clamp hk] at h
      cases h
      rcases (show j = 0 ∨ j = 1 by omega) with rfl | rfl <;> rfl
    · cases h
theorem ln_or {n : Nat} (hn : n < 2 ^ 31) (p : Int32) : (∃ j, j < n ∧ p = nI j) ∨ lnX n p = none := by
  cases h : lnX n p with
  | none => exact Or.inr rfl
  | some j =>
    have hj := lnX_lt h
    refine Or.inl ⟨j, hj, ?_⟩
    unfold lnX at h
    split at h
    · rename_i q
      obtain ⟨k, hk, e⟩ := nI_of (x := p) (Int32.not_lt.mpr q.1)
      subst e
      rw [nI_clamp hk] at h
      cases h
      rfl
    · cases h
/-- what a check says of a known number -/
theorem isX_at {n j : Nat} {r : Int32} (hj : j < n) (hn : n < 2 ^ 31) (h : isX n (nI j) r) : r = nI 1 := by
  rcases h with h | h
  · exact h.1
  · rw [lnX_some hj hn] at h
    exact absurd h.2 (by simp)
theorem isX_no {n : Nat} {p r : Int32} (hn : n < 2 ^ 31) (hno : lnX n p = none) (h : isX n p r) : r = nI 0 := by
  rcases h with ⟨-, j, hj, rfl⟩ | h
  · rw [lnX_some hj hn] at hno
    exact absurd hno (by simp)
  · exact h.1
theorem isB_at {v : Bool} {r : Int32} (h : isX 2 (bI v) r) : r = nI 1 := isX_at (Bool.toNat_lt v) (by decide) h
theorem r_value_n1 {C : TC} {p q : Int32} (h : lnX C.1 p = none) : r_value C p q = -1 := by
  unfold r_value; rw [h]
theorem r_value_n2 {C : TC} {p q : Int32} (h : lnX 32 q = none) : r_value C p q = -1 := by
  unfold r_value; rw [h]; cases lnX C.1 p <;> rfl
theorem r_value_s {C : TC} {j k : Nat} (hj : j < C.1) (hn : C.1 ≤ 16) (hk : k < 32) : r_value C (nI j) (nI k) = bI (vC C k j) := by
  unfold r_value; rw [lnX_some hj (by omega), lnX_some hk (by omega)]
theorem r_shows_n1 {C : TC} {q p v : Int32} (h : lnX C.1 p = none) : r_shows C q p v = nI 0 := by
  unfold r_shows; rw [h]
theorem r_shows_n2 {C : TC} {q p v : Int32} (h : lnX 2 v = none) : r_shows C q p v = nI 0 := by
  unfold r_shows; rw [h]; cases lnX C.1 p <;> rfl
theorem r_shows_n3 {C : TC} {q p v : Int32} (h : lnX 32 q = none) : r_shows C q p v = nI 0 := by
  unfold r_shows; rw [h]; cases lnX C.1 p <;> cases lnX 2 v <;> rfl
theorem r_shows_s {C : TC} {j k : Nat} {v : Bool} (hj : j < C.1) (hn : C.1 ≤ 16) (hk : k < 32) : r_shows C (nI k) (nI j) (bI v) = bI (sC C j v k) := by
  unfold r_shows; rw [lnX_some hj (by omega), lnX_some hk (by omega), lnX_bI]
  show bI (sC C j (v.toNat == 1) k) = _
  rw [bI_b1]
theorem r_shows_b {C : TC} {j k : Nat} {v b : Bool} (hj : j < C.1) (hn : C.1 ≤ 16) (hk : k < 32) (h : sC C j v k = b) : r_shows C (nI k) (nI j) (bI v) = bI b := by
  rw [r_shows_s hj hn hk, h]
theorem r_testFrom_n1 {C : TC} {p v f : Int32} (h : lnX C.1 p = none) : r_testFrom C p v f = -1 := by
  unfold r_testFrom; rw [h]
theorem r_testFrom_n2 {C : TC} {p v f : Int32} (h : lnX 2 v = none) : r_testFrom C p v f = -1 := by
  unfold r_testFrom; rw [h]; cases lnX C.1 p <;> rfl
theorem r_testFrom_s {C : TC} {j : Nat} {v : Bool} {f : Int32} (hj : j < C.1) (hn : C.1 ≤ 16) : r_testFrom C (nI j) (bI v) f = tfr (sC C j v) f := by
  unfold r_testFrom; rw [lnX_some hj (by omega), lnX_bI]
  show tfr (sC C j (v.toNat == 1)) f = _
  rw [bI_b1]
theorem r_hidden_n {C : TC} {v : Int32} (h : lnX 2 v = none) : r_hidden C v = nI 0 := by
  unfold r_hidden; rw [h]
theorem r_hidden_s {C : TC} {v : Bool} : r_hidden C (bI v) = hid C (bI v) C.1 := by
  unfold r_hidden; rw [lnX_bI]
theorem r_shownBy_n {C : TC} {q : Int32} (h : lnX 32 q = none) : r_shownBy C q = -1 := by
  unfold r_shownBy; rw [h]
theorem r_shownBy_s {C : TC} {k : Nat} (h : k < 32) : r_shownBy C (nI k) = cnt C (nI k) C.1 := by
  unfold r_shownBy; rw [lnX_some h (by omega)]
theorem r_alike_n1 {C : TC} {a v b w : Int32} (h : lnX C.1 a = none) : r_alike C a v b w = nI 0 := by
  unfold r_alike; rw [h]
theorem r_alike_n2 {C : TC} {a v b w : Int32} (h : lnX 2 v = none) : r_alike C a v b w = nI 0 := by
  unfold r_alike; rw [h]; cases lnX C.1 a <;> rfl
theorem r_alike_n3 {C : TC} {a v b w : Int32} (h : lnX C.1 b = none) : r_alike C a v b w = nI 0 := by
  unfold r_alike; rw [h]; cases lnX C.1 a <;> cases lnX 2 v <;> rfl
theorem r_alike_n4 {C : TC} {a v b w : Int32} (h : lnX 2 w = none) : r_alike C a v b w = nI 0 := by
  unfold r_alike; rw [h]; cases lnX C.1 a <;> cases lnX 2 v <;> cases lnX C.1 b <;> rfl
theorem r_alike_s {C : TC} {a b : Nat} {v w : Bool} (ha : a < C.1) (hb : b < C.1) (hn : C.1 ≤ 16) : r_alike C (nI a) (bI v) (nI b) (bI w) = bI (alk C (nI a) (bI v) (nI b) (bI w) 32) := by
  unfold r_alike; rw [lnX_some ha (by omega), lnX_some hb (by omega), lnX_bI, lnX_bI]
theorem r_ones_n {C : TC} {p : Int32} (h : lnX C.1 p = none) : r_ones C p = -1 := by
  unfold r_ones; rw [h]
theorem r_ones_s {C : TC} {j : Nat} (h : j < C.1) (hn : C.1 ≤ 16) : r_ones C (nI j) = one C (nI j) 32 := by
  unfold r_ones; rw [lnX_some h (by omega)]
theorem alk_iff {C : TC} {a b : Nat} {v w : Bool} (ha : a < C.1) (hb : b < C.1) (hn : C.1 ≤ 16) : ∀ m, m ≤ 32 → (alk C (nI a) (bI v) (nI b) (bI w) m = true ↔ ∀ k, k < m → sC C a v k = sC C b w k) := by
  intro m
  induction m with
  | zero => intro _; exact ⟨fun _ k hk => by omega, fun _ => rfl⟩
  | succ m ih =>
    intro hm
    show (alk C (nI a) (bI v) (nI b) (bI w) m && decide (r_shows C (nI m) (nI a) (bI v) = r_shows C (nI m) (nI b) (bI w))) = true ↔ _
    rw [Bool.and_eq_true, ih (by omega), decide_eq_true_iff, r_shows_s ha hn (by omega), r_shows_s hb hn (by omega)]
    constructor
    · rintro ⟨h1, h2⟩ k hk
      by_cases e : k = m
      · subst e; exact bI_inj h2
      · exact h1 k (by omega)
    · intro h
      exact ⟨fun k hk => h k (by omega), by rw [h m (by omega)]⟩
theorem alk_t {C : TC} {a b : Nat} {v w : Bool} {x y : Int32} (ha : a < C.1) (hb : b < C.1) (hn : C.1 ≤ 16) (hx : ∀ q, q < 32 → bt x q = sC C a v q) (hy : ∀ q, q < 32 → bt y q = sC C b w q) (h : x = y) : alk C (nI a) (bI v) (nI b) (bI w) 32 = true := by
  refine (alk_iff ha hb hn 32 (by omega)).mpr (fun k hk => ?_)
  rw [← hx k hk, ← hy k hk, h]
theorem alk_f {C : TC} {a b : Nat} {v w : Bool} {x y : Int32} (ha : a < C.1) (hb : b < C.1) (hn : C.1 ≤ 16) (hx : ∀ q, q < 32 → bt x q = sC C a v q) (hy : ∀ q, q < 32 → bt y q = sC C b w q) (h : ¬ x = y) : alk C (nI a) (bI v) (nI b) (bI w) 32 = false := by
  cases e : alk C (nI a) (bI v) (nI b) (bI w) 32
  · rfl
  · refine absurd (b_ext (fun i hi => ?_)) h
    rw [hx i hi, hy i hi, (alk_iff ha hb hn 32 (by omega)).mp e i hi]
theorem alk_mono {C : TC} {a v b w : Int32} {m : Nat} (h : alk C a v b w m = false) : ∀ f, alk C a v b w (m + f) = false := by
  intro f
  induction f with
  | zero => exact h
  | succ f ih =>
    show (alk C a v b w (m + f) && _) = false
    rw [ih, Bool.false_and]
theorem k_or0 (x : Int32) : x ||| nI 0 = x := by
  apply b_ext
  intro i _
  rw [b_or, show bt (nI 0) i = false from b_0 i, Bool.or_false]
theorem gk_n {C : TC} {k x y : Int32} (h : lnX 6 k = none) : g_ok C k x y = none := by
  unfold g_ok; rw [h]
theorem gk_neg {C : TC} {k x y : Int32} (h : k < 0) : g_ok C k x y = none := gk_n (by
  rcases isX_neg (n := 6) h with q | q
  · exact absurd q.1 (by decide)
  · exact q.2)
theorem gk_gt {C : TC} {k x y : Int32} (h : nI 5 < k) : g_ok C k x y = none := gk_n (by
  rcases isX_ge (n := 6) (p := k) (by decide) (by
    rw [Int32.le_iff_toInt_le, nI_toInt (by omega)]
    rw [Int32.lt_iff_toInt_lt, nI_toInt (by omega)] at h
    omega) with q | q
  · exact absurd q.1 (by decide)
  · exact q.2)
theorem gk_x {C : TC} {k x y : Int32} (h : lnX C.1 x = none) : g_ok C k x y = none := by
  unfold g_ok; rw [h]; cases lnX 6 k <;> rfl
theorem gk_y {C : TC} {k : Nat} {x y : Int32} (hk : k < 6) (h5 : k ≠ 5) (h : lnX C.1 y = none) : g_ok C (nI k) x y = none := by
  unfold g_ok
  rw [lnX_some hk (by omega), h]
  cases lnX C.1 x with
  | none => rfl
  | some z =>
    show (if k = 5 then some (k, z, z) else none) = none
    rw [if_neg h5]
theorem gk_5 {C : TC} {k x : Nat} {y : Int32} (hn : C.1 ≤ 16) (hk : k < 6) (h5 : k = 5) (hx : x < C.1) : g_ok C (nI k) (nI x) y = some (k, x, x) := by
  unfold g_ok
  rw [lnX_some hk (by omega), lnX_some hx (by omega)]
  show (if k = 5 then some (k, x, x) else _) = _
  rw [if_pos h5]
theorem gk_s {C : TC} {k x y : Nat} (hn : C.1 ≤ 16) (hk : k < 6) (h5 : k ≠ 5) (hx : x < C.1) (hy : y < C.1) : g_ok C (nI k) (nI x) (nI y) = some (k, x, y) := by
  unfold g_ok
  rw [lnX_some hk (by omega), lnX_some hx (by omega), lnX_some hy (by omega)]
  show (if k = 5 then _ else some (k, x, y)) = _
  rw [if_neg h5]
theorem cg_n {C : TC} {k x y : Int32} (h : g_ok C k x y = none) : c_gate C k x y = (-1, C) := by
  unfold c_gate; rw [h]
theorem cg_f {C : TC} {k x y : Int32} {t : Nat × Nat × Nat} (h : g_ok C k x y = some t) (h16 : ¬ C.1 < 16) : c_gate C k x y = (-2, C) := by
  unfold c_gate; rw [h]
  show (if C.1 < 16 then _ else _) = _
  rw [if_neg h16]
theorem cg_s {C : TC} {k x y : Int32} {a b c : Nat} (h : g_ok C k x y = some (a, b, c)) (h16 : C.1 < 16) : c_gate C k x y = (nI C.1, (C.1 + 1, upn C.2.1 C.1 a, upn C.2.2.1 C.1 b, upn C.2.2.2.1 C.1 c, C.2.2.2.2)) := by
  unfold c_gate; rw [h]
  show (if C.1 < 16 then _ else _) = _
  rw [if_pos h16]
theorem cd_5 {C : TC} (h : C.1 = 5) : c_drop C = (-1, C) := by
  unfold c_drop; rw [if_pos h]
theorem cd_n {C : TC} (h : C.1 ≠ 5) : c_drop C = (nI (C.1 - 1), (C.1 - 1, C.2.1, C.2.2.1, C.2.2.2.1, C.2.2.2.2 &&& ((nI 1 <<< (nI (C.1 - 1) &&& 31)) ^^^ (-1)))) := by
  unfold c_drop; rw [if_neg h]
theorem cw_n {C : TC} {p : Int32} {on : Bool} (h : lnX C.1 p = none) : c_watch C p on = (nI 0, C) := by
  unfold c_watch; rw [h]
theorem cw_s {C : TC} {j : Nat} {on : Bool} (hj : j < C.1) (hn : C.1 ≤ 16) : c_watch C (nI j) on = (nI 1, (C.1, C.2.1, C.2.2.1, C.2.2.2.1, if on = true then C.2.2.2.2 ||| (nI 1 <<< (nI j &&& 31)) else C.2.2.2.2 &&& ((nI 1 <<< (nI j &&& 31)) ^^^ (-1)))) := by
  unfold c_watch; rw [lnX_some hj (by omega)]
theorem k_kd {p : Int32} (h0 : ¬ p < 0) (h5 : ¬ nI 5 < p) : ∃ j, j < 6 ∧ p = nI j := by
  obtain ⟨j, hj, e⟩ := nI_of h0
  subst e
  rw [nI_ltI (by omega) hj] at h5
  exact ⟨j, by omega, rfl⟩
theorem k_fr {p : Int32} (h0 : 0 ≤ p) (h5 : p ≤ nI 31) : ∃ j, j < 32 ∧ p = nI j := by
  obtain ⟨j, hj, e⟩ := nI_of (x := p) (Int32.not_lt.mpr h0)
  subst e
  rw [nI_leI hj (by omega)] at h5
  exact ⟨j, by omega, rfl⟩
end
section
set_option maxHeartbeats 4000000 in
set_option maxRecDepth 100000 in
theorem mA_lines (l : Launch) (D : va_G) (ad : Nat → Nat) (d : Nat → ClassId) (n : Nat) (kk ff ss : Nat → Nat) (w : Int32) (so fa de go ba ma : Nat → Int32) (sz : Nat)  : MetA l D ad d yX0_lines (ws_ yX0_lines cX0_lines 1 (some .int)) ({ frames := 0, cells := 0, slots := 0, locals := 0 }) ((n, kk, ff, ss, w), zz so fa de go ba ma) sz [.ref (ad 0)] (fun (r : Int32) (u1 : TS) => r = nI n ∧ u1.1 = (n, kk, ff, ss, w)) := by
  refine Met.ofW (cc := cX0_lines) (maxL := 1) (ret := (some .int)) (by decide) rfl ?_
  intro p e s m args below meth c s₁ B hml hv
  obtain ⟨rfl, hsz, hP, hK, hD0⟩ := hv
  have hx := B.exec
  have hb := B.bytes
  have hr := B.returns
  have hts := atoms_spec (ws := (ws_ yX0_lines cX0_lines 1 (some .int))) B.pre
  have hts : ∀ w ∈ lw_all, w.before _ s = true := fun w h => hts w (List.mem_cons_of_mem _ h)
  have hown : s.vm.findClass RX0 = some m.cls := findClass_of_methodNamed B.named
  have hlocks := B.notSynchronized
  subst hsz
  have hD := hD0.self (sz := s.heap.size)
  generalize hAe : va_A (wC ad d ((n, kk, ff, ss, w), zz so fa de go ba ma)) s.heap.size = A at hD ⊢
  have hA : ∀ q : Nat, s.heap.size ≤ q → A q := fun q h => by rw [← hAe]; exact Or.inr h
  have hS : va_S A s.heap s.heap [] := va_S.rf
  have hD : va_D A (wB ad d n kk ff ss w so fa de go ba ma) := hD
  have hP : va_P D vwCl (wB ad d n kk ff ss w so fa de go ba ma) s.heap := hP
  have hl := lv_entry ([.ref (ad 0)]) (n := 1) (Nat.le_of_ble_eq_true rfl)
  rw [lg_entry_eq]
  generalize (lg_sl ([.ref (ad 0)]) ++ List.replicate (1 - (lg_sl ([.ref (ad 0)])).length) Slot.unset).toArray = ls at hl ⊢
  have hl : lv_has ls 1 [(0, .ref (ad 0))] := hl
  refine lv_aload_n hx hb dX0_lines_0 rfl (lv_at hl 0 rfl) ?_
  refine va_get (D := D) (ci := 0) (v := .int (nI n)) (C := RX0) (T := TX0) (N := 11) hx hb hts in_X0 hown hK hP 0 rfl rfl 0 (by decide) (hts _ q20) (fun _ h9 => h9) rfl dX0_lines_1 ?_
  exact W.iret (v := nI n) hx hb hr (fun t9 ht9 hW9 => ⟨⟨nI n, ((n, kk, ff, ss, w), zz so fa de go ba ma), rfl, ⟨rfl, rfl⟩, by rw [ht9]; exact hP, va_K.moved hW9.alike hK, hD⟩, hS.F ht9⟩) hS.2.2 dX0_lines_4

set_option maxHeartbeats 4000000 in
set_option maxRecDepth 100000 in
theorem mA_watched (l : Launch) (D : va_G) (ad : Nat → Nat) (d : Nat → ClassId) (n : Nat) (kk ff ss : Nat → Nat) (w : Int32) (so fa de go ba ma : Nat → Int32) (sz : Nat)  : MetA l D ad d yX0_watched (ws_ yX0_watched cX0_watched 1 (some .int)) ({ frames := 0, cells := 0, slots := 0, locals := 0 }) ((n, kk, ff, ss, w), zz so fa de go ba ma) sz [.ref (ad 0)] (fun (r : Int32) (u1 : TS) => r = w ∧ u1.1 = (n, kk, ff, ss, w)) := by
  refine Met.ofW (cc := cX0_watched) (maxL := 1) (ret := (some .int)) (by decide) rfl ?_
  intro p e s m args below meth c s₁ B hml hv
  obtain ⟨rfl, hsz, hP, hK, hD0⟩ := hv
  have hx := B.exec
  have hb := B.bytes
  have hr := B.returns
  have hts := atoms_spec (ws := (ws_ yX0_watched cX0_watched 1 (some .int))) B.pre
  have hts : ∀ w ∈ lw_all, w.before _ s = true := fun w h => hts w (List.mem_cons_of_mem _ h)
  have hown : s.vm.findClass RX0 = some m.cls := findClass_of_methodNamed B.named
  have hlocks := B.notSynchronized
  subst hsz
  have hD := hD0.self (sz := s.heap.size)
  generalize hAe : va_A (wC ad d ((n, kk, ff, ss, w), zz so fa de go ba ma)) s.heap.size = A at hD ⊢
  have hA : ∀ q : Nat, s.heap.size ≤ q → A q := fun q h => by rw [← hAe]; exact Or.inr h
  have hS : va_S A s.heap s.heap [] := va_S.rf
  have hD : va_D A (wB ad d n kk ff ss w so fa de go ba ma) := hD
  have hP : va_P D vwCl (wB ad d n kk ff ss w so fa de go ba ma) s.heap := hP
  have hl := lv_entry ([.ref (ad 0)]) (n := 1) (Nat.le_of_ble_eq_true rfl)
  rw [lg_entry_eq]
  generalize (lg_sl ([.ref (ad 0)]) ++ List.replicate (1 - (lg_sl ([.ref (ad 0)])).length) Slot.unset).toArray = ls at hl ⊢
  have hl : lv_has ls 1 [(0, .ref (ad 0))] := hl
  refine lv_aload_n hx hb dX0_watched_0 rfl (lv_at hl 0 rfl) ?_
  refine va_get (D := D) (ci := 0) (v := .int w) (C := RX0) (T := TX0) (N := 11) hx hb hts in_X0 hown hK hP 0 rfl rfl 4 (by decide) (hts _ q24) (fun _ h9 => h9) rfl dX0_watched_1 ?_
  exact W.iret (v := w) hx hb hr (fun t9 ht9 hW9 => ⟨⟨w, ((n, kk, ff, ss, w), zz so fa de go ba ma), rfl, ⟨rfl, rfl⟩, by rw [ht9]; exact hP, va_K.moved hW9.alike hK, hD⟩, hS.F ht9⟩) hS.2.2 dX0_watched_4

set_option maxHeartbeats 4000000 in
set_option maxRecDepth 100000 in
theorem mA_drop (l : Launch) (D : va_G) (ad : Nat → Nat) (d : Nat → ClassId) (n : Nat) (kk ff ss : Nat → Nat) (w : Int32) (so fa de go ba ma : Nat → Int32) (sz : Nat)  (hw : wfC n kk ff ss) : MetA l D ad d yX0_drop (ws_ yX0_drop cX0_drop 1 (some .int)) ({ frames := 0, cells := 0, slots := 0, locals := 0 }) ((n, kk, ff, ss, w), zz so fa de go ba ma) sz [.ref (ad 0)] (fun (r : Int32) (u1 : TS) => r = (c_drop (n, kk, ff, ss, w)).1 ∧ u1.1 = (c_drop (n, kk, ff, ss, w)).2) := by
  refine Met.ofW (cc := cX0_drop) (maxL := 1) (ret := (some .int)) (by decide) rfl ?_
  intro p e s m args below meth c s₁ B hml hv
  obtain ⟨rfl, hsz, hP, hK, hD0⟩ := hv
  have hx := B.exec
  have hb := B.bytes
  have hr := B.returns
  have hts := atoms_spec (ws := (ws_ yX0_drop cX0_drop 1 (some .int))) B.pre
  have hts : ∀ w ∈ lw_all, w.before _ s = true := fun w h => hts w (List.mem_cons_of_mem _ h)
  have hown : s.vm.findClass RX0 = some m.cls := findClass_of_methodNamed B.named
  have hlocks := B.notSynchronized
  subst hsz
  have hD := hD0.self (sz := s.heap.size)
  generalize hAe : va_A (wC ad d ((n, kk, ff, ss, w), zz so fa de go ba ma)) s.heap.size = A at hD ⊢
  have hA : ∀ q : Nat, s.heap.size ≤ q → A q := fun q h => by rw [← hAe]; exact Or.inr h
  have hS : va_S A s.heap s.heap [] := va_S.rf
  have hD : va_D A (wB ad d n kk ff ss w so fa de go ba ma) := hD
  have hP : va_P D vwCl (wB ad d n kk ff ss w so fa de go ba ma) s.heap := hP
  have hl := lv_entry ([.ref (ad 0)]) (n := 1) (Nat.le_of_ble_eq_true rfl)
  rw [lg_entry_eq]
  generalize (lg_sl ([.ref (ad 0)]) ++ List.replicate (1 - (lg_sl ([.ref (ad 0)])).length) Slot.unset).toArray = ls at hl ⊢
  have hl : lv_has ls 1 [(0, .ref (ad 0))] := hl
  obtain ⟨hn5, hn16, hwf⟩ := hw
  refine lv_aload_n hx hb dX0_drop_0 rfl (lv_at hl 0 rfl) ?_
  refine va_get (D := D) (ci := 0) (v := .int (nI n)) (C := RX0) (T := TX0) (N := 11) hx hb hts in_X0 hown hK hP 0 rfl rfl 0 (by decide) (hts _ q20) (fun _ h9 => h9) rfl dX0_drop_1 ?_
  refine lv_iconst (v := nI 5) hx hb dX0_drop_4 (by decide) ?_
  refine k_ne (by omega) (by omega) (tgt := 10) hx hb dX0_drop_5 (by decide) (fun c1 => ?_) (fun c1 => ?_)
  · refine lv_aload_n hx hb dX0_drop_10 rfl (lv_at hl 0 rfl) ?_
    refine lv_dup hx hb dX0_drop_11 rfl ?_
    refine va_get (D := D) (ci := 0) (v := .int (nI n)) (C := RX0) (T := TX0) (N := 11) hx hb hts in_X0 hown hK hP 0 rfl rfl 0 (by decide) (hts _ q20) (fun _ h9 => h9) rfl dX0_drop_12 ?_
    refine lv_iconst (v := nI 1) hx hb dX0_drop_15 (by decide) ?_
    refine lv_isub hx hb dX0_drop_16 ?_
    refine k_ti (y := nI (n - 1)) (pk_sub (by omega)) ?_
    refine va_put (D := D) (ci := 0) (v := .int (nI (n - 1))) (ty := .int) (C := RX0) (T := TX0) (N := 11) hx hb hts in_X0 tyX0 tyX0_ok nmX0 hown hK hP hD hS 0 rfl rfl 0 (by decide) (hts _ q20) (fun _ h9 => h9) rfl (by decide +kernel) rfl rfl (Nat.le_of_ble_eq_true rfl) dX0_drop_17 (fun H locs hP hD hS => ?_)
    have hP : va_P D vwCl (wB ad d (n - 1) kk ff ss w so fa de go ba ma) H := hP
    have hD : va_D A (wB ad d (n - 1) kk ff ss w so fa de go ba ma) := hD
    refine lv_aload_n hx hb dX0_drop_20 rfl (lv_at hl 0 rfl) ?_
    refine lv_dup hx hb dX0_drop_21 rfl ?_
    refine va_get (D := D) (ci := 0) (v := .int w) (C := RX0) (T := TX0) (N := 11) hx hb hts in_X0 hown hK hP 0 rfl rfl 4 (by decide) (hts _ q24) (fun _ h9 => h9) rfl dX0_drop_22 ?_
    refine lv_iconst (v := nI 1) hx hb dX0_drop_25 (by decide) ?_
    refine lv_aload_n hx hb dX0_drop_26 rfl (lv_at hl 0 rfl) ?_
    refine va_get (D := D) (ci := 0) (v := .int (nI (n - 1))) (C := RX0) (T := TX0) (N := 11) hx hb hts in_X0 hown hK hP 0 rfl rfl 0 (by decide) (hts _ q20) (fun _ h9 => h9) rfl dX0_drop_27 ?_
    refine lv_ishl hx hb dX0_drop_30 ?_
    refine lv_iconst (v := (-1)) hx hb dX0_drop_31 (by decide) ?_
    refine lv_ixor hx hb dX0_drop_32 ?_
    refine lv_iand hx hb dX0_drop_33 ?_
    refine va_put (D := D) (ci := 0) (v := .int (w &&& ((nI 1 <<< ((nI (n - 1)) &&& 31)) ^^^ (-1)))) (ty := .int) (C := RX0) (T := TX0) (N := 11) hx hb hts in_X0 tyX0 tyX0_ok nmX0 hown hK hP hD hS 0 rfl rfl 4 (by decide) (hts _ q24) (fun _ h9 => h9) rfl (by decide +kernel) rfl rfl (Nat.le_of_ble_eq_true rfl) dX0_drop_34 (fun H locs hP hD hS => ?_)
    have hP : va_P D vwCl (wB ad d (n - 1) kk ff ss (w &&& ((nI 1 <<< ((nI (n - 1)) &&& 31)) ^^^ (-1))) so fa de go ba ma) H := hP
    have hD : va_D A (wB ad d (n - 1) kk ff ss (w &&& ((nI 1 <<< ((nI (n - 1)) &&& 31)) ^^^ (-1))) so fa de go ba ma) := hD
    refine lv_aload_n hx hb dX0_drop_37 rfl (lv_at hl 0 rfl) ?_
    refine va_get (D := D) (ci := 0) (v := .int (nI (n - 1))) (C := RX0) (T := TX0) (N := 11) hx hb hts in_X0 hown hK hP 0 rfl rfl 0 (by decide) (hts _ q20) (fun _ h9 => h9) rfl dX0_drop_38 ?_
    exact W.iret (v := nI (n - 1)) hx hb hr (fun t9 ht9 hW9 => ⟨⟨nI (n - 1), ((n - 1, kk, ff, ss, w &&& ((nI 1 <<< ((nI (n - 1)) &&& 31)) ^^^ (-1))), zz so fa de go ba ma), rfl, by rw [cd_n c1]; exact ⟨rfl, rfl⟩, by rw [ht9]; exact hP, va_K.moved hW9.alike hK, hD⟩, hS.F ht9⟩) hS.2.2 dX0_drop_41
  · refine lv_iconst (v := (-1)) hx hb dX0_drop_8 (by decide) ?_
    exact W.iret (v := -1) hx hb hr (fun t9 ht9 hW9 => ⟨⟨-1, ((n, kk, ff, ss, w), zz so fa de go ba ma), rfl, by rw [cd_5 c1]; exact ⟨rfl, rfl⟩, by rw [ht9]; exact hP, va_K.moved hW9.alike hK, hD⟩, hS.F ht9⟩) hS.2.2 dX0_drop_9

set_option maxHeartbeats 4000000 in
set_option maxRecDepth 100000 in
theorem mA_watch (l : Launch) (D : va_G) (ad : Nat → Nat) (d : Nat → ClassId) (n : Nat) (kk ff ss : Nat → Nat) (w : Int32) (so fa de go ba ma : Nat → Int32) (sz : Nat) (p1 : Int32) (on : Bool) (hw : wfC n kk ff ss) : MetA l D ad d yX0_watch (ws_ yX0_watch cX0_watch 3 (some .boolean)) ({ frames := 1, cells := 0, slots := 0, locals := 21 }) ((n, kk, ff, ss, w), zz so fa de go ba ma) sz [.ref (ad 0), .int p1, .int (bI on)] (fun (r : Int32) (u1 : TS) => r = (c_watch (n, kk, ff, ss, w) p1 on).1 ∧ u1.1 = (c_watch (n, kk, ff, ss, w) p1 on).2) := by
  refine Met.ofW (cc := cX0_watch) (maxL := 3) (ret := (some .boolean)) (by decide) rfl ?_
  intro p e s m args below meth c s₁ B hml hv
  obtain ⟨rfl, hsz, hP, hK, hD0⟩ := hv
  have hx := B.exec
  have hb := B.bytes
  have hr := B.returns
  have hts := atoms_spec (ws := (ws_ yX0_watch cX0_watch 3 (some .boolean))) B.pre
  have hts : ∀ w ∈ lw_all, w.before _ s = true := fun w h => hts w (List.mem_cons_of_mem _ h)
  have hown : s.vm.findClass RX0 = some m.cls := findClass_of_methodNamed B.named
  have hlocks := B.notSynchronized
  subst hsz
  have hD := hD0.self (sz := s.heap.size)
  generalize hAe : va_A (wC ad d ((n, kk, ff, ss, w), zz so fa de go ba ma)) s.heap.size = A at hD ⊢
  have hA : ∀ q : Nat, s.heap.size ≤ q → A q := fun q h => by rw [← hAe]; exact Or.inr h
  have hS : va_S A s.heap s.heap [] := va_S.rf
  have hD : va_D A (wB ad d n kk ff ss w so fa de go ba ma) := hD
  have hP : va_P D vwCl (wB ad d n kk ff ss w so fa de go ba ma) s.heap := hP
  have hl := lv_entry ([.ref (ad 0), .int p1, .int (bI on)]) (n := 3) (Nat.le_of_ble_eq_true rfl)
  rw [lg_entry_eq]
  generalize (lg_sl ([.ref (ad 0), .int p1, .int (bI on)]) ++ List.replicate (3 - (lg_sl ([.ref (ad 0), .int p1, .int (bI on)])).length) Slot.unset).toArray = ls at hl ⊢
  have hl : lv_has ls 3 [(0, .ref (ad 0)), (1, .int p1), (2, .int (bI on))] := hl
  refine lv_aload_n hx hb dX0_watch_0 rfl (lv_at hl 0 rfl) ?_
  refine lv_iload_n hx hb dX0_watch_1 rfl (lv_at hl 1 rfl) ?_
  refine k_callAS (u := ((n, kk, ff, ss, w), zz so fa de go ba ma)) (As := [.int p1]) (rest := []) ⟨hx, hb, hml, hown, hts⟩ (mA_isLine l D ad d n kk ff ss w so fa de go ba ma s.heap.size p1 hw.2.1) (cwV 1 hts (lw_V q61 q63 qs0 q10 q64) rfl rfl rfl (by decide +kernel) ⟨Nat.le_of_ble_eq_true rfl, Nat.le_of_ble_eq_true rfl⟩) hP hD hK rfl hl.1 rfl (Nat.le_of_ble_eq_true rfl) dX0_watch_2 ⟨Nat.zero_le _, Nat.zero_le _⟩ (fun r hp => ?_)
  rcases hp with ⟨rfl, ln, hln, rfl⟩ | ⟨rfl, hno⟩
  · refine k_if_ne (by omega) (tgt := 10) hx hb dX0_watch_5 (by decide) (fun c9 => ?_) (fun c9 => absurd c9 (by decide))
    refine lv_aload_n hx hb dX0_watch_10 rfl (lv_at hl 0 rfl) ?_
    refine lv_iload_n hx hb dX0_watch_11 rfl (lv_at hl 2 rfl) ?_
    refine k_bif_eq (tgt := 26) hx hb dX0_watch_12 (by decide) (fun c1 => ?_) (fun c1 => ?_)
    · refine lv_aload_n hx hb dX0_watch_26 rfl (lv_at hl 0 rfl) ?_
      refine va_get (D := D) (ci := 0) (v := .int w) (C := RX0) (T := TX0) (N := 11) hx hb hts in_X0 hown hK hP 0 rfl rfl 4 (by decide) (hts _ q24) (fun _ h9 => h9) rfl dX0_watch_27 ?_
      refine lv_iconst (v := nI 1) hx hb dX0_watch_30 (by decide) ?_
      refine lv_iload_n hx hb dX0_watch_31 rfl (lv_at hl 1 rfl) ?_
      refine lv_ishl hx hb dX0_watch_32 ?_
      refine lv_iconst (v := (-1)) hx hb dX0_watch_33 (by decide) ?_
      refine lv_ixor hx hb dX0_watch_34 ?_
      refine lv_iand hx hb dX0_watch_35 ?_
      refine va_put (D := D) (ci := 0) (v := .int (w &&& ((nI 1 <<< (nI ln &&& 31)) ^^^ (-1)))) (ty := .int) (C := RX0) (T := TX0) (N := 11) hx hb hts in_X0 tyX0 tyX0_ok nmX0 hown hK hP hD hS 0 rfl rfl 4 (by decide) (hts _ q24) (fun _ h9 => h9) rfl (by decide +kernel) rfl rfl (Nat.le_of_ble_eq_true rfl) dX0_watch_36 (fun H locs hP hD hS => ?_)
      have hP : va_P D vwCl (wB ad d n kk ff ss (w &&& ((nI 1 <<< (nI ln &&& 31)) ^^^ (-1))) so fa de go ba ma) H := hP
      have hD : va_D A (wB ad d n kk ff ss (w &&& ((nI 1 <<< (nI ln &&& 31)) ^^^ (-1))) so fa de go ba ma) := hD
      refine lv_iconst (v := nI 1) hx hb dX0_watch_39 (by decide) ?_
      exact W.zret (v := nI 1) hx hb hr (rfl) (fun t9 ht9 hW9 => ⟨⟨nI 1, ((n, kk, ff, ss, w &&& ((nI 1 <<< (nI ln &&& 31)) ^^^ (-1))), zz so fa de go ba ma), rfl, by rw [cw_s hln hw.2.1, c1]; exact ⟨rfl, rfl⟩, by rw [ht9]; exact hP, va_K.moved hW9.alike hK, hD⟩, hS.F ht9⟩) hS.2.2 dX0_watch_40
    · refine lv_aload_n hx hb dX0_watch_15 rfl (lv_at hl 0 rfl) ?_
      refine va_get (D := D) (ci := 0) (v := .int w) (C := RX0) (T := TX0) (N := 11) hx hb hts in_X0 hown hK hP 0 rfl rfl 4 (by decide) (hts _ q24) (fun _ h9 => h9) rfl dX0_watch_16 ?_
      refine lv_iconst (v := nI 1) hx hb dX0_watch_19 (by decide) ?_
      refine lv_iload_n hx hb dX0_watch_20 rfl (lv_at hl 1 rfl) ?_
      refine lv_ishl hx hb dX0_watch_21 ?_
      refine lv_ior hx hb dX0_watch_22 ?_
      refine lv_goto (tgt := 36) hx hb dX0_watch_23 (by decide) ?_
      refine va_put (D := D) (ci := 0) (v := .int (w ||| (nI 1 <<< (nI ln &&& 31)))) (ty := .int) (C := RX0) (T := TX0) (N := 11) hx hb hts in_X0 tyX0 tyX0_ok nmX0 hown hK hP hD hS 0 rfl rfl 4 (by decide) (hts _ q24) (fun _ h9 => h9) rfl (by decide +kernel) rfl rfl (Nat.le_of_ble_eq_true rfl) dX0_watch_36 (fun H locs hP hD hS => ?_)
      have hP : va_P D vwCl (wB ad d n kk ff ss (w ||| (nI 1 <<< (nI ln &&& 31))) so fa de go ba ma) H := hP
      have hD : va_D A (wB ad d n kk ff ss (w ||| (nI 1 <<< (nI ln &&& 31))) so fa de go ba ma) := hD
      refine lv_iconst (v := nI 1) hx hb dX0_watch_39 (by decide) ?_
      exact W.zret (v := nI 1) hx hb hr (rfl) (fun t9 ht9 hW9 => ⟨⟨nI 1, ((n, kk, ff, ss, w ||| (nI 1 <<< (nI ln &&& 31))), zz so fa de go ba ma), rfl, by rw [cw_s hln hw.2.1, c1]; exact ⟨rfl, rfl⟩, by rw [ht9]; exact hP, va_K.moved hW9.alike hK, hD⟩, hS.F ht9⟩) hS.2.2 dX0_watch_40
  · refine k_if_ne (by omega) (tgt := 10) hx hb dX0_watch_5 (by decide) (fun c9 => absurd rfl c9) (fun c9 => ?_)
    refine lv_iconst (v := nI 0) hx hb dX0_watch_8 (by decide) ?_
    exact W.zret (v := nI 0) hx hb hr (rfl) (fun t9 ht9 hW9 => ⟨⟨nI 0, ((n, kk, ff, ss, w), zz so fa de go ba ma), rfl, by rw [cw_n hno]; exact ⟨rfl, rfl⟩, by rw [ht9]; exact hP, va_K.moved hW9.alike hK, hD⟩, hS.F ht9⟩) hS.2.2 dX0_watch_9

set_option maxHeartbeats 4000000 in
set_option maxRecDepth 100000 in
theorem mA_gate (l : Launch) (D : va_G) (ad : Nat → Nat) (d : Nat → ClassId) (n : Nat) (kk ff ss : Nat → Nat) (w : Int32) (so fa de go ba ma : Nat → Int32) (sz : Nat) (p1 p2 p3 : Int32) (hw : wfC n kk ff ss) : MetA l D ad d yX0_gate (ws_ yX0_gate cX0_gate 4 (some .int)) ({ frames := 1, cells := 0, slots := 0, locals := 21 }) ((n, kk, ff, ss, w), zz so fa de go ba ma) sz [.ref (ad 0), .int p1, .int p2, .int p3] (fun (r : Int32) (u1 : TS) => r = (c_gate (n, kk, ff, ss, w) p1 p2 p3).1 ∧ u1.1 = (c_gate (n, kk, ff, ss, w) p1 p2 p3).2) := by
  refine Met.ofW (cc := cX0_gate) (maxL := 4) (ret := (some .int)) (by decide) rfl ?_
  intro p e s m args below meth c s₁ B hml hv
  obtain ⟨rfl, hsz, hP, hK, hD0⟩ := hv
  have hx := B.exec
  have hb := B.bytes
  have hr := B.returns
  have hts := atoms_spec (ws := (ws_ yX0_gate cX0_gate 4 (some .int))) B.pre
  have hts : ∀ w ∈ lw_all, w.before _ s = true := fun w h => hts w (List.mem_cons_of_mem _ h)
  have hown : s.vm.findClass RX0 = some m.cls := findClass_of_methodNamed B.named
  have hlocks := B.notSynchronized
  subst hsz
  have hD := hD0.self (sz := s.heap.size)
  generalize hAe : va_A (wC ad d ((n, kk, ff, ss, w), zz so fa de go ba ma)) s.heap.size = A at hD ⊢
  have hA : ∀ q : Nat, s.heap.size ≤ q → A q := fun q h => by rw [← hAe]; exact Or.inr h
  have hS : va_S A s.heap s.heap [] := va_S.rf
  have hD : va_D A (wB ad d n kk ff ss w so fa de go ba ma) := hD
  have hP : va_P D vwCl (wB ad d n kk ff ss w so fa de go ba ma) s.heap := hP
  have hl := lv_entry ([.ref (ad 0), .int p1, .int p2, .int p3]) (n := 4) (Nat.le_of_ble_eq_true rfl)
  rw [lg_entry_eq]
  generalize (lg_sl ([.ref (ad 0), .int p1, .int p2, .int p3]) ++ List.replicate (4 - (lg_sl ([.ref (ad 0), .int p1, .int p2, .int p3])).length) Slot.unset).toArray = ls at hl ⊢
  have hl : lv_has ls 4 [(0, .ref (ad 0)), (1, .int p1), (2, .int p2), (3, .int p3)] := hl
  refine lv_iload_n hx hb dX0_gate_0 rfl (lv_at hl 1 rfl) ?_
  refine lv_if_lt (tgt := 30) hx hb dX0_gate_1 (by decide) (fun c1 => ?_) (fun c1 => ?_)
  · refine lv_iconst (v := (-1)) hx hb dX0_gate_30 (by decide) ?_
    exact W.iret (v := -1) hx hb hr (fun t9 ht9 hW9 => ⟨⟨-1, ((n, kk, ff, ss, w), zz so fa de go ba ma), rfl, by rw [cg_n (gk_neg c1)]; exact ⟨rfl, rfl⟩, by rw [ht9]; exact hP, va_K.moved hW9.alike hK, hD⟩, hS.F ht9⟩) hS.2.2 dX0_gate_31
  · refine lv_iload_n hx hb dX0_gate_4 rfl (lv_at hl 1 rfl) ?_
    refine lv_iconst (v := nI 5) hx hb dX0_gate_5 (by decide) ?_
    refine lv_icmp_gt (tgt := 30) hx hb dX0_gate_6 (by decide) (fun c2 => ?_) (fun c2 => ?_)
    · refine lv_iconst (v := (-1)) hx hb dX0_gate_30 (by decide) ?_
      exact W.iret (v := -1) hx hb hr (fun t9 ht9 hW9 => ⟨⟨-1, ((n, kk, ff, ss, w), zz so fa de go ba ma), rfl, by rw [cg_n (gk_gt c2)]; exact ⟨rfl, rfl⟩, by rw [ht9]; exact hP, va_K.moved hW9.alike hK, hD⟩, hS.F ht9⟩) hS.2.2 dX0_gate_31
    · obtain ⟨kd, hkd, rfl⟩ := k_kd c1 c2
      refine lv_aload_n hx hb dX0_gate_9 rfl (lv_at hl 0 rfl) ?_
      refine lv_iload_n hx hb dX0_gate_10 rfl (lv_at hl 2 rfl) ?_
      refine k_callAS (u := ((n, kk, ff, ss, w), zz so fa de go ba ma)) (As := [.int p2]) (rest := []) ⟨hx, hb, hml, hown, hts⟩ (mA_isLine l D ad d n kk ff ss w so fa de go ba ma s.heap.size p2 hw.2.1) (cwV 1 hts (lw_V q61 q63 qs0 q10 q64) rfl rfl rfl (by decide +kernel) ⟨Nat.le_of_ble_eq_true rfl, Nat.le_of_ble_eq_true rfl⟩) hP hD hK rfl hl.1 rfl (Nat.le_of_ble_eq_true rfl) dX0_gate_11 ⟨Nat.zero_le _, Nat.zero_le _⟩ (fun r hp => ?_)
      rcases hp with ⟨rfl, ln, hln, rfl⟩ | ⟨rfl, hno⟩
      · refine k_if_eq (by omega) (tgt := 30) hx hb dX0_gate_14 (by decide) (fun c9 => absurd c9 (by decide)) (fun c9 => ?_)
        refine lv_iload_n hx hb dX0_gate_17 rfl (lv_at hl 1 rfl) ?_
        refine lv_iconst (v := nI 5) hx hb dX0_gate_18 (by decide) ?_
        obtain ⟨hn5, hn16, hwf⟩ := id hw
        have K32 : ∀ (y : Nat), (g_ok (n, kk, ff, ss, w) (nI kd) (nI ln) p3 = some (kd, ln, y)) → (kd = 5 → y = ln) → (kd ≠ 5 → p3 = nI y) → (y < n) → ∀ (H : Heap) (locs : List Loc), va_P D vwCl (wB ad d n kk ff ss w so fa de go ba ma) H → va_D A (wB ad d n kk ff ss w so fa de go ba ma) → va_S A s.heap H locs → ∀ (ls : Array Slot), lv_has ls 4 [(0, .ref (ad 0)), (1, .int (nI kd)), (2, .int (nI ln)), (3, .int p3)] → W p l e (headSpec (ws_ yX0_gate cX0_gate 4 (some .int)) ({ frames := 1, cells := 0, slots := 0, locals := 21 })).room s m ([.ref (ad 0), .int (nI kd), .int (nI ln), .int p3] : List Value).toArray below meth c H locs 0 0 (MQ below (va_Qi (fun (r : Int32) (u1 : TS) => r = (c_gate (n, kk, ff, ss, w) (nI kd) (nI ln) p3).1 ∧ u1.1 = (c_gate (n, kk, ff, ss, w) (nI kd) (nI ln) p3).2) (BA D ad d A) A) ([.ref (ad 0), .int (nI kd), .int (nI ln), .int p3] : List Value).toArray s 0 0 A) (F0 m 32 ls []) := by
          intro y hg h2 h3 hy H locs hP hD hS ls hl
          refine lv_aload_n hx hb dX0_gate_32 rfl (lv_at hl 0 rfl) ?_
          refine va_get (D := D) (ci := 0) (v := .int (nI n)) (C := RX0) (T := TX0) (N := 11) hx hb hts in_X0 hown hK hP 0 rfl rfl 0 (by decide) (hts _ q20) (fun _ h9 => h9) rfl dX0_gate_33 ?_
          refine lv_bipush (v := nI 16) hx hb dX0_gate_36 (by decide) ?_
          refine k_lt (by omega) (by omega) (tgt := 44) hx hb dX0_gate_38 (by decide) (fun c4 => ?_) (fun c4 => ?_)
          · have hs : n < 16 := c4
            refine lv_aload_n hx hb dX0_gate_44 rfl (lv_at hl 0 rfl) ?_
            refine va_get (D := D) (ci := 0) (v := .ref (ad 1)) (C := RX0) (T := TX0) (N := 11) hx hb hts in_X0 hown hK hP 0 rfl rfl 1 (by decide) (hts _ q21) (fun _ h9 => h9) rfl dX0_gate_45 ?_
            refine lv_aload_n hx hb dX0_gate_48 rfl (lv_at hl 0 rfl) ?_
            refine va_get (D := D) (ci := 0) (v := .int (nI n)) (C := RX0) (T := TX0) (N := 11) hx hb hts in_X0 hown hK hP 0 rfl rfl 0 (by decide) (hts _ q20) (fun _ h9 => h9) rfl dX0_gate_49 ?_
            refine lv_iload_n hx hb dX0_gate_52 rfl (lv_at hl 1 rfl) ?_
            refine lv_i2b (v := nI kd) hx hb dX0_gate_53 (k_nb _ (by omega)) ?_
            refine k_bst hx hb hK hP hD hS 1 0 rfl rfl (y := nI kd) (by decide) (by omega) (k_vb _ (by omega)) dX0_gate_54 (fun H locs hP hD hS => ?_)
            rw [upn_nI] at hP hD
            have hP : va_P D vwCl (wB ad d n (upn kk n kd) ff ss w so fa de go ba ma) H := hP
            have hD : va_D A (wB ad d n (upn kk n kd) ff ss w so fa de go ba ma) := hD
            refine lv_aload_n hx hb dX0_gate_55 rfl (lv_at hl 0 rfl) ?_
            refine va_get (D := D) (ci := 0) (v := .ref (ad 2)) (C := RX0) (T := TX0) (N := 11) hx hb hts in_X0 hown hK hP 0 rfl rfl 2 (by decide) (hts _ q22) (fun _ h9 => h9) rfl dX0_gate_56 ?_
            refine lv_aload_n hx hb dX0_gate_59 rfl (lv_at hl 0 rfl) ?_
            refine va_get (D := D) (ci := 0) (v := .int (nI n)) (C := RX0) (T := TX0) (N := 11) hx hb hts in_X0 hown hK hP 0 rfl rfl 0 (by decide) (hts _ q20) (fun _ h9 => h9) rfl dX0_gate_60 ?_
            refine lv_iload_n hx hb dX0_gate_63 rfl (lv_at hl 2 rfl) ?_
            refine lv_i2b (v := nI ln) hx hb dX0_gate_64 (k_nb _ (by omega)) ?_
            refine k_bst hx hb hK hP hD hS 2 0 rfl rfl (y := nI ln) (by decide) (by omega) (k_vb _ (by omega)) dX0_gate_65 (fun H locs hP hD hS => ?_)
            rw [upn_nI] at hP hD
            have hP : va_P D vwCl (wB ad d n (upn kk n kd) (upn ff n ln) ss w so fa de go ba ma) H := hP
            have hD : va_D A (wB ad d n (upn kk n kd) (upn ff n ln) ss w so fa de go ba ma) := hD
            refine lv_aload_n hx hb dX0_gate_66 rfl (lv_at hl 0 rfl) ?_
            refine va_get (D := D) (ci := 0) (v := .ref (ad 3)) (C := RX0) (T := TX0) (N := 11) hx hb hts in_X0 hown hK hP 0 rfl rfl 3 (by decide) (hts _ q23) (fun _ h9 => h9) rfl dX0_gate_67 ?_
            refine lv_aload_n hx hb dX0_gate_70 rfl (lv_at hl 0 rfl) ?_
            refine va_get (D := D) (ci := 0) (v := .int (nI n)) (C := RX0) (T := TX0) (N := 11) hx hb hts in_X0 hown hK hP 0 rfl rfl 0 (by decide) (hts _ q20) (fun _ h9 => h9) rfl dX0_gate_71 ?_
            refine lv_iload_n hx hb dX0_gate_74 rfl (lv_at hl 1 rfl) ?_
            refine lv_iconst (v := nI 5) hx hb dX0_gate_75 (by decide) ?_
            refine k_ne (by omega) (by omega) (tgt := 83) hx hb dX0_gate_76 (by decide) (fun c5 => ?_) (fun c5 => ?_)
            · refine lv_iload_n hx hb dX0_gate_83 rfl (lv_at hl 3 rfl) ?_
              refine k_ti (y := nI y) (h3 c5) ?_
              refine lv_i2b (v := nI y) hx hb dX0_gate_84 (k_nb _ (by omega)) ?_
              refine k_bst hx hb hK hP hD hS 3 0 rfl rfl (y := nI y) (by decide) (by omega) (k_vb _ (by omega)) dX0_gate_85 (fun H locs hP hD hS => ?_)
              rw [upn_nI] at hP hD
              have hP : va_P D vwCl (wB ad d n (upn kk n kd) (upn ff n ln) (upn ss n y) w so fa de go ba ma) H := hP
              have hD : va_D A (wB ad d n (upn kk n kd) (upn ff n ln) (upn ss n y) w so fa de go ba ma) := hD
              refine lv_aload_n hx hb dX0_gate_86 rfl (lv_at hl 0 rfl) ?_
              refine lv_dup hx hb dX0_gate_87 rfl ?_
              refine va_get (D := D) (ci := 0) (v := .int (nI n)) (C := RX0) (T := TX0) (N := 11) hx hb hts in_X0 hown hK hP 0 rfl rfl 0 (by decide) (hts _ q20) (fun _ h9 => h9) rfl dX0_gate_88 ?_
              refine lv_iconst (v := nI 1) hx hb dX0_gate_91 (by decide) ?_
              refine lv_iadd hx hb dX0_gate_92 ?_
              refine k_ti (y := nI (n + 1)) (nI_add n 1) ?_
              refine va_put (D := D) (ci := 0) (v := .int (nI (n + 1))) (ty := .int) (C := RX0) (T := TX0) (N := 11) hx hb hts in_X0 tyX0 tyX0_ok nmX0 hown hK hP hD hS 0 rfl rfl 0 (by decide) (hts _ q20) (fun _ h9 => h9) rfl (by decide +kernel) rfl rfl (Nat.le_of_ble_eq_true rfl) dX0_gate_93 (fun H locs hP hD hS => ?_)
              have hP : va_P D vwCl (wB ad d (n + 1) (upn kk n kd) (upn ff n ln) (upn ss n y) w so fa de go ba ma) H := hP
              have hD : va_D A (wB ad d (n + 1) (upn kk n kd) (upn ff n ln) (upn ss n y) w so fa de go ba ma) := hD
              refine lv_aload_n hx hb dX0_gate_96 rfl (lv_at hl 0 rfl) ?_
              refine va_get (D := D) (ci := 0) (v := .int (nI (n + 1))) (C := RX0) (T := TX0) (N := 11) hx hb hts in_X0 hown hK hP 0 rfl rfl 0 (by decide) (hts _ q20) (fun _ h9 => h9) rfl dX0_gate_97 ?_
              refine lv_iconst (v := nI 1) hx hb dX0_gate_100 (by decide) ?_
              refine lv_isub hx hb dX0_gate_101 ?_
              refine k_ti (y := nI n) (k_sp n) ?_
              exact W.iret (v := nI n) hx hb hr (fun t9 ht9 hW9 => ⟨⟨nI n, ((n + 1, upn kk n kd, upn ff n ln, upn ss n y, w), zz so fa de go ba ma), rfl, by rw [cg_s hg c4]; exact ⟨rfl, rfl⟩, by rw [ht9]; exact hP, va_K.moved hW9.alike hK, hD⟩, hS.F ht9⟩) hS.2.2 dX0_gate_102
            · refine lv_iload_n hx hb dX0_gate_79 rfl (lv_at hl 2 rfl) ?_
              refine k_ti (y := nI y) (by rw [h2 c5]) ?_
              refine lv_goto (tgt := 84) hx hb dX0_gate_80 (by decide) ?_
              refine lv_i2b (v := nI y) hx hb dX0_gate_84 (k_nb _ (by omega)) ?_
              refine k_bst hx hb hK hP hD hS 3 0 rfl rfl (y := nI y) (by decide) (by omega) (k_vb _ (by omega)) dX0_gate_85 (fun H locs hP hD hS => ?_)
              rw [upn_nI] at hP hD
              have hP : va_P D vwCl (wB ad d n (upn kk n kd) (upn ff n ln) (upn ss n y) w so fa de go ba ma) H := hP
              have hD : va_D A (wB ad d n (upn kk n kd) (upn ff n ln) (upn ss n y) w so fa de go ba ma) := hD
              refine lv_aload_n hx hb dX0_gate_86 rfl (lv_at hl 0 rfl) ?_
              refine lv_dup hx hb dX0_gate_87 rfl ?_
              refine va_get (D := D) (ci := 0) (v := .int (nI n)) (C := RX0) (T := TX0) (N := 11) hx hb hts in_X0 hown hK hP 0 rfl rfl 0 (by decide) (hts _ q20) (fun _ h9 => h9) rfl dX0_gate_88 ?_
              refine lv_iconst (v := nI 1) hx hb dX0_gate_91 (by decide) ?_
              refine lv_iadd hx hb dX0_gate_92 ?_
              refine k_ti (y := nI (n + 1)) (nI_add n 1) ?_
              refine va_put (D := D) (ci := 0) (v := .int (nI (n + 1))) (ty := .int) (C := RX0) (T := TX0) (N := 11) hx hb hts in_X0 tyX0 tyX0_ok nmX0 hown hK hP hD hS 0 rfl rfl 0 (by decide) (hts _ q20) (fun _ h9 => h9) rfl (by decide +kernel) rfl rfl (Nat.le_of_ble_eq_true rfl) dX0_gate_93 (fun H locs hP hD hS => ?_)
              have hP : va_P D vwCl (wB ad d (n + 1) (upn kk n kd) (upn ff n ln) (upn ss n y) w so fa de go ba ma) H := hP
              have hD : va_D A (wB ad d (n + 1) (upn kk n kd) (upn ff n ln) (upn ss n y) w so fa de go ba ma) := hD
              refine lv_aload_n hx hb dX0_gate_96 rfl (lv_at hl 0 rfl) ?_
              refine va_get (D := D) (ci := 0) (v := .int (nI (n + 1))) (C := RX0) (T := TX0) (N := 11) hx hb hts in_X0 hown hK hP 0 rfl rfl 0 (by decide) (hts _ q20) (fun _ h9 => h9) rfl dX0_gate_97 ?_
              refine lv_iconst (v := nI 1) hx hb dX0_gate_100 (by decide) ?_
              refine lv_isub hx hb dX0_gate_101 ?_
              refine k_ti (y := nI n) (k_sp n) ?_
              exact W.iret (v := nI n) hx hb hr (fun t9 ht9 hW9 => ⟨⟨nI n, ((n + 1, upn kk n kd, upn ff n ln, upn ss n y, w), zz so fa de go ba ma), rfl, by rw [cg_s hg c4]; exact ⟨rfl, rfl⟩, by rw [ht9]; exact hP, va_K.moved hW9.alike hK, hD⟩, hS.F ht9⟩) hS.2.2 dX0_gate_102
          · refine lv_bipush (v := (-2)) hx hb dX0_gate_41 (by decide) ?_
            exact W.iret (v := -2) hx hb hr (fun t9 ht9 hW9 => ⟨⟨-2, ((n, kk, ff, ss, w), zz so fa de go ba ma), rfl, by rw [cg_f hg (by show ¬ n < 16; omega)]; exact ⟨rfl, rfl⟩, by rw [ht9]; exact hP, va_K.moved hW9.alike hK, hD⟩, hS.F ht9⟩) hS.2.2 dX0_gate_43
        refine k_eq (by omega) (by omega) (tgt := 32) hx hb dX0_gate_19 (by decide) (fun c3 => ?_) (fun c3 => ?_)
        · exact K32 ln (gk_5 hn16 hkd c3 hln) (fun _ => rfl) (fun h => absurd c3 h) hln _ _ hP hD hS ls (lv_sub hl [0, 1, 2, 3] rfl)
        · refine lv_aload_n hx hb dX0_gate_22 rfl (lv_at hl 0 rfl) ?_
          refine lv_iload_n hx hb dX0_gate_23 rfl (lv_at hl 3 rfl) ?_
          refine k_callAS (u := ((n, kk, ff, ss, w), zz so fa de go ba ma)) (As := [.int p3]) (rest := []) ⟨hx, hb, hml, hown, hts⟩ (mA_isLine l D ad d n kk ff ss w so fa de go ba ma s.heap.size p3 hw.2.1) (cwV 1 hts (lw_V q61 q63 qs0 q10 q64) rfl rfl rfl (by decide +kernel) ⟨Nat.le_of_ble_eq_true rfl, Nat.le_of_ble_eq_true rfl⟩) hP hD hK rfl hl.1 rfl (Nat.le_of_ble_eq_true rfl) dX0_gate_24 ⟨Nat.zero_le _, Nat.zero_le _⟩ (fun r hp => ?_)
          rcases hp with ⟨rfl, l2, hl2, rfl⟩ | ⟨rfl, hno⟩
          · refine k_if_ne (by omega) (tgt := 32) hx hb dX0_gate_27 (by decide) (fun c9 => ?_) (fun c9 => absurd c9 (by decide))
            exact K32 l2 (gk_s hn16 hkd c3 hln hl2) (fun h => absurd h c3) (fun _ => rfl) hl2 _ _ hP hD hS ls (lv_sub hl [0, 1, 2, 3] rfl)
          · refine k_if_ne (by omega) (tgt := 32) hx hb dX0_gate_27 (by decide) (fun c9 => absurd rfl c9) (fun c9 => ?_)
            refine lv_iconst (v := (-1)) hx hb dX0_gate_30 (by decide) ?_
            exact W.iret (v := -1) hx hb hr (fun t9 ht9 hW9 => ⟨⟨-1, ((n, kk, ff, ss, w), zz so fa de go ba ma), rfl, by rw [cg_n (gk_y hkd c3 hno)]; exact ⟨rfl, rfl⟩, by rw [ht9]; exact hP, va_K.moved hW9.alike hK, hD⟩, hS.F ht9⟩) hS.2.2 dX0_gate_31
      · refine k_if_eq (by omega) (tgt := 30) hx hb dX0_gate_14 (by decide) (fun c9 => ?_) (fun c9 => absurd rfl c9)
        refine lv_iconst (v := (-1)) hx hb dX0_gate_30 (by decide) ?_
        exact W.iret (v := -1) hx hb hr (fun t9 ht9 hW9 => ⟨⟨-1, ((n, kk, ff, ss, w), zz so fa de go ba ma), rfl, by rw [cg_n (gk_x hno)]; exact ⟨rfl, rfl⟩, by rw [ht9]; exact hP, va_K.moved hW9.alike hK, hD⟩, hS.F ht9⟩) hS.2.2 dX0_gate_31

set_option maxHeartbeats 4000000 in
set_option maxRecDepth 100000 in
theorem mA_value (l : Launch) (D : va_G) (ad : Nat → Nat) (d : Nat → ClassId) (n : Nat) (kk ff ss : Nat → Nat) (w : Int32) (so fa de go ba ma : Nat → Int32) (sz : Nat) (p1 p2 : Int32) (hw : wfC n kk ff ss) : MetA l D ad d yX0_value (ws_ yX0_value cX0_value 3 (some .int)) ({ frames := 2, cells := 0, slots := 0, locals := 43 }) ((n, kk, ff, ss, w), zz so fa de go ba ma) sz [.ref (ad 0), .int p1, .int p2] (fun (r : Int32) (u1 : TS) => r = r_value (n, kk, ff, ss, w) p1 p2 ∧ u1.1 = (n, kk, ff, ss, w)) := by
  refine Met.ofW (cc := cX0_value) (maxL := 3) (ret := (some .int)) (by decide) rfl ?_
  intro p e s m args below meth c s₁ B hml hv
  obtain ⟨rfl, hsz, hP, hK, hD0⟩ := hv
  have hx := B.exec
  have hb := B.bytes
  have hr := B.returns
  have hts := atoms_spec (ws := (ws_ yX0_value cX0_value 3 (some .int))) B.pre
  have hts : ∀ w ∈ lw_all, w.before _ s = true := fun w h => hts w (List.mem_cons_of_mem _ h)
  have hown : s.vm.findClass RX0 = some m.cls := findClass_of_methodNamed B.named
  have hlocks := B.notSynchronized
  subst hsz
  have hD := hD0.self (sz := s.heap.size)
  generalize hAe : va_A (wC ad d ((n, kk, ff, ss, w), zz so fa de go ba ma)) s.heap.size = A at hD ⊢
  have hA : ∀ q : Nat, s.heap.size ≤ q → A q := fun q h => by rw [← hAe]; exact Or.inr h
  have hS : va_S A s.heap s.heap [] := va_S.rf
  have hD : va_D A (wB ad d n kk ff ss w so fa de go ba ma) := hD
  have hP : va_P D vwCl (wB ad d n kk ff ss w so fa de go ba ma) s.heap := hP
  have hl := lv_entry ([.ref (ad 0), .int p1, .int p2]) (n := 3) (Nat.le_of_ble_eq_true rfl)
  rw [lg_entry_eq]
  generalize (lg_sl ([.ref (ad 0), .int p1, .int p2]) ++ List.replicate (3 - (lg_sl ([.ref (ad 0), .int p1, .int p2])).length) Slot.unset).toArray = ls at hl ⊢
  have hl : lv_has ls 3 [(0, .ref (ad 0)), (1, .int p1), (2, .int p2)] := hl
  refine lv_aload_n hx hb dX0_value_0 rfl (lv_at hl 0 rfl) ?_
  refine lv_iload_n hx hb dX0_value_1 rfl (lv_at hl 1 rfl) ?_
  refine k_callAS (u := ((n, kk, ff, ss, w), zz so fa de go ba ma)) (As := [.int p1]) (rest := []) ⟨hx, hb, hml, hown, hts⟩ (mA_isLine l D ad d n kk ff ss w so fa de go ba ma s.heap.size p1 hw.2.1) (cwV 1 hts (lw_V q61 q63 qs0 q10 q64) rfl rfl rfl (by decide +kernel) ⟨Nat.le_of_ble_eq_true rfl, Nat.le_of_ble_eq_true rfl⟩) hP hD hK rfl hl.1 rfl (Nat.le_of_ble_eq_true rfl) dX0_value_2 ⟨Nat.zero_le _, Nat.zero_le _⟩ (fun r hp => ?_)
  rcases hp with ⟨rfl, ln, hln, rfl⟩ | ⟨rfl, hno⟩
  · refine k_if_eq (by omega) (tgt := 15) hx hb dX0_value_5 (by decide) (fun c9 => absurd c9 (by decide)) (fun c9 => ?_)
    refine lv_iload_n hx hb dX0_value_8 rfl (lv_at hl 2 rfl) ?_
    refine k_callS (As := [.int p2]) (rest := []) ⟨hx, hb, hml, hown, hts⟩ (mS_isVector l p2) (va_cwS 1 hts (lw_S q85 q86 q10 q87) rfl rfl rfl (by decide +kernel) ⟨Nat.le_of_ble_eq_true rfl, Nat.le_of_ble_eq_true rfl⟩) rfl hl.1 rfl (Nat.le_of_ble_eq_true rfl) dX0_value_9 ⟨Nat.zero_le _, Nat.zero_le _⟩ (fun r hp => ?_)
    rcases hp with ⟨rfl, q2, hq2, rfl⟩ | ⟨rfl, hno⟩
    · refine k_if_ne (by omega) (tgt := 17) hx hb dX0_value_12 (by decide) (fun c9 => ?_) (fun c9 => absurd c9 (by decide))
      refine lv_aload_n hx hb dX0_value_17 rfl (lv_at hl 0 rfl) ?_
      refine k_callAv (u := ((n, kk, ff, ss, w), zz so fa de go ba ma)) (As := []) (rest := []) ⟨hx, hb, hml, hown, hts⟩ (mA_simulateSound l D ad d n kk ff ss w so fa de go ba ma s.heap.size hw) (cwV 0 hts (lw_V q88 q90 qs1 q10 q91) rfl rfl rfl (by decide +kernel) ⟨Nat.le_of_ble_eq_true rfl, Nat.le_of_ble_eq_true rfl⟩) hP hD hK hS hA rfl hl.1 rfl (Nat.le_of_ble_eq_true rfl) dX0_value_18 ⟨Nat.zero_le _, Nat.zero_le _⟩ (fun u1 H locs hp hP hD hS => ?_)
      obtain ⟨so1, rfl, hso⟩ := hp
      have hP : va_P D vwCl (wB ad d n kk ff ss w so1 fa de go ba ma) H := hP
      have hD : va_D A (wB ad d n kk ff ss w so1 fa de go ba ma) := hD
      obtain ⟨hn5, hn16, hwf⟩ := hw
      refine lv_aload_n hx hb dX0_value_21 rfl (lv_at hl 0 rfl) ?_
      refine va_get (D := D) (ci := 0) (v := .ref (ad 4)) (C := RX0) (T := TX0) (N := 11) hx hb hts in_X0 hown hK hP 0 rfl rfl 5 (by decide) (hts _ q25) (fun _ h9 => h9) rfl dX0_value_22 ?_
      refine lv_iload_n hx hb dX0_value_25 rfl (lv_at hl 1 rfl) ?_
      refine k_ild hx hb hK hP 4 1 rfl rfl (v := so1 ln) (by decide) (by omega) (rfl) dX0_value_26 ?_
      refine lv_iload_n hx hb dX0_value_27 rfl (lv_at hl 2 rfl) ?_
      refine lv_iushr (v := ((so1 ln).toUInt32 >>> ((nI q2).toUInt32 &&& Int32.toUInt32 31)).toInt32) hx hb dX0_value_28 rfl ?_
      refine lv_iconst (v := nI 1) hx hb dX0_value_29 (by decide) ?_
      refine lv_iand hx hb dX0_value_30 ?_
      refine k_ti (y := bI (v0 kk ff ss q2 ln)) (by rw [e_ushr _ q2 hq2, hso ln hln q2 hq2]) ?_
      exact W.iret (v := bI (v0 kk ff ss q2 ln)) hx hb hr (fun t9 ht9 hW9 => ⟨⟨bI (v0 kk ff ss q2 ln), ((n, kk, ff, ss, w), zz so1 fa de go ba ma), rfl, ⟨(r_value_s (C := (n, kk, ff, ss, w)) hln hn16 hq2).symm, rfl⟩, by rw [ht9]; exact hP, va_K.moved hW9.alike hK, hD⟩, hS.F ht9⟩) hS.2.2 dX0_value_31
    · refine k_if_ne (by omega) (tgt := 17) hx hb dX0_value_12 (by decide) (fun c9 => absurd rfl c9) (fun c9 => ?_)
      refine lv_iconst (v := (-1)) hx hb dX0_value_15 (by decide) ?_
      exact W.iret (v := -1) hx hb hr (fun t9 ht9 hW9 => ⟨⟨-1, ((n, kk, ff, ss, w), zz so fa de go ba ma), rfl, ⟨(r_value_n2 hno).symm, rfl⟩, by rw [ht9]; exact hP, va_K.moved hW9.alike hK, hD⟩, hS.F ht9⟩) hS.2.2 dX0_value_16
  · refine k_if_eq (by omega) (tgt := 15) hx hb dX0_value_5 (by decide) (fun c9 => ?_) (fun c9 => absurd rfl c9)
    refine lv_iconst (v := (-1)) hx hb dX0_value_15 (by decide) ?_
    exact W.iret (v := -1) hx hb hr (fun t9 ht9 hW9 => ⟨⟨-1, ((n, kk, ff, ss, w), zz so fa de go ba ma), rfl, ⟨(r_value_n1 hno).symm, rfl⟩, by rw [ht9]; exact hP, va_K.moved hW9.alike hK, hD⟩, hS.F ht9⟩) hS.2.2 dX0_value_16

set_option maxHeartbeats 4000000 in
set_option maxRecDepth 100000 in
theorem mA_shows (l : Launch) (D : va_G) (ad : Nat → Nat) (d : Nat → ClassId) (n : Nat) (kk ff ss : Nat → Nat) (w : Int32) (so fa de go ba ma : Nat → Int32) (sz : Nat) (p1 p2 p3 : Int32) (hw : wfC n kk ff ss) : MetA l D ad d yX0_shows (ws_ yX0_shows cX0_shows 5 (some .boolean)) ({ frames := 3, cells := 0, slots := 0, locals := 67 }) ((n, kk, ff, ss, w), zz so fa de go ba ma) sz [.ref (ad 0), .int p1, .int p2, .int p3] (fun (r : Int32) (u1 : TS) => r = r_shows (n, kk, ff, ss, w) p1 p2 p3 ∧ u1.1 = (n, kk, ff, ss, w)) := by
  refine Met.ofW (cc := cX0_shows) (maxL := 5) (ret := (some .boolean)) (by decide) rfl ?_
  intro p e s m args below meth c s₁ B hml hv
  obtain ⟨rfl, hsz, hP, hK, hD0⟩ := hv
  have hx := B.exec
  have hb := B.bytes
  have hr := B.returns
  have hts := atoms_spec (ws := (ws_ yX0_shows cX0_shows 5 (some .boolean))) B.pre
  have hts : ∀ w ∈ lw_all, w.before _ s = true := fun w h => hts w (List.mem_cons_of_mem _ h)
  have hown : s.vm.findClass RX0 = some m.cls := findClass_of_methodNamed B.named
  have hlocks := B.notSynchronized
  subst hsz
  have hD := hD0.self (sz := s.heap.size)
  generalize hAe : va_A (wC ad d ((n, kk, ff, ss, w), zz so fa de go ba ma)) s.heap.size = A at hD ⊢
  have hA : ∀ q : Nat, s.heap.size ≤ q → A q := fun q h => by rw [← hAe]; exact Or.inr h
  have hS : va_S A s.heap s.heap [] := va_S.rf
  have hD : va_D A (wB ad d n kk ff ss w so fa de go ba ma) := hD
  have hP : va_P D vwCl (wB ad d n kk ff ss w so fa de go ba ma) s.heap := hP
  have hl := lv_entry ([.ref (ad 0), .int p1, .int p2, .int p3]) (n := 5) (Nat.le_of_ble_eq_true rfl)
  rw [lg_entry_eq]
  generalize (lg_sl ([.ref (ad 0), .int p1, .int p2, .int p3]) ++ List.replicate (5 - (lg_sl ([.ref (ad 0), .int p1, .int p2, .int p3])).length) Slot.unset).toArray = ls at hl ⊢
  have hl : lv_has ls 5 [(0, .ref (ad 0)), (1, .int p1), (2, .int p2), (3, .int p3)] := hl
  refine lv_aload_n hx hb dX0_shows_0 rfl (lv_at hl 0 rfl) ?_
  refine lv_iload_n hx hb dX0_shows_1 rfl (lv_at hl 2 rfl) ?_
  refine k_callAS (u := ((n, kk, ff, ss, w), zz so fa de go ba ma)) (As := [.int p2]) (rest := []) ⟨hx, hb, hml, hown, hts⟩ (mA_isLine l D ad d n kk ff ss w so fa de go ba ma s.heap.size p2 hw.2.1) (cwV 1 hts (lw_V q61 q63 qs0 q10 q64) rfl rfl rfl (by decide +kernel) ⟨Nat.le_of_ble_eq_true rfl, Nat.le_of_ble_eq_true rfl⟩) hP hD hK rfl hl.1 rfl (Nat.le_of_ble_eq_true rfl) dX0_shows_2 ⟨Nat.zero_le _, Nat.zero_le _⟩ (fun r hp => ?_)
  rcases hp with ⟨rfl, ln, hln, rfl⟩ | ⟨rfl, hno⟩
  · refine k_if_eq (by omega) (tgt := 22) hx hb dX0_shows_5 (by decide) (fun c9 => absurd c9 (by decide)) (fun c9 => ?_)
    refine lv_iload_n hx hb dX0_shows_8 rfl (lv_at hl 3 rfl) ?_
    refine k_callS (As := [.int p3]) (rest := []) ⟨hx, hb, hml, hown, hts⟩ (mS_isBit l p3) (va_cwS 1 hts (lw_S q102 q103 q10 q104) rfl rfl rfl (by decide +kernel) ⟨Nat.le_of_ble_eq_true rfl, Nat.le_of_ble_eq_true rfl⟩) rfl hl.1 rfl (Nat.le_of_ble_eq_true rfl) dX0_shows_9 ⟨Nat.zero_le _, Nat.zero_le _⟩ (fun r hp => ?_)
    rcases isX_bit hp with ⟨rfl, v, rfl⟩ | ⟨rfl, hno⟩
    · refine k_if_eq (by omega) (tgt := 22) hx hb dX0_shows_12 (by decide) (fun c9 => absurd c9 (by decide)) (fun c9 => ?_)
      refine lv_iload_n hx hb dX0_shows_15 rfl (lv_at hl 1 rfl) ?_
      refine k_callS (As := [.int p1]) (rest := []) ⟨hx, hb, hml, hown, hts⟩ (mS_isVector l p1) (va_cwS 1 hts (lw_S q85 q86 q10 q87) rfl rfl rfl (by decide +kernel) ⟨Nat.le_of_ble_eq_true rfl, Nat.le_of_ble_eq_true rfl⟩) rfl hl.1 rfl (Nat.le_of_ble_eq_true rfl) dX0_shows_16 ⟨Nat.zero_le _, Nat.zero_le _⟩ (fun r hp => ?_)
      rcases hp with ⟨rfl, q1, hq1, rfl⟩ | ⟨rfl, hno⟩
      · refine k_if_ne (by omega) (tgt := 24) hx hb dX0_shows_19 (by decide) (fun c9 => ?_) (fun c9 => absurd c9 (by decide))
        refine lv_aload_n hx hb dX0_shows_24 rfl (lv_at hl 0 rfl) ?_
        refine lv_iload_n hx hb dX0_shows_25 rfl (lv_at hl 2 rfl) ?_
        refine lv_iload_n hx hb dX0_shows_26 rfl (lv_at hl 3 rfl) ?_
        refine k_callA (u := ((n, kk, ff, ss, w), zz so fa de go ba ma)) (As := [.int (nI ln), .int (bI v)]) (rest := []) ⟨hx, hb, hml, hown, hts⟩ (mA_shownSet l D ad d n kk ff ss w so fa de go ba ma s.heap.size ln v hw hln) (cwV 2 hts (lw_V q105 q107 qs2 q10 q108) rfl rfl rfl (by decide +kernel) ⟨Nat.le_of_ble_eq_true rfl, Nat.le_of_ble_eq_true rfl⟩) hP hD hK hS hA rfl hl.1 rfl (Nat.le_of_ble_eq_true rfl) dX0_shows_27 ⟨Nat.zero_le _, Nat.zero_le _⟩ (fun r u1 H locs hp hP hD hS => ?_)
        obtain ⟨so1, fa1, rfl, hsh⟩ := hp
        have hP : va_P D vwCl (wB ad d n kk ff ss w so1 fa1 de go ba ma) H := hP
        have hD : va_D A (wB ad d n kk ff ss w so1 fa1 de go ba ma) := hD
        obtain ⟨hn5, hn16, hwf⟩ := hw
        refine lv_istore (lv' := [(4, .int r), (0, .ref (ad 0)), (1, .int (nI q1)), (2, .int (nI ln)), (3, .int (bI v))]) hx hb dX0_shows_30 hl (by decide) rfl (fun ls hl => ?_)
        refine lv_iload hx hb dX0_shows_32 (lv_at hl 0 rfl) ?_
        refine lv_iload_n hx hb dX0_shows_34 rfl (lv_at hl 2 rfl) ?_
        refine lv_iushr (v := (r.toUInt32 >>> ((nI q1).toUInt32 &&& Int32.toUInt32 31)).toInt32) hx hb dX0_shows_35 rfl ?_
        refine lv_iconst (v := nI 1) hx hb dX0_shows_36 (by decide) ?_
        refine lv_iand hx hb dX0_shows_37 ?_
        refine k_ti (y := bI (shw kk ff ss w ln v q1 n)) (by rw [e_ushr _ q1 hq1, hsh q1 hq1]) ?_
        refine k_bif_eq (tgt := 45) hx hb dX0_shows_38 (by decide) (fun c1 => ?_) (fun c1 => ?_)
        · refine lv_iconst (v := nI 0) hx hb dX0_shows_45 (by decide) ?_
          exact W.zret (v := nI 0) hx hb hr (rfl) (fun t9 ht9 hW9 => ⟨⟨nI 0, ((n, kk, ff, ss, w), zz so1 fa1 de go ba ma), rfl, ⟨(r_shows_b (C := (n, kk, ff, ss, w)) hln hn16 hq1 c1).symm, rfl⟩, by rw [ht9]; exact hP, va_K.moved hW9.alike hK, hD⟩, hS.F ht9⟩) hS.2.2 dX0_shows_46
        · refine lv_iconst (v := nI 1) hx hb dX0_shows_41 (by decide) ?_
          refine lv_goto (tgt := 46) hx hb dX0_shows_42 (by decide) ?_
          exact W.zret (v := nI 1) hx hb hr (rfl) (fun t9 ht9 hW9 => ⟨⟨nI 1, ((n, kk, ff, ss, w), zz so1 fa1 de go ba ma), rfl, ⟨(r_shows_b (C := (n, kk, ff, ss, w)) hln hn16 hq1 c1).symm, rfl⟩, by rw [ht9]; exact hP, va_K.moved hW9.alike hK, hD⟩, hS.F ht9⟩) hS.2.2 dX0_shows_46
      · refine k_if_ne (by omega) (tgt := 24) hx hb dX0_shows_19 (by decide) (fun c9 => absurd rfl c9) (fun c9 => ?_)
        refine lv_iconst (v := nI 0) hx hb dX0_shows_22 (by decide) ?_
        exact W.zret (v := nI 0) hx hb hr (rfl) (fun t9 ht9 hW9 => ⟨⟨nI 0, ((n, kk, ff, ss, w), zz so fa de go ba ma), rfl, ⟨(r_shows_n3 hno).symm, rfl⟩, by rw [ht9]; exact hP, va_K.moved hW9.alike hK, hD⟩, hS.F ht9⟩) hS.2.2 dX0_shows_23
    · refine k_if_eq (by omega) (tgt := 22) hx hb dX0_shows_12 (by decide) (fun c9 => ?_) (fun c9 => absurd rfl c9)
      refine lv_iconst (v := nI 0) hx hb dX0_shows_22 (by decide) ?_
      exact W.zret (v := nI 0) hx hb hr (rfl) (fun t9 ht9 hW9 => ⟨⟨nI 0, ((n, kk, ff, ss, w), zz so fa de go ba ma), rfl, ⟨(r_shows_n2 hno).symm, rfl⟩, by rw [ht9]; exact hP, va_K.moved hW9.alike hK, hD⟩, hS.F ht9⟩) hS.2.2 dX0_shows_23
  · refine k_if_eq (by omega) (tgt := 22) hx hb dX0_shows_5 (by decide) (fun c9 => ?_) (fun c9 => absurd rfl c9)
    refine lv_iconst (v := nI 0) hx hb dX0_shows_22 (by decide) ?_
    exact W.zret (v := nI 0) hx hb hr (rfl) (fun t9 ht9 hW9 => ⟨⟨nI 0, ((n, kk, ff, ss, w), zz so fa de go ba ma), rfl, ⟨(r_shows_n1 hno).symm, rfl⟩, by rw [ht9]; exact hP, va_K.moved hW9.alike hK, hD⟩, hS.F ht9⟩) hS.2.2 dX0_shows_23

set_option maxHeartbeats 4000000 in
set_option maxRecDepth 100000 in
theorem mA_testFrom (l : Launch) (D : va_G) (ad : Nat → Nat) (d : Nat → ClassId) (n : Nat) (kk ff ss : Nat → Nat) (w : Int32) (so fa de go ba ma : Nat → Int32) (sz : Nat) (p1 p2 p3 : Int32) (hw : wfC n kk ff ss) : MetA l D ad d yX0_testFrom (ws_ yX0_testFrom cX0_testFrom 5 (some .int)) ({ frames := 4, cells := 0, slots := 0, locals := 101 }) ((n, kk, ff, ss, w), zz so fa de go ba ma) sz [.ref (ad 0), .int p1, .int p2, .int p3] (fun (r : Int32) (u1 : TS) => r = r_testFrom (n, kk, ff, ss, w) p1 p2 p3 ∧ u1.1 = (n, kk, ff, ss, w)) := by
  refine Met.ofW (cc := cX0_testFrom) (maxL := 5) (ret := (some .int)) (by decide) rfl ?_
  intro p e s m args below meth c s₁ B hml hv
  obtain ⟨rfl, hsz, hP, hK, hD0⟩ := hv
  have hx := B.exec
  have hb := B.bytes
  have hr := B.returns
  have hts := atoms_spec (ws := (ws_ yX0_testFrom cX0_testFrom 5 (some .int))) B.pre
  have hts : ∀ w ∈ lw_all, w.before _ s = true := fun w h => hts w (List.mem_cons_of_mem _ h)
  have hown : s.vm.findClass RX0 = some m.cls := findClass_of_methodNamed B.named
  have hlocks := B.notSynchronized
  subst hsz
  have hD := hD0.self (sz := s.heap.size)
  generalize hAe : va_A (wC ad d ((n, kk, ff, ss, w), zz so fa de go ba ma)) s.heap.size = A at hD ⊢
  have hA : ∀ q : Nat, s.heap.size ≤ q → A q := fun q h => by rw [← hAe]; exact Or.inr h
  have hS : va_S A s.heap s.heap [] := va_S.rf
  have hD : va_D A (wB ad d n kk ff ss w so fa de go ba ma) := hD
  have hP : va_P D vwCl (wB ad d n kk ff ss w so fa de go ba ma) s.heap := hP
  have hl := lv_entry ([.ref (ad 0), .int p1, .int p2, .int p3]) (n := 5) (Nat.le_of_ble_eq_true rfl)
  rw [lg_entry_eq]
  generalize (lg_sl ([.ref (ad 0), .int p1, .int p2, .int p3]) ++ List.replicate (5 - (lg_sl ([.ref (ad 0), .int p1, .int p2, .int p3])).length) Slot.unset).toArray = ls at hl ⊢
  have hl : lv_has ls 5 [(0, .ref (ad 0)), (1, .int p1), (2, .int p2), (3, .int p3)] := hl
  refine lv_aload_n hx hb dX0_testFrom_0 rfl (lv_at hl 0 rfl) ?_
  refine lv_iload_n hx hb dX0_testFrom_1 rfl (lv_at hl 1 rfl) ?_
  refine k_callAS (u := ((n, kk, ff, ss, w), zz so fa de go ba ma)) (As := [.int p1]) (rest := []) ⟨hx, hb, hml, hown, hts⟩ (mA_isLine l D ad d n kk ff ss w so fa de go ba ma s.heap.size p1 hw.2.1) (cwV 1 hts (lw_V q61 q63 qs0 q10 q64) rfl rfl rfl (by decide +kernel) ⟨Nat.le_of_ble_eq_true rfl, Nat.le_of_ble_eq_true rfl⟩) hP hD hK rfl hl.1 rfl (Nat.le_of_ble_eq_true rfl) dX0_testFrom_2 ⟨Nat.zero_le _, Nat.zero_le _⟩ (fun r hp => ?_)
  rcases hp with ⟨rfl, ln, hln, rfl⟩ | ⟨rfl, hno⟩
  · refine k_if_eq (by omega) (tgt := 21) hx hb dX0_testFrom_5 (by decide) (fun c9 => absurd c9 (by decide)) (fun c9 => ?_)
    refine lv_iload_n hx hb dX0_testFrom_8 rfl (lv_at hl 2 rfl) ?_
    refine k_callS (As := [.int p2]) (rest := []) ⟨hx, hb, hml, hown, hts⟩ (mS_isBit l p2) (va_cwS 1 hts (lw_S q102 q103 q10 q104) rfl rfl rfl (by decide +kernel) ⟨Nat.le_of_ble_eq_true rfl, Nat.le_of_ble_eq_true rfl⟩) rfl hl.1 rfl (Nat.le_of_ble_eq_true rfl) dX0_testFrom_9 ⟨Nat.zero_le _, Nat.zero_le _⟩ (fun r hp => ?_)
    rcases isX_bit hp with ⟨rfl, v, rfl⟩ | ⟨rfl, hno⟩
    · refine k_if_eq (by omega) (tgt := 21) hx hb dX0_testFrom_12 (by decide) (fun c9 => absurd c9 (by decide)) (fun c9 => ?_)
      refine lv_iload_n hx hb dX0_testFrom_15 rfl (lv_at hl 3 rfl) ?_
      refine lv_bipush (v := nI 31) hx hb dX0_testFrom_16 (by decide) ?_
      refine lv_icmp_le (tgt := 23) hx hb dX0_testFrom_18 (by decide) (fun c1 => ?_) (fun c1 => ?_)
      · refine lv_iload_n hx hb dX0_testFrom_23 rfl (lv_at hl 3 rfl) ?_
        refine lv_if_ge (tgt := 31) hx hb dX0_testFrom_24 (by decide) (fun c2 => ?_) (fun c2 => ?_)
        · obtain ⟨fr, hfr, rfl⟩ := k_fr c2 c1
          refine lv_iload_n hx hb dX0_testFrom_31 rfl (lv_at hl 3 rfl) ?_
          refine lv_istore (lv' := [(4, .int (nI fr)), (0, .ref (ad 0)), (1, .int (nI ln)), (2, .int (bI v)), (3, .int (nI fr))]) hx hb dX0_testFrom_32 hl (by decide) rfl (fun ls hl => ?_)
          refine lv_aload_n hx hb dX0_testFrom_34 rfl (lv_at hl 1 rfl) ?_
          refine lv_iload_n hx hb dX0_testFrom_35 rfl (lv_at hl 2 rfl) ?_
          refine lv_iload_n hx hb dX0_testFrom_36 rfl (lv_at hl 3 rfl) ?_
          refine lv_iload hx hb dX0_testFrom_37 (lv_at hl 0 rfl) ?_
          refine k_callA (u := ((n, kk, ff, ss, w), zz so fa de go ba ma)) (As := [.int (nI ln), .int (bI v), .int (nI fr)]) (rest := []) ⟨hx, hb, hml, hown, hts⟩ (mA_search l D ad d n kk ff ss w so fa de go ba ma s.heap.size ln v fr hw hln hfr) (cwV 3 hts (lw_V q117 q119 qs3 q10 q120) rfl rfl rfl (by decide +kernel) ⟨Nat.le_of_ble_eq_true rfl, Nat.le_of_ble_eq_true rfl⟩) hP hD hK hS hA rfl hl.1 rfl (Nat.le_of_ble_eq_true rfl) dX0_testFrom_39 ⟨Nat.zero_le _, Nat.zero_le _⟩ (fun r u1 H locs hp hP hD hS => ?_)
          obtain ⟨de1, go1, ba1, ma1, rfl, rfl⟩ := hp
          have hP : va_P D vwCl (wB ad d n kk ff ss w so fa de1 go1 ba1 ma1) H := hP
          have hD : va_D A (wB ad d n kk ff ss w so fa de1 go1 ba1 ma1) := hD
          exact W.iret (v := tfr (fun q => shw kk ff ss w ln v q n) (nI fr)) hx hb hr (fun t9 ht9 hW9 => ⟨⟨tfr (fun q => shw kk ff ss w ln v q n) (nI fr), ((n, kk, ff, ss, w), zz so fa de1 go1 ba1 ma1), rfl, ⟨(r_testFrom_s (C := (n, kk, ff, ss, w)) hln hw.2.1).symm, rfl⟩, by rw [ht9]; exact hP, va_K.moved hW9.alike hK, hD⟩, hS.F ht9⟩) hS.2.2 dX0_testFrom_42
        · refine lv_iconst (v := nI 0) hx hb dX0_testFrom_27 (by decide) ?_
          refine lv_goto (tgt := 32) hx hb dX0_testFrom_28 (by decide) ?_
          refine lv_istore (lv' := [(4, .int (nI 0)), (0, .ref (ad 0)), (1, .int (nI ln)), (2, .int (bI v)), (3, .int p3)]) hx hb dX0_testFrom_32 hl (by decide) rfl (fun ls hl => ?_)
          refine lv_aload_n hx hb dX0_testFrom_34 rfl (lv_at hl 1 rfl) ?_
          refine lv_iload_n hx hb dX0_testFrom_35 rfl (lv_at hl 2 rfl) ?_
          refine lv_iload_n hx hb dX0_testFrom_36 rfl (lv_at hl 3 rfl) ?_
          refine lv_iload hx hb dX0_testFrom_37 (lv_at hl 0 rfl) ?_
          refine k_callA (u := ((n, kk, ff, ss, w), zz so fa de go ba ma)) (As := [.int (nI ln), .int (bI v), .int (nI 0)]) (rest := []) ⟨hx, hb, hml, hown, hts⟩ (mA_search l D ad d n kk ff ss w so fa de go ba ma s.heap.size ln v 0 hw hln (by decide)) (cwV 3 hts (lw_V q117 q119 qs3 q10 q120) rfl rfl rfl (by decide +kernel) ⟨Nat.le_of_ble_eq_true rfl, Nat.le_of_ble_eq_true rfl⟩) hP hD hK hS hA rfl hl.1 rfl (Nat.le_of_ble_eq_true rfl) dX0_testFrom_39 ⟨Nat.zero_le _, Nat.zero_le _⟩ (fun r u1 H locs hp hP hD hS => ?_)
          obtain ⟨de1, go1, ba1, ma1, rfl, rfl⟩ := hp
          have hP : va_P D vwCl (wB ad d n kk ff ss w so fa de1 go1 ba1 ma1) H := hP
          have hD : va_D A (wB ad d n kk ff ss w so fa de1 go1 ba1 ma1) := hD
          exact W.iret (v := tfr (fun q => shw kk ff ss w ln v q n) (nI 0)) hx hb hr (fun t9 ht9 hW9 => ⟨⟨tfr (fun q => shw kk ff ss w ln v q n) (nI 0), ((n, kk, ff, ss, w), zz so fa de1 go1 ba1 ma1), rfl, ⟨((r_testFrom_s (C := (n, kk, ff, ss, w)) hln hw.2.1).trans (tfr_neg (Int32.not_le.mp c2))).symm, rfl⟩, by rw [ht9]; exact hP, va_K.moved hW9.alike hK, hD⟩, hS.F ht9⟩) hS.2.2 dX0_testFrom_42
      · refine lv_iconst (v := (-1)) hx hb dX0_testFrom_21 (by decide) ?_
        exact W.iret (v := -1) hx hb hr (fun t9 ht9 hW9 => ⟨⟨-1, ((n, kk, ff, ss, w), zz so fa de go ba ma), rfl, ⟨((r_testFrom_s (C := (n, kk, ff, ss, w)) hln hw.2.1).trans (tfr_big (Int32.not_le.mp c1))).symm, rfl⟩, by rw [ht9]; exact hP, va_K.moved hW9.alike hK, hD⟩, hS.F ht9⟩) hS.2.2 dX0_testFrom_22
    · refine k_if_eq (by omega) (tgt := 21) hx hb dX0_testFrom_12 (by decide) (fun c9 => ?_) (fun c9 => absurd rfl c9)
      refine lv_iconst (v := (-1)) hx hb dX0_testFrom_21 (by decide) ?_
      exact W.iret (v := -1) hx hb hr (fun t9 ht9 hW9 => ⟨⟨-1, ((n, kk, ff, ss, w), zz so fa de go ba ma), rfl, ⟨(r_testFrom_n2 hno).symm, rfl⟩, by rw [ht9]; exact hP, va_K.moved hW9.alike hK, hD⟩, hS.F ht9⟩) hS.2.2 dX0_testFrom_22
  · refine k_if_eq (by omega) (tgt := 21) hx hb dX0_testFrom_5 (by decide) (fun c9 => ?_) (fun c9 => absurd rfl c9)
    refine lv_iconst (v := (-1)) hx hb dX0_testFrom_21 (by decide) ?_
    exact W.iret (v := -1) hx hb hr (fun t9 ht9 hW9 => ⟨⟨-1, ((n, kk, ff, ss, w), zz so fa de go ba ma), rfl, ⟨(r_testFrom_n1 hno).symm, rfl⟩, by rw [ht9]; exact hP, va_K.moved hW9.alike hK, hD⟩, hS.F ht9⟩) hS.2.2 dX0_testFrom_22

set_option maxHeartbeats 4000000 in
set_option maxRecDepth 100000 in
theorem mA_test (l : Launch) (D : va_G) (ad : Nat → Nat) (d : Nat → ClassId) (n : Nat) (kk ff ss : Nat → Nat) (w : Int32) (so fa de go ba ma : Nat → Int32) (sz : Nat) (p1 p2 : Int32) (hw : wfC n kk ff ss) : MetA l D ad d yX0_test (ws_ yX0_test cX0_test 3 (some .int)) ({ frames := 5, cells := 0, slots := 0, locals := 125 }) ((n, kk, ff, ss, w), zz so fa de go ba ma) sz [.ref (ad 0), .int p1, .int p2] (fun (r : Int32) (u1 : TS) => r = r_testFrom (n, kk, ff, ss, w) p1 p2 (nI 0) ∧ u1.1 = (n, kk, ff, ss, w)) := by
  refine Met.ofW (cc := cX0_test) (maxL := 3) (ret := (some .int)) (by decide) rfl ?_
  intro p e s m args below meth c s₁ B hml hv
  obtain ⟨rfl, hsz, hP, hK, hD0⟩ := hv
  have hx := B.exec
  have hb := B.bytes
  have hr := B.returns
  have hts := atoms_spec (ws := (ws_ yX0_test cX0_test 3 (some .int))) B.pre
  have hts : ∀ w ∈ lw_all, w.before _ s = true := fun w h => hts w (List.mem_cons_of_mem _ h)
  have hown : s.vm.findClass RX0 = some m.cls := findClass_of_methodNamed B.named
  have hlocks := B.notSynchronized
  subst hsz
  have hD := hD0.self (sz := s.heap.size)
  generalize hAe : va_A (wC ad d ((n, kk, ff, ss, w), zz so fa de go ba ma)) s.heap.size = A at hD ⊢
  have hA : ∀ q : Nat, s.heap.size ≤ q → A q := fun q h => by rw [← hAe]; exact Or.inr h
  have hS : va_S A s.heap s.heap [] := va_S.rf
  have hD : va_D A (wB ad d n kk ff ss w so fa de go ba ma) := hD
  have hP : va_P D vwCl (wB ad d n kk ff ss w so fa de go ba ma) s.heap := hP
  have hl := lv_entry ([.ref (ad 0), .int p1, .int p2]) (n := 3) (Nat.le_of_ble_eq_true rfl)
  rw [lg_entry_eq]
  generalize (lg_sl ([.ref (ad 0), .int p1, .int p2]) ++ List.replicate (3 - (lg_sl ([.ref (ad 0), .int p1, .int p2])).length) Slot.unset).toArray = ls at hl ⊢
  have hl : lv_has ls 3 [(0, .ref (ad 0)), (1, .int p1), (2, .int p2)] := hl
  refine lv_aload_n hx hb dX0_test_0 rfl (lv_at hl 0 rfl) ?_
  refine lv_iload_n hx hb dX0_test_1 rfl (lv_at hl 1 rfl) ?_
  refine lv_iload_n hx hb dX0_test_2 rfl (lv_at hl 2 rfl) ?_
  refine lv_iconst (v := nI 0) hx hb dX0_test_3 (by decide) ?_
  refine k_callA (u := ((n, kk, ff, ss, w), zz so fa de go ba ma)) (As := [.int p1, .int p2, .int (nI 0)]) (rest := []) ⟨hx, hb, hml, hown, hts⟩ (mA_testFrom l D ad d n kk ff ss w so fa de go ba ma s.heap.size p1 p2 (nI 0) hw) (cwV 3 hts (lw_V q113 q114 q115 q10 q116) rfl rfl rfl (by decide +kernel) ⟨Nat.le_of_ble_eq_true rfl, Nat.le_of_ble_eq_true rfl⟩) hP hD hK hS hA rfl hl.1 rfl (Nat.le_of_ble_eq_true rfl) dX0_test_4 ⟨Nat.zero_le _, Nat.zero_le _⟩ (fun r u1 H locs hp hP hD hS => ?_)
  obtain ⟨C1, z1⟩ := u1
  obtain ⟨hp, hC1⟩ := hp
  obtain rfl : C1 = (n, kk, ff, ss, w) := hC1
  have hP : va_P D vwCl (wB ad d n kk ff ss w (z1 0) (z1 1) (z1 2) (z1 3) (z1 4) (z1 5)) H := hP
  have hD : va_D A (wB ad d n kk ff ss w (z1 0) (z1 1) (z1 2) (z1 3) (z1 4) (z1 5)) := hD
  exact W.iret (v := r) hx hb hr (fun t9 ht9 hW9 => ⟨⟨r, ((n, kk, ff, ss, w), zz (z1 0) (z1 1) (z1 2) (z1 3) (z1 4) (z1 5)), rfl, ⟨hp, rfl⟩, by rw [ht9]; exact hP, va_K.moved hW9.alike hK, hD⟩, hS.F ht9⟩) hS.2.2 dX0_test_7
end
section
set_option maxHeartbeats 4000000 in
set_option maxRecDepth 100000 in
theorem mA_countShown (l : Launch) (D : va_G) (ad : Nat → Nat) (d : Nat → ClassId) (n : Nat) (kk ff ss : Nat → Nat) (w : Int32) (so fa de go ba ma : Nat → Int32) (sz : Nat) (q1 : Nat) (hw : wfC n kk ff ss) (hq1 : q1 < 32) : MetA l D ad d yX0_countShown (ws_ yX0_countShown cX0_countShown 4 (some .int)) ({ frames := 3, cells := 0, slots := 0, locals := 67 }) ((n, kk, ff, ss, w), zz so fa de go ba ma) sz [.ref (ad 0), .int (nI q1)] (fun (r : Int32) (u1 : TS) => r = cnt (n, kk, ff, ss, w) (nI q1) n ∧ u1.1 = (n, kk, ff, ss, w)) := by
  refine Met.ofW (cc := cX0_countShown) (maxL := 4) (ret := (some .int)) (by decide) rfl ?_
  intro p e s m args below meth c s₁ B hml hv
  obtain ⟨rfl, hsz, hP, hK, hD0⟩ := hv
  have hx := B.exec
  have hb := B.bytes
  have hr := B.returns
  have hts := atoms_spec (ws := (ws_ yX0_countShown cX0_countShown 4 (some .int))) B.pre
  have hts : ∀ w ∈ lw_all, w.before _ s = true := fun w h => hts w (List.mem_cons_of_mem _ h)
  have hown : s.vm.findClass RX0 = some m.cls := findClass_of_methodNamed B.named
  have hlocks := B.notSynchronized
  subst hsz
  have hD := hD0.self (sz := s.heap.size)
  generalize hAe : va_A (wC ad d ((n, kk, ff, ss, w), zz so fa de go ba ma)) s.heap.size = A at hD ⊢
  have hA : ∀ q : Nat, s.heap.size ≤ q → A q := fun q h => by rw [← hAe]; exact Or.inr h
  have hS : va_S A s.heap s.heap [] := va_S.rf
  have hD : va_D A (wB ad d n kk ff ss w so fa de go ba ma) := hD
  have hP : va_P D vwCl (wB ad d n kk ff ss w so fa de go ba ma) s.heap := hP
  have hl := lv_entry ([.ref (ad 0), .int (nI q1)]) (n := 4) (Nat.le_of_ble_eq_true rfl)
  rw [lg_entry_eq]
  generalize (lg_sl ([.ref (ad 0), .int (nI q1)]) ++ List.replicate (4 - (lg_sl ([.ref (ad 0), .int (nI q1)])).length) Slot.unset).toArray = ls at hl ⊢
  have hl : lv_has ls 4 [(0, .ref (ad 0)), (1, .int (nI q1))] := hl
  obtain ⟨hn5, hn16, hwf⟩ := id hw
  refine lv_iconst (v := nI 0) hx hb dX0_countShown_0 (by decide) ?_
  refine lv_istore_n (lv' := [(2, .int (nI 0)), (0, .ref (ad 0)), (1, .int (nI q1))]) hx hb dX0_countShown_1 rfl hl (by decide) rfl (fun ls hl => ?_)
  refine lv_iconst (v := nI 0) hx hb dX0_countShown_2 (by decide) ?_
  refine lv_istore_n (lv' := [(3, .int (nI 0)), (2, .int (nI 0)), (0, .ref (ad 0)), (1, .int (nI q1))]) hx hb dX0_countShown_3 rfl hl (by decide) rfl (fun ls hl => ?_)
  have loop : ∀ (f i : Nat) (so fa de go ba ma : Nat → Int32), i ≤ n → n + 1 ≤ i + f → ∀ (H : Heap) (locs : List Loc), va_P D vwCl (wB ad d n kk ff ss w so fa de go ba ma) H → va_D A (wB ad d n kk ff ss w so fa de go ba ma) → va_S A s.heap H locs → ∀ (ls : Array Slot), lv_has ls 4 [(0, .ref (ad 0)), (1, .int (nI q1)), (2, .int (cnt (n, kk, ff, ss, w) (nI q1) i)), (3, .int (nI i))] → W p l e (headSpec (ws_ yX0_countShown cX0_countShown 4 (some .int)) ({ frames := 3, cells := 0, slots := 0, locals := 67 })).room s m ([.ref (ad 0), .int (nI q1)] : List Value).toArray below meth c H locs 0 0 (MQ below (va_Qi (fun (r : Int32) (u1 : TS) => r = cnt (n, kk, ff, ss, w) (nI q1) n ∧ u1.1 = (n, kk, ff, ss, w)) (BA D ad d A) A) ([.ref (ad 0), .int (nI q1)] : List Value).toArray s 0 0 A) (F0 m 4 ls []) := by
    intro f
    induction f with
    | zero =>
      intro i so fa de go ba ma h1 h2
      exact absurd h2 (by omega)
    | succ f ih =>
      intro i so fa de go ba ma hi hf  H locs hP hD hS ls hl
      refine lv_iload_n hx hb dX0_countShown_4 rfl (lv_at hl 3 rfl) ?_
      refine lv_aload_n hx hb dX0_countShown_5 rfl (lv_at hl 0 rfl) ?_
      refine va_get (D := D) (ci := 0) (v := .int (nI n)) (C := RX0) (T := TX0) (N := 11) hx hb hts in_X0 hown hK hP 0 rfl rfl 0 (by decide) (hts _ q20) (fun _ h9 => h9) rfl dX0_countShown_6 ?_
      refine k_ge (by omega) (by omega) (tgt := 44) hx hb dX0_countShown_9 (by decide) (fun c1 => ?_) (fun c1 => ?_)
      · have e : i = n := by omega
        subst e
        refine lv_iload_n hx hb dX0_countShown_44 rfl (lv_at hl 2 rfl) ?_
        exact W.iret (v := cnt (i, kk, ff, ss, w) (nI q1) i) hx hb hr (fun t9 ht9 hW9 => ⟨⟨cnt (i, kk, ff, ss, w) (nI q1) i, ((i, kk, ff, ss, w), zz so fa de go ba ma), rfl, ⟨rfl, rfl⟩, by rw [ht9]; exact hP, va_K.moved hW9.alike hK, hD⟩, hS.F ht9⟩) hS.2.2 dX0_countShown_45
      · refine lv_iload_n hx hb dX0_countShown_12 rfl (lv_at hl 2 rfl) ?_
        refine lv_aload_n hx hb dX0_countShown_13 rfl (lv_at hl 0 rfl) ?_
        refine lv_iload_n hx hb dX0_countShown_14 rfl (lv_at hl 3 rfl) ?_
        refine lv_iconst (v := nI 0) hx hb dX0_countShown_15 (by decide) ?_
        refine k_callA (u := ((n, kk, ff, ss, w), zz so fa de go ba ma)) (As := [.int (nI i), .int (bI false)]) (rest := [.int (cnt (n, kk, ff, ss, w) (nI q1) i)]) ⟨hx, hb, hml, hown, hts⟩ (mA_shownSet l D ad d n kk ff ss w so fa de go ba ma H.size i false hw c1) (cwV 2 hts (lw_V q105 q107 qs2 q10 q108) rfl rfl rfl (by decide +kernel) ⟨Nat.le_of_ble_eq_true rfl, Nat.le_of_ble_eq_true rfl⟩) hP hD hK hS hA rfl hl.1 rfl (Nat.le_of_ble_eq_true rfl) dX0_countShown_16 ⟨Nat.zero_le _, Nat.zero_le _⟩ (fun r u1 H locs hp hP hD hS => ?_)
        obtain ⟨so1, fa1, rfl, hsh⟩ := hp
        have hP : va_P D vwCl (wB ad d n kk ff ss w so1 fa1 de go ba ma) H := hP
        have hD : va_D A (wB ad d n kk ff ss w so1 fa1 de go ba ma) := hD
        refine lv_iload_n hx hb dX0_countShown_19 rfl (lv_at hl 1 rfl) ?_
        refine lv_iushr (v := (r.toUInt32 >>> ((nI q1).toUInt32 &&& Int32.toUInt32 31)).toInt32) hx hb dX0_countShown_20 rfl ?_
        refine lv_iconst (v := nI 1) hx hb dX0_countShown_21 (by decide) ?_
        refine lv_iand hx hb dX0_countShown_22 ?_
        refine k_ti (y := r_shows (n, kk, ff, ss, w) (nI q1) (nI i) (nI 0)) (by rw [e_ushr _ q1 hq1, hsh q1 hq1]; exact (r_shows_s (C := (n, kk, ff, ss, w)) (v := false) c1 hn16 hq1).symm) ?_
        refine lv_iadd hx hb dX0_countShown_23 ?_
        refine lv_istore_n (lv' := [(2, .int ((cnt (n, kk, ff, ss, w) (nI q1) i) + (r_shows (n, kk, ff, ss, w) (nI q1) (nI i) (nI 0)))), (0, .ref (ad 0)), (1, .int (nI q1)), (3, .int (nI i))]) hx hb dX0_countShown_24 rfl hl (by decide) rfl (fun ls hl => ?_)
        refine lv_iload_n hx hb dX0_countShown_25 rfl (lv_at hl 0 rfl) ?_
        refine lv_aload_n hx hb dX0_countShown_26 rfl (lv_at hl 1 rfl) ?_
        refine lv_iload_n hx hb dX0_countShown_27 rfl (lv_at hl 3 rfl) ?_
        refine lv_iconst (v := nI 1) hx hb dX0_countShown_28 (by decide) ?_
        refine k_callA (u := ((n, kk, ff, ss, w), zz so1 fa1 de go ba ma)) (As := [.int (nI i), .int (bI true)]) (rest := [.int ((cnt (n, kk, ff, ss, w) (nI q1) i) + (r_shows (n, kk, ff, ss, w) (nI q1) (nI i) (nI 0)))]) ⟨hx, hb, hml, hown, hts⟩ (mA_shownSet l D ad d n kk ff ss w so1 fa1 de go ba ma H.size i true hw c1) (cwV 2 hts (lw_V q105 q107 qs2 q10 q108) rfl rfl rfl (by decide +kernel) ⟨Nat.le_of_ble_eq_true rfl, Nat.le_of_ble_eq_true rfl⟩) hP hD hK hS hA rfl hl.1 rfl (Nat.le_of_ble_eq_true rfl) dX0_countShown_29 ⟨Nat.zero_le _, Nat.zero_le _⟩ (fun r u1 H locs hp hP hD hS => ?_)
        obtain ⟨so2, fa2, rfl, hsh2⟩ := hp
        have hP : va_P D vwCl (wB ad d n kk ff ss w so2 fa2 de go ba ma) H := hP
        have hD : va_D A (wB ad d n kk ff ss w so2 fa2 de go ba ma) := hD
        refine lv_iload_n hx hb dX0_countShown_32 rfl (lv_at hl 2 rfl) ?_
        refine lv_iushr (v := (r.toUInt32 >>> ((nI q1).toUInt32 &&& Int32.toUInt32 31)).toInt32) hx hb dX0_countShown_33 rfl ?_
        refine lv_iconst (v := nI 1) hx hb dX0_countShown_34 (by decide) ?_
        refine lv_iand hx hb dX0_countShown_35 ?_
        refine k_ti (y := r_shows (n, kk, ff, ss, w) (nI q1) (nI i) (nI 1)) (by rw [e_ushr _ q1 hq1, hsh2 q1 hq1]; exact (r_shows_s (C := (n, kk, ff, ss, w)) (v := true) c1 hn16 hq1).symm) ?_
        refine lv_iadd hx hb dX0_countShown_36 ?_
        refine lv_istore_n (lv' := [(2, .int (((cnt (n, kk, ff, ss, w) (nI q1) i) + (r_shows (n, kk, ff, ss, w) (nI q1) (nI i) (nI 0))) + (r_shows (n, kk, ff, ss, w) (nI q1) (nI i) (nI 1)))), (0, .ref (ad 0)), (1, .int (nI q1)), (3, .int (nI i))]) hx hb dX0_countShown_37 rfl hl (by decide) rfl (fun ls hl => ?_)
        refine lv_iinc (v := nI (i + 1)) (lv' := [(3, .int (nI (i + 1))), (2, .int (((cnt (n, kk, ff, ss, w) (nI q1) i) + (r_shows (n, kk, ff, ss, w) (nI q1) (nI i) (nI 0))) + (r_shows (n, kk, ff, ss, w) (nI q1) (nI i) (nI 1)))), (0, .ref (ad 0)), (1, .int (nI q1))]) hx hb dX0_countShown_38 hl (k := 3) rfl (k_inc i) (by decide) rfl (fun ls hl => ?_)
        refine lv_goto (tgt := 4) hx hb dX0_countShown_41 (by decide) ?_
        exact ih (i + 1) so2 fa2 de go ba ma (by omega) (by omega) _ _ hP hD hS ls (lv_sub hl [2, 3, 1, 0] rfl)
  exact loop (n + 1) 0 so fa de go ba ma (by omega) (by omega) _ _ hP hD hS ls (lv_sub hl [2, 3, 1, 0] rfl)

set_option maxHeartbeats 4000000 in
set_option maxRecDepth 100000 in
theorem mA_shownBy (l : Launch) (D : va_G) (ad : Nat → Nat) (d : Nat → ClassId) (n : Nat) (kk ff ss : Nat → Nat) (w : Int32) (so fa de go ba ma : Nat → Int32) (sz : Nat) (p1 : Int32) (hw : wfC n kk ff ss) : MetA l D ad d yX0_shownBy (ws_ yX0_shownBy cX0_shownBy 2 (some .int)) ({ frames := 4, cells := 0, slots := 0, locals := 90 }) ((n, kk, ff, ss, w), zz so fa de go ba ma) sz [.ref (ad 0), .int p1] (fun (r : Int32) (u1 : TS) => r = r_shownBy (n, kk, ff, ss, w) p1 ∧ u1.1 = (n, kk, ff, ss, w)) := by
  refine Met.ofW (cc := cX0_shownBy) (maxL := 2) (ret := (some .int)) (by decide) rfl ?_
  intro p e s m args below meth c s₁ B hml hv
  obtain ⟨rfl, hsz, hP, hK, hD0⟩ := hv
  have hx := B.exec
  have hb := B.bytes
  have hr := B.returns
  have hts := atoms_spec (ws := (ws_ yX0_shownBy cX0_shownBy 2 (some .int))) B.pre
  have hts : ∀ w ∈ lw_all, w.before _ s = true := fun w h => hts w (List.mem_cons_of_mem _ h)
  have hown : s.vm.findClass RX0 = some m.cls := findClass_of_methodNamed B.named
  have hlocks := B.notSynchronized
  subst hsz
  have hD := hD0.self (sz := s.heap.size)
  generalize hAe : va_A (wC ad d ((n, kk, ff, ss, w), zz so fa de go ba ma)) s.heap.size = A at hD ⊢
  have hA : ∀ q : Nat, s.heap.size ≤ q → A q := fun q h => by rw [← hAe]; exact Or.inr h
  have hS : va_S A s.heap s.heap [] := va_S.rf
  have hD : va_D A (wB ad d n kk ff ss w so fa de go ba ma) := hD
  have hP : va_P D vwCl (wB ad d n kk ff ss w so fa de go ba ma) s.heap := hP
  have hl := lv_entry ([.ref (ad 0), .int p1]) (n := 2) (Nat.le_of_ble_eq_true rfl)
  rw [lg_entry_eq]
  generalize (lg_sl ([.ref (ad 0), .int p1]) ++ List.replicate (2 - (lg_sl ([.ref (ad 0), .int p1])).length) Slot.unset).toArray = ls at hl ⊢
  have hl : lv_has ls 2 [(0, .ref (ad 0)), (1, .int p1)] := hl
  refine lv_iload_n hx hb dX0_shownBy_0 rfl (lv_at hl 1 rfl) ?_
  refine k_callS (As := [.int p1]) (rest := []) ⟨hx, hb, hml, hown, hts⟩ (mS_isVector l p1) (va_cwS 1 hts (lw_S q85 q86 q10 q87) rfl rfl rfl (by decide +kernel) ⟨Nat.le_of_ble_eq_true rfl, Nat.le_of_ble_eq_true rfl⟩) rfl hl.1 rfl (Nat.le_of_ble_eq_true rfl) dX0_shownBy_1 ⟨Nat.zero_le _, Nat.zero_le _⟩ (fun r hp => ?_)
  rcases hp with ⟨rfl, q1, hq1, rfl⟩ | ⟨rfl, hno⟩
  · refine k_if_eq (by omega) (tgt := 15) hx hb dX0_shownBy_4 (by decide) (fun c9 => absurd c9 (by decide)) (fun c9 => ?_)
    refine lv_aload_n hx hb dX0_shownBy_7 rfl (lv_at hl 0 rfl) ?_
    refine lv_iload_n hx hb dX0_shownBy_8 rfl (lv_at hl 1 rfl) ?_
    refine k_callA (u := ((n, kk, ff, ss, w), zz so fa de go ba ma)) (As := [.int (nI q1)]) (rest := []) ⟨hx, hb, hml, hown, hts⟩ (mA_countShown l D ad d n kk ff ss w so fa de go ba ma s.heap.size q1 hw hq1) (cwV 1 hts (lw_V q140 q142 qs5 q10 q143) rfl rfl rfl (by decide +kernel) ⟨Nat.le_of_ble_eq_true rfl, Nat.le_of_ble_eq_true rfl⟩) hP hD hK hS hA rfl hl.1 rfl (Nat.le_of_ble_eq_true rfl) dX0_shownBy_9 ⟨Nat.zero_le _, Nat.zero_le _⟩ (fun r u1 H locs hp hP hD hS => ?_)
    obtain ⟨C1, z1⟩ := u1
    obtain ⟨hp, hC1⟩ := hp
    obtain rfl : C1 = (n, kk, ff, ss, w) := hC1
    have hP : va_P D vwCl (wB ad d n kk ff ss w (z1 0) (z1 1) (z1 2) (z1 3) (z1 4) (z1 5)) H := hP
    have hD : va_D A (wB ad d n kk ff ss w (z1 0) (z1 1) (z1 2) (z1 3) (z1 4) (z1 5)) := hD
    refine lv_goto (tgt := 16) hx hb dX0_shownBy_12 (by decide) ?_
    exact W.iret (v := r) hx hb hr (fun t9 ht9 hW9 => ⟨⟨r, ((n, kk, ff, ss, w), zz (z1 0) (z1 1) (z1 2) (z1 3) (z1 4) (z1 5)), rfl, ⟨hp.trans (r_shownBy_s (C := (n, kk, ff, ss, w)) hq1).symm, rfl⟩, by rw [ht9]; exact hP, va_K.moved hW9.alike hK, hD⟩, hS.F ht9⟩) hS.2.2 dX0_shownBy_16
  · refine k_if_eq (by omega) (tgt := 15) hx hb dX0_shownBy_4 (by decide) (fun c9 => ?_) (fun c9 => absurd rfl c9)
    refine lv_iconst (v := (-1)) hx hb dX0_shownBy_15 (by decide) ?_
    exact W.iret (v := -1) hx hb hr (fun t9 ht9 hW9 => ⟨⟨-1, ((n, kk, ff, ss, w), zz so fa de go ba ma), rfl, ⟨(r_shownBy_n hno).symm, rfl⟩, by rw [ht9]; exact hP, va_K.moved hW9.alike hK, hD⟩, hS.F ht9⟩) hS.2.2 dX0_shownBy_16

theorem bst_t {C : TC} {i : Nat} (h : (bst C i).2 < r_shownBy C (nI i)) : bst C (i + 1) = (nI i, r_shownBy C (nI i)) := if_pos h
theorem bst_f {C : TC} {i : Nat} (h : ¬ (bst C i).2 < r_shownBy C (nI i)) : bst C (i + 1) = bst C i := if_neg h

set_option maxHeartbeats 4000000 in
set_option maxRecDepth 100000 in
theorem mA_bestVector (l : Launch) (D : va_G) (ad : Nat → Nat) (d : Nat → ClassId) (n : Nat) (kk ff ss : Nat → Nat) (w : Int32) (so fa de go ba ma : Nat → Int32) (sz : Nat)  (hw : wfC n kk ff ss) : MetA l D ad d yX0_bestVector (ws_ yX0_bestVector cX0_bestVector 5 (some .int)) ({ frames := 4, cells := 0, slots := 0, locals := 90 }) ((n, kk, ff, ss, w), zz so fa de go ba ma) sz [.ref (ad 0)] (fun (r : Int32) (u1 : TS) => r = r_best (n, kk, ff, ss, w) ∧ u1.1 = (n, kk, ff, ss, w)) := by
  refine Met.ofW (cc := cX0_bestVector) (maxL := 5) (ret := (some .int)) (by decide) rfl ?_
  intro p e s m args below meth c s₁ B hml hv
  obtain ⟨rfl, hsz, hP, hK, hD0⟩ := hv
  have hx := B.exec
  have hb := B.bytes
  have hr := B.returns
  have hts := atoms_spec (ws := (ws_ yX0_bestVector cX0_bestVector 5 (some .int))) B.pre
  have hts : ∀ w ∈ lw_all, w.before _ s = true := fun w h => hts w (List.mem_cons_of_mem _ h)
  have hown : s.vm.findClass RX0 = some m.cls := findClass_of_methodNamed B.named
  have hlocks := B.notSynchronized
  subst hsz
  have hD := hD0.self (sz := s.heap.size)
  generalize hAe : va_A (wC ad d ((n, kk, ff, ss, w), zz so fa de go ba ma)) s.heap.size = A at hD ⊢
  have hA : ∀ q : Nat, s.heap.size ≤ q → A q := fun q h => by rw [← hAe]; exact Or.inr h
  have hS : va_S A s.heap s.heap [] := va_S.rf
  have hD : va_D A (wB ad d n kk ff ss w so fa de go ba ma) := hD
  have hP : va_P D vwCl (wB ad d n kk ff ss w so fa de go ba ma) s.heap := hP
  have hl := lv_entry ([.ref (ad 0)]) (n := 5) (Nat.le_of_ble_eq_true rfl)
  rw [lg_entry_eq]
  generalize (lg_sl ([.ref (ad 0)]) ++ List.replicate (5 - (lg_sl ([.ref (ad 0)])).length) Slot.unset).toArray = ls at hl ⊢
  have hl : lv_has ls 5 [(0, .ref (ad 0))] := hl
  refine lv_iconst (v := nI 0) hx hb dX0_bestVector_0 (by decide) ?_
  refine lv_istore_n (lv' := [(1, .int (nI 0)), (0, .ref (ad 0))]) hx hb dX0_bestVector_1 rfl hl (by decide) rfl (fun ls hl => ?_)
  refine lv_iconst (v := (-1)) hx hb dX0_bestVector_2 (by decide) ?_
  refine lv_istore_n (lv' := [(2, .int (-1)), (1, .int (nI 0)), (0, .ref (ad 0))]) hx hb dX0_bestVector_3 rfl hl (by decide) rfl (fun ls hl => ?_)
  refine lv_iconst (v := nI 0) hx hb dX0_bestVector_4 (by decide) ?_
  refine lv_istore_n (lv' := [(3, .int (nI 0)), (2, .int (-1)), (1, .int (nI 0)), (0, .ref (ad 0))]) hx hb dX0_bestVector_5 rfl hl (by decide) rfl (fun ls hl => ?_)
  have loop : ∀ (f i : Nat) (be mo : Int32) (so fa de go ba ma : Nat → Int32), i ≤ 32 → 32 + 1 ≤ i + f → ((be, mo) = bst (n, kk, ff, ss, w) i) → ∀ (H : Heap) (locs : List Loc), va_P D vwCl (wB ad d n kk ff ss w so fa de go ba ma) H → va_D A (wB ad d n kk ff ss w so fa de go ba ma) → va_S A s.heap H locs → ∀ (ls : Array Slot), lv_has ls 5 [(0, .ref (ad 0)), (1, .int be), (2, .int mo), (3, .int (nI i))] → W p l e (headSpec (ws_ yX0_bestVector cX0_bestVector 5 (some .int)) ({ frames := 4, cells := 0, slots := 0, locals := 90 })).room s m ([.ref (ad 0)] : List Value).toArray below meth c H locs 0 0 (MQ below (va_Qi (fun (r : Int32) (u1 : TS) => r = r_best (n, kk, ff, ss, w) ∧ u1.1 = (n, kk, ff, ss, w)) (BA D ad d A) A) ([.ref (ad 0)] : List Value).toArray s 0 0 A) (F0 m 6 ls []) := by
    intro f
    induction f with
    | zero =>
      intro i be mo so fa de go ba ma h1 h2
      exact absurd h2 (by omega)
    | succ f ih =>
      intro i be mo so fa de go ba ma hi hf hb2 H locs hP hD hS ls hl
      refine lv_iload_n hx hb dX0_bestVector_6 rfl (lv_at hl 3 rfl) ?_
      refine lv_bipush (v := nI 32) hx hb dX0_bestVector_7 (by decide) ?_
      refine k_ge (by omega) (by omega) (tgt := 36) hx hb dX0_bestVector_9 (by decide) (fun c1 => ?_) (fun c1 => ?_)
      · have e : i = 32 := by omega
        subst e
        refine lv_iload_n hx hb dX0_bestVector_36 rfl (lv_at hl 1 rfl) ?_
        exact W.iret (v := be) hx hb hr (fun t9 ht9 hW9 => ⟨⟨be, ((n, kk, ff, ss, w), zz so fa de go ba ma), rfl, ⟨congrArg Prod.fst hb2, rfl⟩, by rw [ht9]; exact hP, va_K.moved hW9.alike hK, hD⟩, hS.F ht9⟩) hS.2.2 dX0_bestVector_37
      · refine lv_aload_n hx hb dX0_bestVector_12 rfl (lv_at hl 0 rfl) ?_
        refine lv_iload_n hx hb dX0_bestVector_13 rfl (lv_at hl 3 rfl) ?_
        refine k_callA (u := ((n, kk, ff, ss, w), zz so fa de go ba ma)) (As := [.int (nI i)]) (rest := []) ⟨hx, hb, hml, hown, hts⟩ (mA_countShown l D ad d n kk ff ss w so fa de go ba ma H.size i hw c1) (cwV 1 hts (lw_V q140 q142 qs5 q10 q143) rfl rfl rfl (by decide +kernel) ⟨Nat.le_of_ble_eq_true rfl, Nat.le_of_ble_eq_true rfl⟩) hP hD hK hS hA rfl hl.1 rfl (Nat.le_of_ble_eq_true rfl) dX0_bestVector_14 ⟨Nat.zero_le _, Nat.zero_le _⟩ (fun r u1 H locs hp hP hD hS => ?_)
        obtain ⟨C1, z1⟩ := u1
        obtain ⟨hp, hC1⟩ := hp
        obtain rfl : C1 = (n, kk, ff, ss, w) := hC1
        have hP : va_P D vwCl (wB ad d n kk ff ss w (z1 0) (z1 1) (z1 2) (z1 3) (z1 4) (z1 5)) H := hP
        have hD : va_D A (wB ad d n kk ff ss w (z1 0) (z1 1) (z1 2) (z1 3) (z1 4) (z1 5)) := hD
        have hp := hp.trans (r_shownBy_s (C := (n, kk, ff, ss, w)) c1).symm
        refine lv_istore (lv' := [(4, .int r), (0, .ref (ad 0)), (1, .int be), (2, .int mo), (3, .int (nI i))]) hx hb dX0_bestVector_17 hl (by decide) rfl (fun ls hl => ?_)
        refine lv_iload hx hb dX0_bestVector_19 (lv_at hl 0 rfl) ?_
        refine lv_iload_n hx hb dX0_bestVector_21 rfl (lv_at hl 3 rfl) ?_
        refine lv_icmp_le (tgt := 30) hx hb dX0_bestVector_22 (by decide) (fun c2 => ?_) (fun c2 => ?_)
        · refine lv_iinc (v := nI (i + 1)) (lv' := [(3, .int (nI (i + 1))), (4, .int r), (0, .ref (ad 0)), (1, .int be), (2, .int mo)]) hx hb dX0_bestVector_30 hl (k := 4) rfl (k_inc i) (by decide) rfl (fun ls hl => ?_)
          refine lv_goto (tgt := 6) hx hb dX0_bestVector_33 (by decide) ?_
          exact ih (i + 1) be mo (z1 0) (z1 1) (z1 2) (z1 3) (z1 4) (z1 5) (by omega) (by omega) (by rw [hp] at c2; exact hb2.trans (bst_f (by rw [← hb2]; exact Int32.not_lt.mpr c2)).symm) _ _ hP hD hS ls (lv_sub hl [2, 3, 4, 0] rfl)
        · refine lv_iload hx hb dX0_bestVector_25 (lv_at hl 0 rfl) ?_
          refine lv_istore_n (lv' := [(2, .int r), (4, .int r), (0, .ref (ad 0)), (1, .int be), (3, .int (nI i))]) hx hb dX0_bestVector_27 rfl hl (by decide) rfl (fun ls hl => ?_)
          refine lv_iload_n hx hb dX0_bestVector_28 rfl (lv_at hl 4 rfl) ?_
          refine lv_istore_n (lv' := [(1, .int (nI i)), (2, .int r), (4, .int r), (0, .ref (ad 0)), (3, .int (nI i))]) hx hb dX0_bestVector_29 rfl hl (by decide) rfl (fun ls hl => ?_)
          refine lv_iinc (v := nI (i + 1)) (lv' := [(3, .int (nI (i + 1))), (1, .int (nI i)), (2, .int r), (4, .int r), (0, .ref (ad 0))]) hx hb dX0_bestVector_30 hl (k := 4) rfl (k_inc i) (by decide) rfl (fun ls hl => ?_)
          refine lv_goto (tgt := 6) hx hb dX0_bestVector_33 (by decide) ?_
          exact ih (i + 1) (nI i) r (z1 0) (z1 1) (z1 2) (z1 3) (z1 4) (z1 5) (by omega) (by omega) (by rw [hp] at c2 ⊢; exact (bst_t (by rw [← hb2]; exact Int32.not_le.mp c2)).symm) _ _ hP hD hS ls (lv_sub hl [4, 1, 2, 0] rfl)
  exact loop 33 0 (nI 0) (-1) so fa de go ba ma (by decide) (by decide) rfl _ _ hP hD hS ls (lv_sub hl [3, 2, 1, 0] rfl)

set_option maxHeartbeats 4000000 in
set_option maxRecDepth 100000 in
theorem mA_ones (l : Launch) (D : va_G) (ad : Nat → Nat) (d : Nat → ClassId) (n : Nat) (kk ff ss : Nat → Nat) (w : Int32) (so fa de go ba ma : Nat → Int32) (sz : Nat) (p1 : Int32) (hw : wfC n kk ff ss) : MetA l D ad d yX0_ones (ws_ yX0_ones cX0_ones 4 (some .int)) ({ frames := 2, cells := 0, slots := 0, locals := 43 }) ((n, kk, ff, ss, w), zz so fa de go ba ma) sz [.ref (ad 0), .int p1] (fun (r : Int32) (u1 : TS) => r = r_ones (n, kk, ff, ss, w) p1 ∧ u1.1 = (n, kk, ff, ss, w)) := by
  refine Met.ofW (cc := cX0_ones) (maxL := 4) (ret := (some .int)) (by decide) rfl ?_
  intro p e s m args below meth c s₁ B hml hv
  obtain ⟨rfl, hsz, hP, hK, hD0⟩ := hv
  have hx := B.exec
  have hb := B.bytes
  have hr := B.returns
  have hts := atoms_spec (ws := (ws_ yX0_ones cX0_ones 4 (some .int))) B.pre
  have hts : ∀ w ∈ lw_all, w.before _ s = true := fun w h => hts w (List.mem_cons_of_mem _ h)
  have hown : s.vm.findClass RX0 = some m.cls := findClass_of_methodNamed B.named
  have hlocks := B.notSynchronized
  subst hsz
  have hD := hD0.self (sz := s.heap.size)
  generalize hAe : va_A (wC ad d ((n, kk, ff, ss, w), zz so fa de go ba ma)) s.heap.size = A at hD ⊢
  have hA : ∀ q : Nat, s.heap.size ≤ q → A q := fun q h => by rw [← hAe]; exact Or.inr h
  have hS : va_S A s.heap s.heap [] := va_S.rf
  have hD : va_D A (wB ad d n kk ff ss w so fa de go ba ma) := hD
  have hP : va_P D vwCl (wB ad d n kk ff ss w so fa de go ba ma) s.heap := hP
  have hl := lv_entry ([.ref (ad 0), .int p1]) (n := 4) (Nat.le_of_ble_eq_true rfl)
  rw [lg_entry_eq]
  generalize (lg_sl ([.ref (ad 0), .int p1]) ++ List.replicate (4 - (lg_sl ([.ref (ad 0), .int p1])).length) Slot.unset).toArray = ls at hl ⊢
  have hl : lv_has ls 4 [(0, .ref (ad 0)), (1, .int p1)] := hl
  refine lv_aload_n hx hb dX0_ones_0 rfl (lv_at hl 0 rfl) ?_
  refine lv_iload_n hx hb dX0_ones_1 rfl (lv_at hl 1 rfl) ?_
  refine k_callAS (u := ((n, kk, ff, ss, w), zz so fa de go ba ma)) (As := [.int p1]) (rest := []) ⟨hx, hb, hml, hown, hts⟩ (mA_isLine l D ad d n kk ff ss w so fa de go ba ma s.heap.size p1 hw.2.1) (cwV 1 hts (lw_V q61 q63 qs0 q10 q64) rfl rfl rfl (by decide +kernel) ⟨Nat.le_of_ble_eq_true rfl, Nat.le_of_ble_eq_true rfl⟩) hP hD hK rfl hl.1 rfl (Nat.le_of_ble_eq_true rfl) dX0_ones_2 ⟨Nat.zero_le _, Nat.zero_le _⟩ (fun r hp => ?_)
  rcases hp with ⟨rfl, ln, hln, rfl⟩ | ⟨rfl, hno⟩
  · refine k_if_ne (by omega) (tgt := 10) hx hb dX0_ones_5 (by decide) (fun c9 => ?_) (fun c9 => absurd c9 (by decide))
    refine lv_aload_n hx hb dX0_ones_10 rfl (lv_at hl 0 rfl) ?_
    refine k_callAv (u := ((n, kk, ff, ss, w), zz so fa de go ba ma)) (As := []) (rest := []) ⟨hx, hb, hml, hown, hts⟩ (mA_simulateSound l D ad d n kk ff ss w so fa de go ba ma s.heap.size hw) (cwV 0 hts (lw_V q88 q90 qs1 q10 q91) rfl rfl rfl (by decide +kernel) ⟨Nat.le_of_ble_eq_true rfl, Nat.le_of_ble_eq_true rfl⟩) hP hD hK hS hA rfl hl.1 rfl (Nat.le_of_ble_eq_true rfl) dX0_ones_11 ⟨Nat.zero_le _, Nat.zero_le _⟩ (fun u1 H locs hp hP hD hS => ?_)
    obtain ⟨so1, rfl, hso⟩ := hp
    have hP : va_P D vwCl (wB ad d n kk ff ss w so1 fa de go ba ma) H := hP
    have hD : va_D A (wB ad d n kk ff ss w so1 fa de go ba ma) := hD
    obtain ⟨hn5, hn16, hwf⟩ := id hw
    refine lv_iconst (v := nI 0) hx hb dX0_ones_14 (by decide) ?_
    refine lv_istore_n (lv' := [(2, .int (nI 0)), (0, .ref (ad 0)), (1, .int (nI ln))]) hx hb dX0_ones_15 rfl hl (by decide) rfl (fun ls hl => ?_)
    refine lv_iconst (v := nI 0) hx hb dX0_ones_16 (by decide) ?_
    refine lv_istore_n (lv' := [(3, .int (nI 0)), (2, .int (nI 0)), (0, .ref (ad 0)), (1, .int (nI ln))]) hx hb dX0_ones_17 rfl hl (by decide) rfl (fun ls hl => ?_)
    have loop : ∀ (f i : Nat) , i ≤ 32 → 32 + 1 ≤ i + f → ∀ (H : Heap) (locs : List Loc), va_P D vwCl (wB ad d n kk ff ss w so1 fa de go ba ma) H → va_D A (wB ad d n kk ff ss w so1 fa de go ba ma) → va_S A s.heap H locs → ∀ (ls : Array Slot), lv_has ls 4 [(0, .ref (ad 0)), (1, .int (nI ln)), (2, .int (one (n, kk, ff, ss, w) (nI ln) i)), (3, .int (nI i))] → W p l e (headSpec (ws_ yX0_ones cX0_ones 4 (some .int)) ({ frames := 2, cells := 0, slots := 0, locals := 43 })).room s m ([.ref (ad 0), .int (nI ln)] : List Value).toArray below meth c H locs 0 0 (MQ below (va_Qi (fun (r : Int32) (u1 : TS) => r = r_ones (n, kk, ff, ss, w) (nI ln) ∧ u1.1 = (n, kk, ff, ss, w)) (BA D ad d A) A) ([.ref (ad 0), .int (nI ln)] : List Value).toArray s 0 0 A) (F0 m 18 ls []) := by
      intro f
      induction f with
      | zero =>
        intro i  h1 h2
        exact absurd h2 (by omega)
      | succ f ih =>
        intro i  hi hf  H locs hP hD hS ls hl
        refine lv_iload_n hx hb dX0_ones_18 rfl (lv_at hl 3 rfl) ?_
        refine lv_bipush (v := nI 32) hx hb dX0_ones_19 (by decide) ?_
        refine k_ge (by omega) (by omega) (tgt := 43) hx hb dX0_ones_21 (by decide) (fun c1 => ?_) (fun c1 => ?_)
        · have e : i = 32 := by omega
          subst e
          refine lv_iload_n hx hb dX0_ones_43 rfl (lv_at hl 2 rfl) ?_
          exact W.iret (v := one (n, kk, ff, ss, w) (nI ln) 32) hx hb hr (fun t9 ht9 hW9 => ⟨⟨one (n, kk, ff, ss, w) (nI ln) 32, ((n, kk, ff, ss, w), zz so1 fa de go ba ma), rfl, ⟨(r_ones_s (C := (n, kk, ff, ss, w)) hln hn16).symm, rfl⟩, by rw [ht9]; exact hP, va_K.moved hW9.alike hK, hD⟩, hS.F ht9⟩) hS.2.2 dX0_ones_44
        · refine lv_iload_n hx hb dX0_ones_24 rfl (lv_at hl 2 rfl) ?_
          refine lv_aload_n hx hb dX0_ones_25 rfl (lv_at hl 0 rfl) ?_
          refine va_get (D := D) (ci := 0) (v := .ref (ad 4)) (C := RX0) (T := TX0) (N := 11) hx hb hts in_X0 hown hK hP 0 rfl rfl 5 (by decide) (hts _ q25) (fun _ h9 => h9) rfl dX0_ones_26 ?_
          refine lv_iload_n hx hb dX0_ones_29 rfl (lv_at hl 1 rfl) ?_
          refine k_ild hx hb hK hP 4 1 rfl rfl (v := so1 ln) (by decide) (by omega) (rfl) dX0_ones_30 ?_
          refine lv_iload_n hx hb dX0_ones_31 rfl (lv_at hl 3 rfl) ?_
          refine lv_iushr (v := ((so1 ln).toUInt32 >>> ((nI i).toUInt32 &&& Int32.toUInt32 31)).toInt32) hx hb dX0_ones_32 rfl ?_
          refine lv_iconst (v := nI 1) hx hb dX0_ones_33 (by decide) ?_
          refine lv_iand hx hb dX0_ones_34 ?_
          refine k_ti (y := r_value (n, kk, ff, ss, w) (nI ln) (nI i)) (by rw [e_ushr _ i c1, hso ln hln i c1]; exact (r_value_s (C := (n, kk, ff, ss, w)) hln hn16 c1).symm) ?_
          refine lv_iadd hx hb dX0_ones_35 ?_
          refine lv_istore_n (lv' := [(2, .int ((one (n, kk, ff, ss, w) (nI ln) i) + (r_value (n, kk, ff, ss, w) (nI ln) (nI i)))), (0, .ref (ad 0)), (1, .int (nI ln)), (3, .int (nI i))]) hx hb dX0_ones_36 rfl hl (by decide) rfl (fun ls hl => ?_)
          refine lv_iinc (v := nI (i + 1)) (lv' := [(3, .int (nI (i + 1))), (2, .int ((one (n, kk, ff, ss, w) (nI ln) i) + (r_value (n, kk, ff, ss, w) (nI ln) (nI i)))), (0, .ref (ad 0)), (1, .int (nI ln))]) hx hb dX0_ones_37 hl (k := 3) rfl (k_inc i) (by decide) rfl (fun ls hl => ?_)
          refine lv_goto (tgt := 18) hx hb dX0_ones_40 (by decide) ?_
          exact ih (i + 1) (by omega) (by omega) _ _ hP hD hS ls (lv_sub hl [2, 3, 1, 0] rfl)
    exact loop 33 0 (by decide) (by decide) _ _ hP hD hS ls (lv_sub hl [2, 3, 1, 0] rfl)
  · refine k_if_ne (by omega) (tgt := 10) hx hb dX0_ones_5 (by decide) (fun c9 => absurd rfl c9) (fun c9 => ?_)
    refine lv_iconst (v := (-1)) hx hb dX0_ones_8 (by decide) ?_
    exact W.iret (v := -1) hx hb hr (fun t9 ht9 hW9 => ⟨⟨-1, ((n, kk, ff, ss, w), zz so fa de go ba ma), rfl, ⟨(r_ones_n hno).symm, rfl⟩, by rw [ht9]; exact hP, va_K.moved hW9.alike hK, hD⟩, hS.F ht9⟩) hS.2.2 dX0_ones_9

set_option maxHeartbeats 4000000 in
set_option maxRecDepth 100000 in
theorem mA_hidden (l : Launch) (D : va_G) (ad : Nat → Nat) (d : Nat → ClassId) (n : Nat) (kk ff ss : Nat → Nat) (w : Int32) (so fa de go ba ma : Nat → Int32) (sz : Nat) (p1 : Int32) (hw : wfC n kk ff ss) : MetA l D ad d yX0_hidden (ws_ yX0_hidden cX0_hidden 5 (some .int)) ({ frames := 4, cells := 0, slots := 0, locals := 101 }) ((n, kk, ff, ss, w), zz so fa de go ba ma) sz [.ref (ad 0), .int p1] (fun (r : Int32) (u1 : TS) => r = r_hidden (n, kk, ff, ss, w) p1 ∧ u1.1 = (n, kk, ff, ss, w)) := by
  refine Met.ofW (cc := cX0_hidden) (maxL := 5) (ret := (some .int)) (by decide) rfl ?_
  intro p e s m args below meth c s₁ B hml hv
  obtain ⟨rfl, hsz, hP, hK, hD0⟩ := hv
  have hx := B.exec
  have hb := B.bytes
  have hr := B.returns
  have hts := atoms_spec (ws := (ws_ yX0_hidden cX0_hidden 5 (some .int))) B.pre
  have hts : ∀ w ∈ lw_all, w.before _ s = true := fun w h => hts w (List.mem_cons_of_mem _ h)
  have hown : s.vm.findClass RX0 = some m.cls := findClass_of_methodNamed B.named
  have hlocks := B.notSynchronized
  subst hsz
  have hD := hD0.self (sz := s.heap.size)
  generalize hAe : va_A (wC ad d ((n, kk, ff, ss, w), zz so fa de go ba ma)) s.heap.size = A at hD ⊢
  have hA : ∀ q : Nat, s.heap.size ≤ q → A q := fun q h => by rw [← hAe]; exact Or.inr h
  have hS : va_S A s.heap s.heap [] := va_S.rf
  have hD : va_D A (wB ad d n kk ff ss w so fa de go ba ma) := hD
  have hP : va_P D vwCl (wB ad d n kk ff ss w so fa de go ba ma) s.heap := hP
  have hl := lv_entry ([.ref (ad 0), .int p1]) (n := 5) (Nat.le_of_ble_eq_true rfl)
  rw [lg_entry_eq]
  generalize (lg_sl ([.ref (ad 0), .int p1]) ++ List.replicate (5 - (lg_sl ([.ref (ad 0), .int p1])).length) Slot.unset).toArray = ls at hl ⊢
  have hl : lv_has ls 5 [(0, .ref (ad 0)), (1, .int p1)] := hl
  obtain ⟨hn5, hn16, hwf⟩ := id hw
  refine lv_iconst (v := nI 0) hx hb dX0_hidden_0 (by decide) ?_
  refine lv_istore_n (lv' := [(2, .int (nI 0)), (0, .ref (ad 0)), (1, .int p1)]) hx hb dX0_hidden_1 rfl hl (by decide) rfl (fun ls hl => ?_)
  refine lv_iconst (v := nI 0) hx hb dX0_hidden_2 (by decide) ?_
  refine lv_istore_n (lv' := [(3, .int (nI 0)), (2, .int (nI 0)), (0, .ref (ad 0)), (1, .int p1)]) hx hb dX0_hidden_3 rfl hl (by decide) rfl (fun ls hl => ?_)
  rcases bit_or p1 with ⟨v, rfl⟩ | hno
  · have loop : ∀ (f i : Nat) (so fa de go ba ma : Nat → Int32), i ≤ n → n + 1 ≤ i + f → ∀ (H : Heap) (locs : List Loc), va_P D vwCl (wB ad d n kk ff ss w so fa de go ba ma) H → va_D A (wB ad d n kk ff ss w so fa de go ba ma) → va_S A s.heap H locs → ∀ (ls : Array Slot), lv_has ls 5 [(0, .ref (ad 0)), (1, .int (bI v)), (2, .int (hid (n, kk, ff, ss, w) (bI v) i)), (3, .int (nI i))] → W p l e (headSpec (ws_ yX0_hidden cX0_hidden 5 (some .int)) ({ frames := 4, cells := 0, slots := 0, locals := 101 })).room s m ([.ref (ad 0), .int (bI v)] : List Value).toArray below meth c H locs 0 0 (MQ below (va_Qi (fun (r : Int32) (u1 : TS) => r = r_hidden (n, kk, ff, ss, w) (bI v) ∧ u1.1 = (n, kk, ff, ss, w)) (BA D ad d A) A) ([.ref (ad 0), .int (bI v)] : List Value).toArray s 0 0 A) (F0 m 4 ls []) := by
      intro f
      induction f with
      | zero =>
        intro i so fa de go ba ma h1 h2
        exact absurd h2 (by omega)
      | succ f ih =>
        intro i so fa de go ba ma hi hf  H locs hP hD hS ls hl
        refine lv_iload_n hx hb dX0_hidden_4 rfl (lv_at hl 3 rfl) ?_
        refine lv_aload_n hx hb dX0_hidden_5 rfl (lv_at hl 0 rfl) ?_
        refine va_get (D := D) (ci := 0) (v := .int (nI n)) (C := RX0) (T := TX0) (N := 11) hx hb hts in_X0 hown hK hP 0 rfl rfl 0 (by decide) (hts _ q20) (fun _ h9 => h9) rfl dX0_hidden_6 ?_
        refine k_ge (by omega) (by omega) (tgt := 49) hx hb dX0_hidden_9 (by decide) (fun c1 => ?_) (fun c1 => ?_)
        · have e : i = n := by omega
          subst e
          refine lv_iload_n hx hb dX0_hidden_49 rfl (lv_at hl 2 rfl) ?_
          exact W.iret (v := hid (i, kk, ff, ss, w) (bI v) i) hx hb hr (fun t9 ht9 hW9 => ⟨⟨hid (i, kk, ff, ss, w) (bI v) i, ((i, kk, ff, ss, w), zz so fa de go ba ma), rfl, ⟨(r_hidden_s (C := (i, kk, ff, ss, w))).symm, rfl⟩, by rw [ht9]; exact hP, va_K.moved hW9.alike hK, hD⟩, hS.F ht9⟩) hS.2.2 dX0_hidden_50
        · refine lv_iload_n hx hb dX0_hidden_12 rfl (lv_at hl 1 rfl) ?_
          refine k_callS (As := [.int (bI v)]) (rest := []) ⟨hx, hb, hml, hown, hts⟩ (mS_isBit l (bI v)) (va_cwS 1 hts (lw_S q102 q103 q10 q104) rfl rfl rfl (by decide +kernel) ⟨Nat.le_of_ble_eq_true rfl, Nat.le_of_ble_eq_true rfl⟩) rfl hl.1 rfl (Nat.le_of_ble_eq_true rfl) dX0_hidden_13 ⟨Nat.zero_le _, Nat.zero_le _⟩ (fun r hp => ?_)
          obtain rfl := isB_at hp
          refine k_if_eq (by omega) (tgt := 49) hx hb dX0_hidden_16 (by decide) (fun c2 => absurd c2 (by decide)) (fun c2 => ?_)
          refine lv_aload_n hx hb dX0_hidden_19 rfl (lv_at hl 0 rfl) ?_
          refine lv_iload_n hx hb dX0_hidden_20 rfl (lv_at hl 3 rfl) ?_
          refine lv_iload_n hx hb dX0_hidden_21 rfl (lv_at hl 1 rfl) ?_
          refine lv_iconst (v := nI 0) hx hb dX0_hidden_22 (by decide) ?_
          refine k_callA (u := ((n, kk, ff, ss, w), zz so fa de go ba ma)) (As := [.int (nI i), .int (bI v), .int (nI 0)]) (rest := []) ⟨hx, hb, hml, hown, hts⟩ (mA_search l D ad d n kk ff ss w so fa de go ba ma H.size i v 0 hw c1 (by decide)) (cwV 3 hts (lw_V q117 q119 qs3 q10 q120) rfl rfl rfl (by decide +kernel) ⟨Nat.le_of_ble_eq_true rfl, Nat.le_of_ble_eq_true rfl⟩) hP hD hK hS hA rfl hl.1 rfl (Nat.le_of_ble_eq_true rfl) dX0_hidden_23 ⟨Nat.zero_le _, Nat.zero_le _⟩ (fun r u1 H locs hp hP hD hS => ?_)
          obtain ⟨de1, go1, ba1, ma1, rfl, hr1⟩ := hp
          have hP : va_P D vwCl (wB ad d n kk ff ss w so fa de1 go1 ba1 ma1) H := hP
          have hD : va_D A (wB ad d n kk ff ss w so fa de1 go1 ba1 ma1) := hD
          have hr1 := hr1.trans (r_testFrom_s (C := (n, kk, ff, ss, w)) c1 hn16).symm
          refine lv_istore (lv' := [(4, .int r), (0, .ref (ad 0)), (1, .int (bI v)), (2, .int (hid (n, kk, ff, ss, w) (bI v) i)), (3, .int (nI i))]) hx hb dX0_hidden_26 hl (by decide) rfl (fun ls hl => ?_)
          refine lv_iload_n hx hb dX0_hidden_28 rfl (lv_at hl 3 rfl) ?_
          refine lv_iload hx hb dX0_hidden_29 (lv_at hl 0 rfl) ?_
          refine lv_if_ge (tgt := 40) hx hb dX0_hidden_31 (by decide) (fun c3 => ?_) (fun c3 => ?_)
          · refine lv_iconst (v := nI 0) hx hb dX0_hidden_40 (by decide) ?_
            refine lv_ior hx hb dX0_hidden_41 ?_
            refine k_ti (y := hid (n, kk, ff, ss, w) (bI v) (i + 1)) (by rw [k_or0]; rw [hr1] at c3; exact (if_neg (Int32.not_lt.mpr c3)).symm) ?_
            refine lv_istore_n (lv' := [(2, .int (hid (n, kk, ff, ss, w) (bI v) (i + 1))), (4, .int r), (0, .ref (ad 0)), (1, .int (bI v)), (3, .int (nI i))]) hx hb dX0_hidden_42 rfl hl (by decide) rfl (fun ls hl => ?_)
            refine lv_iinc (v := nI (i + 1)) (lv' := [(3, .int (nI (i + 1))), (2, .int (hid (n, kk, ff, ss, w) (bI v) (i + 1))), (4, .int r), (0, .ref (ad 0)), (1, .int (bI v))]) hx hb dX0_hidden_43 hl (k := 4) rfl (k_inc i) (by decide) rfl (fun ls hl => ?_)
            refine lv_goto (tgt := 4) hx hb dX0_hidden_46 (by decide) ?_
            exact ih (i + 1) so fa de1 go1 ba1 ma1 (by omega) (by omega) _ _ hP hD hS ls (lv_sub hl [3, 4, 1, 0] rfl)
          · refine lv_iconst (v := nI 1) hx hb dX0_hidden_34 (by decide) ?_
            refine lv_iload_n hx hb dX0_hidden_35 rfl (lv_at hl 4 rfl) ?_
            refine lv_ishl hx hb dX0_hidden_36 ?_
            refine lv_goto (tgt := 41) hx hb dX0_hidden_37 (by decide) ?_
            refine lv_ior hx hb dX0_hidden_41 ?_
            refine k_ti (y := hid (n, kk, ff, ss, w) (bI v) (i + 1)) (by rw [hr1] at c3; exact (if_pos (Int32.not_le.mp c3)).symm) ?_
            refine lv_istore_n (lv' := [(2, .int (hid (n, kk, ff, ss, w) (bI v) (i + 1))), (4, .int r), (0, .ref (ad 0)), (1, .int (bI v)), (3, .int (nI i))]) hx hb dX0_hidden_42 rfl hl (by decide) rfl (fun ls hl => ?_)
            refine lv_iinc (v := nI (i + 1)) (lv' := [(3, .int (nI (i + 1))), (2, .int (hid (n, kk, ff, ss, w) (bI v) (i + 1))), (4, .int r), (0, .ref (ad 0)), (1, .int (bI v))]) hx hb dX0_hidden_43 hl (k := 4) rfl (k_inc i) (by decide) rfl (fun ls hl => ?_)
            refine lv_goto (tgt := 4) hx hb dX0_hidden_46 (by decide) ?_
            exact ih (i + 1) so fa de1 go1 ba1 ma1 (by omega) (by omega) _ _ hP hD hS ls (lv_sub hl [3, 4, 1, 0] rfl)
    exact loop (n + 1) 0 so fa de go ba ma (by omega) (by omega) _ _ hP hD hS ls (lv_sub hl [2, 3, 1, 0] rfl)
  · refine lv_iload_n hx hb dX0_hidden_4 rfl (lv_at hl 0 rfl) ?_
    refine lv_aload_n hx hb dX0_hidden_5 rfl (lv_at hl 2 rfl) ?_
    refine va_get (D := D) (ci := 0) (v := .int (nI n)) (C := RX0) (T := TX0) (N := 11) hx hb hts in_X0 hown hK hP 0 rfl rfl 0 (by decide) (hts _ q20) (fun _ h9 => h9) rfl dX0_hidden_6 ?_
    refine k_ge (by omega) (by omega) (tgt := 49) hx hb dX0_hidden_9 (by decide) (fun c1 => absurd c1 (by omega)) (fun c1 => ?_)
    refine lv_iload_n hx hb dX0_hidden_12 rfl (lv_at hl 3 rfl) ?_
    refine k_callS (As := [.int p1]) (rest := []) ⟨hx, hb, hml, hown, hts⟩ (mS_isBit l p1) (va_cwS 1 hts (lw_S q102 q103 q10 q104) rfl rfl rfl (by decide +kernel) ⟨Nat.le_of_ble_eq_true rfl, Nat.le_of_ble_eq_true rfl⟩) rfl hl.1 rfl (Nat.le_of_ble_eq_true rfl) dX0_hidden_13 ⟨Nat.zero_le _, Nat.zero_le _⟩ (fun r hp => ?_)
    obtain rfl := isX_no (by decide) hno hp
    refine k_if_eq (by omega) (tgt := 49) hx hb dX0_hidden_16 (by decide) (fun c2 => ?_) (fun c2 => absurd rfl c2)
    refine lv_iload_n hx hb dX0_hidden_49 rfl (lv_at hl 1 rfl) ?_
    exact W.iret (v := nI 0) hx hb hr (fun t9 ht9 hW9 => ⟨⟨nI 0, ((n, kk, ff, ss, w), zz so fa de go ba ma), rfl, ⟨(r_hidden_n hno).symm, rfl⟩, by rw [ht9]; exact hP, va_K.moved hW9.alike hK, hD⟩, hS.F ht9⟩) hS.2.2 dX0_hidden_50

set_option maxHeartbeats 4000000 in
set_option maxRecDepth 100000 in
theorem mA_alike (l : Launch) (D : va_G) (ad : Nat → Nat) (d : Nat → ClassId) (n : Nat) (kk ff ss : Nat → Nat) (w : Int32) (so fa de go ba ma : Nat → Int32) (sz : Nat) (p1 p2 p3 p4 : Int32) (hw : wfC n kk ff ss) : MetA l D ad d yX0_alike (ws_ yX0_alike cX0_alike 6 (some .boolean)) ({ frames := 3, cells := 0, slots := 0, locals := 67 }) ((n, kk, ff, ss, w), zz so fa de go ba ma) sz [.ref (ad 0), .int p1, .int p2, .int p3, .int p4] (fun (r : Int32) (u1 : TS) => r = r_alike (n, kk, ff, ss, w) p1 p2 p3 p4 ∧ u1.1 = (n, kk, ff, ss, w)) := by
  refine Met.ofW (cc := cX0_alike) (maxL := 6) (ret := (some .boolean)) (by decide) rfl ?_
  intro p e s m args below meth c s₁ B hml hv
  obtain ⟨rfl, hsz, hP, hK, hD0⟩ := hv
  have hx := B.exec
  have hb := B.bytes
  have hr := B.returns
  have hts := atoms_spec (ws := (ws_ yX0_alike cX0_alike 6 (some .boolean))) B.pre
  have hts : ∀ w ∈ lw_all, w.before _ s = true := fun w h => hts w (List.mem_cons_of_mem _ h)
  have hown : s.vm.findClass RX0 = some m.cls := findClass_of_methodNamed B.named
  have hlocks := B.notSynchronized
  subst hsz
  have hD := hD0.self (sz := s.heap.size)
  generalize hAe : va_A (wC ad d ((n, kk, ff, ss, w), zz so fa de go ba ma)) s.heap.size = A at hD ⊢
  have hA : ∀ q : Nat, s.heap.size ≤ q → A q := fun q h => by rw [← hAe]; exact Or.inr h
  have hS : va_S A s.heap s.heap [] := va_S.rf
  have hD : va_D A (wB ad d n kk ff ss w so fa de go ba ma) := hD
  have hP : va_P D vwCl (wB ad d n kk ff ss w so fa de go ba ma) s.heap := hP
  have hl := lv_entry ([.ref (ad 0), .int p1, .int p2, .int p3, .int p4]) (n := 6) (Nat.le_of_ble_eq_true rfl)
  rw [lg_entry_eq]
  generalize (lg_sl ([.ref (ad 0), .int p1, .int p2, .int p3, .int p4]) ++ List.replicate (6 - (lg_sl ([.ref (ad 0), .int p1, .int p2, .int p3, .int p4])).length) Slot.unset).toArray = ls at hl ⊢
  have hl : lv_has ls 6 [(0, .ref (ad 0)), (1, .int p1), (2, .int p2), (3, .int p3), (4, .int p4)] := hl
  refine lv_aload_n hx hb dX0_alike_0 rfl (lv_at hl 0 rfl) ?_
  refine lv_iload_n hx hb dX0_alike_1 rfl (lv_at hl 1 rfl) ?_
  refine k_callAS (u := ((n, kk, ff, ss, w), zz so fa de go ba ma)) (As := [.int p1]) (rest := []) ⟨hx, hb, hml, hown, hts⟩ (mA_isLine l D ad d n kk ff ss w so fa de go ba ma s.heap.size p1 hw.2.1) (cwV 1 hts (lw_V q61 q63 qs0 q10 q64) rfl rfl rfl (by decide +kernel) ⟨Nat.le_of_ble_eq_true rfl, Nat.le_of_ble_eq_true rfl⟩) hP hD hK rfl hl.1 rfl (Nat.le_of_ble_eq_true rfl) dX0_alike_2 ⟨Nat.zero_le _, Nat.zero_le _⟩ (fun r hp => ?_)
  rcases hp with ⟨rfl, ln, hln, rfl⟩ | ⟨rfl, hno⟩
  · refine k_if_eq (by omega) (tgt := 31) hx hb dX0_alike_5 (by decide) (fun c9 => absurd c9 (by decide)) (fun c9 => ?_)
    refine lv_iload_n hx hb dX0_alike_8 rfl (lv_at hl 2 rfl) ?_
    refine k_callS (As := [.int p2]) (rest := []) ⟨hx, hb, hml, hown, hts⟩ (mS_isBit l p2) (va_cwS 1 hts (lw_S q102 q103 q10 q104) rfl rfl rfl (by decide +kernel) ⟨Nat.le_of_ble_eq_true rfl, Nat.le_of_ble_eq_true rfl⟩) rfl hl.1 rfl (Nat.le_of_ble_eq_true rfl) dX0_alike_9 ⟨Nat.zero_le _, Nat.zero_le _⟩ (fun r hp => ?_)
    rcases isX_bit hp with ⟨rfl, v, rfl⟩ | ⟨rfl, hno⟩
    · refine k_if_eq (by omega) (tgt := 31) hx hb dX0_alike_12 (by decide) (fun c9 => absurd c9 (by decide)) (fun c9 => ?_)
      refine lv_aload_n hx hb dX0_alike_15 rfl (lv_at hl 0 rfl) ?_
      refine lv_iload_n hx hb dX0_alike_16 rfl (lv_at hl 3 rfl) ?_
      refine k_callAS (u := ((n, kk, ff, ss, w), zz so fa de go ba ma)) (As := [.int p3]) (rest := []) ⟨hx, hb, hml, hown, hts⟩ (mA_isLine l D ad d n kk ff ss w so fa de go ba ma s.heap.size p3 hw.2.1) (cwV 1 hts (lw_V q61 q63 qs0 q10 q64) rfl rfl rfl (by decide +kernel) ⟨Nat.le_of_ble_eq_true rfl, Nat.le_of_ble_eq_true rfl⟩) hP hD hK rfl hl.1 rfl (Nat.le_of_ble_eq_true rfl) dX0_alike_17 ⟨Nat.zero_le _, Nat.zero_le _⟩ (fun r hp => ?_)
      rcases hp with ⟨rfl, l2, hl2, rfl⟩ | ⟨rfl, hno⟩
      · refine k_if_eq (by omega) (tgt := 31) hx hb dX0_alike_20 (by decide) (fun c9 => absurd c9 (by decide)) (fun c9 => ?_)
        refine lv_iload hx hb dX0_alike_23 (lv_at hl 4 rfl) ?_
        refine k_callS (As := [.int p4]) (rest := []) ⟨hx, hb, hml, hown, hts⟩ (mS_isBit l p4) (va_cwS 1 hts (lw_S q102 q103 q10 q104) rfl rfl rfl (by decide +kernel) ⟨Nat.le_of_ble_eq_true rfl, Nat.le_of_ble_eq_true rfl⟩) rfl hl.1 rfl (Nat.le_of_ble_eq_true rfl) dX0_alike_25 ⟨Nat.zero_le _, Nat.zero_le _⟩ (fun r hp => ?_)
        rcases isX_bit hp with ⟨rfl, v2, rfl⟩ | ⟨rfl, hno⟩
        · refine k_if_ne (by omega) (tgt := 33) hx hb dX0_alike_28 (by decide) (fun c9 => ?_) (fun c9 => absurd c9 (by decide))
          refine lv_aload_n hx hb dX0_alike_33 rfl (lv_at hl 0 rfl) ?_
          refine lv_iload_n hx hb dX0_alike_34 rfl (lv_at hl 1 rfl) ?_
          refine lv_iload_n hx hb dX0_alike_35 rfl (lv_at hl 2 rfl) ?_
          refine k_callA (u := ((n, kk, ff, ss, w), zz so fa de go ba ma)) (As := [.int (nI ln), .int (bI v)]) (rest := []) ⟨hx, hb, hml, hown, hts⟩ (mA_shownSet l D ad d n kk ff ss w so fa de go ba ma s.heap.size ln v hw hln) (cwV 2 hts (lw_V q105 q107 qs2 q10 q108) rfl rfl rfl (by decide +kernel) ⟨Nat.le_of_ble_eq_true rfl, Nat.le_of_ble_eq_true rfl⟩) hP hD hK hS hA rfl hl.1 rfl (Nat.le_of_ble_eq_true rfl) dX0_alike_36 ⟨Nat.zero_le _, Nat.zero_le _⟩ (fun r1 u1 H locs hp hP hD hS => ?_)
          obtain ⟨so1, fa1, rfl, hsh⟩ := hp
          have hP : va_P D vwCl (wB ad d n kk ff ss w so1 fa1 de go ba ma) H := hP
          have hD : va_D A (wB ad d n kk ff ss w so1 fa1 de go ba ma) := hD
          refine lv_istore (lv' := [(5, .int r1), (0, .ref (ad 0)), (1, .int (nI ln)), (2, .int (bI v)), (3, .int (nI l2)), (4, .int (bI v2))]) hx hb dX0_alike_39 hl (by decide) rfl (fun ls hl => ?_)
          refine lv_iload hx hb dX0_alike_41 (lv_at hl 0 rfl) ?_
          refine lv_aload_n hx hb dX0_alike_43 rfl (lv_at hl 1 rfl) ?_
          refine lv_iload_n hx hb dX0_alike_44 rfl (lv_at hl 4 rfl) ?_
          refine lv_iload hx hb dX0_alike_45 (lv_at hl 5 rfl) ?_
          refine k_callA (u := ((n, kk, ff, ss, w), zz so1 fa1 de go ba ma)) (As := [.int (nI l2), .int (bI v2)]) (rest := [.int r1]) ⟨hx, hb, hml, hown, hts⟩ (mA_shownSet l D ad d n kk ff ss w so1 fa1 de go ba ma H.size l2 v2 hw hl2) (cwV 2 hts (lw_V q105 q107 qs2 q10 q108) rfl rfl rfl (by decide +kernel) ⟨Nat.le_of_ble_eq_true rfl, Nat.le_of_ble_eq_true rfl⟩) hP hD hK hS hA rfl hl.1 rfl (Nat.le_of_ble_eq_true rfl) dX0_alike_47 ⟨Nat.zero_le _, Nat.zero_le _⟩ (fun r2 u1 H locs hp hP hD hS => ?_)
          obtain ⟨so2, fa2, rfl, hsh2⟩ := hp
          have hP : va_P D vwCl (wB ad d n kk ff ss w so2 fa2 de go ba ma) H := hP
          have hD : va_D A (wB ad d n kk ff ss w so2 fa2 de go ba ma) := hD
          obtain ⟨hn5, hn16, hwf⟩ := id hw
          refine lv_icmp_ne (tgt := 57) hx hb dX0_alike_50 (by decide) (fun c1 => ?_) (fun c1 => ?_)
          · refine lv_iconst (v := nI 0) hx hb dX0_alike_57 (by decide) ?_
            exact W.zret (v := nI 0) hx hb hr (rfl) (fun t9 ht9 hW9 => ⟨⟨nI 0, ((n, kk, ff, ss, w), zz so2 fa2 de go ba ma), rfl, ⟨by rw [r_alike_s (C := (n, kk, ff, ss, w)) hln hl2 hn16, alk_f (C := (n, kk, ff, ss, w)) hln hl2 hn16 hsh hsh2 c1]; rfl, rfl⟩, by rw [ht9]; exact hP, va_K.moved hW9.alike hK, hD⟩, hS.F ht9⟩) hS.2.2 dX0_alike_58
          · refine lv_iconst (v := nI 1) hx hb dX0_alike_53 (by decide) ?_
            refine lv_goto (tgt := 58) hx hb dX0_alike_54 (by decide) ?_
            exact W.zret (v := nI 1) hx hb hr (rfl) (fun t9 ht9 hW9 => ⟨⟨nI 1, ((n, kk, ff, ss, w), zz so2 fa2 de go ba ma), rfl, ⟨by rw [r_alike_s (C := (n, kk, ff, ss, w)) hln hl2 hn16, alk_t (C := (n, kk, ff, ss, w)) hln hl2 hn16 hsh hsh2 c1]; rfl, rfl⟩, by rw [ht9]; exact hP, va_K.moved hW9.alike hK, hD⟩, hS.F ht9⟩) hS.2.2 dX0_alike_58
        · refine k_if_ne (by omega) (tgt := 33) hx hb dX0_alike_28 (by decide) (fun c9 => absurd rfl c9) (fun c9 => ?_)
          refine lv_iconst (v := nI 0) hx hb dX0_alike_31 (by decide) ?_
          exact W.zret (v := nI 0) hx hb hr (rfl) (fun t9 ht9 hW9 => ⟨⟨nI 0, ((n, kk, ff, ss, w), zz so fa de go ba ma), rfl, ⟨(r_alike_n4 hno).symm, rfl⟩, by rw [ht9]; exact hP, va_K.moved hW9.alike hK, hD⟩, hS.F ht9⟩) hS.2.2 dX0_alike_32
      · refine k_if_eq (by omega) (tgt := 31) hx hb dX0_alike_20 (by decide) (fun c9 => ?_) (fun c9 => absurd rfl c9)
        refine lv_iconst (v := nI 0) hx hb dX0_alike_31 (by decide) ?_
        exact W.zret (v := nI 0) hx hb hr (rfl) (fun t9 ht9 hW9 => ⟨⟨nI 0, ((n, kk, ff, ss, w), zz so fa de go ba ma), rfl, ⟨(r_alike_n3 hno).symm, rfl⟩, by rw [ht9]; exact hP, va_K.moved hW9.alike hK, hD⟩, hS.F ht9⟩) hS.2.2 dX0_alike_32
    · refine k_if_eq (by omega) (tgt := 31) hx hb dX0_alike_12 (by decide) (fun c9 => ?_) (fun c9 => absurd rfl c9)
      refine lv_iconst (v := nI 0) hx hb dX0_alike_31 (by decide) ?_
      exact W.zret (v := nI 0) hx hb hr (rfl) (fun t9 ht9 hW9 => ⟨⟨nI 0, ((n, kk, ff, ss, w), zz so fa de go ba ma), rfl, ⟨(r_alike_n2 hno).symm, rfl⟩, by rw [ht9]; exact hP, va_K.moved hW9.alike hK, hD⟩, hS.F ht9⟩) hS.2.2 dX0_alike_32
  · refine k_if_eq (by omega) (tgt := 31) hx hb dX0_alike_5 (by decide) (fun c9 => ?_) (fun c9 => absurd rfl c9)
    refine lv_iconst (v := nI 0) hx hb dX0_alike_31 (by decide) ?_
    exact W.zret (v := nI 0) hx hb hr (rfl) (fun t9 ht9 hW9 => ⟨⟨nI 0, ((n, kk, ff, ss, w), zz so fa de go ba ma), rfl, ⟨(r_alike_n1 hno).symm, rfl⟩, by rw [ht9]; exact hP, va_K.moved hW9.alike hK, hD⟩, hS.F ht9⟩) hS.2.2 dX0_alike_32
end
section
/-! ===== the reference: pure rows ===== -/
theorem yy_0 {kk ss : Nat → Nat} {n kd y : Nat} (h : kd = 5) : upn (yyF kk ss) n 0 = yyF (upn kk n kd) (upn ss n y) := by
  funext i
  unfold yyF upn
  by_cases e : i = n
  · simp only [if_pos e, if_pos h]
  · simp only [if_neg e]
theorem yy_1 {kk ss : Nat → Nat} {n kd y : Nat} (h : kd ≠ 5) : upn (yyF kk ss) n y = yyF (upn kk n kd) (upn ss n y) := by
  funext i
  unfold yyF upn
  by_cases e : i = n
  · simp only [if_pos e, if_neg h]
  · simp only [if_neg e]
theorem yy_le {kk ss : Nat → Nat} {i : Nat} (h : ss i ≤ i) : yyF kk ss i ≤ i := by
  unfold yyF
  split <;> omega
theorem bI_and (a b : Bool) : bI a &&& bI b = bI (a && b) := by cases a <;> cases b <;> decide
theorem work_gate {kk ff ss : Nat → Nat} {va : Nat → Int32} {ln : Nat} {v : Bool} {q i : Nat} (h5 : 5 ≤ i) (hk : kk i ≤ 5) (hf : ff i < i) (hs : ss i < i) (hva : ∀ j, j < i → va j = bI (vl kk ff ss ln v q j)) (hne : i ≠ ln) : mgI (kk i) (va (ff i)) (va (yyF kk ss i)) = bI (vl kk ff ss ln v q i) := by
  rw [vl_eq ln v q (fun _ => ⟨hf, hs⟩), if_neg hne, if_neg (by omega)]
  refine mg_row hk (hva _ hf) (fun h => ?_)
  rw [show yyF kk ss i = ss i from if_neg h]
  exact hva _ hs
theorem work_in {kk ff ss : Nat → Nat} {ln : Nat} {v : Bool} {q i : Nat} (h5 : i < 5) (hne : i ≠ ln) : (nI q >>> (nI i &&& 31)) &&& nI 1 = bI (vl kk ff ss ln v q i) := by
  rw [e_sshr _ i (by omega), b_nI _ _ (by omega), vl_eq ln v q (fun h => by omega), if_neg hne, if_pos h5]
theorem va_s {va : Nat → Int32} {i : Nat} {V : Nat → Bool} (h : ∀ j, j < i → va j = bI (V j)) : ∀ j, j < i + 1 → upd va i (bI (V i)) j = bI (V j) := by
  intro j hj
  by_cases e : j = i
  · subst e; exact pk_us
  · rw [pk_un e]; exact h j (by omega)
theorem out_s {out w : Int32} {V : Nat → Bool} {i : Nat} (hi : i < 32) (h : ∀ j, j < 32 → bt out j = (decide (j < i) && (bt w j && V j))) : ∀ j, j < 32 → bt (out ||| (bI (bt w i && V i) <<< (nI i &&& 31))) j = (decide (j < i + 1) && (bt w j && V j)) := by
  intro j hj
  rw [b_or, h j hj, e_shlb _ i hi j hj]
  by_cases e : j = i
  · subst e
    simp
  · have e2 : (j < i + 1) = (j < i) := by
      apply propext; omega
    simp [e, e2]
theorem work_eq {kk ff ss : Nat → Nat} {w x y : Int32} {n ln : Nat} {v : Bool} {q : Nat} (hn : n ≤ 16) (hx : ∀ j, j < 32 → bt x j = (decide (j < n) && (bt w j && v0 kk ff ss q j))) (hy : ∀ j, j < 32 → bt y j = (decide (j < n) && (bt w j && vl kk ff ss ln v q j))) (h : y = x) : shw kk ff ss w ln v q n = false := by
  cases e : shw kk ff ss w ln v q n
  · rfl
  · obtain ⟨j, j1, j2, j3⟩ := (shw_iff n).mp e
    have h1 := hx j (by omega)
    have h2 := hy j (by omega)
    rw [h, h1, j2, decide_eq_true j1, Bool.true_and, Bool.true_and, Bool.true_and, Bool.true_and] at h2
    exact absurd h2 j3
theorem work_ne {kk ff ss : Nat → Nat} {w x y : Int32} {n ln : Nat} {v : Bool} {q : Nat} (hx : ∀ j, j < 32 → bt x j = (decide (j < n) && (bt w j && v0 kk ff ss q j))) (hy : ∀ j, j < 32 → bt y j = (decide (j < n) && (bt w j && vl kk ff ss ln v q j))) (h : ¬ y = x) : shw kk ff ss w ln v q n = true := by
  cases e : shw kk ff ss w ln v q n
  · refine absurd (b_ext (fun j hj => ?_)) h
    rw [hx j hj, hy j hj]
    by_cases j1 : j < n
    · cases hw : bt w j
      · rfl
      · by_cases j3 : v0 kk ff ss q j = vl kk ff ss ln v q j
        · rw [j3]
        · rw [(shw_iff n).mpr ⟨j, j1, hw, j3⟩] at e
          cases e
    · rw [decide_eq_false j1, Bool.false_and, Bool.false_and]
  · rfl
theorem hl_no : ∀ i, i < 16 → (nI i = -1 ↔ i = 99) := by decide +kernel
theorem hl_at {ln : Nat} (h : ln < 16) : ∀ i, i < 16 → (nI i = nI ln ↔ i = ln) := fun i hi => nI_eq (by omega) (by omega)
theorem no_0 {p : Int32} (h : lnX 2 p = none) : ¬ p = 0 := by
  intro e
  subst e
  exact absurd h (by decide)
theorem no_1 {p : Int32} (h : lnX 2 p = none) : ¬ p = nI 1 := by
  intro e
  subst e
  exact absurd h (by decide)
theorem r_shows_bI (C : TC) (q p v : Int32) : ∃ b : Bool, r_shows C q p v = bI b := by
  unfold r_shows
  cases lnX C.1 p with
  | none => exact ⟨false, rfl⟩
  | some a =>
    cases lnX 2 v with
    | none => exact ⟨false, rfl⟩
    | some b =>
      cases lnX 32 q with
      | none => exact ⟨false, rfl⟩
      | some c => exact ⟨_, rfl⟩
def tfP (C : TC) (p v f : Int32) (k : Nat) : Bool := decide (f ≤ nI k) && decide (¬ r_shows C (nI k) p v = 0)
theorem bI_nz (b : Bool) : decide (¬ bI b = 0) = b := by cases b <;> decide
theorem tf_eq {C : TC} {p v f : Int32} (hn : C.1 ≤ 16) : r_testFrom C p v f = fst0 (tfP C p v f) 32 0 := by
  rcases ln_or (n := C.1) (by omega) p with ⟨j, hj, rfl⟩ | h1
  · rcases bit_or v with ⟨b, rfl⟩ | h2
    · rw [r_testFrom_s hj hn]
      refine fs_congr 32 0 (fun x _ hx => ?_)
      unfold tfP
      rw [r_shows_s hj hn (by omega), bI_nz]
    · rw [r_testFrom_n2 h2]
      refine (fs_no 32 0 (fun x _ hx => ?_)).symm
      unfold tfP
      rw [r_shows_n2 h2, decide_eq_false (p := ¬ nI 0 = 0) (fun q => q rfl), Bool.and_false]
  · rw [r_testFrom_n1 h1]
    refine (fs_no 32 0 (fun x _ hx => ?_)).symm
    unfold tfP
    rw [r_shows_n1 h1, decide_eq_false (p := ¬ nI 0 = 0) (fun q => q rfl), Bool.and_false]
theorem tfP_f1 {C : TC} {p v f : Int32} {k : Nat} (h : nI k < f) : tfP C p v f k = false := by
  unfold tfP
  rw [decide_eq_false (Int32.not_le.mpr h), Bool.false_and]
theorem tfP_f2 {C : TC} {p v f : Int32} {k : Nat} (h : r_shows C (nI k) p v = 0) : tfP C p v f k = false := by
  unfold tfP
  rw [decide_eq_false (p := ¬ r_shows C (nI k) p v = 0) (fun q => q h), Bool.and_false]
theorem tfP_t {C : TC} {p v f : Int32} {k : Nat} (h1 : ¬ nI k < f) (h2 : ¬ r_shows C (nI k) p v = 0) : tfP C p v f k = true := by
  unfold tfP
  rw [decide_eq_true (Int32.not_lt.mp h1), decide_eq_true h2]
  rfl
theorem fs_t {P : Nat → Bool} {i : Nat} (hi : i < 32) (h : P i = true) : fst0 P (32 - i) i = nI i := by
  rw [show 32 - i = (31 - i) + 1 by omega]
  exact if_pos h
theorem fs_f {P : Nat → Bool} {i : Nat} (hi : i < 32) (h : P i = false) : fst0 P (32 - i) i = fst0 P (32 - (i + 1)) (i + 1) := by
  rw [show 32 - i = (32 - (i + 1)) + 1 by omega]
  exact if_neg (by rw [h]; decide)

set_option maxHeartbeats 4000000 in
set_option maxRecDepth 100000 in
theorem mM_lines (l : Launch) (D : va_G) (ad : Nat → Nat) (d : ClassId) (n : Nat) (kk ff ss : Nat → Nat) (w : Int32) (va : Nat → Int32) (sz : Nat)  : MetM l D ad d yX1_lines (ws_ yX1_lines cX1_lines 1 (some .int)) ({ frames := 0, cells := 0, slots := 0, locals := 0 }) ((n, kk, ff, ss, w), va) sz [.ref (ad 0)] (fun (r : Int32) (u1 : TM) => r = nI n ∧ u1.1 = (n, kk, ff, ss, w)) := by
  refine Met.ofW (cc := cX1_lines) (maxL := 1) (ret := (some .int)) (by decide) rfl ?_
  intro p e s m args below meth c s₁ B hml hv
  obtain ⟨rfl, hsz, hP, hK, hD0⟩ := hv
  have hx := B.exec
  have hb := B.bytes
  have hr := B.returns
  have hts := atoms_spec (ws := (ws_ yX1_lines cX1_lines 1 (some .int))) B.pre
  have hts : ∀ w ∈ lw_all, w.before _ s = true := fun w h => hts w (List.mem_cons_of_mem _ h)
  have hown : s.vm.findClass RX1 = some m.cls := findClass_of_methodNamed B.named
  have hlocks := B.notSynchronized
  subst hsz
  have hD := hD0.self (sz := s.heap.size)
  generalize hAe : va_A (wM ad d ((n, kk, ff, ss, w), va)) s.heap.size = A at hD ⊢
  have hA : ∀ q : Nat, s.heap.size ≤ q → A q := fun q h => by rw [← hAe]; exact Or.inr h
  have hS : va_S A s.heap s.heap [] := va_S.rf
  have hD : va_D A (wO ad d n kk ff (yyF kk ss) w va) := hD
  have hP : va_P D vwCl (wO ad d n kk ff (yyF kk ss) w va) s.heap := hP
  have hl := lv_entry ([.ref (ad 0)]) (n := 1) (Nat.le_of_ble_eq_true rfl)
  rw [lg_entry_eq]
  generalize (lg_sl ([.ref (ad 0)]) ++ List.replicate (1 - (lg_sl ([.ref (ad 0)])).length) Slot.unset).toArray = ls at hl ⊢
  have hl : lv_has ls 1 [(0, .ref (ad 0))] := hl
  refine lv_aload_n hx hb dX1_lines_0 rfl (lv_at hl 0 rfl) ?_
  refine va_get (D := D) (ci := 1) (v := .int (nI n)) (C := RX1) (T := TX1) (N := 6) hx hb hts in_X1 hown hK hP 0 rfl rfl 0 (by decide) (hts _ q162) (fun _ h9 => h9) rfl dX1_lines_1 ?_
  exact W.iret (v := nI n) hx hb hr (fun t9 ht9 hW9 => ⟨⟨nI n, ((n, kk, ff, ss, w), va), rfl, ⟨rfl, rfl⟩, by rw [ht9]; exact hP, va_K.moved hW9.alike hK, hD⟩, hS.F ht9⟩) hS.2.2 dX1_lines_4

set_option maxHeartbeats 4000000 in
set_option maxRecDepth 100000 in
theorem mM_watched (l : Launch) (D : va_G) (ad : Nat → Nat) (d : ClassId) (n : Nat) (kk ff ss : Nat → Nat) (w : Int32) (va : Nat → Int32) (sz : Nat)  : MetM l D ad d yX1_watched (ws_ yX1_watched cX1_watched 1 (some .int)) ({ frames := 0, cells := 0, slots := 0, locals := 0 }) ((n, kk, ff, ss, w), va) sz [.ref (ad 0)] (fun (r : Int32) (u1 : TM) => r = w ∧ u1.1 = (n, kk, ff, ss, w)) := by
  refine Met.ofW (cc := cX1_watched) (maxL := 1) (ret := (some .int)) (by decide) rfl ?_
  intro p e s m args below meth c s₁ B hml hv
  obtain ⟨rfl, hsz, hP, hK, hD0⟩ := hv
  have hx := B.exec
  have hb := B.bytes
  have hr := B.returns
  have hts := atoms_spec (ws := (ws_ yX1_watched cX1_watched 1 (some .int))) B.pre
  have hts : ∀ w ∈ lw_all, w.before _ s = true := fun w h => hts w (List.mem_cons_of_mem _ h)
  have hown : s.vm.findClass RX1 = some m.cls := findClass_of_methodNamed B.named
  have hlocks := B.notSynchronized
  subst hsz
  have hD := hD0.self (sz := s.heap.size)
  generalize hAe : va_A (wM ad d ((n, kk, ff, ss, w), va)) s.heap.size = A at hD ⊢
  have hA : ∀ q : Nat, s.heap.size ≤ q → A q := fun q h => by rw [← hAe]; exact Or.inr h
  have hS : va_S A s.heap s.heap [] := va_S.rf
  have hD : va_D A (wO ad d n kk ff (yyF kk ss) w va) := hD
  have hP : va_P D vwCl (wO ad d n kk ff (yyF kk ss) w va) s.heap := hP
  have hl := lv_entry ([.ref (ad 0)]) (n := 1) (Nat.le_of_ble_eq_true rfl)
  rw [lg_entry_eq]
  generalize (lg_sl ([.ref (ad 0)]) ++ List.replicate (1 - (lg_sl ([.ref (ad 0)])).length) Slot.unset).toArray = ls at hl ⊢
  have hl : lv_has ls 1 [(0, .ref (ad 0))] := hl
  refine lv_aload_n hx hb dX1_watched_0 rfl (lv_at hl 0 rfl) ?_
  refine va_get (D := D) (ci := 1) (v := .int w) (C := RX1) (T := TX1) (N := 6) hx hb hts in_X1 hown hK hP 0 rfl rfl 4 (by decide) (hts _ q166) (fun _ h9 => h9) rfl dX1_watched_1 ?_
  exact W.iret (v := w) hx hb hr (fun t9 ht9 hW9 => ⟨⟨w, ((n, kk, ff, ss, w), va), rfl, ⟨rfl, rfl⟩, by rw [ht9]; exact hP, va_K.moved hW9.alike hK, hD⟩, hS.F ht9⟩) hS.2.2 dX1_watched_4

set_option maxHeartbeats 4000000 in
set_option maxRecDepth 100000 in
theorem mM_drop (l : Launch) (D : va_G) (ad : Nat → Nat) (d : ClassId) (n : Nat) (kk ff ss : Nat → Nat) (w : Int32) (va : Nat → Int32) (sz : Nat)  (hw : wfC n kk ff ss) : MetM l D ad d yX1_drop (ws_ yX1_drop cX1_drop 1 (some .int)) ({ frames := 0, cells := 0, slots := 0, locals := 0 }) ((n, kk, ff, ss, w), va) sz [.ref (ad 0)] (fun (r : Int32) (u1 : TM) => r = (c_drop (n, kk, ff, ss, w)).1 ∧ u1.1 = (c_drop (n, kk, ff, ss, w)).2) := by
  refine Met.ofW (cc := cX1_drop) (maxL := 1) (ret := (some .int)) (by decide) rfl ?_
  intro p e s m args below meth c s₁ B hml hv
  obtain ⟨rfl, hsz, hP, hK, hD0⟩ := hv
  have hx := B.exec
  have hb := B.bytes
  have hr := B.returns
  have hts := atoms_spec (ws := (ws_ yX1_drop cX1_drop 1 (some .int))) B.pre
  have hts : ∀ w ∈ lw_all, w.before _ s = true := fun w h => hts w (List.mem_cons_of_mem _ h)
  have hown : s.vm.findClass RX1 = some m.cls := findClass_of_methodNamed B.named
  have hlocks := B.notSynchronized
  subst hsz
  have hD := hD0.self (sz := s.heap.size)
  generalize hAe : va_A (wM ad d ((n, kk, ff, ss, w), va)) s.heap.size = A at hD ⊢
  have hA : ∀ q : Nat, s.heap.size ≤ q → A q := fun q h => by rw [← hAe]; exact Or.inr h
  have hS : va_S A s.heap s.heap [] := va_S.rf
  have hD : va_D A (wO ad d n kk ff (yyF kk ss) w va) := hD
  have hP : va_P D vwCl (wO ad d n kk ff (yyF kk ss) w va) s.heap := hP
  have hl := lv_entry ([.ref (ad 0)]) (n := 1) (Nat.le_of_ble_eq_true rfl)
  rw [lg_entry_eq]
  generalize (lg_sl ([.ref (ad 0)]) ++ List.replicate (1 - (lg_sl ([.ref (ad 0)])).length) Slot.unset).toArray = ls at hl ⊢
  have hl : lv_has ls 1 [(0, .ref (ad 0))] := hl
  obtain ⟨hn5, hn16, hwf⟩ := hw
  refine lv_aload_n hx hb dX1_drop_0 rfl (lv_at hl 0 rfl) ?_
  refine va_get (D := D) (ci := 1) (v := .int (nI n)) (C := RX1) (T := TX1) (N := 6) hx hb hts in_X1 hown hK hP 0 rfl rfl 0 (by decide) (hts _ q162) (fun _ h9 => h9) rfl dX1_drop_1 ?_
  refine lv_iconst (v := nI 5) hx hb dX1_drop_4 (by decide) ?_
  refine k_gt (by omega) (by omega) (tgt := 10) hx hb dX1_drop_5 (by decide) (fun c1 => ?_) (fun c1 => ?_)
  · refine lv_aload_n hx hb dX1_drop_10 rfl (lv_at hl 0 rfl) ?_
    refine lv_dup hx hb dX1_drop_11 rfl ?_
    refine va_get (D := D) (ci := 1) (v := .int (nI n)) (C := RX1) (T := TX1) (N := 6) hx hb hts in_X1 hown hK hP 0 rfl rfl 0 (by decide) (hts _ q162) (fun _ h9 => h9) rfl dX1_drop_12 ?_
    refine lv_iconst (v := nI 1) hx hb dX1_drop_15 (by decide) ?_
    refine lv_isub hx hb dX1_drop_16 ?_
    refine k_ti (y := nI (n - 1)) (pk_sub (by omega)) ?_
    refine va_put (D := D) (ci := 1) (v := .int (nI (n - 1))) (ty := .int) (C := RX1) (T := TX1) (N := 6) hx hb hts in_X1 tyX1 tyX1_ok nmX1 hown hK hP hD hS 0 rfl rfl 0 (by decide) (hts _ q162) (fun _ h9 => h9) rfl (by decide +kernel) rfl rfl (Nat.le_of_ble_eq_true rfl) dX1_drop_17 (fun H locs hP hD hS => ?_)
    have hP : va_P D vwCl (wO ad d (n - 1) kk ff (yyF kk ss) w va) H := hP
    have hD : va_D A (wO ad d (n - 1) kk ff (yyF kk ss) w va) := hD
    refine lv_aload_n hx hb dX1_drop_20 rfl (lv_at hl 0 rfl) ?_
    refine lv_aload_n hx hb dX1_drop_21 rfl (lv_at hl 0 rfl) ?_
    refine va_get (D := D) (ci := 1) (v := .int w) (C := RX1) (T := TX1) (N := 6) hx hb hts in_X1 hown hK hP 0 rfl rfl 4 (by decide) (hts _ q166) (fun _ h9 => h9) rfl dX1_drop_22 ?_
    refine lv_iconst (v := nI 1) hx hb dX1_drop_25 (by decide) ?_
    refine lv_aload_n hx hb dX1_drop_26 rfl (lv_at hl 0 rfl) ?_
    refine va_get (D := D) (ci := 1) (v := .int (nI (n - 1))) (C := RX1) (T := TX1) (N := 6) hx hb hts in_X1 hown hK hP 0 rfl rfl 0 (by decide) (hts _ q162) (fun _ h9 => h9) rfl dX1_drop_27 ?_
    refine lv_ishl hx hb dX1_drop_30 ?_
    refine lv_iconst (v := (-1)) hx hb dX1_drop_31 (by decide) ?_
    refine lv_ixor hx hb dX1_drop_32 ?_
    refine lv_iand hx hb dX1_drop_33 ?_
    refine va_put (D := D) (ci := 1) (v := .int (w &&& ((nI 1 <<< ((nI (n - 1)) &&& 31)) ^^^ (-1)))) (ty := .int) (C := RX1) (T := TX1) (N := 6) hx hb hts in_X1 tyX1 tyX1_ok nmX1 hown hK hP hD hS 0 rfl rfl 4 (by decide) (hts _ q166) (fun _ h9 => h9) rfl (by decide +kernel) rfl rfl (Nat.le_of_ble_eq_true rfl) dX1_drop_34 (fun H locs hP hD hS => ?_)
    have hP : va_P D vwCl (wO ad d (n - 1) kk ff (yyF kk ss) (w &&& ((nI 1 <<< ((nI (n - 1)) &&& 31)) ^^^ (-1))) va) H := hP
    have hD : va_D A (wO ad d (n - 1) kk ff (yyF kk ss) (w &&& ((nI 1 <<< ((nI (n - 1)) &&& 31)) ^^^ (-1))) va) := hD
    refine lv_aload_n hx hb dX1_drop_37 rfl (lv_at hl 0 rfl) ?_
    refine va_get (D := D) (ci := 1) (v := .int (nI (n - 1))) (C := RX1) (T := TX1) (N := 6) hx hb hts in_X1 hown hK hP 0 rfl rfl 0 (by decide) (hts _ q162) (fun _ h9 => h9) rfl dX1_drop_38 ?_
    exact W.iret (v := nI (n - 1)) hx hb hr (fun t9 ht9 hW9 => ⟨⟨nI (n - 1), ((n - 1, kk, ff, ss, w &&& ((nI 1 <<< ((nI (n - 1)) &&& 31)) ^^^ (-1))), va), rfl, by rw [cd_n (by show n ≠ 5; omega)]; exact ⟨rfl, rfl⟩, by rw [ht9]; exact hP, va_K.moved hW9.alike hK, hD⟩, hS.F ht9⟩) hS.2.2 dX1_drop_41
  · refine lv_iconst (v := (-1)) hx hb dX1_drop_8 (by decide) ?_
    exact W.iret (v := -1) hx hb hr (fun t9 ht9 hW9 => ⟨⟨-1, ((n, kk, ff, ss, w), va), rfl, by rw [cd_5 (by show n = 5; omega)]; exact ⟨rfl, rfl⟩, by rw [ht9]; exact hP, va_K.moved hW9.alike hK, hD⟩, hS.F ht9⟩) hS.2.2 dX1_drop_9

set_option maxHeartbeats 4000000 in
set_option maxRecDepth 100000 in
theorem mM_watch (l : Launch) (D : va_G) (ad : Nat → Nat) (d : ClassId) (n : Nat) (kk ff ss : Nat → Nat) (w : Int32) (va : Nat → Int32) (sz : Nat) (p1 : Int32) (on : Bool) (hw : wfC n kk ff ss) : MetM l D ad d yX1_watch (ws_ yX1_watch cX1_watch 3 (some .boolean)) ({ frames := 1, cells := 0, slots := 0, locals := 21 }) ((n, kk, ff, ss, w), va) sz [.ref (ad 0), .int p1, .int (bI on)] (fun (r : Int32) (u1 : TM) => r = (c_watch (n, kk, ff, ss, w) p1 on).1 ∧ u1.1 = (c_watch (n, kk, ff, ss, w) p1 on).2) := by
  refine Met.ofW (cc := cX1_watch) (maxL := 3) (ret := (some .boolean)) (by decide) rfl ?_
  intro p e s m args below meth c s₁ B hml hv
  obtain ⟨rfl, hsz, hP, hK, hD0⟩ := hv
  have hx := B.exec
  have hb := B.bytes
  have hr := B.returns
  have hts := atoms_spec (ws := (ws_ yX1_watch cX1_watch 3 (some .boolean))) B.pre
  have hts : ∀ w ∈ lw_all, w.before _ s = true := fun w h => hts w (List.mem_cons_of_mem _ h)
  have hown : s.vm.findClass RX1 = some m.cls := findClass_of_methodNamed B.named
  have hlocks := B.notSynchronized
  subst hsz
  have hD := hD0.self (sz := s.heap.size)
  generalize hAe : va_A (wM ad d ((n, kk, ff, ss, w), va)) s.heap.size = A at hD ⊢
  have hA : ∀ q : Nat, s.heap.size ≤ q → A q := fun q h => by rw [← hAe]; exact Or.inr h
  have hS : va_S A s.heap s.heap [] := va_S.rf
  have hD : va_D A (wO ad d n kk ff (yyF kk ss) w va) := hD
  have hP : va_P D vwCl (wO ad d n kk ff (yyF kk ss) w va) s.heap := hP
  have hl := lv_entry ([.ref (ad 0), .int p1, .int (bI on)]) (n := 3) (Nat.le_of_ble_eq_true rfl)
  rw [lg_entry_eq]
  generalize (lg_sl ([.ref (ad 0), .int p1, .int (bI on)]) ++ List.replicate (3 - (lg_sl ([.ref (ad 0), .int p1, .int (bI on)])).length) Slot.unset).toArray = ls at hl ⊢
  have hl : lv_has ls 3 [(0, .ref (ad 0)), (1, .int p1), (2, .int (bI on))] := hl
  refine lv_aload_n hx hb dX1_watch_0 rfl (lv_at hl 0 rfl) ?_
  refine lv_iload_n hx hb dX1_watch_1 rfl (lv_at hl 1 rfl) ?_
  refine k_callMS (u := ((n, kk, ff, ss, w), va)) (As := [.int p1]) (rest := []) ⟨hx, hb, hml, hown, hts⟩ (mM_is l D ad d n kk ff ss w va s.heap.size p1 hw.2.1) (cwV 1 hts (lw_V q185 q187 qs6 q11 q188) rfl rfl rfl (by decide +kernel) ⟨Nat.le_of_ble_eq_true rfl, Nat.le_of_ble_eq_true rfl⟩) hP hD hK rfl hl.1 rfl (Nat.le_of_ble_eq_true rfl) dX1_watch_2 ⟨Nat.zero_le _, Nat.zero_le _⟩ (fun r hp => ?_)
  rcases hp with ⟨rfl, ln, hln, rfl⟩ | ⟨rfl, hno⟩
  · refine k_if_ne (by omega) (tgt := 10) hx hb dX1_watch_5 (by decide) (fun c9 => ?_) (fun c9 => absurd c9 (by decide))
    refine lv_aload_n hx hb dX1_watch_10 rfl (lv_at hl 0 rfl) ?_
    refine lv_iload_n hx hb dX1_watch_11 rfl (lv_at hl 2 rfl) ?_
    refine k_bif_eq (tgt := 26) hx hb dX1_watch_12 (by decide) (fun c1 => ?_) (fun c1 => ?_)
    · refine lv_aload_n hx hb dX1_watch_26 rfl (lv_at hl 0 rfl) ?_
      refine va_get (D := D) (ci := 1) (v := .int w) (C := RX1) (T := TX1) (N := 6) hx hb hts in_X1 hown hK hP 0 rfl rfl 4 (by decide) (hts _ q166) (fun _ h9 => h9) rfl dX1_watch_27 ?_
      refine lv_iconst (v := nI 1) hx hb dX1_watch_30 (by decide) ?_
      refine lv_iload_n hx hb dX1_watch_31 rfl (lv_at hl 1 rfl) ?_
      refine lv_ishl hx hb dX1_watch_32 ?_
      refine lv_iconst (v := (-1)) hx hb dX1_watch_33 (by decide) ?_
      refine lv_ixor hx hb dX1_watch_34 ?_
      refine lv_iand hx hb dX1_watch_35 ?_
      refine va_put (D := D) (ci := 1) (v := .int (w &&& ((nI 1 <<< (nI ln &&& 31)) ^^^ (-1)))) (ty := .int) (C := RX1) (T := TX1) (N := 6) hx hb hts in_X1 tyX1 tyX1_ok nmX1 hown hK hP hD hS 0 rfl rfl 4 (by decide) (hts _ q166) (fun _ h9 => h9) rfl (by decide +kernel) rfl rfl (Nat.le_of_ble_eq_true rfl) dX1_watch_36 (fun H locs hP hD hS => ?_)
      have hP : va_P D vwCl (wO ad d n kk ff (yyF kk ss) (w &&& ((nI 1 <<< (nI ln &&& 31)) ^^^ (-1))) va) H := hP
      have hD : va_D A (wO ad d n kk ff (yyF kk ss) (w &&& ((nI 1 <<< (nI ln &&& 31)) ^^^ (-1))) va) := hD
      refine lv_iconst (v := nI 1) hx hb dX1_watch_39 (by decide) ?_
      exact W.zret (v := nI 1) hx hb hr (rfl) (fun t9 ht9 hW9 => ⟨⟨nI 1, ((n, kk, ff, ss, w &&& ((nI 1 <<< (nI ln &&& 31)) ^^^ (-1))), va), rfl, by rw [cw_s hln hw.2.1, c1]; exact ⟨rfl, rfl⟩, by rw [ht9]; exact hP, va_K.moved hW9.alike hK, hD⟩, hS.F ht9⟩) hS.2.2 dX1_watch_40
    · refine lv_aload_n hx hb dX1_watch_15 rfl (lv_at hl 0 rfl) ?_
      refine va_get (D := D) (ci := 1) (v := .int w) (C := RX1) (T := TX1) (N := 6) hx hb hts in_X1 hown hK hP 0 rfl rfl 4 (by decide) (hts _ q166) (fun _ h9 => h9) rfl dX1_watch_16 ?_
      refine lv_iconst (v := nI 1) hx hb dX1_watch_19 (by decide) ?_
      refine lv_iload_n hx hb dX1_watch_20 rfl (lv_at hl 1 rfl) ?_
      refine lv_ishl hx hb dX1_watch_21 ?_
      refine lv_ior hx hb dX1_watch_22 ?_
      refine lv_goto (tgt := 36) hx hb dX1_watch_23 (by decide) ?_
      refine va_put (D := D) (ci := 1) (v := .int (w ||| (nI 1 <<< (nI ln &&& 31)))) (ty := .int) (C := RX1) (T := TX1) (N := 6) hx hb hts in_X1 tyX1 tyX1_ok nmX1 hown hK hP hD hS 0 rfl rfl 4 (by decide) (hts _ q166) (fun _ h9 => h9) rfl (by decide +kernel) rfl rfl (Nat.le_of_ble_eq_true rfl) dX1_watch_36 (fun H locs hP hD hS => ?_)
      have hP : va_P D vwCl (wO ad d n kk ff (yyF kk ss) (w ||| (nI 1 <<< (nI ln &&& 31))) va) H := hP
      have hD : va_D A (wO ad d n kk ff (yyF kk ss) (w ||| (nI 1 <<< (nI ln &&& 31))) va) := hD
      refine lv_iconst (v := nI 1) hx hb dX1_watch_39 (by decide) ?_
      exact W.zret (v := nI 1) hx hb hr (rfl) (fun t9 ht9 hW9 => ⟨⟨nI 1, ((n, kk, ff, ss, w ||| (nI 1 <<< (nI ln &&& 31))), va), rfl, by rw [cw_s hln hw.2.1, c1]; exact ⟨rfl, rfl⟩, by rw [ht9]; exact hP, va_K.moved hW9.alike hK, hD⟩, hS.F ht9⟩) hS.2.2 dX1_watch_40
  · refine k_if_ne (by omega) (tgt := 10) hx hb dX1_watch_5 (by decide) (fun c9 => absurd rfl c9) (fun c9 => ?_)
    refine lv_iconst (v := nI 0) hx hb dX1_watch_8 (by decide) ?_
    exact W.zret (v := nI 0) hx hb hr (rfl) (fun t9 ht9 hW9 => ⟨⟨nI 0, ((n, kk, ff, ss, w), va), rfl, by rw [cw_n hno]; exact ⟨rfl, rfl⟩, by rw [ht9]; exact hP, va_K.moved hW9.alike hK, hD⟩, hS.F ht9⟩) hS.2.2 dX1_watch_9

set_option maxHeartbeats 4000000 in
set_option maxRecDepth 100000 in
theorem mM_gate (l : Launch) (D : va_G) (ad : Nat → Nat) (d : ClassId) (n : Nat) (kk ff ss : Nat → Nat) (w : Int32) (va : Nat → Int32) (sz : Nat) (p1 p2 p3 : Int32) (hw : wfC n kk ff ss) : MetM l D ad d yX1_gate (ws_ yX1_gate cX1_gate 4 (some .int)) ({ frames := 1, cells := 0, slots := 0, locals := 21 }) ((n, kk, ff, ss, w), va) sz [.ref (ad 0), .int p1, .int p2, .int p3] (fun (r : Int32) (u1 : TM) => r = (c_gate (n, kk, ff, ss, w) p1 p2 p3).1 ∧ u1.1 = (c_gate (n, kk, ff, ss, w) p1 p2 p3).2) := by
  refine Met.ofW (cc := cX1_gate) (maxL := 4) (ret := (some .int)) (by decide) rfl ?_
  intro p e s m args below meth c s₁ B hml hv
  obtain ⟨rfl, hsz, hP, hK, hD0⟩ := hv
  have hx := B.exec
  have hb := B.bytes
  have hr := B.returns
  have hts := atoms_spec (ws := (ws_ yX1_gate cX1_gate 4 (some .int))) B.pre
  have hts : ∀ w ∈ lw_all, w.before _ s = true := fun w h => hts w (List.mem_cons_of_mem _ h)
  have hown : s.vm.findClass RX1 = some m.cls := findClass_of_methodNamed B.named
  have hlocks := B.notSynchronized
  subst hsz
  have hD := hD0.self (sz := s.heap.size)
  generalize hAe : va_A (wM ad d ((n, kk, ff, ss, w), va)) s.heap.size = A at hD ⊢
  have hA : ∀ q : Nat, s.heap.size ≤ q → A q := fun q h => by rw [← hAe]; exact Or.inr h
  have hS : va_S A s.heap s.heap [] := va_S.rf
  have hD : va_D A (wO ad d n kk ff (yyF kk ss) w va) := hD
  have hP : va_P D vwCl (wO ad d n kk ff (yyF kk ss) w va) s.heap := hP
  have hl := lv_entry ([.ref (ad 0), .int p1, .int p2, .int p3]) (n := 4) (Nat.le_of_ble_eq_true rfl)
  rw [lg_entry_eq]
  generalize (lg_sl ([.ref (ad 0), .int p1, .int p2, .int p3]) ++ List.replicate (4 - (lg_sl ([.ref (ad 0), .int p1, .int p2, .int p3])).length) Slot.unset).toArray = ls at hl ⊢
  have hl : lv_has ls 4 [(0, .ref (ad 0)), (1, .int p1), (2, .int p2), (3, .int p3)] := hl
  refine lv_iload_n hx hb dX1_gate_0 rfl (lv_at hl 1 rfl) ?_
  refine lv_if_lt (tgt := 30) hx hb dX1_gate_1 (by decide) (fun c1 => ?_) (fun c1 => ?_)
  · refine lv_iconst (v := (-1)) hx hb dX1_gate_30 (by decide) ?_
    exact W.iret (v := -1) hx hb hr (fun t9 ht9 hW9 => ⟨⟨-1, ((n, kk, ff, ss, w), va), rfl, by rw [cg_n (gk_neg c1)]; exact ⟨rfl, rfl⟩, by rw [ht9]; exact hP, va_K.moved hW9.alike hK, hD⟩, hS.F ht9⟩) hS.2.2 dX1_gate_31
  · refine lv_iload_n hx hb dX1_gate_4 rfl (lv_at hl 1 rfl) ?_
    refine lv_iconst (v := nI 5) hx hb dX1_gate_5 (by decide) ?_
    refine lv_icmp_gt (tgt := 30) hx hb dX1_gate_6 (by decide) (fun c2 => ?_) (fun c2 => ?_)
    · refine lv_iconst (v := (-1)) hx hb dX1_gate_30 (by decide) ?_
      exact W.iret (v := -1) hx hb hr (fun t9 ht9 hW9 => ⟨⟨-1, ((n, kk, ff, ss, w), va), rfl, by rw [cg_n (gk_gt c2)]; exact ⟨rfl, rfl⟩, by rw [ht9]; exact hP, va_K.moved hW9.alike hK, hD⟩, hS.F ht9⟩) hS.2.2 dX1_gate_31
    · obtain ⟨kd, hkd, rfl⟩ := k_kd c1 c2
      refine lv_aload_n hx hb dX1_gate_9 rfl (lv_at hl 0 rfl) ?_
      refine lv_iload_n hx hb dX1_gate_10 rfl (lv_at hl 2 rfl) ?_
      refine k_callMS (u := ((n, kk, ff, ss, w), va)) (As := [.int p2]) (rest := []) ⟨hx, hb, hml, hown, hts⟩ (mM_is l D ad d n kk ff ss w va s.heap.size p2 hw.2.1) (cwV 1 hts (lw_V q185 q187 qs6 q11 q188) rfl rfl rfl (by decide +kernel) ⟨Nat.le_of_ble_eq_true rfl, Nat.le_of_ble_eq_true rfl⟩) hP hD hK rfl hl.1 rfl (Nat.le_of_ble_eq_true rfl) dX1_gate_11 ⟨Nat.zero_le _, Nat.zero_le _⟩ (fun r hp => ?_)
      rcases hp with ⟨rfl, ln, hln, rfl⟩ | ⟨rfl, hno⟩
      · refine k_if_eq (by omega) (tgt := 30) hx hb dX1_gate_14 (by decide) (fun c9 => absurd c9 (by decide)) (fun c9 => ?_)
        refine lv_iload_n hx hb dX1_gate_17 rfl (lv_at hl 1 rfl) ?_
        refine lv_iconst (v := nI 5) hx hb dX1_gate_18 (by decide) ?_
        obtain ⟨hn5, hn16, hwf⟩ := id hw
        have K32 : ∀ (y : Nat), (g_ok (n, kk, ff, ss, w) (nI kd) (nI ln) p3 = some (kd, ln, y)) → (kd = 5 → y = ln) → (kd ≠ 5 → p3 = nI y) → (y < n) → ∀ (H : Heap) (locs : List Loc), va_P D vwCl (wO ad d n kk ff (yyF kk ss) w va) H → va_D A (wO ad d n kk ff (yyF kk ss) w va) → va_S A s.heap H locs → ∀ (ls : Array Slot), lv_has ls 4 [(0, .ref (ad 0)), (1, .int (nI kd)), (2, .int (nI ln)), (3, .int p3)] → W p l e (headSpec (ws_ yX1_gate cX1_gate 4 (some .int)) ({ frames := 1, cells := 0, slots := 0, locals := 21 })).room s m ([.ref (ad 0), .int (nI kd), .int (nI ln), .int p3] : List Value).toArray below meth c H locs 0 0 (MQ below (va_Qi (fun (r : Int32) (u1 : TM) => r = (c_gate (n, kk, ff, ss, w) (nI kd) (nI ln) p3).1 ∧ u1.1 = (c_gate (n, kk, ff, ss, w) (nI kd) (nI ln) p3).2) (BM D ad d A) A) ([.ref (ad 0), .int (nI kd), .int (nI ln), .int p3] : List Value).toArray s 0 0 A) (F0 m 32 ls []) := by
          intro y hg h2 h3 hy H locs hP hD hS ls hl
          refine lv_aload_n hx hb dX1_gate_32 rfl (lv_at hl 0 rfl) ?_
          refine va_get (D := D) (ci := 1) (v := .int (nI n)) (C := RX1) (T := TX1) (N := 6) hx hb hts in_X1 hown hK hP 0 rfl rfl 0 (by decide) (hts _ q162) (fun _ h9 => h9) rfl dX1_gate_33 ?_
          refine lv_bipush (v := nI 16) hx hb dX1_gate_36 (by decide) ?_
          refine k_lt (by omega) (by omega) (tgt := 44) hx hb dX1_gate_38 (by decide) (fun c4 => ?_) (fun c4 => ?_)
          · have hs : n < 16 := c4
            refine lv_aload_n hx hb dX1_gate_44 rfl (lv_at hl 0 rfl) ?_
            refine va_get (D := D) (ci := 1) (v := .ref (ad 1)) (C := RX1) (T := TX1) (N := 6) hx hb hts in_X1 hown hK hP 0 rfl rfl 1 (by decide) (hts _ q163) (fun _ h9 => h9) rfl dX1_gate_45 ?_
            refine lv_aload_n hx hb dX1_gate_48 rfl (lv_at hl 0 rfl) ?_
            refine va_get (D := D) (ci := 1) (v := .int (nI n)) (C := RX1) (T := TX1) (N := 6) hx hb hts in_X1 hown hK hP 0 rfl rfl 0 (by decide) (hts _ q162) (fun _ h9 => h9) rfl dX1_gate_49 ?_
            refine lv_iload_n hx hb dX1_gate_52 rfl (lv_at hl 1 rfl) ?_
            refine k_ist hx hb hK hP hD hS 1 0 rfl rfl (by decide) (by omega) dX1_gate_53 (fun H locs hP hD hS => ?_)
            rw [upn_nI] at hP hD
            have hP : va_P D vwCl (wO ad d n (upn kk n kd) ff (yyF kk ss) w va) H := hP
            have hD : va_D A (wO ad d n (upn kk n kd) ff (yyF kk ss) w va) := hD
            refine lv_aload_n hx hb dX1_gate_54 rfl (lv_at hl 0 rfl) ?_
            refine va_get (D := D) (ci := 1) (v := .ref (ad 2)) (C := RX1) (T := TX1) (N := 6) hx hb hts in_X1 hown hK hP 0 rfl rfl 2 (by decide) (hts _ q164) (fun _ h9 => h9) rfl dX1_gate_55 ?_
            refine lv_aload_n hx hb dX1_gate_58 rfl (lv_at hl 0 rfl) ?_
            refine va_get (D := D) (ci := 1) (v := .int (nI n)) (C := RX1) (T := TX1) (N := 6) hx hb hts in_X1 hown hK hP 0 rfl rfl 0 (by decide) (hts _ q162) (fun _ h9 => h9) rfl dX1_gate_59 ?_
            refine lv_iload_n hx hb dX1_gate_62 rfl (lv_at hl 2 rfl) ?_
            refine k_ist hx hb hK hP hD hS 2 0 rfl rfl (by decide) (by omega) dX1_gate_63 (fun H locs hP hD hS => ?_)
            rw [upn_nI] at hP hD
            have hP : va_P D vwCl (wO ad d n (upn kk n kd) (upn ff n ln) (yyF kk ss) w va) H := hP
            have hD : va_D A (wO ad d n (upn kk n kd) (upn ff n ln) (yyF kk ss) w va) := hD
            refine lv_aload_n hx hb dX1_gate_64 rfl (lv_at hl 0 rfl) ?_
            refine va_get (D := D) (ci := 1) (v := .ref (ad 3)) (C := RX1) (T := TX1) (N := 6) hx hb hts in_X1 hown hK hP 0 rfl rfl 3 (by decide) (hts _ q165) (fun _ h9 => h9) rfl dX1_gate_65 ?_
            refine lv_aload_n hx hb dX1_gate_68 rfl (lv_at hl 0 rfl) ?_
            refine va_get (D := D) (ci := 1) (v := .int (nI n)) (C := RX1) (T := TX1) (N := 6) hx hb hts in_X1 hown hK hP 0 rfl rfl 0 (by decide) (hts _ q162) (fun _ h9 => h9) rfl dX1_gate_69 ?_
            refine lv_iload_n hx hb dX1_gate_72 rfl (lv_at hl 1 rfl) ?_
            refine lv_iconst (v := nI 5) hx hb dX1_gate_73 (by decide) ?_
            refine k_ne (by omega) (by omega) (tgt := 81) hx hb dX1_gate_74 (by decide) (fun c5 => ?_) (fun c5 => ?_)
            · refine lv_iload_n hx hb dX1_gate_81 rfl (lv_at hl 3 rfl) ?_
              refine k_ti (y := nI y) (h3 c5) ?_
              refine k_ist hx hb hK hP hD hS 3 0 rfl rfl (by decide) (by omega) dX1_gate_82 (fun H locs hP hD hS => ?_)
              rw [upn_nI] at hP hD
              have hP : va_P D vwCl (wO ad d n (upn kk n kd) (upn ff n ln) (upn (yyF kk ss) n y) w va) H := hP
              have hD : va_D A (wO ad d n (upn kk n kd) (upn ff n ln) (upn (yyF kk ss) n y) w va) := hD
              rw [yy_1 (kk := kk) (ss := ss) (n := n) (y := y) c5] at hP hD
              have hP : va_P D vwCl (wO ad d n (upn kk n kd) (upn ff n ln) (yyF (upn kk n kd) (upn ss n y)) w va) H := hP
              have hD : va_D A (wO ad d n (upn kk n kd) (upn ff n ln) (yyF (upn kk n kd) (upn ss n y)) w va) := hD
              refine lv_aload_n hx hb dX1_gate_83 rfl (lv_at hl 0 rfl) ?_
              refine lv_dup hx hb dX1_gate_84 rfl ?_
              refine va_get (D := D) (ci := 1) (v := .int (nI n)) (C := RX1) (T := TX1) (N := 6) hx hb hts in_X1 hown hK hP 0 rfl rfl 0 (by decide) (hts _ q162) (fun _ h9 => h9) rfl dX1_gate_85 ?_
              refine lv_iconst (v := nI 1) hx hb dX1_gate_88 (by decide) ?_
              refine lv_iadd hx hb dX1_gate_89 ?_
              refine k_ti (y := nI (n + 1)) (nI_add n 1) ?_
              refine va_put (D := D) (ci := 1) (v := .int (nI (n + 1))) (ty := .int) (C := RX1) (T := TX1) (N := 6) hx hb hts in_X1 tyX1 tyX1_ok nmX1 hown hK hP hD hS 0 rfl rfl 0 (by decide) (hts _ q162) (fun _ h9 => h9) rfl (by decide +kernel) rfl rfl (Nat.le_of_ble_eq_true rfl) dX1_gate_90 (fun H locs hP hD hS => ?_)
              have hP : va_P D vwCl (wO ad d (n + 1) (upn kk n kd) (upn ff n ln) (yyF (upn kk n kd) (upn ss n y)) w va) H := hP
              have hD : va_D A (wO ad d (n + 1) (upn kk n kd) (upn ff n ln) (yyF (upn kk n kd) (upn ss n y)) w va) := hD
              refine lv_aload_n hx hb dX1_gate_93 rfl (lv_at hl 0 rfl) ?_
              refine va_get (D := D) (ci := 1) (v := .int (nI (n + 1))) (C := RX1) (T := TX1) (N := 6) hx hb hts in_X1 hown hK hP 0 rfl rfl 0 (by decide) (hts _ q162) (fun _ h9 => h9) rfl dX1_gate_94 ?_
              refine lv_iconst (v := nI 1) hx hb dX1_gate_97 (by decide) ?_
              refine lv_isub hx hb dX1_gate_98 ?_
              refine k_ti (y := nI n) (k_sp n) ?_
              exact W.iret (v := nI n) hx hb hr (fun t9 ht9 hW9 => ⟨⟨nI n, ((n + 1, upn kk n kd, upn ff n ln, upn ss n y, w), va), rfl, by rw [cg_s hg c4]; exact ⟨rfl, rfl⟩, by rw [ht9]; exact hP, va_K.moved hW9.alike hK, hD⟩, hS.F ht9⟩) hS.2.2 dX1_gate_99
            · refine lv_iconst (v := nI 0) hx hb dX1_gate_77 (by decide) ?_
              refine lv_goto (tgt := 82) hx hb dX1_gate_78 (by decide) ?_
              refine k_ist hx hb hK hP hD hS 3 0 rfl rfl (by decide) (by omega) dX1_gate_82 (fun H locs hP hD hS => ?_)
              rw [upn_nI] at hP hD
              have hP : va_P D vwCl (wO ad d n (upn kk n kd) (upn ff n ln) (upn (yyF kk ss) n 0) w va) H := hP
              have hD : va_D A (wO ad d n (upn kk n kd) (upn ff n ln) (upn (yyF kk ss) n 0) w va) := hD
              rw [yy_0 (kk := kk) (ss := ss) (n := n) (y := y) c5] at hP hD
              have hP : va_P D vwCl (wO ad d n (upn kk n kd) (upn ff n ln) (yyF (upn kk n kd) (upn ss n y)) w va) H := hP
              have hD : va_D A (wO ad d n (upn kk n kd) (upn ff n ln) (yyF (upn kk n kd) (upn ss n y)) w va) := hD
              refine lv_aload_n hx hb dX1_gate_83 rfl (lv_at hl 0 rfl) ?_
              refine lv_dup hx hb dX1_gate_84 rfl ?_
              refine va_get (D := D) (ci := 1) (v := .int (nI n)) (C := RX1) (T := TX1) (N := 6) hx hb hts in_X1 hown hK hP 0 rfl rfl 0 (by decide) (hts _ q162) (fun _ h9 => h9) rfl dX1_gate_85 ?_
              refine lv_iconst (v := nI 1) hx hb dX1_gate_88 (by decide) ?_
              refine lv_iadd hx hb dX1_gate_89 ?_
              refine k_ti (y := nI (n + 1)) (nI_add n 1) ?_
              refine va_put (D := D) (ci := 1) (v := .int (nI (n + 1))) (ty := .int) (C := RX1) (T := TX1) (N := 6) hx hb hts in_X1 tyX1 tyX1_ok nmX1 hown hK hP hD hS 0 rfl rfl 0 (by decide) (hts _ q162) (fun _ h9 => h9) rfl (by decide +kernel) rfl rfl (Nat.le_of_ble_eq_true rfl) dX1_gate_90 (fun H locs hP hD hS => ?_)
              have hP : va_P D vwCl (wO ad d (n + 1) (upn kk n kd) (upn ff n ln) (yyF (upn kk n kd) (upn ss n y)) w va) H := hP
              have hD : va_D A (wO ad d (n + 1) (upn kk n kd) (upn ff n ln) (yyF (upn kk n kd) (upn ss n y)) w va) := hD
              refine lv_aload_n hx hb dX1_gate_93 rfl (lv_at hl 0 rfl) ?_
              refine va_get (D := D) (ci := 1) (v := .int (nI (n + 1))) (C := RX1) (T := TX1) (N := 6) hx hb hts in_X1 hown hK hP 0 rfl rfl 0 (by decide) (hts _ q162) (fun _ h9 => h9) rfl dX1_gate_94 ?_
              refine lv_iconst (v := nI 1) hx hb dX1_gate_97 (by decide) ?_
              refine lv_isub hx hb dX1_gate_98 ?_
              refine k_ti (y := nI n) (k_sp n) ?_
              exact W.iret (v := nI n) hx hb hr (fun t9 ht9 hW9 => ⟨⟨nI n, ((n + 1, upn kk n kd, upn ff n ln, upn ss n y, w), va), rfl, by rw [cg_s hg c4]; exact ⟨rfl, rfl⟩, by rw [ht9]; exact hP, va_K.moved hW9.alike hK, hD⟩, hS.F ht9⟩) hS.2.2 dX1_gate_99
          · refine lv_bipush (v := (-2)) hx hb dX1_gate_41 (by decide) ?_
            exact W.iret (v := -2) hx hb hr (fun t9 ht9 hW9 => ⟨⟨-2, ((n, kk, ff, ss, w), va), rfl, by rw [cg_f hg (by show ¬ n < 16; omega)]; exact ⟨rfl, rfl⟩, by rw [ht9]; exact hP, va_K.moved hW9.alike hK, hD⟩, hS.F ht9⟩) hS.2.2 dX1_gate_43
        refine k_eq (by omega) (by omega) (tgt := 32) hx hb dX1_gate_19 (by decide) (fun c3 => ?_) (fun c3 => ?_)
        · exact K32 ln (gk_5 hn16 hkd c3 hln) (fun _ => rfl) (fun h => absurd c3 h) hln _ _ hP hD hS ls (lv_sub hl [0, 1, 2, 3] rfl)
        · refine lv_aload_n hx hb dX1_gate_22 rfl (lv_at hl 0 rfl) ?_
          refine lv_iload_n hx hb dX1_gate_23 rfl (lv_at hl 3 rfl) ?_
          refine k_callMS (u := ((n, kk, ff, ss, w), va)) (As := [.int p3]) (rest := []) ⟨hx, hb, hml, hown, hts⟩ (mM_is l D ad d n kk ff ss w va s.heap.size p3 hw.2.1) (cwV 1 hts (lw_V q185 q187 qs6 q11 q188) rfl rfl rfl (by decide +kernel) ⟨Nat.le_of_ble_eq_true rfl, Nat.le_of_ble_eq_true rfl⟩) hP hD hK rfl hl.1 rfl (Nat.le_of_ble_eq_true rfl) dX1_gate_24 ⟨Nat.zero_le _, Nat.zero_le _⟩ (fun r hp => ?_)
          rcases hp with ⟨rfl, l2, hl2, rfl⟩ | ⟨rfl, hno⟩
          · refine k_if_ne (by omega) (tgt := 32) hx hb dX1_gate_27 (by decide) (fun c9 => ?_) (fun c9 => absurd c9 (by decide))
            exact K32 l2 (gk_s hn16 hkd c3 hln hl2) (fun h => absurd h c3) (fun _ => rfl) hl2 _ _ hP hD hS ls (lv_sub hl [0, 1, 2, 3] rfl)
          · refine k_if_ne (by omega) (tgt := 32) hx hb dX1_gate_27 (by decide) (fun c9 => absurd rfl c9) (fun c9 => ?_)
            refine lv_iconst (v := (-1)) hx hb dX1_gate_30 (by decide) ?_
            exact W.iret (v := -1) hx hb hr (fun t9 ht9 hW9 => ⟨⟨-1, ((n, kk, ff, ss, w), va), rfl, by rw [cg_n (gk_y hkd c3 hno)]; exact ⟨rfl, rfl⟩, by rw [ht9]; exact hP, va_K.moved hW9.alike hK, hD⟩, hS.F ht9⟩) hS.2.2 dX1_gate_31
      · refine k_if_eq (by omega) (tgt := 30) hx hb dX1_gate_14 (by decide) (fun c9 => ?_) (fun c9 => absurd rfl c9)
        refine lv_iconst (v := (-1)) hx hb dX1_gate_30 (by decide) ?_
        exact W.iret (v := -1) hx hb hr (fun t9 ht9 hW9 => ⟨⟨-1, ((n, kk, ff, ss, w), va), rfl, by rw [cg_n (gk_x hno)]; exact ⟨rfl, rfl⟩, by rw [ht9]; exact hP, va_K.moved hW9.alike hK, hD⟩, hS.F ht9⟩) hS.2.2 dX1_gate_31

set_option maxHeartbeats 4000000 in
set_option maxRecDepth 100000 in
theorem mM_work (l : Launch) (D : va_G) (ad : Nat → Nat) (d : ClassId) (n : Nat) (kk ff ss : Nat → Nat) (w : Int32) (va : Nat → Int32) (sz : Nat) (q : Nat) (pl : Int32) (ln : Nat) (v : Bool) (hw : wfC n kk ff ss) (hpl : ∀ i, i < 16 → (nI i = pl ↔ i = ln)) : MetM l D ad d yX1_work (ws_ yX1_work cX1_work 10 (some .int)) ({ frames := 0, cells := 0, slots := 0, locals := 0 }) ((n, kk, ff, ss, w), va) sz [.ref (ad 0), .int (nI q), .int pl, .int (bI v)] (fun (r : Int32) (u1 : TM) => ∃ va1 : Nat → Int32, u1 = ((n, kk, ff, ss, w), va1) ∧ (∀ j, j < n → va1 j = bI (vl kk ff ss ln v q j)) ∧ ∀ j, j < 32 → bt r j = (decide (j < n) && (bt w j && vl kk ff ss ln v q j))) := by
  refine Met.ofW (cc := cX1_work) (maxL := 10) (ret := (some .int)) (by decide) rfl ?_
  intro p e s m args below meth c s₁ B hml hv
  obtain ⟨rfl, hsz, hP, hK, hD0⟩ := hv
  have hx := B.exec
  have hb := B.bytes
  have hr := B.returns
  have hts := atoms_spec (ws := (ws_ yX1_work cX1_work 10 (some .int))) B.pre
  have hts : ∀ w ∈ lw_all, w.before _ s = true := fun w h => hts w (List.mem_cons_of_mem _ h)
  have hown : s.vm.findClass RX1 = some m.cls := findClass_of_methodNamed B.named
  have hlocks := B.notSynchronized
  subst hsz
  have hD := hD0.self (sz := s.heap.size)
  generalize hAe : va_A (wM ad d ((n, kk, ff, ss, w), va)) s.heap.size = A at hD ⊢
  have hA : ∀ q : Nat, s.heap.size ≤ q → A q := fun q h => by rw [← hAe]; exact Or.inr h
  have hS : va_S A s.heap s.heap [] := va_S.rf
  have hD : va_D A (wO ad d n kk ff (yyF kk ss) w va) := hD
  have hP : va_P D vwCl (wO ad d n kk ff (yyF kk ss) w va) s.heap := hP
  have hl := lv_entry ([.ref (ad 0), .int (nI q), .int pl, .int (bI v)]) (n := 10) (Nat.le_of_ble_eq_true rfl)
  rw [lg_entry_eq]
  generalize (lg_sl ([.ref (ad 0), .int (nI q), .int pl, .int (bI v)]) ++ List.replicate (10 - (lg_sl ([.ref (ad 0), .int (nI q), .int pl, .int (bI v)])).length) Slot.unset).toArray = ls at hl ⊢
  have hl : lv_has ls 10 [(0, .ref (ad 0)), (1, .int (nI q)), (2, .int pl), (3, .int (bI v))] := hl
  obtain ⟨hn5, hn16, hwf⟩ := hw
  refine lv_iconst (v := nI 0) hx hb dX1_work_0 (by decide) ?_
  refine lv_istore (lv' := [(4, .int (nI 0)), (0, .ref (ad 0)), (1, .int (nI q)), (2, .int pl), (3, .int (bI v))]) hx hb dX1_work_1 hl (by decide) rfl (fun ls hl => ?_)
  refine lv_iconst (v := nI 0) hx hb dX1_work_3 (by decide) ?_
  refine lv_istore (lv' := [(5, .int (nI 0)), (4, .int (nI 0)), (0, .ref (ad 0)), (1, .int (nI q)), (2, .int pl), (3, .int (bI v))]) hx hb dX1_work_4 hl (by decide) rfl (fun ls hl => ?_)
  have loop : ∀ (f i : Nat) (va : Nat → Int32) (ou : Int32), i ≤ n → n + 1 ≤ i + f → (∀ j, j < i → va j = bI (vl kk ff ss ln v q j)) → (∀ j, j < 32 → bt ou j = (decide (j < i) && (bt w j && vl kk ff ss ln v q j))) → ∀ (H : Heap) (locs : List Loc), va_P D vwCl (wO ad d n kk ff (yyF kk ss) w va) H → va_D A (wO ad d n kk ff (yyF kk ss) w va) → va_S A s.heap H locs → ∀ (ls : Array Slot), lv_has ls 10 [(0, .ref (ad 0)), (1, .int (nI q)), (2, .int pl), (3, .int (bI v)), (4, .int ou), (5, .int (nI i))] → W p l e (headSpec (ws_ yX1_work cX1_work 10 (some .int)) ({ frames := 0, cells := 0, slots := 0, locals := 0 })).room s m ([.ref (ad 0), .int (nI q), .int pl, .int (bI v)] : List Value).toArray below meth c H locs 0 0 (MQ below (va_Qi (fun (r : Int32) (u1 : TM) => ∃ va1 : Nat → Int32, u1 = ((n, kk, ff, ss, w), va1) ∧ (∀ j, j < n → va1 j = bI (vl kk ff ss ln v q j)) ∧ ∀ j, j < 32 → bt r j = (decide (j < n) && (bt w j && vl kk ff ss ln v q j))) (BM D ad d A) A) ([.ref (ad 0), .int (nI q), .int pl, .int (bI v)] : List Value).toArray s 0 0 A) (F0 m 6 ls []) := by
    intro f
    induction f with
    | zero =>
      intro i va ou h1 h2
      exact absurd h2 (by omega)
    | succ f ih =>
      intro i va ou hi hf hva hou H locs hP hD hS ls hl
      obtain ⟨w1, w2, w3, w4⟩ := hwf i
      have hyy : yyF kk ss i ≤ i := yy_le w3
      refine lv_iload hx hb dX1_work_6 (lv_at hl 5 rfl) ?_
      refine lv_aload_n hx hb dX1_work_8 rfl (lv_at hl 0 rfl) ?_
      refine va_get (D := D) (ci := 1) (v := .int (nI n)) (C := RX1) (T := TX1) (N := 6) hx hb hts in_X1 hown hK hP 0 rfl rfl 0 (by decide) (hts _ q162) (fun _ h9 => h9) rfl dX1_work_9 ?_
      refine k_ge (by omega) (by omega) (tgt := 196) hx hb dX1_work_12 (by decide) (fun c1 => ?_) (fun c1 => ?_)
      · have e : i = n := by omega
        subst e
        refine lv_iload hx hb dX1_work_196 (lv_at hl 4 rfl) ?_
        exact W.iret (v := ou) hx hb hr (fun t9 ht9 hW9 => ⟨⟨ou, ((i, kk, ff, ss, w), va), rfl, ⟨va, rfl, hva, hou⟩, by rw [ht9]; exact hP, va_K.moved hW9.alike hK, hD⟩, hS.F ht9⟩) hS.2.2 dX1_work_198
      · refine lv_aload_n hx hb dX1_work_15 rfl (lv_at hl 0 rfl) ?_
        refine va_get (D := D) (ci := 1) (v := .ref (ad 4)) (C := RX1) (T := TX1) (N := 6) hx hb hts in_X1 hown hK hP 0 rfl rfl 5 (by decide) (hts _ q167) (fun _ h9 => h9) rfl dX1_work_16 ?_
        refine lv_aload_n hx hb dX1_work_19 rfl (lv_at hl 0 rfl) ?_
        refine va_get (D := D) (ci := 1) (v := .ref (ad 2)) (C := RX1) (T := TX1) (N := 6) hx hb hts in_X1 hown hK hP 0 rfl rfl 2 (by decide) (hts _ q164) (fun _ h9 => h9) rfl dX1_work_20 ?_
        refine lv_iload hx hb dX1_work_23 (lv_at hl 5 rfl) ?_
        refine k_ild hx hb hK hP 2 0 rfl rfl (v := nI (ff i)) (by decide) (by omega) (rfl) dX1_work_25 ?_
        refine k_ild hx hb hK hP 4 0 rfl rfl (v := va (ff i)) (by decide) (by omega) (rfl) dX1_work_26 ?_
        refine lv_istore (lv' := [(6, .int (va (ff i))), (0, .ref (ad 0)), (1, .int (nI q)), (2, .int pl), (3, .int (bI v)), (4, .int ou), (5, .int (nI i))]) hx hb dX1_work_27 hl (by decide) rfl (fun ls hl => ?_)
        refine lv_aload_n hx hb dX1_work_29 rfl (lv_at hl 1 rfl) ?_
        refine va_get (D := D) (ci := 1) (v := .ref (ad 4)) (C := RX1) (T := TX1) (N := 6) hx hb hts in_X1 hown hK hP 0 rfl rfl 5 (by decide) (hts _ q167) (fun _ h9 => h9) rfl dX1_work_30 ?_
        refine lv_aload_n hx hb dX1_work_33 rfl (lv_at hl 1 rfl) ?_
        refine va_get (D := D) (ci := 1) (v := .ref (ad 3)) (C := RX1) (T := TX1) (N := 6) hx hb hts in_X1 hown hK hP 0 rfl rfl 3 (by decide) (hts _ q165) (fun _ h9 => h9) rfl dX1_work_34 ?_
        refine lv_iload hx hb dX1_work_37 (lv_at hl 6 rfl) ?_
        refine k_ild hx hb hK hP 3 0 rfl rfl (v := nI (yyF kk ss i)) (by decide) (by omega) (rfl) dX1_work_39 ?_
        refine k_ild hx hb hK hP 4 0 rfl rfl (v := va (yyF kk ss i)) (by decide) (by omega) (rfl) dX1_work_40 ?_
        refine lv_istore (lv' := [(7, .int (va (yyF kk ss i))), (6, .int (va (ff i))), (0, .ref (ad 0)), (1, .int (nI q)), (2, .int pl), (3, .int (bI v)), (4, .int ou), (5, .int (nI i))]) hx hb dX1_work_41 hl (by decide) rfl (fun ls hl => ?_)
        refine lv_aload_n hx hb dX1_work_43 rfl (lv_at hl 2 rfl) ?_
        refine va_get (D := D) (ci := 1) (v := .ref (ad 1)) (C := RX1) (T := TX1) (N := 6) hx hb hts in_X1 hown hK hP 0 rfl rfl 1 (by decide) (hts _ q163) (fun _ h9 => h9) rfl dX1_work_44 ?_
        refine lv_iload hx hb dX1_work_47 (lv_at hl 7 rfl) ?_
        refine k_ild hx hb hK hP 1 0 rfl rfl (v := nI (kk i)) (by decide) (by omega) (rfl) dX1_work_49 ?_
        refine lv_istore (lv' := [(8, .int (nI (kk i))), (7, .int (va (yyF kk ss i))), (6, .int (va (ff i))), (0, .ref (ad 0)), (1, .int (nI q)), (2, .int pl), (3, .int (bI v)), (4, .int ou), (5, .int (nI i))]) hx hb dX1_work_50 hl (by decide) rfl (fun ls hl => ?_)
        have K144 : ∀ (fr : Int32), (i ≠ ln → fr = bI (vl kk ff ss ln v q i)) → ∀ (H : Heap) (locs : List Loc), va_P D vwCl (wO ad d n kk ff (yyF kk ss) w va) H → va_D A (wO ad d n kk ff (yyF kk ss) w va) → va_S A s.heap H locs → ∀ (ls : Array Slot), lv_has ls 10 [(0, .ref (ad 0)), (1, .int (nI q)), (2, .int pl), (3, .int (bI v)), (4, .int ou), (5, .int (nI i))] → W p l e (headSpec (ws_ yX1_work cX1_work 10 (some .int)) ({ frames := 0, cells := 0, slots := 0, locals := 0 })).room s m ([.ref (ad 0), .int (nI q), .int pl, .int (bI v)] : List Value).toArray below meth c H locs 0 0 (MQ below (va_Qi (fun (r : Int32) (u1 : TM) => ∃ va1 : Nat → Int32, u1 = ((n, kk, ff, ss, w), va1) ∧ (∀ j, j < n → va1 j = bI (vl kk ff ss ln v q j)) ∧ ∀ j, j < 32 → bt r j = (decide (j < n) && (bt w j && vl kk ff ss ln v q j))) (BM D ad d A) A) ([.ref (ad 0), .int (nI q), .int pl, .int (bI v)] : List Value).toArray s 0 0 A) (F0 m 144 ls [.int fr]) := by
          intro fr hfr H locs hP hD hS ls hl
          refine lv_istore (lv' := [(9, .int fr), (0, .ref (ad 0)), (1, .int (nI q)), (2, .int pl), (3, .int (bI v)), (4, .int ou), (5, .int (nI i))]) hx hb dX1_work_144 hl (by decide) rfl (fun ls hl => ?_)
          refine lv_aload_n hx hb dX1_work_146 rfl (lv_at hl 1 rfl) ?_
          refine va_get (D := D) (ci := 1) (v := .ref (ad 4)) (C := RX1) (T := TX1) (N := 6) hx hb hts in_X1 hown hK hP 0 rfl rfl 5 (by decide) (hts _ q167) (fun _ h9 => h9) rfl dX1_work_147 ?_
          refine lv_iload hx hb dX1_work_150 (lv_at hl 6 rfl) ?_
          refine lv_iload hx hb dX1_work_152 (lv_at hl 6 rfl) ?_
          refine lv_iload_n hx hb dX1_work_154 rfl (lv_at hl 3 rfl) ?_
          refine lv_icmp_ne (tgt := 162) hx hb dX1_work_155 (by decide) (fun c3 => ?_) (fun c3 => ?_)
          · refine lv_iload hx hb dX1_work_162 (lv_at hl 0 rfl) ?_
            refine k_ti (y := bI (vl kk ff ss ln v q i)) (hfr (fun e => c3 ((hpl i (by omega)).mpr e))) ?_
            refine k_ist hx hb hK hP hD hS 4 0 rfl rfl (by decide) (by omega) dX1_work_164 (fun H locs hP hD hS => ?_)
            have hP : va_P D vwCl (wO ad d n kk ff (yyF kk ss) w (upd va i (bI (vl kk ff ss ln v q i)))) H := hP
            have hD : va_D A (wO ad d n kk ff (yyF kk ss) w (upd va i (bI (vl kk ff ss ln v q i)))) := hD
            refine lv_iload hx hb dX1_work_165 (lv_at hl 5 rfl) ?_
            refine lv_aload_n hx hb dX1_work_167 rfl (lv_at hl 1 rfl) ?_
            refine va_get (D := D) (ci := 1) (v := .int w) (C := RX1) (T := TX1) (N := 6) hx hb hts in_X1 hown hK hP 0 rfl rfl 4 (by decide) (hts _ q166) (fun _ h9 => h9) rfl dX1_work_168 ?_
            refine lv_iload hx hb dX1_work_171 (lv_at hl 6 rfl) ?_
            refine lv_ishr hx hb dX1_work_173 ?_
            refine lv_iconst (v := nI 1) hx hb dX1_work_174 (by decide) ?_
            refine lv_iand hx hb dX1_work_175 ?_
            refine k_ti (y := bI (bt w i)) (e_sshr w i (by omega)) ?_
            refine lv_aload_n hx hb dX1_work_176 rfl (lv_at hl 1 rfl) ?_
            refine va_get (D := D) (ci := 1) (v := .ref (ad 4)) (C := RX1) (T := TX1) (N := 6) hx hb hts in_X1 hown hK hP 0 rfl rfl 5 (by decide) (hts _ q167) (fun _ h9 => h9) rfl dX1_work_177 ?_
            refine lv_iload hx hb dX1_work_180 (lv_at hl 6 rfl) ?_
            refine k_ild hx hb hK hP 4 0 rfl rfl (v := bI (vl kk ff ss ln v q i)) (by decide) (by omega) (pk_us) dX1_work_182 ?_
            refine lv_iand hx hb dX1_work_183 ?_
            refine k_ti (y := bI (bt w i && vl kk ff ss ln v q i)) (bI_and _ _) ?_
            refine lv_iload hx hb dX1_work_184 (lv_at hl 6 rfl) ?_
            refine lv_ishl hx hb dX1_work_186 ?_
            refine lv_ior hx hb dX1_work_187 ?_
            refine lv_istore (lv' := [(4, .int (ou ||| ((bI (bt w i && vl kk ff ss ln v q i)) <<< (nI i &&& 31)))), (9, .int fr), (0, .ref (ad 0)), (1, .int (nI q)), (2, .int pl), (3, .int (bI v)), (5, .int (nI i))]) hx hb dX1_work_188 hl (by decide) rfl (fun ls hl => ?_)
            refine lv_iinc (v := nI (i + 1)) (lv' := [(5, .int (nI (i + 1))), (4, .int (ou ||| ((bI (bt w i && vl kk ff ss ln v q i)) <<< (nI i &&& 31)))), (9, .int fr), (0, .ref (ad 0)), (1, .int (nI q)), (2, .int pl), (3, .int (bI v))]) hx hb dX1_work_190 hl (k := 6) rfl (k_inc i) (by decide) rfl (fun ls hl => ?_)
            refine lv_goto (tgt := 6) hx hb dX1_work_193 (by decide) ?_
            exact ih (i + 1) (upd va i (bI (vl kk ff ss ln v q i))) (ou ||| ((bI (bt w i && vl kk ff ss ln v q i)) <<< (nI i &&& 31))) (by omega) (by omega) (va_s hva) (out_s (by omega) hou) _ _ hP hD hS ls (lv_sub hl [3, 4, 5, 6, 1, 0] rfl)
          · refine lv_iload_n hx hb dX1_work_158 rfl (lv_at hl 4 rfl) ?_
            refine k_ti (y := bI (vl kk ff ss ln v q i)) (by rw [vl_eq ln v q w4, if_pos ((hpl i (by omega)).mp c3)]) ?_
            refine lv_goto (tgt := 164) hx hb dX1_work_159 (by decide) ?_
            refine k_ist hx hb hK hP hD hS 4 0 rfl rfl (by decide) (by omega) dX1_work_164 (fun H locs hP hD hS => ?_)
            have hP : va_P D vwCl (wO ad d n kk ff (yyF kk ss) w (upd va i (bI (vl kk ff ss ln v q i)))) H := hP
            have hD : va_D A (wO ad d n kk ff (yyF kk ss) w (upd va i (bI (vl kk ff ss ln v q i)))) := hD
            refine lv_iload hx hb dX1_work_165 (lv_at hl 5 rfl) ?_
            refine lv_aload_n hx hb dX1_work_167 rfl (lv_at hl 1 rfl) ?_
            refine va_get (D := D) (ci := 1) (v := .int w) (C := RX1) (T := TX1) (N := 6) hx hb hts in_X1 hown hK hP 0 rfl rfl 4 (by decide) (hts _ q166) (fun _ h9 => h9) rfl dX1_work_168 ?_
            refine lv_iload hx hb dX1_work_171 (lv_at hl 6 rfl) ?_
            refine lv_ishr hx hb dX1_work_173 ?_
            refine lv_iconst (v := nI 1) hx hb dX1_work_174 (by decide) ?_
            refine lv_iand hx hb dX1_work_175 ?_
            refine k_ti (y := bI (bt w i)) (e_sshr w i (by omega)) ?_
            refine lv_aload_n hx hb dX1_work_176 rfl (lv_at hl 1 rfl) ?_
            refine va_get (D := D) (ci := 1) (v := .ref (ad 4)) (C := RX1) (T := TX1) (N := 6) hx hb hts in_X1 hown hK hP 0 rfl rfl 5 (by decide) (hts _ q167) (fun _ h9 => h9) rfl dX1_work_177 ?_
            refine lv_iload hx hb dX1_work_180 (lv_at hl 6 rfl) ?_
            refine k_ild hx hb hK hP 4 0 rfl rfl (v := bI (vl kk ff ss ln v q i)) (by decide) (by omega) (pk_us) dX1_work_182 ?_
            refine lv_iand hx hb dX1_work_183 ?_
            refine k_ti (y := bI (bt w i && vl kk ff ss ln v q i)) (bI_and _ _) ?_
            refine lv_iload hx hb dX1_work_184 (lv_at hl 6 rfl) ?_
            refine lv_ishl hx hb dX1_work_186 ?_
            refine lv_ior hx hb dX1_work_187 ?_
            refine lv_istore (lv' := [(4, .int (ou ||| ((bI (bt w i && vl kk ff ss ln v q i)) <<< (nI i &&& 31)))), (9, .int fr), (0, .ref (ad 0)), (1, .int (nI q)), (2, .int pl), (3, .int (bI v)), (5, .int (nI i))]) hx hb dX1_work_188 hl (by decide) rfl (fun ls hl => ?_)
            refine lv_iinc (v := nI (i + 1)) (lv' := [(5, .int (nI (i + 1))), (4, .int (ou ||| ((bI (bt w i && vl kk ff ss ln v q i)) <<< (nI i &&& 31)))), (9, .int fr), (0, .ref (ad 0)), (1, .int (nI q)), (2, .int pl), (3, .int (bI v))]) hx hb dX1_work_190 hl (k := 6) rfl (k_inc i) (by decide) rfl (fun ls hl => ?_)
            refine lv_goto (tgt := 6) hx hb dX1_work_193 (by decide) ?_
            exact ih (i + 1) (upd va i (bI (vl kk ff ss ln v q i))) (ou ||| ((bI (bt w i && vl kk ff ss ln v q i)) <<< (nI i &&& 31))) (by omega) (by omega) (va_s hva) (out_s (by omega) hou) _ _ hP hD hS ls (lv_sub hl [3, 4, 5, 6, 1, 0] rfl)
        refine lv_iload hx hb dX1_work_52 (lv_at hl 8 rfl) ?_
        refine lv_iconst (v := nI 5) hx hb dX1_work_54 (by decide) ?_
        refine k_ge (by omega) (by omega) (tgt := 67) hx hb dX1_work_55 (by decide) (fun c2 => ?_) (fun c2 => ?_)
        · obtain ⟨w5, w6⟩ := w4 c2
          refine lv_iload hx hb dX1_work_67 (lv_at hl 0 rfl) ?_
          refine k_if_ne (by omega) (tgt := 80) hx hb dX1_work_69 (by decide) (fun d0 => ?_) (fun d0 => ?_)
          · refine lv_iload hx hb dX1_work_80 (lv_at hl 0 rfl) ?_
            refine lv_iconst (v := nI 1) hx hb dX1_work_82 (by decide) ?_
            refine k_ne (by omega) (by omega) (tgt := 94) hx hb dX1_work_83 (by decide) (fun d1 => ?_) (fun d1 => ?_)
            · refine lv_iload hx hb dX1_work_94 (lv_at hl 0 rfl) ?_
              refine lv_iconst (v := nI 2) hx hb dX1_work_96 (by decide) ?_
              refine k_ne (by omega) (by omega) (tgt := 108) hx hb dX1_work_97 (by decide) (fun d2 => ?_) (fun d2 => ?_)
              · refine lv_iload hx hb dX1_work_108 (lv_at hl 0 rfl) ?_
                refine lv_iconst (v := nI 3) hx hb dX1_work_110 (by decide) ?_
                refine k_ne (by omega) (by omega) (tgt := 124) hx hb dX1_work_111 (by decide) (fun d3 => ?_) (fun d3 => ?_)
                · refine lv_iload hx hb dX1_work_124 (lv_at hl 0 rfl) ?_
                  refine lv_iconst (v := nI 4) hx hb dX1_work_126 (by decide) ?_
                  refine k_ne (by omega) (by omega) (tgt := 140) hx hb dX1_work_127 (by decide) (fun d4 => ?_) (fun d4 => ?_)
                  · refine lv_iconst (v := nI 1) hx hb dX1_work_140 (by decide) ?_
                    refine lv_iload hx hb dX1_work_141 (lv_at hl 2 rfl) ?_
                    refine lv_isub hx hb dX1_work_143 ?_
                    refine k_ti (y := mgI (kk i) (va (ff i)) (va (yyF kk ss i))) (by unfold mgI; rw [if_neg d0, if_neg d1, if_neg d2, if_neg d3, if_neg d4]) ?_
                    exact K144 _ (fun hne => work_gate c2 w1 w5 w6 hva hne) _ _ hP hD hS ls (lv_sub hl [3, 4, 5, 6, 7, 8] rfl)
                  · refine lv_iconst (v := nI 1) hx hb dX1_work_130 (by decide) ?_
                    refine lv_iload hx hb dX1_work_131 (lv_at hl 2 rfl) ?_
                    refine lv_iload hx hb dX1_work_133 (lv_at hl 1 rfl) ?_
                    refine lv_ior hx hb dX1_work_135 ?_
                    refine lv_isub hx hb dX1_work_136 ?_
                    refine k_ti (y := mgI (kk i) (va (ff i)) (va (yyF kk ss i))) (by unfold mgI; rw [if_neg d0, if_neg d1, if_neg d2, if_neg d3, if_pos d4]) ?_
                    refine lv_goto (tgt := 144) hx hb dX1_work_137 (by decide) ?_
                    exact K144 _ (fun hne => work_gate c2 w1 w5 w6 hva hne) _ _ hP hD hS ls (lv_sub hl [3, 4, 5, 6, 7, 8] rfl)
                · refine lv_iconst (v := nI 1) hx hb dX1_work_114 (by decide) ?_
                  refine lv_iload hx hb dX1_work_115 (lv_at hl 2 rfl) ?_
                  refine lv_iload hx hb dX1_work_117 (lv_at hl 1 rfl) ?_
                  refine lv_iand hx hb dX1_work_119 ?_
                  refine lv_isub hx hb dX1_work_120 ?_
                  refine k_ti (y := mgI (kk i) (va (ff i)) (va (yyF kk ss i))) (by unfold mgI; rw [if_neg d0, if_neg d1, if_neg d2, if_pos d3]) ?_
                  refine lv_goto (tgt := 144) hx hb dX1_work_121 (by decide) ?_
                  exact K144 _ (fun hne => work_gate c2 w1 w5 w6 hva hne) _ _ hP hD hS ls (lv_sub hl [3, 4, 5, 6, 7, 8] rfl)
              · refine lv_iload hx hb dX1_work_100 (lv_at hl 2 rfl) ?_
                refine lv_iload hx hb dX1_work_102 (lv_at hl 1 rfl) ?_
                refine lv_ixor hx hb dX1_work_104 ?_
                refine k_ti (y := mgI (kk i) (va (ff i)) (va (yyF kk ss i))) (by unfold mgI; rw [if_neg d0, if_neg d1, if_pos d2]) ?_
                refine lv_goto (tgt := 144) hx hb dX1_work_105 (by decide) ?_
                exact K144 _ (fun hne => work_gate c2 w1 w5 w6 hva hne) _ _ hP hD hS ls (lv_sub hl [3, 4, 5, 6, 7, 8] rfl)
            · refine lv_iload hx hb dX1_work_86 (lv_at hl 2 rfl) ?_
              refine lv_iload hx hb dX1_work_88 (lv_at hl 1 rfl) ?_
              refine lv_ior hx hb dX1_work_90 ?_
              refine k_ti (y := mgI (kk i) (va (ff i)) (va (yyF kk ss i))) (by unfold mgI; rw [if_neg d0, if_pos d1]) ?_
              refine lv_goto (tgt := 144) hx hb dX1_work_91 (by decide) ?_
              exact K144 _ (fun hne => work_gate c2 w1 w5 w6 hva hne) _ _ hP hD hS ls (lv_sub hl [3, 4, 5, 6, 7, 8] rfl)
          · refine lv_iload hx hb dX1_work_72 (lv_at hl 2 rfl) ?_
            refine lv_iload hx hb dX1_work_74 (lv_at hl 1 rfl) ?_
            refine lv_iand hx hb dX1_work_76 ?_
            refine k_ti (y := mgI (kk i) (va (ff i)) (va (yyF kk ss i))) (by unfold mgI; rw [if_pos d0]) ?_
            refine lv_goto (tgt := 144) hx hb dX1_work_77 (by decide) ?_
            exact K144 _ (fun hne => work_gate c2 w1 w5 w6 hva hne) _ _ hP hD hS ls (lv_sub hl [3, 4, 5, 6, 7, 8] rfl)
        · refine lv_iload_n hx hb dX1_work_58 rfl (lv_at hl 4 rfl) ?_
          refine lv_iload hx hb dX1_work_59 (lv_at hl 8 rfl) ?_
          refine lv_ishr hx hb dX1_work_61 ?_
          refine lv_iconst (v := nI 1) hx hb dX1_work_62 (by decide) ?_
          refine lv_iand hx hb dX1_work_63 ?_
          refine lv_goto (tgt := 144) hx hb dX1_work_64 (by decide) ?_
          exact K144 _ (fun hne => work_in c2 hne) _ _ hP hD hS ls (lv_sub hl [3, 4, 5, 6, 7, 8] rfl)
  exact loop (n + 1) 0 va (nI 0) (by omega) (by omega) (fun j h => by omega) (fun j _ => b_0 j) _ _ hP hD hS ls (lv_sub hl [2, 3, 4, 5, 1, 0] rfl)
end
section
set_option maxHeartbeats 4000000 in
set_option maxRecDepth 100000 in
theorem mM_value (l : Launch) (D : va_G) (ad : Nat → Nat) (d : ClassId) (n : Nat) (kk ff ss : Nat → Nat) (w : Int32) (va : Nat → Int32) (sz : Nat) (p1 p2 : Int32) (hw : wfC n kk ff ss) : MetM l D ad d yX1_value (ws_ yX1_value cX1_value 3 (some .int)) ({ frames := 1, cells := 0, slots := 0, locals := 29 }) ((n, kk, ff, ss, w), va) sz [.ref (ad 0), .int p1, .int p2] (fun (r : Int32) (u1 : TM) => r = r_value (n, kk, ff, ss, w) p1 p2 ∧ u1.1 = (n, kk, ff, ss, w)) := by
  refine Met.ofW (cc := cX1_value) (maxL := 3) (ret := (some .int)) (by decide) rfl ?_
  intro p e s m args below meth c s₁ B hml hv
  obtain ⟨rfl, hsz, hP, hK, hD0⟩ := hv
  have hx := B.exec
  have hb := B.bytes
  have hr := B.returns
  have hts := atoms_spec (ws := (ws_ yX1_value cX1_value 3 (some .int))) B.pre
  have hts : ∀ w ∈ lw_all, w.before _ s = true := fun w h => hts w (List.mem_cons_of_mem _ h)
  have hown : s.vm.findClass RX1 = some m.cls := findClass_of_methodNamed B.named
  have hlocks := B.notSynchronized
  subst hsz
  have hD := hD0.self (sz := s.heap.size)
  generalize hAe : va_A (wM ad d ((n, kk, ff, ss, w), va)) s.heap.size = A at hD ⊢
  have hA : ∀ q : Nat, s.heap.size ≤ q → A q := fun q h => by rw [← hAe]; exact Or.inr h
  have hS : va_S A s.heap s.heap [] := va_S.rf
  have hD : va_D A (wO ad d n kk ff (yyF kk ss) w va) := hD
  have hP : va_P D vwCl (wO ad d n kk ff (yyF kk ss) w va) s.heap := hP
  have hl := lv_entry ([.ref (ad 0), .int p1, .int p2]) (n := 3) (Nat.le_of_ble_eq_true rfl)
  rw [lg_entry_eq]
  generalize (lg_sl ([.ref (ad 0), .int p1, .int p2]) ++ List.replicate (3 - (lg_sl ([.ref (ad 0), .int p1, .int p2])).length) Slot.unset).toArray = ls at hl ⊢
  have hl : lv_has ls 3 [(0, .ref (ad 0)), (1, .int p1), (2, .int p2)] := hl
  refine lv_aload_n hx hb dX1_value_0 rfl (lv_at hl 0 rfl) ?_
  refine lv_iload_n hx hb dX1_value_1 rfl (lv_at hl 1 rfl) ?_
  refine k_callMS (u := ((n, kk, ff, ss, w), va)) (As := [.int p1]) (rest := []) ⟨hx, hb, hml, hown, hts⟩ (mM_is l D ad d n kk ff ss w va s.heap.size p1 hw.2.1) (cwV 1 hts (lw_V q185 q187 qs6 q11 q188) rfl rfl rfl (by decide +kernel) ⟨Nat.le_of_ble_eq_true rfl, Nat.le_of_ble_eq_true rfl⟩) hP hD hK rfl hl.1 rfl (Nat.le_of_ble_eq_true rfl) dX1_value_2 ⟨Nat.zero_le _, Nat.zero_le _⟩ (fun r hp => ?_)
  rcases hp with ⟨rfl, ln, hln, rfl⟩ | ⟨rfl, hno⟩
  · refine k_if_eq (by omega) (tgt := 16) hx hb dX1_value_5 (by decide) (fun c9 => absurd c9 (by decide)) (fun c9 => ?_)
    refine lv_aload_n hx hb dX1_value_8 rfl (lv_at hl 0 rfl) ?_
    refine lv_iload_n hx hb dX1_value_9 rfl (lv_at hl 2 rfl) ?_
    refine k_callMS (u := ((n, kk, ff, ss, w), va)) (As := [.int p2]) (rest := []) ⟨hx, hb, hml, hown, hts⟩ (mM_vector l D ad d n kk ff ss w va s.heap.size p2) (cwV 1 hts (lw_V q209 q211 qs7 q11 q212) rfl rfl rfl (by decide +kernel) ⟨Nat.le_of_ble_eq_true rfl, Nat.le_of_ble_eq_true rfl⟩) hP hD hK rfl hl.1 rfl (Nat.le_of_ble_eq_true rfl) dX1_value_10 ⟨Nat.zero_le _, Nat.zero_le _⟩ (fun r hp => ?_)
    rcases hp with ⟨rfl, q2, hq2, rfl⟩ | ⟨rfl, hno⟩
    · refine k_if_ne (by omega) (tgt := 18) hx hb dX1_value_13 (by decide) (fun c9 => ?_) (fun c9 => absurd c9 (by decide))
      refine lv_aload_n hx hb dX1_value_18 rfl (lv_at hl 0 rfl) ?_
      refine lv_iload_n hx hb dX1_value_19 rfl (lv_at hl 2 rfl) ?_
      refine lv_iconst (v := (-1)) hx hb dX1_value_20 (by decide) ?_
      refine lv_iconst (v := nI 0) hx hb dX1_value_21 (by decide) ?_
      refine k_callM (u := ((n, kk, ff, ss, w), va)) (As := [.int (nI q2), .int (-1), .int (bI false)]) (rest := []) ⟨hx, hb, hml, hown, hts⟩ (mM_work l D ad d n kk ff ss w va s.heap.size q2 (-1) 99 false hw hl_no) (cwV 3 hts (lw_V q213 q215 qs8 q11 q216) rfl rfl rfl (by decide +kernel) ⟨Nat.le_of_ble_eq_true rfl, Nat.le_of_ble_eq_true rfl⟩) hP hD hK hS hA rfl hl.1 rfl (Nat.le_of_ble_eq_true rfl) dX1_value_22 ⟨Nat.zero_le _, Nat.zero_le _⟩ (fun r u1 H locs hp hP hD hS => ?_)
      obtain ⟨va1, rfl, hva, -⟩ := hp
      have hP : va_P D vwCl (wO ad d n kk ff (yyF kk ss) w va1) H := hP
      have hD : va_D A (wO ad d n kk ff (yyF kk ss) w va1) := hD
      obtain ⟨hn5, hn16, hwf⟩ := hw
      refine lv_pop hx hb dX1_value_25 rfl ?_
      refine lv_aload_n hx hb dX1_value_26 rfl (lv_at hl 0 rfl) ?_
      refine va_get (D := D) (ci := 1) (v := .ref (ad 4)) (C := RX1) (T := TX1) (N := 6) hx hb hts in_X1 hown hK hP 0 rfl rfl 5 (by decide) (hts _ q167) (fun _ h9 => h9) rfl dX1_value_27 ?_
      refine lv_iload_n hx hb dX1_value_30 rfl (lv_at hl 1 rfl) ?_
      refine k_ild hx hb hK hP 4 0 rfl rfl (v := bI (v0 kk ff ss q2 ln)) (by decide) (by omega) (hva ln hln) dX1_value_31 ?_
      exact W.iret (v := bI (v0 kk ff ss q2 ln)) hx hb hr (fun t9 ht9 hW9 => ⟨⟨bI (v0 kk ff ss q2 ln), ((n, kk, ff, ss, w), va1), rfl, ⟨(r_value_s (C := (n, kk, ff, ss, w)) hln hn16 hq2).symm, rfl⟩, by rw [ht9]; exact hP, va_K.moved hW9.alike hK, hD⟩, hS.F ht9⟩) hS.2.2 dX1_value_32
    · refine k_if_ne (by omega) (tgt := 18) hx hb dX1_value_13 (by decide) (fun c9 => absurd rfl c9) (fun c9 => ?_)
      refine lv_iconst (v := (-1)) hx hb dX1_value_16 (by decide) ?_
      exact W.iret (v := -1) hx hb hr (fun t9 ht9 hW9 => ⟨⟨-1, ((n, kk, ff, ss, w), va), rfl, ⟨(r_value_n2 hno).symm, rfl⟩, by rw [ht9]; exact hP, va_K.moved hW9.alike hK, hD⟩, hS.F ht9⟩) hS.2.2 dX1_value_17
  · refine k_if_eq (by omega) (tgt := 16) hx hb dX1_value_5 (by decide) (fun c9 => ?_) (fun c9 => absurd rfl c9)
    refine lv_iconst (v := (-1)) hx hb dX1_value_16 (by decide) ?_
    exact W.iret (v := -1) hx hb hr (fun t9 ht9 hW9 => ⟨⟨-1, ((n, kk, ff, ss, w), va), rfl, ⟨(r_value_n1 hno).symm, rfl⟩, by rw [ht9]; exact hP, va_K.moved hW9.alike hK, hD⟩, hS.F ht9⟩) hS.2.2 dX1_value_17

set_option maxHeartbeats 4000000 in
set_option maxRecDepth 100000 in
theorem mM_shows (l : Launch) (D : va_G) (ad : Nat → Nat) (d : ClassId) (n : Nat) (kk ff ss : Nat → Nat) (w : Int32) (va : Nat → Int32) (sz : Nat) (p1 p2 p3 : Int32) (hw : wfC n kk ff ss) : MetM l D ad d yX1_shows (ws_ yX1_shows cX1_shows 5 (some .boolean)) ({ frames := 1, cells := 0, slots := 0, locals := 29 }) ((n, kk, ff, ss, w), va) sz [.ref (ad 0), .int p1, .int p2, .int p3] (fun (r : Int32) (u1 : TM) => r = r_shows (n, kk, ff, ss, w) p1 p2 p3 ∧ u1.1 = (n, kk, ff, ss, w)) := by
  refine Met.ofW (cc := cX1_shows) (maxL := 5) (ret := (some .boolean)) (by decide) rfl ?_
  intro p e s m args below meth c s₁ B hml hv
  obtain ⟨rfl, hsz, hP, hK, hD0⟩ := hv
  have hx := B.exec
  have hb := B.bytes
  have hr := B.returns
  have hts := atoms_spec (ws := (ws_ yX1_shows cX1_shows 5 (some .boolean))) B.pre
  have hts : ∀ w ∈ lw_all, w.before _ s = true := fun w h => hts w (List.mem_cons_of_mem _ h)
  have hown : s.vm.findClass RX1 = some m.cls := findClass_of_methodNamed B.named
  have hlocks := B.notSynchronized
  subst hsz
  have hD := hD0.self (sz := s.heap.size)
  generalize hAe : va_A (wM ad d ((n, kk, ff, ss, w), va)) s.heap.size = A at hD ⊢
  have hA : ∀ q : Nat, s.heap.size ≤ q → A q := fun q h => by rw [← hAe]; exact Or.inr h
  have hS : va_S A s.heap s.heap [] := va_S.rf
  have hD : va_D A (wO ad d n kk ff (yyF kk ss) w va) := hD
  have hP : va_P D vwCl (wO ad d n kk ff (yyF kk ss) w va) s.heap := hP
  have hl := lv_entry ([.ref (ad 0), .int p1, .int p2, .int p3]) (n := 5) (Nat.le_of_ble_eq_true rfl)
  rw [lg_entry_eq]
  generalize (lg_sl ([.ref (ad 0), .int p1, .int p2, .int p3]) ++ List.replicate (5 - (lg_sl ([.ref (ad 0), .int p1, .int p2, .int p3])).length) Slot.unset).toArray = ls at hl ⊢
  have hl : lv_has ls 5 [(0, .ref (ad 0)), (1, .int p1), (2, .int p2), (3, .int p3)] := hl
  refine lv_aload_n hx hb dX1_shows_0 rfl (lv_at hl 0 rfl) ?_
  refine lv_iload_n hx hb dX1_shows_1 rfl (lv_at hl 2 rfl) ?_
  refine k_callMS (u := ((n, kk, ff, ss, w), va)) (As := [.int p2]) (rest := []) ⟨hx, hb, hml, hown, hts⟩ (mM_is l D ad d n kk ff ss w va s.heap.size p2 hw.2.1) (cwV 1 hts (lw_V q185 q187 qs6 q11 q188) rfl rfl rfl (by decide +kernel) ⟨Nat.le_of_ble_eq_true rfl, Nat.le_of_ble_eq_true rfl⟩) hP hD hK rfl hl.1 rfl (Nat.le_of_ble_eq_true rfl) dX1_shows_2 ⟨Nat.zero_le _, Nat.zero_le _⟩ (fun r hp => ?_)
  rcases hp with ⟨rfl, ln, hln, rfl⟩ | ⟨rfl, hno⟩
  · refine k_if_eq (by omega) (tgt := 25) hx hb dX1_shows_5 (by decide) (fun c9 => absurd c9 (by decide)) (fun c9 => ?_)
    rcases bit_or p3 with ⟨v, rfl⟩ | hno
    · refine lv_iload_n hx hb dX1_shows_8 rfl (lv_at hl 3 rfl) ?_
      refine k_bif_eq (tgt := 17) hx hb dX1_shows_9 (by decide) (fun c7 => ?_) (fun c7 => ?_)
      · refine lv_aload_n hx hb dX1_shows_17 rfl (lv_at hl 0 rfl) ?_
        refine lv_iload_n hx hb dX1_shows_18 rfl (lv_at hl 1 rfl) ?_
        refine k_callMS (u := ((n, kk, ff, ss, w), va)) (As := [.int p1]) (rest := []) ⟨hx, hb, hml, hown, hts⟩ (mM_vector l D ad d n kk ff ss w va s.heap.size p1) (cwV 1 hts (lw_V q209 q211 qs7 q11 q212) rfl rfl rfl (by decide +kernel) ⟨Nat.le_of_ble_eq_true rfl, Nat.le_of_ble_eq_true rfl⟩) hP hD hK rfl hl.1 rfl (Nat.le_of_ble_eq_true rfl) dX1_shows_19 ⟨Nat.zero_le _, Nat.zero_le _⟩ (fun r hp => ?_)
        rcases hp with ⟨rfl, q1, hq1, rfl⟩ | ⟨rfl, hno⟩
        · refine k_if_ne (by omega) (tgt := 27) hx hb dX1_shows_22 (by decide) (fun c9 => ?_) (fun c9 => absurd c9 (by decide))
          refine lv_aload_n hx hb dX1_shows_27 rfl (lv_at hl 0 rfl) ?_
          refine lv_iload_n hx hb dX1_shows_28 rfl (lv_at hl 1 rfl) ?_
          refine lv_iconst (v := (-1)) hx hb dX1_shows_29 (by decide) ?_
          refine lv_iconst (v := nI 0) hx hb dX1_shows_30 (by decide) ?_
          refine k_callM (u := ((n, kk, ff, ss, w), va)) (As := [.int (nI q1), .int (-1), .int (bI false)]) (rest := []) ⟨hx, hb, hml, hown, hts⟩ (mM_work l D ad d n kk ff ss w va s.heap.size q1 (-1) 99 false hw hl_no) (cwV 3 hts (lw_V q213 q215 qs8 q11 q216) rfl rfl rfl (by decide +kernel) ⟨Nat.le_of_ble_eq_true rfl, Nat.le_of_ble_eq_true rfl⟩) hP hD hK hS hA rfl hl.1 rfl (Nat.le_of_ble_eq_true rfl) dX1_shows_31 ⟨Nat.zero_le _, Nat.zero_le _⟩ (fun r1 u1 H locs hp hP hD hS => ?_)
          obtain ⟨va1, rfl, -, hr1⟩ := hp
          have hP : va_P D vwCl (wO ad d n kk ff (yyF kk ss) w va1) H := hP
          have hD : va_D A (wO ad d n kk ff (yyF kk ss) w va1) := hD
          refine lv_istore (lv' := [(4, .int r1), (0, .ref (ad 0)), (1, .int (nI q1)), (2, .int (nI ln)), (3, .int (bI v))]) hx hb dX1_shows_34 hl (by decide) rfl (fun ls hl => ?_)
          refine lv_aload_n hx hb dX1_shows_36 rfl (lv_at hl 1 rfl) ?_
          refine lv_iload_n hx hb dX1_shows_37 rfl (lv_at hl 2 rfl) ?_
          refine lv_iload_n hx hb dX1_shows_38 rfl (lv_at hl 3 rfl) ?_
          refine lv_iload_n hx hb dX1_shows_39 rfl (lv_at hl 4 rfl) ?_
          refine k_callM (u := ((n, kk, ff, ss, w), va1)) (As := [.int (nI q1), .int (nI ln), .int (bI v)]) (rest := []) ⟨hx, hb, hml, hown, hts⟩ (mM_work l D ad d n kk ff ss w va1 H.size q1 (nI ln) ln v hw (hl_at (by have := hw.2.1; omega))) (cwV 3 hts (lw_V q213 q215 qs8 q11 q216) rfl rfl rfl (by decide +kernel) ⟨Nat.le_of_ble_eq_true rfl, Nat.le_of_ble_eq_true rfl⟩) hP hD hK hS hA rfl hl.1 rfl (Nat.le_of_ble_eq_true rfl) dX1_shows_40 ⟨Nat.zero_le _, Nat.zero_le _⟩ (fun r2 u1 H locs hp hP hD hS => ?_)
          obtain ⟨va2, rfl, -, hr2⟩ := hp
          have hP : va_P D vwCl (wO ad d n kk ff (yyF kk ss) w va2) H := hP
          have hD : va_D A (wO ad d n kk ff (yyF kk ss) w va2) := hD
          obtain ⟨hn5, hn16, hwf⟩ := hw
          refine lv_iload hx hb dX1_shows_43 (lv_at hl 0 rfl) ?_
          refine lv_icmp_eq (tgt := 52) hx hb dX1_shows_45 (by decide) (fun c1 => ?_) (fun c1 => ?_)
          · refine lv_iconst (v := nI 0) hx hb dX1_shows_52 (by decide) ?_
            exact W.zret (v := nI 0) hx hb hr (rfl) (fun t9 ht9 hW9 => ⟨⟨nI 0, ((n, kk, ff, ss, w), va2), rfl, ⟨(r_shows_b (C := (n, kk, ff, ss, w)) hln hn16 hq1 (work_eq hn16 hr1 hr2 c1)).symm, rfl⟩, by rw [ht9]; exact hP, va_K.moved hW9.alike hK, hD⟩, hS.F ht9⟩) hS.2.2 dX1_shows_53
          · refine lv_iconst (v := nI 1) hx hb dX1_shows_48 (by decide) ?_
            refine lv_goto (tgt := 53) hx hb dX1_shows_49 (by decide) ?_
            exact W.zret (v := nI 1) hx hb hr (rfl) (fun t9 ht9 hW9 => ⟨⟨nI 1, ((n, kk, ff, ss, w), va2), rfl, ⟨(r_shows_b (C := (n, kk, ff, ss, w)) hln hn16 hq1 (work_ne hr1 hr2 c1)).symm, rfl⟩, by rw [ht9]; exact hP, va_K.moved hW9.alike hK, hD⟩, hS.F ht9⟩) hS.2.2 dX1_shows_53
        · refine k_if_ne (by omega) (tgt := 27) hx hb dX1_shows_22 (by decide) (fun c9 => absurd rfl c9) (fun c9 => ?_)
          refine lv_iconst (v := nI 0) hx hb dX1_shows_25 (by decide) ?_
          exact W.zret (v := nI 0) hx hb hr (rfl) (fun t9 ht9 hW9 => ⟨⟨nI 0, ((n, kk, ff, ss, w), va), rfl, ⟨(r_shows_n3 hno).symm, rfl⟩, by rw [ht9]; exact hP, va_K.moved hW9.alike hK, hD⟩, hS.F ht9⟩) hS.2.2 dX1_shows_26
      · refine lv_iload_n hx hb dX1_shows_12 rfl (lv_at hl 3 rfl) ?_
        refine lv_iconst (v := nI 1) hx hb dX1_shows_13 (by decide) ?_
        refine lv_icmp_ne (tgt := 25) hx hb dX1_shows_14 (by decide) (fun c8 => absurd (by rw [c7]; rfl) c8) (fun c8 => ?_)
        refine lv_aload_n hx hb dX1_shows_17 rfl (lv_at hl 0 rfl) ?_
        refine lv_iload_n hx hb dX1_shows_18 rfl (lv_at hl 1 rfl) ?_
        refine k_callMS (u := ((n, kk, ff, ss, w), va)) (As := [.int p1]) (rest := []) ⟨hx, hb, hml, hown, hts⟩ (mM_vector l D ad d n kk ff ss w va s.heap.size p1) (cwV 1 hts (lw_V q209 q211 qs7 q11 q212) rfl rfl rfl (by decide +kernel) ⟨Nat.le_of_ble_eq_true rfl, Nat.le_of_ble_eq_true rfl⟩) hP hD hK rfl hl.1 rfl (Nat.le_of_ble_eq_true rfl) dX1_shows_19 ⟨Nat.zero_le _, Nat.zero_le _⟩ (fun r hp => ?_)
        rcases hp with ⟨rfl, q1, hq1, rfl⟩ | ⟨rfl, hno⟩
        · refine k_if_ne (by omega) (tgt := 27) hx hb dX1_shows_22 (by decide) (fun c9 => ?_) (fun c9 => absurd c9 (by decide))
          refine lv_aload_n hx hb dX1_shows_27 rfl (lv_at hl 0 rfl) ?_
          refine lv_iload_n hx hb dX1_shows_28 rfl (lv_at hl 1 rfl) ?_
          refine lv_iconst (v := (-1)) hx hb dX1_shows_29 (by decide) ?_
          refine lv_iconst (v := nI 0) hx hb dX1_shows_30 (by decide) ?_
          refine k_callM (u := ((n, kk, ff, ss, w), va)) (As := [.int (nI q1), .int (-1), .int (bI false)]) (rest := []) ⟨hx, hb, hml, hown, hts⟩ (mM_work l D ad d n kk ff ss w va s.heap.size q1 (-1) 99 false hw hl_no) (cwV 3 hts (lw_V q213 q215 qs8 q11 q216) rfl rfl rfl (by decide +kernel) ⟨Nat.le_of_ble_eq_true rfl, Nat.le_of_ble_eq_true rfl⟩) hP hD hK hS hA rfl hl.1 rfl (Nat.le_of_ble_eq_true rfl) dX1_shows_31 ⟨Nat.zero_le _, Nat.zero_le _⟩ (fun r1 u1 H locs hp hP hD hS => ?_)
          obtain ⟨va1, rfl, -, hr1⟩ := hp
          have hP : va_P D vwCl (wO ad d n kk ff (yyF kk ss) w va1) H := hP
          have hD : va_D A (wO ad d n kk ff (yyF kk ss) w va1) := hD
          refine lv_istore (lv' := [(4, .int r1), (0, .ref (ad 0)), (1, .int (nI q1)), (2, .int (nI ln)), (3, .int (bI v))]) hx hb dX1_shows_34 hl (by decide) rfl (fun ls hl => ?_)
          refine lv_aload_n hx hb dX1_shows_36 rfl (lv_at hl 1 rfl) ?_
          refine lv_iload_n hx hb dX1_shows_37 rfl (lv_at hl 2 rfl) ?_
          refine lv_iload_n hx hb dX1_shows_38 rfl (lv_at hl 3 rfl) ?_
          refine lv_iload_n hx hb dX1_shows_39 rfl (lv_at hl 4 rfl) ?_
          refine k_callM (u := ((n, kk, ff, ss, w), va1)) (As := [.int (nI q1), .int (nI ln), .int (bI v)]) (rest := []) ⟨hx, hb, hml, hown, hts⟩ (mM_work l D ad d n kk ff ss w va1 H.size q1 (nI ln) ln v hw (hl_at (by have := hw.2.1; omega))) (cwV 3 hts (lw_V q213 q215 qs8 q11 q216) rfl rfl rfl (by decide +kernel) ⟨Nat.le_of_ble_eq_true rfl, Nat.le_of_ble_eq_true rfl⟩) hP hD hK hS hA rfl hl.1 rfl (Nat.le_of_ble_eq_true rfl) dX1_shows_40 ⟨Nat.zero_le _, Nat.zero_le _⟩ (fun r2 u1 H locs hp hP hD hS => ?_)
          obtain ⟨va2, rfl, -, hr2⟩ := hp
          have hP : va_P D vwCl (wO ad d n kk ff (yyF kk ss) w va2) H := hP
          have hD : va_D A (wO ad d n kk ff (yyF kk ss) w va2) := hD
          obtain ⟨hn5, hn16, hwf⟩ := hw
          refine lv_iload hx hb dX1_shows_43 (lv_at hl 0 rfl) ?_
          refine lv_icmp_eq (tgt := 52) hx hb dX1_shows_45 (by decide) (fun c1 => ?_) (fun c1 => ?_)
          · refine lv_iconst (v := nI 0) hx hb dX1_shows_52 (by decide) ?_
            exact W.zret (v := nI 0) hx hb hr (rfl) (fun t9 ht9 hW9 => ⟨⟨nI 0, ((n, kk, ff, ss, w), va2), rfl, ⟨(r_shows_b (C := (n, kk, ff, ss, w)) hln hn16 hq1 (work_eq hn16 hr1 hr2 c1)).symm, rfl⟩, by rw [ht9]; exact hP, va_K.moved hW9.alike hK, hD⟩, hS.F ht9⟩) hS.2.2 dX1_shows_53
          · refine lv_iconst (v := nI 1) hx hb dX1_shows_48 (by decide) ?_
            refine lv_goto (tgt := 53) hx hb dX1_shows_49 (by decide) ?_
            exact W.zret (v := nI 1) hx hb hr (rfl) (fun t9 ht9 hW9 => ⟨⟨nI 1, ((n, kk, ff, ss, w), va2), rfl, ⟨(r_shows_b (C := (n, kk, ff, ss, w)) hln hn16 hq1 (work_ne hr1 hr2 c1)).symm, rfl⟩, by rw [ht9]; exact hP, va_K.moved hW9.alike hK, hD⟩, hS.F ht9⟩) hS.2.2 dX1_shows_53
        · refine k_if_ne (by omega) (tgt := 27) hx hb dX1_shows_22 (by decide) (fun c9 => absurd rfl c9) (fun c9 => ?_)
          refine lv_iconst (v := nI 0) hx hb dX1_shows_25 (by decide) ?_
          exact W.zret (v := nI 0) hx hb hr (rfl) (fun t9 ht9 hW9 => ⟨⟨nI 0, ((n, kk, ff, ss, w), va), rfl, ⟨(r_shows_n3 hno).symm, rfl⟩, by rw [ht9]; exact hP, va_K.moved hW9.alike hK, hD⟩, hS.F ht9⟩) hS.2.2 dX1_shows_26
    · refine lv_iload_n hx hb dX1_shows_8 rfl (lv_at hl 3 rfl) ?_
      refine lv_if_eq (tgt := 17) hx hb dX1_shows_9 (by decide) (fun c7 => absurd c7 (no_0 hno)) (fun c7 => ?_)
      refine lv_iload_n hx hb dX1_shows_12 rfl (lv_at hl 3 rfl) ?_
      refine lv_iconst (v := nI 1) hx hb dX1_shows_13 (by decide) ?_
      refine lv_icmp_ne (tgt := 25) hx hb dX1_shows_14 (by decide) (fun c8 => ?_) (fun c8 => absurd c8 (no_1 hno))
      refine lv_iconst (v := nI 0) hx hb dX1_shows_25 (by decide) ?_
      exact W.zret (v := nI 0) hx hb hr (rfl) (fun t9 ht9 hW9 => ⟨⟨nI 0, ((n, kk, ff, ss, w), va), rfl, ⟨(r_shows_n2 hno).symm, rfl⟩, by rw [ht9]; exact hP, va_K.moved hW9.alike hK, hD⟩, hS.F ht9⟩) hS.2.2 dX1_shows_26
  · refine k_if_eq (by omega) (tgt := 25) hx hb dX1_shows_5 (by decide) (fun c9 => ?_) (fun c9 => absurd rfl c9)
    refine lv_iconst (v := nI 0) hx hb dX1_shows_25 (by decide) ?_
    exact W.zret (v := nI 0) hx hb hr (rfl) (fun t9 ht9 hW9 => ⟨⟨nI 0, ((n, kk, ff, ss, w), va), rfl, ⟨(r_shows_n1 hno).symm, rfl⟩, by rw [ht9]; exact hP, va_K.moved hW9.alike hK, hD⟩, hS.F ht9⟩) hS.2.2 dX1_shows_26

set_option maxHeartbeats 4000000 in
set_option maxRecDepth 100000 in
theorem mM_testFrom (l : Launch) (D : va_G) (ad : Nat → Nat) (d : ClassId) (n : Nat) (kk ff ss : Nat → Nat) (w : Int32) (va : Nat → Int32) (sz : Nat) (p1 p2 p3 : Int32) (hw : wfC n kk ff ss) : MetM l D ad d yX1_testFrom (ws_ yX1_testFrom cX1_testFrom 5 (some .int)) ({ frames := 2, cells := 0, slots := 0, locals := 53 }) ((n, kk, ff, ss, w), va) sz [.ref (ad 0), .int p1, .int p2, .int p3] (fun (r : Int32) (u1 : TM) => r = r_testFrom (n, kk, ff, ss, w) p1 p2 p3 ∧ u1.1 = (n, kk, ff, ss, w)) := by
  refine Met.ofW (cc := cX1_testFrom) (maxL := 5) (ret := (some .int)) (by decide) rfl ?_
  intro p e s m args below meth c s₁ B hml hv
  obtain ⟨rfl, hsz, hP, hK, hD0⟩ := hv
  have hx := B.exec
  have hb := B.bytes
  have hr := B.returns
  have hts := atoms_spec (ws := (ws_ yX1_testFrom cX1_testFrom 5 (some .int))) B.pre
  have hts : ∀ w ∈ lw_all, w.before _ s = true := fun w h => hts w (List.mem_cons_of_mem _ h)
  have hown : s.vm.findClass RX1 = some m.cls := findClass_of_methodNamed B.named
  have hlocks := B.notSynchronized
  subst hsz
  have hD := hD0.self (sz := s.heap.size)
  generalize hAe : va_A (wM ad d ((n, kk, ff, ss, w), va)) s.heap.size = A at hD ⊢
  have hA : ∀ q : Nat, s.heap.size ≤ q → A q := fun q h => by rw [← hAe]; exact Or.inr h
  have hS : va_S A s.heap s.heap [] := va_S.rf
  have hD : va_D A (wO ad d n kk ff (yyF kk ss) w va) := hD
  have hP : va_P D vwCl (wO ad d n kk ff (yyF kk ss) w va) s.heap := hP
  have hl := lv_entry ([.ref (ad 0), .int p1, .int p2, .int p3]) (n := 5) (Nat.le_of_ble_eq_true rfl)
  rw [lg_entry_eq]
  generalize (lg_sl ([.ref (ad 0), .int p1, .int p2, .int p3]) ++ List.replicate (5 - (lg_sl ([.ref (ad 0), .int p1, .int p2, .int p3])).length) Slot.unset).toArray = ls at hl ⊢
  have hl : lv_has ls 5 [(0, .ref (ad 0)), (1, .int p1), (2, .int p2), (3, .int p3)] := hl
  refine lv_iconst (v := nI 0) hx hb dX1_testFrom_0 (by decide) ?_
  refine lv_istore (lv' := [(4, .int (nI 0)), (0, .ref (ad 0)), (1, .int p1), (2, .int p2), (3, .int p3)]) hx hb dX1_testFrom_1 hl (by decide) rfl (fun ls hl => ?_)
  have loop : ∀ (f i : Nat) (va : Nat → Int32), i ≤ 32 → 32 + 1 ≤ i + f → (r_testFrom (n, kk, ff, ss, w) p1 p2 p3 = fst0 (tfP (n, kk, ff, ss, w) p1 p2 p3) (32 - i) i) → ∀ (H : Heap) (locs : List Loc), va_P D vwCl (wO ad d n kk ff (yyF kk ss) w va) H → va_D A (wO ad d n kk ff (yyF kk ss) w va) → va_S A s.heap H locs → ∀ (ls : Array Slot), lv_has ls 5 [(0, .ref (ad 0)), (1, .int p1), (2, .int p2), (3, .int p3), (4, .int (nI i))] → W p l e (headSpec (ws_ yX1_testFrom cX1_testFrom 5 (some .int)) ({ frames := 2, cells := 0, slots := 0, locals := 53 })).room s m ([.ref (ad 0), .int p1, .int p2, .int p3] : List Value).toArray below meth c H locs 0 0 (MQ below (va_Qi (fun (r : Int32) (u1 : TM) => r = r_testFrom (n, kk, ff, ss, w) p1 p2 p3 ∧ u1.1 = (n, kk, ff, ss, w)) (BM D ad d A) A) ([.ref (ad 0), .int p1, .int p2, .int p3] : List Value).toArray s 0 0 A) (F0 m 3 ls []) := by
    intro f
    induction f with
    | zero =>
      intro i va h1 h2
      exact absurd h2 (by omega)
    | succ f ih =>
      intro i va hi hf htf H locs hP hD hS ls hl
      refine lv_iload hx hb dX1_testFrom_3 (lv_at hl 4 rfl) ?_
      refine lv_bipush (v := nI 32) hx hb dX1_testFrom_5 (by decide) ?_
      refine k_ge (by omega) (by omega) (tgt := 36) hx hb dX1_testFrom_7 (by decide) (fun c1 => ?_) (fun c1 => ?_)
      · have e : i = 32 := by omega
        subst e
        refine lv_iconst (v := (-1)) hx hb dX1_testFrom_36 (by decide) ?_
        exact W.iret (v := -1) hx hb hr (fun t9 ht9 hW9 => ⟨⟨-1, ((n, kk, ff, ss, w), va), rfl, ⟨htf.symm, rfl⟩, by rw [ht9]; exact hP, va_K.moved hW9.alike hK, hD⟩, hS.F ht9⟩) hS.2.2 dX1_testFrom_37
      · refine lv_iload hx hb dX1_testFrom_10 (lv_at hl 4 rfl) ?_
        refine lv_iload_n hx hb dX1_testFrom_12 rfl (lv_at hl 3 rfl) ?_
        refine lv_icmp_lt (tgt := 30) hx hb dX1_testFrom_13 (by decide) (fun c2 => ?_) (fun c2 => ?_)
        · refine lv_iinc (v := nI (i + 1)) (lv' := [(4, .int (nI (i + 1))), (0, .ref (ad 0)), (1, .int p1), (2, .int p2), (3, .int p3)]) hx hb dX1_testFrom_30 hl (k := 4) rfl (k_inc i) (by decide) rfl (fun ls hl => ?_)
          refine lv_goto (tgt := 3) hx hb dX1_testFrom_33 (by decide) ?_
          exact ih (i + 1) va (by omega) (by omega) (htf.trans (fs_f c1 (tfP_f1 c2))) _ _ hP hD hS ls (lv_sub hl [1, 2, 3, 4, 0] rfl)
        · refine lv_aload_n hx hb dX1_testFrom_16 rfl (lv_at hl 0 rfl) ?_
          refine lv_iload hx hb dX1_testFrom_17 (lv_at hl 4 rfl) ?_
          refine lv_iload_n hx hb dX1_testFrom_19 rfl (lv_at hl 1 rfl) ?_
          refine lv_iload_n hx hb dX1_testFrom_20 rfl (lv_at hl 2 rfl) ?_
          refine k_callM (u := ((n, kk, ff, ss, w), va)) (As := [.int (nI i), .int p1, .int p2]) (rest := []) ⟨hx, hb, hml, hown, hts⟩ (mM_shows l D ad d n kk ff ss w va H.size (nI i) p1 p2 hw) (cwV 3 hts (lw_V q229 q218 q219 q11 q220) rfl rfl rfl (by decide +kernel) ⟨Nat.le_of_ble_eq_true rfl, Nat.le_of_ble_eq_true rfl⟩) hP hD hK hS hA rfl hl.1 rfl (Nat.le_of_ble_eq_true rfl) dX1_testFrom_21 ⟨Nat.zero_le _, Nat.zero_le _⟩ (fun r u1 H locs hp hP hD hS => ?_)
          obtain ⟨C1, z1⟩ := u1
          obtain ⟨hp, hC1⟩ := hp
          obtain rfl : C1 = (n, kk, ff, ss, w) := hC1
          have hP : va_P D vwCl (wO ad d n kk ff (yyF kk ss) w z1) H := hP
          have hD : va_D A (wO ad d n kk ff (yyF kk ss) w z1) := hD
          subst hp
          refine lv_if_eq (tgt := 30) hx hb dX1_testFrom_24 (by decide) (fun c3 => ?_) (fun c3 => ?_)
          · refine lv_iinc (v := nI (i + 1)) (lv' := [(4, .int (nI (i + 1))), (0, .ref (ad 0)), (1, .int p1), (2, .int p2), (3, .int p3)]) hx hb dX1_testFrom_30 hl (k := 4) rfl (k_inc i) (by decide) rfl (fun ls hl => ?_)
            refine lv_goto (tgt := 3) hx hb dX1_testFrom_33 (by decide) ?_
            exact ih (i + 1) z1 (by omega) (by omega) (htf.trans (fs_f c1 (tfP_f2 c3))) _ _ hP hD hS ls (lv_sub hl [1, 2, 3, 4, 0] rfl)
          · refine lv_iload hx hb dX1_testFrom_27 (lv_at hl 4 rfl) ?_
            exact W.iret (v := nI i) hx hb hr (fun t9 ht9 hW9 => ⟨⟨nI i, ((n, kk, ff, ss, w), z1), rfl, ⟨(htf.trans (fs_t c1 (tfP_t c2 c3))).symm, rfl⟩, by rw [ht9]; exact hP, va_K.moved hW9.alike hK, hD⟩, hS.F ht9⟩) hS.2.2 dX1_testFrom_29
  exact loop 33 0 va (by decide) (by decide) (tf_eq hw.2.1) _ _ hP hD hS ls (lv_sub hl [1, 2, 3, 4, 0] rfl)

set_option maxHeartbeats 4000000 in
set_option maxRecDepth 100000 in
theorem mM_test (l : Launch) (D : va_G) (ad : Nat → Nat) (d : ClassId) (n : Nat) (kk ff ss : Nat → Nat) (w : Int32) (va : Nat → Int32) (sz : Nat) (p1 p2 : Int32) (hw : wfC n kk ff ss) : MetM l D ad d yX1_test (ws_ yX1_test cX1_test 3 (some .int)) ({ frames := 3, cells := 0, slots := 0, locals := 77 }) ((n, kk, ff, ss, w), va) sz [.ref (ad 0), .int p1, .int p2] (fun (r : Int32) (u1 : TM) => r = r_testFrom (n, kk, ff, ss, w) p1 p2 (nI 0) ∧ u1.1 = (n, kk, ff, ss, w)) := by
  refine Met.ofW (cc := cX1_test) (maxL := 3) (ret := (some .int)) (by decide) rfl ?_
  intro p e s m args below meth c s₁ B hml hv
  obtain ⟨rfl, hsz, hP, hK, hD0⟩ := hv
  have hx := B.exec
  have hb := B.bytes
  have hr := B.returns
  have hts := atoms_spec (ws := (ws_ yX1_test cX1_test 3 (some .int))) B.pre
  have hts : ∀ w ∈ lw_all, w.before _ s = true := fun w h => hts w (List.mem_cons_of_mem _ h)
  have hown : s.vm.findClass RX1 = some m.cls := findClass_of_methodNamed B.named
  have hlocks := B.notSynchronized
  subst hsz
  have hD := hD0.self (sz := s.heap.size)
  generalize hAe : va_A (wM ad d ((n, kk, ff, ss, w), va)) s.heap.size = A at hD ⊢
  have hA : ∀ q : Nat, s.heap.size ≤ q → A q := fun q h => by rw [← hAe]; exact Or.inr h
  have hS : va_S A s.heap s.heap [] := va_S.rf
  have hD : va_D A (wO ad d n kk ff (yyF kk ss) w va) := hD
  have hP : va_P D vwCl (wO ad d n kk ff (yyF kk ss) w va) s.heap := hP
  have hl := lv_entry ([.ref (ad 0), .int p1, .int p2]) (n := 3) (Nat.le_of_ble_eq_true rfl)
  rw [lg_entry_eq]
  generalize (lg_sl ([.ref (ad 0), .int p1, .int p2]) ++ List.replicate (3 - (lg_sl ([.ref (ad 0), .int p1, .int p2])).length) Slot.unset).toArray = ls at hl ⊢
  have hl : lv_has ls 3 [(0, .ref (ad 0)), (1, .int p1), (2, .int p2)] := hl
  refine lv_aload_n hx hb dX1_test_0 rfl (lv_at hl 0 rfl) ?_
  refine lv_iload_n hx hb dX1_test_1 rfl (lv_at hl 1 rfl) ?_
  refine lv_iload_n hx hb dX1_test_2 rfl (lv_at hl 2 rfl) ?_
  refine lv_iconst (v := nI 0) hx hb dX1_test_3 (by decide) ?_
  refine k_callM (u := ((n, kk, ff, ss, w), va)) (As := [.int p1, .int p2, .int (nI 0)]) (rest := []) ⟨hx, hb, hml, hown, hts⟩ (mM_testFrom l D ad d n kk ff ss w va s.heap.size p1 p2 (nI 0) hw) (cwV 3 hts (lw_V q225 q226 q227 q11 q228) rfl rfl rfl (by decide +kernel) ⟨Nat.le_of_ble_eq_true rfl, Nat.le_of_ble_eq_true rfl⟩) hP hD hK hS hA rfl hl.1 rfl (Nat.le_of_ble_eq_true rfl) dX1_test_4 ⟨Nat.zero_le _, Nat.zero_le _⟩ (fun r u1 H locs hp hP hD hS => ?_)
  obtain ⟨C1, z1⟩ := u1
  obtain ⟨hp, hC1⟩ := hp
  obtain rfl : C1 = (n, kk, ff, ss, w) := hC1
  have hP : va_P D vwCl (wO ad d n kk ff (yyF kk ss) w z1) H := hP
  have hD : va_D A (wO ad d n kk ff (yyF kk ss) w z1) := hD
  exact W.iret (v := r) hx hb hr (fun t9 ht9 hW9 => ⟨⟨r, ((n, kk, ff, ss, w), z1), rfl, ⟨hp, rfl⟩, by rw [ht9]; exact hP, va_K.moved hW9.alike hK, hD⟩, hS.F ht9⟩) hS.2.2 dX1_test_7

set_option maxHeartbeats 4000000 in
set_option maxRecDepth 100000 in
theorem mM_hidden (l : Launch) (D : va_G) (ad : Nat → Nat) (d : ClassId) (n : Nat) (kk ff ss : Nat → Nat) (w : Int32) (va : Nat → Int32) (sz : Nat) (p1 : Int32) (hw : wfC n kk ff ss) : MetM l D ad d yX1_hidden (ws_ yX1_hidden cX1_hidden 4 (some .int)) ({ frames := 4, cells := 0, slots := 0, locals := 99 }) ((n, kk, ff, ss, w), va) sz [.ref (ad 0), .int p1] (fun (r : Int32) (u1 : TM) => r = r_hidden (n, kk, ff, ss, w) p1 ∧ u1.1 = (n, kk, ff, ss, w)) := by
  refine Met.ofW (cc := cX1_hidden) (maxL := 4) (ret := (some .int)) (by decide) rfl ?_
  intro p e s m args below meth c s₁ B hml hv
  obtain ⟨rfl, hsz, hP, hK, hD0⟩ := hv
  have hx := B.exec
  have hb := B.bytes
  have hr := B.returns
  have hts := atoms_spec (ws := (ws_ yX1_hidden cX1_hidden 4 (some .int))) B.pre
  have hts : ∀ w ∈ lw_all, w.before _ s = true := fun w h => hts w (List.mem_cons_of_mem _ h)
  have hown : s.vm.findClass RX1 = some m.cls := findClass_of_methodNamed B.named
  have hlocks := B.notSynchronized
  subst hsz
  have hD := hD0.self (sz := s.heap.size)
  generalize hAe : va_A (wM ad d ((n, kk, ff, ss, w), va)) s.heap.size = A at hD ⊢
  have hA : ∀ q : Nat, s.heap.size ≤ q → A q := fun q h => by rw [← hAe]; exact Or.inr h
  have hS : va_S A s.heap s.heap [] := va_S.rf
  have hD : va_D A (wO ad d n kk ff (yyF kk ss) w va) := hD
  have hP : va_P D vwCl (wO ad d n kk ff (yyF kk ss) w va) s.heap := hP
  have hl := lv_entry ([.ref (ad 0), .int p1]) (n := 4) (Nat.le_of_ble_eq_true rfl)
  rw [lg_entry_eq]
  generalize (lg_sl ([.ref (ad 0), .int p1]) ++ List.replicate (4 - (lg_sl ([.ref (ad 0), .int p1])).length) Slot.unset).toArray = ls at hl ⊢
  have hl : lv_has ls 4 [(0, .ref (ad 0)), (1, .int p1)] := hl
  obtain ⟨hn5, hn16, hwf⟩ := id hw
  refine lv_iconst (v := nI 0) hx hb dX1_hidden_0 (by decide) ?_
  refine lv_istore_n (lv' := [(2, .int (nI 0)), (0, .ref (ad 0)), (1, .int p1)]) hx hb dX1_hidden_1 rfl hl (by decide) rfl (fun ls hl => ?_)
  refine lv_iconst (v := nI 0) hx hb dX1_hidden_2 (by decide) ?_
  refine lv_istore_n (lv' := [(3, .int (nI 0)), (2, .int (nI 0)), (0, .ref (ad 0)), (1, .int p1)]) hx hb dX1_hidden_3 rfl hl (by decide) rfl (fun ls hl => ?_)
  rcases bit_or p1 with ⟨v, rfl⟩ | hno
  · have loop : ∀ (f i : Nat) (va : Nat → Int32), i ≤ n → n + 1 ≤ i + f → ∀ (H : Heap) (locs : List Loc), va_P D vwCl (wO ad d n kk ff (yyF kk ss) w va) H → va_D A (wO ad d n kk ff (yyF kk ss) w va) → va_S A s.heap H locs → ∀ (ls : Array Slot), lv_has ls 4 [(0, .ref (ad 0)), (1, .int (bI v)), (2, .int (hid (n, kk, ff, ss, w) (bI v) i)), (3, .int (nI i))] → W p l e (headSpec (ws_ yX1_hidden cX1_hidden 4 (some .int)) ({ frames := 4, cells := 0, slots := 0, locals := 99 })).room s m ([.ref (ad 0), .int (bI v)] : List Value).toArray below meth c H locs 0 0 (MQ below (va_Qi (fun (r : Int32) (u1 : TM) => r = r_hidden (n, kk, ff, ss, w) (bI v) ∧ u1.1 = (n, kk, ff, ss, w)) (BM D ad d A) A) ([.ref (ad 0), .int (bI v)] : List Value).toArray s 0 0 A) (F0 m 4 ls []) := by
      intro f
      induction f with
      | zero =>
        intro i va h1 h2
        exact absurd h2 (by omega)
      | succ f ih =>
        intro i va hi hf  H locs hP hD hS ls hl
        refine lv_iload_n hx hb dX1_hidden_4 rfl (lv_at hl 3 rfl) ?_
        refine lv_aload_n hx hb dX1_hidden_5 rfl (lv_at hl 0 rfl) ?_
        refine va_get (D := D) (ci := 1) (v := .int (nI n)) (C := RX1) (T := TX1) (N := 6) hx hb hts in_X1 hown hK hP 0 rfl rfl 0 (by decide) (hts _ q162) (fun _ h9 => h9) rfl dX1_hidden_6 ?_
        refine k_ge (by omega) (by omega) (tgt := 46) hx hb dX1_hidden_9 (by decide) (fun c1 => ?_) (fun c1 => ?_)
        · have e : i = n := by omega
          subst e
          refine lv_iload_n hx hb dX1_hidden_46 rfl (lv_at hl 2 rfl) ?_
          exact W.iret (v := hid (i, kk, ff, ss, w) (bI v) i) hx hb hr (fun t9 ht9 hW9 => ⟨⟨hid (i, kk, ff, ss, w) (bI v) i, ((i, kk, ff, ss, w), va), rfl, ⟨(r_hidden_s (C := (i, kk, ff, ss, w))).symm, rfl⟩, by rw [ht9]; exact hP, va_K.moved hW9.alike hK, hD⟩, hS.F ht9⟩) hS.2.2 dX1_hidden_47
        · refine lv_iload_n hx hb dX1_hidden_12 rfl (lv_at hl 1 rfl) ?_
          refine k_bif_eq (tgt := 21) hx hb dX1_hidden_13 (by decide) (fun c7 => ?_) (fun c7 => ?_)
          · refine lv_aload_n hx hb dX1_hidden_21 rfl (lv_at hl 0 rfl) ?_
            refine lv_iload_n hx hb dX1_hidden_22 rfl (lv_at hl 3 rfl) ?_
            refine lv_iload_n hx hb dX1_hidden_23 rfl (lv_at hl 1 rfl) ?_
            refine k_callM (u := ((n, kk, ff, ss, w), va)) (As := [.int (nI i), .int (bI v)]) (rest := []) ⟨hx, hb, hml, hown, hts⟩ (mM_test l D ad d n kk ff ss w va H.size (nI i) (bI v) hw) (cwV 2 hts (lw_V q235 q222 q223 q11 q224) rfl rfl rfl (by decide +kernel) ⟨Nat.le_of_ble_eq_true rfl, Nat.le_of_ble_eq_true rfl⟩) hP hD hK hS hA rfl hl.1 rfl (Nat.le_of_ble_eq_true rfl) dX1_hidden_24 ⟨Nat.zero_le _, Nat.zero_le _⟩ (fun r u1 H locs hp hP hD hS => ?_)
            obtain ⟨C1, z1⟩ := u1
            obtain ⟨hp, hC1⟩ := hp
            obtain rfl : C1 = (n, kk, ff, ss, w) := hC1
            have hP : va_P D vwCl (wO ad d n kk ff (yyF kk ss) w z1) H := hP
            have hD : va_D A (wO ad d n kk ff (yyF kk ss) w z1) := hD
            refine lv_if_ge (tgt := 38) hx hb dX1_hidden_27 (by decide) (fun c3 => ?_) (fun c3 => ?_)
            · refine lv_iload_n hx hb dX1_hidden_38 rfl (lv_at hl 2 rfl) ?_
              refine k_ti (y := hid (n, kk, ff, ss, w) (bI v) (i + 1)) (by rw [hp] at c3; exact (if_neg (Int32.not_lt.mpr c3)).symm) ?_
              refine lv_istore_n (lv' := [(2, .int (hid (n, kk, ff, ss, w) (bI v) (i + 1))), (0, .ref (ad 0)), (1, .int (bI v)), (3, .int (nI i))]) hx hb dX1_hidden_39 rfl hl (by decide) rfl (fun ls hl => ?_)
              refine lv_iinc (v := nI (i + 1)) (lv' := [(3, .int (nI (i + 1))), (2, .int (hid (n, kk, ff, ss, w) (bI v) (i + 1))), (0, .ref (ad 0)), (1, .int (bI v))]) hx hb dX1_hidden_40 hl (k := 3) rfl (k_inc i) (by decide) rfl (fun ls hl => ?_)
              refine lv_goto (tgt := 4) hx hb dX1_hidden_43 (by decide) ?_
              exact ih (i + 1) z1 (by omega) (by omega) _ _ hP hD hS ls (lv_sub hl [2, 3, 1, 0] rfl)
            · refine lv_iload_n hx hb dX1_hidden_30 rfl (lv_at hl 2 rfl) ?_
              refine lv_iconst (v := nI 1) hx hb dX1_hidden_31 (by decide) ?_
              refine lv_iload_n hx hb dX1_hidden_32 rfl (lv_at hl 3 rfl) ?_
              refine lv_ishl hx hb dX1_hidden_33 ?_
              refine lv_ior hx hb dX1_hidden_34 ?_
              refine k_ti (y := hid (n, kk, ff, ss, w) (bI v) (i + 1)) (by rw [hp] at c3; exact (if_pos (Int32.not_le.mp c3)).symm) ?_
              refine lv_goto (tgt := 39) hx hb dX1_hidden_35 (by decide) ?_
              refine lv_istore_n (lv' := [(2, .int (hid (n, kk, ff, ss, w) (bI v) (i + 1))), (0, .ref (ad 0)), (1, .int (bI v)), (3, .int (nI i))]) hx hb dX1_hidden_39 rfl hl (by decide) rfl (fun ls hl => ?_)
              refine lv_iinc (v := nI (i + 1)) (lv' := [(3, .int (nI (i + 1))), (2, .int (hid (n, kk, ff, ss, w) (bI v) (i + 1))), (0, .ref (ad 0)), (1, .int (bI v))]) hx hb dX1_hidden_40 hl (k := 3) rfl (k_inc i) (by decide) rfl (fun ls hl => ?_)
              refine lv_goto (tgt := 4) hx hb dX1_hidden_43 (by decide) ?_
              exact ih (i + 1) z1 (by omega) (by omega) _ _ hP hD hS ls (lv_sub hl [2, 3, 1, 0] rfl)
          · refine lv_iload_n hx hb dX1_hidden_16 rfl (lv_at hl 1 rfl) ?_
            refine lv_iconst (v := nI 1) hx hb dX1_hidden_17 (by decide) ?_
            refine lv_icmp_ne (tgt := 46) hx hb dX1_hidden_18 (by decide) (fun c8 => absurd (by rw [c7]; rfl) c8) (fun c8 => ?_)
            refine lv_aload_n hx hb dX1_hidden_21 rfl (lv_at hl 0 rfl) ?_
            refine lv_iload_n hx hb dX1_hidden_22 rfl (lv_at hl 3 rfl) ?_
            refine lv_iload_n hx hb dX1_hidden_23 rfl (lv_at hl 1 rfl) ?_
            refine k_callM (u := ((n, kk, ff, ss, w), va)) (As := [.int (nI i), .int (bI v)]) (rest := []) ⟨hx, hb, hml, hown, hts⟩ (mM_test l D ad d n kk ff ss w va H.size (nI i) (bI v) hw) (cwV 2 hts (lw_V q235 q222 q223 q11 q224) rfl rfl rfl (by decide +kernel) ⟨Nat.le_of_ble_eq_true rfl, Nat.le_of_ble_eq_true rfl⟩) hP hD hK hS hA rfl hl.1 rfl (Nat.le_of_ble_eq_true rfl) dX1_hidden_24 ⟨Nat.zero_le _, Nat.zero_le _⟩ (fun r u1 H locs hp hP hD hS => ?_)
            obtain ⟨C1, z1⟩ := u1
            obtain ⟨hp, hC1⟩ := hp
            obtain rfl : C1 = (n, kk, ff, ss, w) := hC1
            have hP : va_P D vwCl (wO ad d n kk ff (yyF kk ss) w z1) H := hP
            have hD : va_D A (wO ad d n kk ff (yyF kk ss) w z1) := hD
            refine lv_if_ge (tgt := 38) hx hb dX1_hidden_27 (by decide) (fun c3 => ?_) (fun c3 => ?_)
            · refine lv_iload_n hx hb dX1_hidden_38 rfl (lv_at hl 2 rfl) ?_
              refine k_ti (y := hid (n, kk, ff, ss, w) (bI v) (i + 1)) (by rw [hp] at c3; exact (if_neg (Int32.not_lt.mpr c3)).symm) ?_
              refine lv_istore_n (lv' := [(2, .int (hid (n, kk, ff, ss, w) (bI v) (i + 1))), (0, .ref (ad 0)), (1, .int (bI v)), (3, .int (nI i))]) hx hb dX1_hidden_39 rfl hl (by decide) rfl (fun ls hl => ?_)
              refine lv_iinc (v := nI (i + 1)) (lv' := [(3, .int (nI (i + 1))), (2, .int (hid (n, kk, ff, ss, w) (bI v) (i + 1))), (0, .ref (ad 0)), (1, .int (bI v))]) hx hb dX1_hidden_40 hl (k := 3) rfl (k_inc i) (by decide) rfl (fun ls hl => ?_)
              refine lv_goto (tgt := 4) hx hb dX1_hidden_43 (by decide) ?_
              exact ih (i + 1) z1 (by omega) (by omega) _ _ hP hD hS ls (lv_sub hl [2, 3, 1, 0] rfl)
            · refine lv_iload_n hx hb dX1_hidden_30 rfl (lv_at hl 2 rfl) ?_
              refine lv_iconst (v := nI 1) hx hb dX1_hidden_31 (by decide) ?_
              refine lv_iload_n hx hb dX1_hidden_32 rfl (lv_at hl 3 rfl) ?_
              refine lv_ishl hx hb dX1_hidden_33 ?_
              refine lv_ior hx hb dX1_hidden_34 ?_
              refine k_ti (y := hid (n, kk, ff, ss, w) (bI v) (i + 1)) (by rw [hp] at c3; exact (if_pos (Int32.not_le.mp c3)).symm) ?_
              refine lv_goto (tgt := 39) hx hb dX1_hidden_35 (by decide) ?_
              refine lv_istore_n (lv' := [(2, .int (hid (n, kk, ff, ss, w) (bI v) (i + 1))), (0, .ref (ad 0)), (1, .int (bI v)), (3, .int (nI i))]) hx hb dX1_hidden_39 rfl hl (by decide) rfl (fun ls hl => ?_)
              refine lv_iinc (v := nI (i + 1)) (lv' := [(3, .int (nI (i + 1))), (2, .int (hid (n, kk, ff, ss, w) (bI v) (i + 1))), (0, .ref (ad 0)), (1, .int (bI v))]) hx hb dX1_hidden_40 hl (k := 3) rfl (k_inc i) (by decide) rfl (fun ls hl => ?_)
              refine lv_goto (tgt := 4) hx hb dX1_hidden_43 (by decide) ?_
              exact ih (i + 1) z1 (by omega) (by omega) _ _ hP hD hS ls (lv_sub hl [2, 3, 1, 0] rfl)
    exact loop (n + 1) 0 va (by omega) (by omega) _ _ hP hD hS ls (lv_sub hl [2, 3, 1, 0] rfl)
  · refine lv_iload_n hx hb dX1_hidden_4 rfl (lv_at hl 0 rfl) ?_
    refine lv_aload_n hx hb dX1_hidden_5 rfl (lv_at hl 2 rfl) ?_
    refine va_get (D := D) (ci := 1) (v := .int (nI n)) (C := RX1) (T := TX1) (N := 6) hx hb hts in_X1 hown hK hP 0 rfl rfl 0 (by decide) (hts _ q162) (fun _ h9 => h9) rfl dX1_hidden_6 ?_
    refine k_ge (by omega) (by omega) (tgt := 46) hx hb dX1_hidden_9 (by decide) (fun c1 => absurd c1 (by omega)) (fun c1 => ?_)
    refine lv_iload_n hx hb dX1_hidden_12 rfl (lv_at hl 3 rfl) ?_
    refine lv_if_eq (tgt := 21) hx hb dX1_hidden_13 (by decide) (fun c2 => absurd c2 (no_0 hno)) (fun c2 => ?_)
    refine lv_iload_n hx hb dX1_hidden_16 rfl (lv_at hl 3 rfl) ?_
    refine lv_iconst (v := nI 1) hx hb dX1_hidden_17 (by decide) ?_
    refine lv_icmp_ne (tgt := 46) hx hb dX1_hidden_18 (by decide) (fun c3 => ?_) (fun c3 => absurd c3 (no_1 hno))
    refine lv_iload_n hx hb dX1_hidden_46 rfl (lv_at hl 1 rfl) ?_
    exact W.iret (v := nI 0) hx hb hr (fun t9 ht9 hW9 => ⟨⟨nI 0, ((n, kk, ff, ss, w), va), rfl, ⟨(r_hidden_n hno).symm, rfl⟩, by rw [ht9]; exact hP, va_K.moved hW9.alike hK, hD⟩, hS.F ht9⟩) hS.2.2 dX1_hidden_47

set_option maxHeartbeats 4000000 in
set_option maxRecDepth 100000 in
theorem mM_shownBy (l : Launch) (D : va_G) (ad : Nat → Nat) (d : ClassId) (n : Nat) (kk ff ss : Nat → Nat) (w : Int32) (va : Nat → Int32) (sz : Nat) (p1 : Int32) (hw : wfC n kk ff ss) : MetM l D ad d yX1_shownBy (ws_ yX1_shownBy cX1_shownBy 4 (some .int)) ({ frames := 2, cells := 0, slots := 0, locals := 53 }) ((n, kk, ff, ss, w), va) sz [.ref (ad 0), .int p1] (fun (r : Int32) (u1 : TM) => r = r_shownBy (n, kk, ff, ss, w) p1 ∧ u1.1 = (n, kk, ff, ss, w)) := by
  refine Met.ofW (cc := cX1_shownBy) (maxL := 4) (ret := (some .int)) (by decide) rfl ?_
  intro p e s m args below meth c s₁ B hml hv
  obtain ⟨rfl, hsz, hP, hK, hD0⟩ := hv
  have hx := B.exec
  have hb := B.bytes
  have hr := B.returns
  have hts := atoms_spec (ws := (ws_ yX1_shownBy cX1_shownBy 4 (some .int))) B.pre
  have hts : ∀ w ∈ lw_all, w.before _ s = true := fun w h => hts w (List.mem_cons_of_mem _ h)
  have hown : s.vm.findClass RX1 = some m.cls := findClass_of_methodNamed B.named
  have hlocks := B.notSynchronized
  subst hsz
  have hD := hD0.self (sz := s.heap.size)
  generalize hAe : va_A (wM ad d ((n, kk, ff, ss, w), va)) s.heap.size = A at hD ⊢
  have hA : ∀ q : Nat, s.heap.size ≤ q → A q := fun q h => by rw [← hAe]; exact Or.inr h
  have hS : va_S A s.heap s.heap [] := va_S.rf
  have hD : va_D A (wO ad d n kk ff (yyF kk ss) w va) := hD
  have hP : va_P D vwCl (wO ad d n kk ff (yyF kk ss) w va) s.heap := hP
  have hl := lv_entry ([.ref (ad 0), .int p1]) (n := 4) (Nat.le_of_ble_eq_true rfl)
  rw [lg_entry_eq]
  generalize (lg_sl ([.ref (ad 0), .int p1]) ++ List.replicate (4 - (lg_sl ([.ref (ad 0), .int p1])).length) Slot.unset).toArray = ls at hl ⊢
  have hl : lv_has ls 4 [(0, .ref (ad 0)), (1, .int p1)] := hl
  obtain ⟨hn5, hn16, hwf⟩ := id hw
  refine lv_iconst (v := nI 0) hx hb dX1_shownBy_0 (by decide) ?_
  refine lv_istore_n (lv' := [(2, .int (nI 0)), (0, .ref (ad 0)), (1, .int p1)]) hx hb dX1_shownBy_1 rfl hl (by decide) rfl (fun ls hl => ?_)
  refine lv_iconst (v := nI 0) hx hb dX1_shownBy_2 (by decide) ?_
  refine lv_istore_n (lv' := [(3, .int (nI 0)), (2, .int (nI 0)), (0, .ref (ad 0)), (1, .int p1)]) hx hb dX1_shownBy_3 rfl hl (by decide) rfl (fun ls hl => ?_)
  have loop : ∀ (f i : Nat) (va : Nat → Int32), i ≤ n → n + 1 ≤ i + f → ∀ (H : Heap) (locs : List Loc), va_P D vwCl (wO ad d n kk ff (yyF kk ss) w va) H → va_D A (wO ad d n kk ff (yyF kk ss) w va) → va_S A s.heap H locs → ∀ (ls : Array Slot), lv_has ls 4 [(0, .ref (ad 0)), (1, .int p1), (2, .int (cnt (n, kk, ff, ss, w) p1 i)), (3, .int (nI i))] → W p l e (headSpec (ws_ yX1_shownBy cX1_shownBy 4 (some .int)) ({ frames := 2, cells := 0, slots := 0, locals := 53 })).room s m ([.ref (ad 0), .int p1] : List Value).toArray below meth c H locs 0 0 (MQ below (va_Qi (fun (r : Int32) (u1 : TM) => r = r_shownBy (n, kk, ff, ss, w) p1 ∧ u1.1 = (n, kk, ff, ss, w)) (BM D ad d A) A) ([.ref (ad 0), .int p1] : List Value).toArray s 0 0 A) (F0 m 4 ls []) := by
    intro f
    induction f with
    | zero =>
      intro i va h1 h2
      exact absurd h2 (by omega)
    | succ f ih =>
      intro i va hi hf  H locs hP hD hS ls hl
      refine lv_iload_n hx hb dX1_shownBy_4 rfl (lv_at hl 3 rfl) ?_
      refine lv_aload_n hx hb dX1_shownBy_5 rfl (lv_at hl 0 rfl) ?_
      refine va_get (D := D) (ci := 1) (v := .int (nI n)) (C := RX1) (T := TX1) (N := 6) hx hb hts in_X1 hown hK hP 0 rfl rfl 0 (by decide) (hts _ q162) (fun _ h9 => h9) rfl dX1_shownBy_6 ?_
      refine k_ge (by omega) (by omega) (tgt := 52) hx hb dX1_shownBy_9 (by decide) (fun c1 => ?_) (fun c1 => ?_)
      · have e : i = n := by omega
        subst e
        refine lv_aload_n hx hb dX1_shownBy_52 rfl (lv_at hl 0 rfl) ?_
        refine lv_iload_n hx hb dX1_shownBy_53 rfl (lv_at hl 1 rfl) ?_
        refine k_callMS (u := ((i, kk, ff, ss, w), va)) (As := [.int p1]) (rest := []) ⟨hx, hb, hml, hown, hts⟩ (mM_vector l D ad d i kk ff ss w va H.size p1) (cwV 1 hts (lw_V q209 q211 qs7 q11 q212) rfl rfl rfl (by decide +kernel) ⟨Nat.le_of_ble_eq_true rfl, Nat.le_of_ble_eq_true rfl⟩) hP hD hK rfl hl.1 rfl (Nat.le_of_ble_eq_true rfl) dX1_shownBy_54 ⟨Nat.zero_le _, Nat.zero_le _⟩ (fun r hp => ?_)
        rcases hp with ⟨rfl, q1, hq1, rfl⟩ | ⟨rfl, hno⟩
        · refine k_if_eq (by omega) (tgt := 64) hx hb dX1_shownBy_57 (by decide) (fun c9 => absurd c9 (by decide)) (fun c9 => ?_)
          refine lv_iload_n hx hb dX1_shownBy_60 rfl (lv_at hl 2 rfl) ?_
          refine lv_goto (tgt := 65) hx hb dX1_shownBy_61 (by decide) ?_
          exact W.iret (v := cnt (i, kk, ff, ss, w) (nI q1) i) hx hb hr (fun t9 ht9 hW9 => ⟨⟨cnt (i, kk, ff, ss, w) (nI q1) i, ((i, kk, ff, ss, w), va), rfl, ⟨(r_shownBy_s (C := (i, kk, ff, ss, w)) hq1).symm, rfl⟩, by rw [ht9]; exact hP, va_K.moved hW9.alike hK, hD⟩, hS.F ht9⟩) hS.2.2 dX1_shownBy_65
        · refine k_if_eq (by omega) (tgt := 64) hx hb dX1_shownBy_57 (by decide) (fun c9 => ?_) (fun c9 => absurd rfl c9)
          refine lv_iconst (v := (-1)) hx hb dX1_shownBy_64 (by decide) ?_
          exact W.iret (v := -1) hx hb hr (fun t9 ht9 hW9 => ⟨⟨-1, ((i, kk, ff, ss, w), va), rfl, ⟨(r_shownBy_n hno).symm, rfl⟩, by rw [ht9]; exact hP, va_K.moved hW9.alike hK, hD⟩, hS.F ht9⟩) hS.2.2 dX1_shownBy_65
      · have K44 : ∀ (va2 : Nat → Int32), ∀ (H : Heap) (locs : List Loc), va_P D vwCl (wO ad d n kk ff (yyF kk ss) w va2) H → va_D A (wO ad d n kk ff (yyF kk ss) w va2) → va_S A s.heap H locs → ∀ (ls : Array Slot), lv_has ls 4 [(0, .ref (ad 0)), (1, .int p1), (3, .int (nI i))] → W p l e (headSpec (ws_ yX1_shownBy cX1_shownBy 4 (some .int)) ({ frames := 2, cells := 0, slots := 0, locals := 53 })).room s m ([.ref (ad 0), .int p1] : List Value).toArray below meth c H locs 0 0 (MQ below (va_Qi (fun (r : Int32) (u1 : TM) => r = r_shownBy (n, kk, ff, ss, w) p1 ∧ u1.1 = (n, kk, ff, ss, w)) (BM D ad d A) A) ([.ref (ad 0), .int p1] : List Value).toArray s 0 0 A) (F0 m 44 ls [.int (r_shows (n, kk, ff, ss, w) p1 (nI i) (nI 1)), .int (cnt (n, kk, ff, ss, w) p1 i + r_shows (n, kk, ff, ss, w) p1 (nI i) (nI 0))]) := by
          intro va2  H locs hP hD hS ls hl
          refine lv_iadd hx hb dX1_shownBy_44 ?_
          refine lv_istore_n (lv' := [(2, .int ((cnt (n, kk, ff, ss, w) p1 i + r_shows (n, kk, ff, ss, w) p1 (nI i) (nI 0)) + (r_shows (n, kk, ff, ss, w) p1 (nI i) (nI 1)))), (0, .ref (ad 0)), (1, .int p1), (3, .int (nI i))]) hx hb dX1_shownBy_45 rfl hl (by decide) rfl (fun ls hl => ?_)
          refine lv_iinc (v := nI (i + 1)) (lv' := [(3, .int (nI (i + 1))), (2, .int ((cnt (n, kk, ff, ss, w) p1 i + r_shows (n, kk, ff, ss, w) p1 (nI i) (nI 0)) + (r_shows (n, kk, ff, ss, w) p1 (nI i) (nI 1)))), (0, .ref (ad 0)), (1, .int p1)]) hx hb dX1_shownBy_46 hl (k := 3) rfl (k_inc i) (by decide) rfl (fun ls hl => ?_)
          refine lv_goto (tgt := 4) hx hb dX1_shownBy_49 (by decide) ?_
          exact ih (i + 1) va2 (by omega) (by omega) _ _ hP hD hS ls (lv_sub hl [2, 3, 1, 0] rfl)
        have K28 : ∀ (va1 : Nat → Int32), ∀ (H : Heap) (locs : List Loc), va_P D vwCl (wO ad d n kk ff (yyF kk ss) w va1) H → va_D A (wO ad d n kk ff (yyF kk ss) w va1) → va_S A s.heap H locs → ∀ (ls : Array Slot), lv_has ls 4 [(0, .ref (ad 0)), (1, .int p1), (3, .int (nI i))] → W p l e (headSpec (ws_ yX1_shownBy cX1_shownBy 4 (some .int)) ({ frames := 2, cells := 0, slots := 0, locals := 53 })).room s m ([.ref (ad 0), .int p1] : List Value).toArray below meth c H locs 0 0 (MQ below (va_Qi (fun (r : Int32) (u1 : TM) => r = r_shownBy (n, kk, ff, ss, w) p1 ∧ u1.1 = (n, kk, ff, ss, w)) (BM D ad d A) A) ([.ref (ad 0), .int p1] : List Value).toArray s 0 0 A) (F0 m 28 ls [.int (r_shows (n, kk, ff, ss, w) p1 (nI i) (nI 0)), .int (cnt (n, kk, ff, ss, w) p1 i)]) := by
          intro va1  H locs hP hD hS ls hl
          refine lv_iadd hx hb dX1_shownBy_28 ?_
          refine lv_aload_n hx hb dX1_shownBy_29 rfl (lv_at hl 0 rfl) ?_
          refine lv_iload_n hx hb dX1_shownBy_30 rfl (lv_at hl 1 rfl) ?_
          refine lv_iload_n hx hb dX1_shownBy_31 rfl (lv_at hl 2 rfl) ?_
          refine lv_iconst (v := nI 1) hx hb dX1_shownBy_32 (by decide) ?_
          refine k_callM (u := ((n, kk, ff, ss, w), va1)) (As := [.int p1, .int (nI i), .int (nI 1)]) (rest := [.int ((cnt (n, kk, ff, ss, w) p1 i) + (r_shows (n, kk, ff, ss, w) p1 (nI i) (nI 0)))]) ⟨hx, hb, hml, hown, hts⟩ (mM_shows l D ad d n kk ff ss w va1 H.size p1 (nI i) (nI 1) hw) (cwV 3 hts (lw_V q229 q218 q219 q11 q220) rfl rfl rfl (by decide +kernel) ⟨Nat.le_of_ble_eq_true rfl, Nat.le_of_ble_eq_true rfl⟩) hP hD hK hS hA rfl hl.1 rfl (Nat.le_of_ble_eq_true rfl) dX1_shownBy_33 ⟨Nat.zero_le _, Nat.zero_le _⟩ (fun r u1 H locs hp hP hD hS => ?_)
          obtain ⟨C1, z1⟩ := u1
          obtain ⟨hp, hC1⟩ := hp
          obtain rfl : C1 = (n, kk, ff, ss, w) := hC1
          have hP : va_P D vwCl (wO ad d n kk ff (yyF kk ss) w z1) H := hP
          have hD : va_D A (wO ad d n kk ff (yyF kk ss) w z1) := hD
          obtain ⟨b2, hb2⟩ := r_shows_bI (n, kk, ff, ss, w) p1 (nI i) (nI 1)
          refine k_ti (y := bI b2) (hp.trans hb2) ?_
          refine k_bif_eq (tgt := 43) hx hb dX1_shownBy_36 (by decide) (fun c3 => ?_) (fun c3 => ?_)
          · refine lv_iconst (v := nI 0) hx hb dX1_shownBy_43 (by decide) ?_
            refine k_ti (y := r_shows (n, kk, ff, ss, w) p1 (nI i) (nI 1)) (by rw [hb2, c3]; rfl) ?_
            exact K44 z1  _ _ hP hD hS ls (lv_sub hl [0, 1, 2] rfl)
          · refine lv_iconst (v := nI 1) hx hb dX1_shownBy_39 (by decide) ?_
            refine k_ti (y := r_shows (n, kk, ff, ss, w) p1 (nI i) (nI 1)) (by rw [hb2, c3]; rfl) ?_
            refine lv_goto (tgt := 44) hx hb dX1_shownBy_40 (by decide) ?_
            exact K44 z1  _ _ hP hD hS ls (lv_sub hl [0, 1, 2] rfl)
        refine lv_iload_n hx hb dX1_shownBy_12 rfl (lv_at hl 2 rfl) ?_
        refine lv_aload_n hx hb dX1_shownBy_13 rfl (lv_at hl 0 rfl) ?_
        refine lv_iload_n hx hb dX1_shownBy_14 rfl (lv_at hl 1 rfl) ?_
        refine lv_iload_n hx hb dX1_shownBy_15 rfl (lv_at hl 3 rfl) ?_
        refine lv_iconst (v := nI 0) hx hb dX1_shownBy_16 (by decide) ?_
        refine k_callM (u := ((n, kk, ff, ss, w), va)) (As := [.int p1, .int (nI i), .int (nI 0)]) (rest := [.int (cnt (n, kk, ff, ss, w) p1 i)]) ⟨hx, hb, hml, hown, hts⟩ (mM_shows l D ad d n kk ff ss w va H.size p1 (nI i) (nI 0) hw) (cwV 3 hts (lw_V q229 q218 q219 q11 q220) rfl rfl rfl (by decide +kernel) ⟨Nat.le_of_ble_eq_true rfl, Nat.le_of_ble_eq_true rfl⟩) hP hD hK hS hA rfl hl.1 rfl (Nat.le_of_ble_eq_true rfl) dX1_shownBy_17 ⟨Nat.zero_le _, Nat.zero_le _⟩ (fun r u1 H locs hp hP hD hS => ?_)
        obtain ⟨C1, z1⟩ := u1
        obtain ⟨hp, hC1⟩ := hp
        obtain rfl : C1 = (n, kk, ff, ss, w) := hC1
        have hP : va_P D vwCl (wO ad d n kk ff (yyF kk ss) w z1) H := hP
        have hD : va_D A (wO ad d n kk ff (yyF kk ss) w z1) := hD
        obtain ⟨b1, hb1⟩ := r_shows_bI (n, kk, ff, ss, w) p1 (nI i) (nI 0)
        refine k_ti (y := bI b1) (hp.trans hb1) ?_
        refine k_bif_eq (tgt := 27) hx hb dX1_shownBy_20 (by decide) (fun c2 => ?_) (fun c2 => ?_)
        · refine lv_iconst (v := nI 0) hx hb dX1_shownBy_27 (by decide) ?_
          refine k_ti (y := r_shows (n, kk, ff, ss, w) p1 (nI i) (nI 0)) (by rw [hb1, c2]; rfl) ?_
          exact K28 z1  _ _ hP hD hS ls (lv_sub hl [0, 1, 3] rfl)
        · refine lv_iconst (v := nI 1) hx hb dX1_shownBy_23 (by decide) ?_
          refine k_ti (y := r_shows (n, kk, ff, ss, w) p1 (nI i) (nI 0)) (by rw [hb1, c2]; rfl) ?_
          refine lv_goto (tgt := 28) hx hb dX1_shownBy_24 (by decide) ?_
          exact K28 z1  _ _ hP hD hS ls (lv_sub hl [0, 1, 3] rfl)
  exact loop (n + 1) 0 va (by omega) (by omega) _ _ hP hD hS ls (lv_sub hl [2, 3, 1, 0] rfl)

set_option maxHeartbeats 4000000 in
set_option maxRecDepth 100000 in
theorem mM_bestVector (l : Launch) (D : va_G) (ad : Nat → Nat) (d : ClassId) (n : Nat) (kk ff ss : Nat → Nat) (w : Int32) (va : Nat → Int32) (sz : Nat)  (hw : wfC n kk ff ss) : MetM l D ad d yX1_bestVector (ws_ yX1_bestVector cX1_bestVector 5 (some .int)) ({ frames := 3, cells := 0, slots := 0, locals := 76 }) ((n, kk, ff, ss, w), va) sz [.ref (ad 0)] (fun (r : Int32) (u1 : TM) => r = r_best (n, kk, ff, ss, w) ∧ u1.1 = (n, kk, ff, ss, w)) := by
  refine Met.ofW (cc := cX1_bestVector) (maxL := 5) (ret := (some .int)) (by decide) rfl ?_
  intro p e s m args below meth c s₁ B hml hv
  obtain ⟨rfl, hsz, hP, hK, hD0⟩ := hv
  have hx := B.exec
  have hb := B.bytes
  have hr := B.returns
  have hts := atoms_spec (ws := (ws_ yX1_bestVector cX1_bestVector 5 (some .int))) B.pre
  have hts : ∀ w ∈ lw_all, w.before _ s = true := fun w h => hts w (List.mem_cons_of_mem _ h)
  have hown : s.vm.findClass RX1 = some m.cls := findClass_of_methodNamed B.named
  have hlocks := B.notSynchronized
  subst hsz
  have hD := hD0.self (sz := s.heap.size)
  generalize hAe : va_A (wM ad d ((n, kk, ff, ss, w), va)) s.heap.size = A at hD ⊢
  have hA : ∀ q : Nat, s.heap.size ≤ q → A q := fun q h => by rw [← hAe]; exact Or.inr h
  have hS : va_S A s.heap s.heap [] := va_S.rf
  have hD : va_D A (wO ad d n kk ff (yyF kk ss) w va) := hD
  have hP : va_P D vwCl (wO ad d n kk ff (yyF kk ss) w va) s.heap := hP
  have hl := lv_entry ([.ref (ad 0)]) (n := 5) (Nat.le_of_ble_eq_true rfl)
  rw [lg_entry_eq]
  generalize (lg_sl ([.ref (ad 0)]) ++ List.replicate (5 - (lg_sl ([.ref (ad 0)])).length) Slot.unset).toArray = ls at hl ⊢
  have hl : lv_has ls 5 [(0, .ref (ad 0))] := hl
  refine lv_iconst (v := nI 0) hx hb dX1_bestVector_0 (by decide) ?_
  refine lv_istore_n (lv' := [(1, .int (nI 0)), (0, .ref (ad 0))]) hx hb dX1_bestVector_1 rfl hl (by decide) rfl (fun ls hl => ?_)
  refine lv_iconst (v := (-1)) hx hb dX1_bestVector_2 (by decide) ?_
  refine lv_istore_n (lv' := [(2, .int (-1)), (1, .int (nI 0)), (0, .ref (ad 0))]) hx hb dX1_bestVector_3 rfl hl (by decide) rfl (fun ls hl => ?_)
  refine lv_iconst (v := nI 0) hx hb dX1_bestVector_4 (by decide) ?_
  refine lv_istore_n (lv' := [(3, .int (nI 0)), (2, .int (-1)), (1, .int (nI 0)), (0, .ref (ad 0))]) hx hb dX1_bestVector_5 rfl hl (by decide) rfl (fun ls hl => ?_)
  have loop : ∀ (f i : Nat) (be mo : Int32) (va : Nat → Int32), i ≤ 32 → 32 + 1 ≤ i + f → ((be, mo) = bst (n, kk, ff, ss, w) i) → ∀ (H : Heap) (locs : List Loc), va_P D vwCl (wO ad d n kk ff (yyF kk ss) w va) H → va_D A (wO ad d n kk ff (yyF kk ss) w va) → va_S A s.heap H locs → ∀ (ls : Array Slot), lv_has ls 5 [(0, .ref (ad 0)), (1, .int be), (2, .int mo), (3, .int (nI i))] → W p l e (headSpec (ws_ yX1_bestVector cX1_bestVector 5 (some .int)) ({ frames := 3, cells := 0, slots := 0, locals := 76 })).room s m ([.ref (ad 0)] : List Value).toArray below meth c H locs 0 0 (MQ below (va_Qi (fun (r : Int32) (u1 : TM) => r = r_best (n, kk, ff, ss, w) ∧ u1.1 = (n, kk, ff, ss, w)) (BM D ad d A) A) ([.ref (ad 0)] : List Value).toArray s 0 0 A) (F0 m 6 ls []) := by
    intro f
    induction f with
    | zero =>
      intro i be mo va h1 h2
      exact absurd h2 (by omega)
    | succ f ih =>
      intro i be mo va hi hf hb2 H locs hP hD hS ls hl
      refine lv_iload_n hx hb dX1_bestVector_6 rfl (lv_at hl 3 rfl) ?_
      refine lv_bipush (v := nI 32) hx hb dX1_bestVector_7 (by decide) ?_
      refine k_ge (by omega) (by omega) (tgt := 50) hx hb dX1_bestVector_9 (by decide) (fun c1 => ?_) (fun c1 => ?_)
      · have e : i = 32 := by omega
        subst e
        refine lv_iload_n hx hb dX1_bestVector_50 rfl (lv_at hl 1 rfl) ?_
        exact W.iret (v := be) hx hb hr (fun t9 ht9 hW9 => ⟨⟨be, ((n, kk, ff, ss, w), va), rfl, ⟨congrArg Prod.fst hb2, rfl⟩, by rw [ht9]; exact hP, va_K.moved hW9.alike hK, hD⟩, hS.F ht9⟩) hS.2.2 dX1_bestVector_51
      · refine lv_aload_n hx hb dX1_bestVector_12 rfl (lv_at hl 0 rfl) ?_
        refine lv_iload_n hx hb dX1_bestVector_13 rfl (lv_at hl 3 rfl) ?_
        refine k_callM (u := ((n, kk, ff, ss, w), va)) (As := [.int (nI i)]) (rest := []) ⟨hx, hb, hml, hown, hts⟩ (mM_shownBy l D ad d n kk ff ss w va H.size (nI i) hw) (cwV 1 hts (lw_V q244 q237 q238 q11 q239) rfl rfl rfl (by decide +kernel) ⟨Nat.le_of_ble_eq_true rfl, Nat.le_of_ble_eq_true rfl⟩) hP hD hK hS hA rfl hl.1 rfl (Nat.le_of_ble_eq_true rfl) dX1_bestVector_14 ⟨Nat.zero_le _, Nat.zero_le _⟩ (fun r u1 H locs hp hP hD hS => ?_)
        obtain ⟨C1, z1⟩ := u1
        obtain ⟨hp, hC1⟩ := hp
        obtain rfl : C1 = (n, kk, ff, ss, w) := hC1
        have hP : va_P D vwCl (wO ad d n kk ff (yyF kk ss) w z1) H := hP
        have hD : va_D A (wO ad d n kk ff (yyF kk ss) w z1) := hD
        refine lv_istore (lv' := [(4, .int r), (0, .ref (ad 0)), (1, .int be), (2, .int mo), (3, .int (nI i))]) hx hb dX1_bestVector_17 hl (by decide) rfl (fun ls hl => ?_)
        refine lv_iload hx hb dX1_bestVector_19 (lv_at hl 0 rfl) ?_
        refine lv_iload_n hx hb dX1_bestVector_21 rfl (lv_at hl 3 rfl) ?_
        refine lv_icmp_le (tgt := 29) hx hb dX1_bestVector_22 (by decide) (fun c2 => ?_) (fun c2 => ?_)
        · refine lv_iload_n hx hb dX1_bestVector_29 rfl (lv_at hl 2 rfl) ?_
          refine lv_istore_n (lv' := [(1, .int be), (4, .int r), (0, .ref (ad 0)), (2, .int mo), (3, .int (nI i))]) hx hb dX1_bestVector_30 rfl hl (by decide) rfl (fun ls hl => ?_)
          refine lv_iload hx hb dX1_bestVector_31 (lv_at hl 1 rfl) ?_
          refine lv_iload_n hx hb dX1_bestVector_33 rfl (lv_at hl 3 rfl) ?_
          refine lv_icmp_le (tgt := 42) hx hb dX1_bestVector_34 (by decide) (fun c3 => ?_) (fun c3 => absurd c2 c3)
          refine lv_iload_n hx hb dX1_bestVector_42 rfl (lv_at hl 3 rfl) ?_
          refine lv_istore_n (lv' := [(2, .int mo), (1, .int be), (4, .int r), (0, .ref (ad 0)), (3, .int (nI i))]) hx hb dX1_bestVector_43 rfl hl (by decide) rfl (fun ls hl => ?_)
          refine lv_iinc (v := nI (i + 1)) (lv' := [(3, .int (nI (i + 1))), (2, .int mo), (1, .int be), (4, .int r), (0, .ref (ad 0))]) hx hb dX1_bestVector_44 hl (k := 4) rfl (k_inc i) (by decide) rfl (fun ls hl => ?_)
          refine lv_goto (tgt := 6) hx hb dX1_bestVector_47 (by decide) ?_
          exact ih (i + 1) be mo z1 (by omega) (by omega) (by rw [hp] at c2; exact hb2.trans (bst_f (by rw [← hb2]; exact Int32.not_lt.mpr c2)).symm) _ _ hP hD hS ls (lv_sub hl [4, 2, 1, 0] rfl)
        · refine lv_iload_n hx hb dX1_bestVector_25 rfl (lv_at hl 4 rfl) ?_
          refine lv_goto (tgt := 30) hx hb dX1_bestVector_26 (by decide) ?_
          refine lv_istore_n (lv' := [(1, .int (nI i)), (4, .int r), (0, .ref (ad 0)), (2, .int mo), (3, .int (nI i))]) hx hb dX1_bestVector_30 rfl hl (by decide) rfl (fun ls hl => ?_)
          refine lv_iload hx hb dX1_bestVector_31 (lv_at hl 1 rfl) ?_
          refine lv_iload_n hx hb dX1_bestVector_33 rfl (lv_at hl 3 rfl) ?_
          refine lv_icmp_le (tgt := 42) hx hb dX1_bestVector_34 (by decide) (fun c3 => absurd c3 c2) (fun c3 => ?_)
          refine lv_iload hx hb dX1_bestVector_37 (lv_at hl 1 rfl) ?_
          refine lv_goto (tgt := 43) hx hb dX1_bestVector_39 (by decide) ?_
          refine lv_istore_n (lv' := [(2, .int r), (1, .int (nI i)), (4, .int r), (0, .ref (ad 0)), (3, .int (nI i))]) hx hb dX1_bestVector_43 rfl hl (by decide) rfl (fun ls hl => ?_)
          refine lv_iinc (v := nI (i + 1)) (lv' := [(3, .int (nI (i + 1))), (2, .int r), (1, .int (nI i)), (4, .int r), (0, .ref (ad 0))]) hx hb dX1_bestVector_44 hl (k := 4) rfl (k_inc i) (by decide) rfl (fun ls hl => ?_)
          refine lv_goto (tgt := 6) hx hb dX1_bestVector_47 (by decide) ?_
          exact ih (i + 1) (nI i) r z1 (by omega) (by omega) (by rw [hp] at c2 ⊢; exact (bst_t (by rw [← hb2]; exact Int32.not_le.mp c2)).symm) _ _ hP hD hS ls (lv_sub hl [4, 2, 1, 0] rfl)
  exact loop 33 0 (nI 0) (-1) va (by decide) (by decide) rfl _ _ hP hD hS ls (lv_sub hl [3, 2, 1, 0] rfl)

set_option maxHeartbeats 4000000 in
set_option maxRecDepth 100000 in
theorem mM_ones (l : Launch) (D : va_G) (ad : Nat → Nat) (d : ClassId) (n : Nat) (kk ff ss : Nat → Nat) (w : Int32) (va : Nat → Int32) (sz : Nat) (p1 : Int32) (hw : wfC n kk ff ss) : MetM l D ad d yX1_ones (ws_ yX1_ones cX1_ones 4 (some .int)) ({ frames := 2, cells := 0, slots := 0, locals := 51 }) ((n, kk, ff, ss, w), va) sz [.ref (ad 0), .int p1] (fun (r : Int32) (u1 : TM) => r = r_ones (n, kk, ff, ss, w) p1 ∧ u1.1 = (n, kk, ff, ss, w)) := by
  refine Met.ofW (cc := cX1_ones) (maxL := 4) (ret := (some .int)) (by decide) rfl ?_
  intro p e s m args below meth c s₁ B hml hv
  obtain ⟨rfl, hsz, hP, hK, hD0⟩ := hv
  have hx := B.exec
  have hb := B.bytes
  have hr := B.returns
  have hts := atoms_spec (ws := (ws_ yX1_ones cX1_ones 4 (some .int))) B.pre
  have hts : ∀ w ∈ lw_all, w.before _ s = true := fun w h => hts w (List.mem_cons_of_mem _ h)
  have hown : s.vm.findClass RX1 = some m.cls := findClass_of_methodNamed B.named
  have hlocks := B.notSynchronized
  subst hsz
  have hD := hD0.self (sz := s.heap.size)
  generalize hAe : va_A (wM ad d ((n, kk, ff, ss, w), va)) s.heap.size = A at hD ⊢
  have hA : ∀ q : Nat, s.heap.size ≤ q → A q := fun q h => by rw [← hAe]; exact Or.inr h
  have hS : va_S A s.heap s.heap [] := va_S.rf
  have hD : va_D A (wO ad d n kk ff (yyF kk ss) w va) := hD
  have hP : va_P D vwCl (wO ad d n kk ff (yyF kk ss) w va) s.heap := hP
  have hl := lv_entry ([.ref (ad 0), .int p1]) (n := 4) (Nat.le_of_ble_eq_true rfl)
  rw [lg_entry_eq]
  generalize (lg_sl ([.ref (ad 0), .int p1]) ++ List.replicate (4 - (lg_sl ([.ref (ad 0), .int p1])).length) Slot.unset).toArray = ls at hl ⊢
  have hl : lv_has ls 4 [(0, .ref (ad 0)), (1, .int p1)] := hl
  obtain ⟨hn5, hn16, hwf⟩ := id hw
  refine lv_iconst (v := nI 0) hx hb dX1_ones_0 (by decide) ?_
  refine lv_istore_n (lv' := [(2, .int (nI 0)), (0, .ref (ad 0)), (1, .int p1)]) hx hb dX1_ones_1 rfl hl (by decide) rfl (fun ls hl => ?_)
  refine lv_iconst (v := nI 0) hx hb dX1_ones_2 (by decide) ?_
  refine lv_istore_n (lv' := [(3, .int (nI 0)), (2, .int (nI 0)), (0, .ref (ad 0)), (1, .int p1)]) hx hb dX1_ones_3 rfl hl (by decide) rfl (fun ls hl => ?_)
  rcases ln_or (n := n) (by omega) p1 with ⟨ln, hln, rfl⟩ | hno
  · have loop : ∀ (f i : Nat) (va : Nat → Int32), i ≤ 32 → 32 + 1 ≤ i + f → ∀ (H : Heap) (locs : List Loc), va_P D vwCl (wO ad d n kk ff (yyF kk ss) w va) H → va_D A (wO ad d n kk ff (yyF kk ss) w va) → va_S A s.heap H locs → ∀ (ls : Array Slot), lv_has ls 4 [(0, .ref (ad 0)), (1, .int (nI ln)), (2, .int (one (n, kk, ff, ss, w) (nI ln) i)), (3, .int (nI i))] → W p l e (headSpec (ws_ yX1_ones cX1_ones 4 (some .int)) ({ frames := 2, cells := 0, slots := 0, locals := 51 })).room s m ([.ref (ad 0), .int (nI ln)] : List Value).toArray below meth c H locs 0 0 (MQ below (va_Qi (fun (r : Int32) (u1 : TM) => r = r_ones (n, kk, ff, ss, w) (nI ln) ∧ u1.1 = (n, kk, ff, ss, w)) (BM D ad d A) A) ([.ref (ad 0), .int (nI ln)] : List Value).toArray s 0 0 A) (F0 m 4 ls []) := by
      intro f
      induction f with
      | zero =>
        intro i va h1 h2
        exact absurd h2 (by omega)
      | succ f ih =>
        intro i va hi hf  H locs hP hD hS ls hl
        refine lv_iload_n hx hb dX1_ones_4 rfl (lv_at hl 3 rfl) ?_
        refine lv_bipush (v := nI 32) hx hb dX1_ones_5 (by decide) ?_
        refine k_ge (by omega) (by omega) (tgt := 33) hx hb dX1_ones_7 (by decide) (fun c1 => ?_) (fun c1 => ?_)
        · have e : i = 32 := by omega
          subst e
          refine lv_aload_n hx hb dX1_ones_33 rfl (lv_at hl 0 rfl) ?_
          refine lv_iload_n hx hb dX1_ones_34 rfl (lv_at hl 1 rfl) ?_
          refine k_callMS (u := ((n, kk, ff, ss, w), va)) (As := [.int (nI ln)]) (rest := []) ⟨hx, hb, hml, hown, hts⟩ (mM_is l D ad d n kk ff ss w va H.size (nI ln) hn16) (cwV 1 hts (lw_V q185 q187 qs6 q11 q188) rfl rfl rfl (by decide +kernel) ⟨Nat.le_of_ble_eq_true rfl, Nat.le_of_ble_eq_true rfl⟩) hP hD hK rfl hl.1 rfl (Nat.le_of_ble_eq_true rfl) dX1_ones_35 ⟨Nat.zero_le _, Nat.zero_le _⟩ (fun r hp => ?_)
          obtain rfl := isX_at hln (by omega) hp
          refine k_if_eq (by omega) (tgt := 45) hx hb dX1_ones_38 (by decide) (fun c9 => absurd c9 (by decide)) (fun c9 => ?_)
          refine lv_iload_n hx hb dX1_ones_41 rfl (lv_at hl 2 rfl) ?_
          refine lv_goto (tgt := 46) hx hb dX1_ones_42 (by decide) ?_
          exact W.iret (v := one (n, kk, ff, ss, w) (nI ln) 32) hx hb hr (fun t9 ht9 hW9 => ⟨⟨one (n, kk, ff, ss, w) (nI ln) 32, ((n, kk, ff, ss, w), va), rfl, ⟨(r_ones_s (C := (n, kk, ff, ss, w)) hln hn16).symm, rfl⟩, by rw [ht9]; exact hP, va_K.moved hW9.alike hK, hD⟩, hS.F ht9⟩) hS.2.2 dX1_ones_46
        · refine lv_aload_n hx hb dX1_ones_10 rfl (lv_at hl 0 rfl) ?_
          refine lv_iload_n hx hb dX1_ones_11 rfl (lv_at hl 1 rfl) ?_
          refine k_callMS (u := ((n, kk, ff, ss, w), va)) (As := [.int (nI ln)]) (rest := []) ⟨hx, hb, hml, hown, hts⟩ (mM_is l D ad d n kk ff ss w va H.size (nI ln) hn16) (cwV 1 hts (lw_V q185 q187 qs6 q11 q188) rfl rfl rfl (by decide +kernel) ⟨Nat.le_of_ble_eq_true rfl, Nat.le_of_ble_eq_true rfl⟩) hP hD hK rfl hl.1 rfl (Nat.le_of_ble_eq_true rfl) dX1_ones_12 ⟨Nat.zero_le _, Nat.zero_le _⟩ (fun r hp => ?_)
          obtain rfl := isX_at hln (by omega) hp
          refine k_if_eq (by omega) (tgt := 33) hx hb dX1_ones_15 (by decide) (fun c9 => absurd c9 (by decide)) (fun c9 => ?_)
          refine lv_iload_n hx hb dX1_ones_18 rfl (lv_at hl 2 rfl) ?_
          refine lv_aload_n hx hb dX1_ones_19 rfl (lv_at hl 0 rfl) ?_
          refine lv_iload_n hx hb dX1_ones_20 rfl (lv_at hl 1 rfl) ?_
          refine lv_iload_n hx hb dX1_ones_21 rfl (lv_at hl 3 rfl) ?_
          refine k_callM (u := ((n, kk, ff, ss, w), va)) (As := [.int (nI ln), .int (nI i)]) (rest := [.int (one (n, kk, ff, ss, w) (nI ln) i)]) ⟨hx, hb, hml, hown, hts⟩ (mM_value l D ad d n kk ff ss w va H.size (nI ln) (nI i) hw) (cwV 2 hts (lw_V q253 q206 q207 q11 q208) rfl rfl rfl (by decide +kernel) ⟨Nat.le_of_ble_eq_true rfl, Nat.le_of_ble_eq_true rfl⟩) hP hD hK hS hA rfl hl.1 rfl (Nat.le_of_ble_eq_true rfl) dX1_ones_22 ⟨Nat.zero_le _, Nat.zero_le _⟩ (fun r u1 H locs hp hP hD hS => ?_)
          obtain ⟨C1, z1⟩ := u1
          obtain ⟨hp, hC1⟩ := hp
          obtain rfl : C1 = (n, kk, ff, ss, w) := hC1
          have hP : va_P D vwCl (wO ad d n kk ff (yyF kk ss) w z1) H := hP
          have hD : va_D A (wO ad d n kk ff (yyF kk ss) w z1) := hD
          subst hp
          refine lv_iadd hx hb dX1_ones_25 ?_
          refine lv_istore_n (lv' := [(2, .int ((one (n, kk, ff, ss, w) (nI ln) i) + (r_value (n, kk, ff, ss, w) (nI ln) (nI i)))), (0, .ref (ad 0)), (1, .int (nI ln)), (3, .int (nI i))]) hx hb dX1_ones_26 rfl hl (by decide) rfl (fun ls hl => ?_)
          refine lv_iinc (v := nI (i + 1)) (lv' := [(3, .int (nI (i + 1))), (2, .int ((one (n, kk, ff, ss, w) (nI ln) i) + (r_value (n, kk, ff, ss, w) (nI ln) (nI i)))), (0, .ref (ad 0)), (1, .int (nI ln))]) hx hb dX1_ones_27 hl (k := 3) rfl (k_inc i) (by decide) rfl (fun ls hl => ?_)
          refine lv_goto (tgt := 4) hx hb dX1_ones_30 (by decide) ?_
          exact ih (i + 1) z1 (by omega) (by omega) _ _ hP hD hS ls (lv_sub hl [2, 3, 1, 0] rfl)
    exact loop 33 0 va (by decide) (by decide) _ _ hP hD hS ls (lv_sub hl [2, 3, 1, 0] rfl)
  · refine lv_iload_n hx hb dX1_ones_4 rfl (lv_at hl 0 rfl) ?_
    refine lv_bipush (v := nI 32) hx hb dX1_ones_5 (by decide) ?_
    refine k_ge (by omega) (by omega) (tgt := 33) hx hb dX1_ones_7 (by decide) (fun c1 => absurd c1 (by decide)) (fun c1 => ?_)
    refine lv_aload_n hx hb dX1_ones_10 rfl (lv_at hl 2 rfl) ?_
    refine lv_iload_n hx hb dX1_ones_11 rfl (lv_at hl 3 rfl) ?_
    refine k_callMS (u := ((n, kk, ff, ss, w), va)) (As := [.int p1]) (rest := []) ⟨hx, hb, hml, hown, hts⟩ (mM_is l D ad d n kk ff ss w va s.heap.size p1 hn16) (cwV 1 hts (lw_V q185 q187 qs6 q11 q188) rfl rfl rfl (by decide +kernel) ⟨Nat.le_of_ble_eq_true rfl, Nat.le_of_ble_eq_true rfl⟩) hP hD hK rfl hl.1 rfl (Nat.le_of_ble_eq_true rfl) dX1_ones_12 ⟨Nat.zero_le _, Nat.zero_le _⟩ (fun r hp => ?_)
    obtain rfl := isX_no (by omega) hno hp
    refine k_if_eq (by omega) (tgt := 33) hx hb dX1_ones_15 (by decide) (fun c9 => ?_) (fun c9 => absurd rfl c9)
    refine lv_aload_n hx hb dX1_ones_33 rfl (lv_at hl 2 rfl) ?_
    refine lv_iload_n hx hb dX1_ones_34 rfl (lv_at hl 3 rfl) ?_
    refine k_callMS (u := ((n, kk, ff, ss, w), va)) (As := [.int p1]) (rest := []) ⟨hx, hb, hml, hown, hts⟩ (mM_is l D ad d n kk ff ss w va s.heap.size p1 hn16) (cwV 1 hts (lw_V q185 q187 qs6 q11 q188) rfl rfl rfl (by decide +kernel) ⟨Nat.le_of_ble_eq_true rfl, Nat.le_of_ble_eq_true rfl⟩) hP hD hK rfl hl.1 rfl (Nat.le_of_ble_eq_true rfl) dX1_ones_35 ⟨Nat.zero_le _, Nat.zero_le _⟩ (fun r hp => ?_)
    obtain rfl := isX_no (by omega) hno hp
    refine k_if_eq (by omega) (tgt := 45) hx hb dX1_ones_38 (by decide) (fun c9 => ?_) (fun c9 => absurd rfl c9)
    refine lv_iconst (v := (-1)) hx hb dX1_ones_45 (by decide) ?_
    exact W.iret (v := -1) hx hb hr (fun t9 ht9 hW9 => ⟨⟨-1, ((n, kk, ff, ss, w), va), rfl, ⟨(r_ones_n hno).symm, rfl⟩, by rw [ht9]; exact hP, va_K.moved hW9.alike hK, hD⟩, hS.F ht9⟩) hS.2.2 dX1_ones_46

theorem alk_sf {C : TC} {a v b w : Int32} {i : Nat} (h : ¬ r_shows C (nI i) a v = r_shows C (nI i) b w) : false = alk C a v b w (i + 1) := by
  show false = (alk C a v b w i && decide (r_shows C (nI i) a v = r_shows C (nI i) b w))
  rw [decide_eq_false h, Bool.and_false]
theorem alk_st {C : TC} {a v b w : Int32} {i : Nat} (h1 : alk C a v b w i = true) (h : r_shows C (nI i) a v = r_shows C (nI i) b w) : true = alk C a v b w (i + 1) := by
  show true = (alk C a v b w i && decide (r_shows C (nI i) a v = r_shows C (nI i) b w))
  rw [decide_eq_true h, h1]
  rfl

set_option maxHeartbeats 4000000 in
set_option maxRecDepth 100000 in
theorem mM_alike (l : Launch) (D : va_G) (ad : Nat → Nat) (d : ClassId) (n : Nat) (kk ff ss : Nat → Nat) (w : Int32) (va : Nat → Int32) (sz : Nat) (p1 p2 p3 p4 : Int32) (hw : wfC n kk ff ss) : MetM l D ad d yX1_alike (ws_ yX1_alike cX1_alike 7 (some .boolean)) ({ frames := 2, cells := 0, slots := 0, locals := 53 }) ((n, kk, ff, ss, w), va) sz [.ref (ad 0), .int p1, .int p2, .int p3, .int p4] (fun (r : Int32) (u1 : TM) => r = r_alike (n, kk, ff, ss, w) p1 p2 p3 p4 ∧ u1.1 = (n, kk, ff, ss, w)) := by
  refine Met.ofW (cc := cX1_alike) (maxL := 7) (ret := (some .boolean)) (by decide) rfl ?_
  intro p e s m args below meth c s₁ B hml hv
  obtain ⟨rfl, hsz, hP, hK, hD0⟩ := hv
  have hx := B.exec
  have hb := B.bytes
  have hr := B.returns
  have hts := atoms_spec (ws := (ws_ yX1_alike cX1_alike 7 (some .boolean))) B.pre
  have hts : ∀ w ∈ lw_all, w.before _ s = true := fun w h => hts w (List.mem_cons_of_mem _ h)
  have hown : s.vm.findClass RX1 = some m.cls := findClass_of_methodNamed B.named
  have hlocks := B.notSynchronized
  subst hsz
  have hD := hD0.self (sz := s.heap.size)
  generalize hAe : va_A (wM ad d ((n, kk, ff, ss, w), va)) s.heap.size = A at hD ⊢
  have hA : ∀ q : Nat, s.heap.size ≤ q → A q := fun q h => by rw [← hAe]; exact Or.inr h
  have hS : va_S A s.heap s.heap [] := va_S.rf
  have hD : va_D A (wO ad d n kk ff (yyF kk ss) w va) := hD
  have hP : va_P D vwCl (wO ad d n kk ff (yyF kk ss) w va) s.heap := hP
  have hl := lv_entry ([.ref (ad 0), .int p1, .int p2, .int p3, .int p4]) (n := 7) (Nat.le_of_ble_eq_true rfl)
  rw [lg_entry_eq]
  generalize (lg_sl ([.ref (ad 0), .int p1, .int p2, .int p3, .int p4]) ++ List.replicate (7 - (lg_sl ([.ref (ad 0), .int p1, .int p2, .int p3, .int p4])).length) Slot.unset).toArray = ls at hl ⊢
  have hl : lv_has ls 7 [(0, .ref (ad 0)), (1, .int p1), (2, .int p2), (3, .int p3), (4, .int p4)] := hl
  obtain ⟨hn5, hn16, hwf⟩ := id hw
  refine lv_aload_n hx hb dX1_alike_0 rfl (lv_at hl 0 rfl) ?_
  refine lv_iload_n hx hb dX1_alike_1 rfl (lv_at hl 1 rfl) ?_
  refine k_callMS (u := ((n, kk, ff, ss, w), va)) (As := [.int p1]) (rest := []) ⟨hx, hb, hml, hown, hts⟩ (mM_is l D ad d n kk ff ss w va s.heap.size p1 hw.2.1) (cwV 1 hts (lw_V q185 q187 qs6 q11 q188) rfl rfl rfl (by decide +kernel) ⟨Nat.le_of_ble_eq_true rfl, Nat.le_of_ble_eq_true rfl⟩) hP hD hK rfl hl.1 rfl (Nat.le_of_ble_eq_true rfl) dX1_alike_2 ⟨Nat.zero_le _, Nat.zero_le _⟩ (fun r hp => ?_)
  rcases hp with ⟨rfl, ln, hln, rfl⟩ | ⟨rfl, hno⟩
  · refine k_if_eq (by omega) (tgt := 40) hx hb dX1_alike_5 (by decide) (fun c9 => absurd c9 (by decide)) (fun c9 => ?_)
    refine lv_aload_n hx hb dX1_alike_8 rfl (lv_at hl 0 rfl) ?_
    refine lv_iload_n hx hb dX1_alike_9 rfl (lv_at hl 3 rfl) ?_
    refine k_callMS (u := ((n, kk, ff, ss, w), va)) (As := [.int p3]) (rest := []) ⟨hx, hb, hml, hown, hts⟩ (mM_is l D ad d n kk ff ss w va s.heap.size p3 hw.2.1) (cwV 1 hts (lw_V q185 q187 qs6 q11 q188) rfl rfl rfl (by decide +kernel) ⟨Nat.le_of_ble_eq_true rfl, Nat.le_of_ble_eq_true rfl⟩) hP hD hK rfl hl.1 rfl (Nat.le_of_ble_eq_true rfl) dX1_alike_10 ⟨Nat.zero_le _, Nat.zero_le _⟩ (fun r hp => ?_)
    rcases hp with ⟨rfl, l2, hl2, rfl⟩ | ⟨rfl, hno⟩
    · refine k_if_eq (by omega) (tgt := 40) hx hb dX1_alike_13 (by decide) (fun c9 => absurd c9 (by decide)) (fun c9 => ?_)
      rcases bit_or p2 with ⟨v, rfl⟩ | hno
      · refine lv_iload_n hx hb dX1_alike_16 rfl (lv_at hl 2 rfl) ?_
        refine k_bif_eq (tgt := 25) hx hb dX1_alike_17 (by decide) (fun c7 => ?_) (fun c7 => ?_)
        · rcases bit_or p4 with ⟨v2, rfl⟩ | hno
          · refine lv_iload hx hb dX1_alike_25 (lv_at hl 4 rfl) ?_
            refine k_bif_eq (tgt := 36) hx hb dX1_alike_27 (by decide) (fun c7 => ?_) (fun c7 => ?_)
            · have hal : r_alike (n, kk, ff, ss, w) (nI ln) (bI v) (nI l2) (bI v2) = bI (alk (n, kk, ff, ss, w) (nI ln) (bI v) (nI l2) (bI v2) 32) := r_alike_s (C := (n, kk, ff, ss, w)) hln hl2 hn16
              refine lv_iconst (v := nI 1) hx hb dX1_alike_36 (by decide) ?_
              refine lv_goto (tgt := 41) hx hb dX1_alike_37 (by decide) ?_
              refine lv_istore (lv' := [(5, .int (bI true)), (0, .ref (ad 0)), (1, .int (nI ln)), (2, .int (bI v)), (3, .int (nI l2)), (4, .int (bI v2))]) hx hb dX1_alike_41 hl (by decide) rfl (fun ls hl => ?_)
              refine lv_iconst (v := nI 0) hx hb dX1_alike_43 (by decide) ?_
              refine lv_istore (lv' := [(6, .int (nI 0)), (5, .int (bI true)), (0, .ref (ad 0)), (1, .int (nI ln)), (2, .int (bI v)), (3, .int (nI l2)), (4, .int (bI v2))]) hx hb dX1_alike_44 hl (by decide) rfl (fun ls hl => ?_)
              have loop : ∀ (f i : Nat) (sm : Bool) (va : Nat → Int32), i ≤ 32 → 32 + 1 ≤ i + f → (sm = alk (n, kk, ff, ss, w) (nI ln) (bI v) (nI l2) (bI v2) i) → ∀ (H : Heap) (locs : List Loc), va_P D vwCl (wO ad d n kk ff (yyF kk ss) w va) H → va_D A (wO ad d n kk ff (yyF kk ss) w va) → va_S A s.heap H locs → ∀ (ls : Array Slot), lv_has ls 7 [(0, .ref (ad 0)), (1, .int (nI ln)), (2, .int (bI v)), (3, .int (nI l2)), (4, .int (bI v2)), (5, .int (bI sm)), (6, .int (nI i))] → W p l e (headSpec (ws_ yX1_alike cX1_alike 7 (some .boolean)) ({ frames := 2, cells := 0, slots := 0, locals := 53 })).room s m ([.ref (ad 0), .int (nI ln), .int (bI v), .int (nI l2), .int (bI v2)] : List Value).toArray below meth c H locs 0 0 (MQ below (va_Qi (fun (r : Int32) (u1 : TM) => r = r_alike (n, kk, ff, ss, w) (nI ln) (bI v) (nI l2) (bI v2) ∧ u1.1 = (n, kk, ff, ss, w)) (BM D ad d A) A) ([.ref (ad 0), .int (nI ln), .int (bI v), .int (nI l2), .int (bI v2)] : List Value).toArray s 0 0 A) (F0 m 46 ls []) := by
                intro f
                induction f with
                | zero =>
                  intro i sm va h1 h2
                  exact absurd h2 (by omega)
                | succ f ih =>
                  intro i sm va hi hf hsm H locs hP hD hS ls hl
                  refine lv_iload hx hb dX1_alike_46 (lv_at hl 6 rfl) ?_
                  refine lv_bipush (v := nI 32) hx hb dX1_alike_48 (by decide) ?_
                  refine k_ge (by omega) (by omega) (tgt := 91) hx hb dX1_alike_50 (by decide) (fun c1 => ?_) (fun c1 => ?_)
                  · have e : i = 32 := by omega
                    subst e
                    refine lv_iload hx hb dX1_alike_91 (lv_at hl 5 rfl) ?_
                    exact W.zret (v := bI sm) hx hb hr (k_nz _) (fun t9 ht9 hW9 => ⟨⟨bI sm, ((n, kk, ff, ss, w), va), rfl, ⟨by rw [hal, hsm], rfl⟩, by rw [ht9]; exact hP, va_K.moved hW9.alike hK, hD⟩, hS.F ht9⟩) hS.2.2 dX1_alike_93
                  · refine lv_iload hx hb dX1_alike_53 (lv_at hl 5 rfl) ?_
                    refine k_bif_eq (tgt := 91) hx hb dX1_alike_55 (by decide) (fun c2 => ?_) (fun c2 => ?_)
                    · refine lv_iload hx hb dX1_alike_91 (lv_at hl 5 rfl) ?_
                      exact W.zret (v := bI sm) hx hb hr (k_nz _) (fun t9 ht9 hW9 => ⟨⟨bI sm, ((n, kk, ff, ss, w), va), rfl, ⟨by rw [hal, c2, ← alk_mono (hsm.symm.trans c2) (32 - i), show i + (32 - i) = 32 by omega], rfl⟩, by rw [ht9]; exact hP, va_K.moved hW9.alike hK, hD⟩, hS.F ht9⟩) hS.2.2 dX1_alike_93
                    · refine lv_aload_n hx hb dX1_alike_58 rfl (lv_at hl 0 rfl) ?_
                      refine lv_iload hx hb dX1_alike_59 (lv_at hl 6 rfl) ?_
                      refine lv_iload_n hx hb dX1_alike_61 rfl (lv_at hl 1 rfl) ?_
                      refine lv_iload_n hx hb dX1_alike_62 rfl (lv_at hl 2 rfl) ?_
                      refine k_callM (u := ((n, kk, ff, ss, w), va)) (As := [.int (nI i), .int (nI ln), .int (bI v)]) (rest := []) ⟨hx, hb, hml, hown, hts⟩ (mM_shows l D ad d n kk ff ss w va H.size (nI i) (nI ln) (bI v) hw) (cwV 3 hts (lw_V q229 q218 q219 q11 q220) rfl rfl rfl (by decide +kernel) ⟨Nat.le_of_ble_eq_true rfl, Nat.le_of_ble_eq_true rfl⟩) hP hD hK hS hA rfl hl.1 rfl (Nat.le_of_ble_eq_true rfl) dX1_alike_63 ⟨Nat.zero_le _, Nat.zero_le _⟩ (fun r1 u1 H locs hp hP hD hS => ?_)
                      obtain ⟨C1, z1⟩ := u1
                      obtain ⟨hp, hC1⟩ := hp
                      obtain rfl : C1 = (n, kk, ff, ss, w) := hC1
                      have hP : va_P D vwCl (wO ad d n kk ff (yyF kk ss) w z1) H := hP
                      have hD : va_D A (wO ad d n kk ff (yyF kk ss) w z1) := hD
                      have hp1 := hp
                      refine lv_aload_n hx hb dX1_alike_66 rfl (lv_at hl 0 rfl) ?_
                      refine lv_iload hx hb dX1_alike_67 (lv_at hl 6 rfl) ?_
                      refine lv_iload_n hx hb dX1_alike_69 rfl (lv_at hl 3 rfl) ?_
                      refine lv_iload hx hb dX1_alike_70 (lv_at hl 4 rfl) ?_
                      refine k_callM (u := ((n, kk, ff, ss, w), z1)) (As := [.int (nI i), .int (nI l2), .int (bI v2)]) (rest := [.int r1]) ⟨hx, hb, hml, hown, hts⟩ (mM_shows l D ad d n kk ff ss w z1 H.size (nI i) (nI l2) (bI v2) hw) (cwV 3 hts (lw_V q229 q218 q219 q11 q220) rfl rfl rfl (by decide +kernel) ⟨Nat.le_of_ble_eq_true rfl, Nat.le_of_ble_eq_true rfl⟩) hP hD hK hS hA rfl hl.1 rfl (Nat.le_of_ble_eq_true rfl) dX1_alike_72 ⟨Nat.zero_le _, Nat.zero_le _⟩ (fun r2 u1 H locs hp hP hD hS => ?_)
                      obtain ⟨C2, z2⟩ := u1
                      obtain ⟨hp, hC1⟩ := hp
                      obtain rfl : C2 = (n, kk, ff, ss, w) := hC1
                      have hP : va_P D vwCl (wO ad d n kk ff (yyF kk ss) w z2) H := hP
                      have hD : va_D A (wO ad d n kk ff (yyF kk ss) w z2) := hD
                      refine lv_icmp_ne (tgt := 82) hx hb dX1_alike_75 (by decide) (fun c3 => ?_) (fun c3 => ?_)
                      · refine lv_iconst (v := nI 0) hx hb dX1_alike_82 (by decide) ?_
                        refine lv_istore (lv' := [(5, .int (bI false)), (0, .ref (ad 0)), (1, .int (nI ln)), (2, .int (bI v)), (3, .int (nI l2)), (4, .int (bI v2)), (6, .int (nI i))]) hx hb dX1_alike_83 hl (by decide) rfl (fun ls hl => ?_)
                        refine lv_iinc (v := nI (i + 1)) (lv' := [(6, .int (nI (i + 1))), (5, .int (bI false)), (0, .ref (ad 0)), (1, .int (nI ln)), (2, .int (bI v)), (3, .int (nI l2)), (4, .int (bI v2))]) hx hb dX1_alike_85 hl (k := 6) rfl (k_inc i) (by decide) rfl (fun ls hl => ?_)
                        refine lv_goto (tgt := 46) hx hb dX1_alike_88 (by decide) ?_
                        exact ih (i + 1) false z2 (by omega) (by omega) (alk_sf (by rw [hp1, hp] at c3; exact c3)) _ _ hP hD hS ls (lv_sub hl [2, 3, 4, 5, 6, 1, 0] rfl)
                      · refine lv_iconst (v := nI 1) hx hb dX1_alike_78 (by decide) ?_
                        refine lv_goto (tgt := 83) hx hb dX1_alike_79 (by decide) ?_
                        refine lv_istore (lv' := [(5, .int (bI true)), (0, .ref (ad 0)), (1, .int (nI ln)), (2, .int (bI v)), (3, .int (nI l2)), (4, .int (bI v2)), (6, .int (nI i))]) hx hb dX1_alike_83 hl (by decide) rfl (fun ls hl => ?_)
                        refine lv_iinc (v := nI (i + 1)) (lv' := [(6, .int (nI (i + 1))), (5, .int (bI true)), (0, .ref (ad 0)), (1, .int (nI ln)), (2, .int (bI v)), (3, .int (nI l2)), (4, .int (bI v2))]) hx hb dX1_alike_85 hl (k := 6) rfl (k_inc i) (by decide) rfl (fun ls hl => ?_)
                        refine lv_goto (tgt := 46) hx hb dX1_alike_88 (by decide) ?_
                        exact ih (i + 1) true z2 (by omega) (by omega) (alk_st (hsm.symm.trans c2) (by rw [hp1, hp] at c3; exact c3)) _ _ hP hD hS ls (lv_sub hl [2, 3, 4, 5, 6, 1, 0] rfl)
              exact loop 33 0 true va (by decide) (by decide) rfl _ _ hP hD hS ls (lv_sub hl [2, 3, 4, 5, 6, 1, 0] rfl)
            · refine lv_iload hx hb dX1_alike_30 (lv_at hl 4 rfl) ?_
              refine lv_iconst (v := nI 1) hx hb dX1_alike_32 (by decide) ?_
              refine lv_icmp_ne (tgt := 40) hx hb dX1_alike_33 (by decide) (fun c8 => absurd (by rw [c7]; rfl) c8) (fun c8 => ?_)
              have hal : r_alike (n, kk, ff, ss, w) (nI ln) (bI v) (nI l2) (bI v2) = bI (alk (n, kk, ff, ss, w) (nI ln) (bI v) (nI l2) (bI v2) 32) := r_alike_s (C := (n, kk, ff, ss, w)) hln hl2 hn16
              refine lv_iconst (v := nI 1) hx hb dX1_alike_36 (by decide) ?_
              refine lv_goto (tgt := 41) hx hb dX1_alike_37 (by decide) ?_
              refine lv_istore (lv' := [(5, .int (bI true)), (0, .ref (ad 0)), (1, .int (nI ln)), (2, .int (bI v)), (3, .int (nI l2)), (4, .int (bI v2))]) hx hb dX1_alike_41 hl (by decide) rfl (fun ls hl => ?_)
              refine lv_iconst (v := nI 0) hx hb dX1_alike_43 (by decide) ?_
              refine lv_istore (lv' := [(6, .int (nI 0)), (5, .int (bI true)), (0, .ref (ad 0)), (1, .int (nI ln)), (2, .int (bI v)), (3, .int (nI l2)), (4, .int (bI v2))]) hx hb dX1_alike_44 hl (by decide) rfl (fun ls hl => ?_)
              have loop : ∀ (f i : Nat) (sm : Bool) (va : Nat → Int32), i ≤ 32 → 32 + 1 ≤ i + f → (sm = alk (n, kk, ff, ss, w) (nI ln) (bI v) (nI l2) (bI v2) i) → ∀ (H : Heap) (locs : List Loc), va_P D vwCl (wO ad d n kk ff (yyF kk ss) w va) H → va_D A (wO ad d n kk ff (yyF kk ss) w va) → va_S A s.heap H locs → ∀ (ls : Array Slot), lv_has ls 7 [(0, .ref (ad 0)), (1, .int (nI ln)), (2, .int (bI v)), (3, .int (nI l2)), (4, .int (bI v2)), (5, .int (bI sm)), (6, .int (nI i))] → W p l e (headSpec (ws_ yX1_alike cX1_alike 7 (some .boolean)) ({ frames := 2, cells := 0, slots := 0, locals := 53 })).room s m ([.ref (ad 0), .int (nI ln), .int (bI v), .int (nI l2), .int (bI v2)] : List Value).toArray below meth c H locs 0 0 (MQ below (va_Qi (fun (r : Int32) (u1 : TM) => r = r_alike (n, kk, ff, ss, w) (nI ln) (bI v) (nI l2) (bI v2) ∧ u1.1 = (n, kk, ff, ss, w)) (BM D ad d A) A) ([.ref (ad 0), .int (nI ln), .int (bI v), .int (nI l2), .int (bI v2)] : List Value).toArray s 0 0 A) (F0 m 46 ls []) := by
                intro f
                induction f with
                | zero =>
                  intro i sm va h1 h2
                  exact absurd h2 (by omega)
                | succ f ih =>
                  intro i sm va hi hf hsm H locs hP hD hS ls hl
                  refine lv_iload hx hb dX1_alike_46 (lv_at hl 6 rfl) ?_
                  refine lv_bipush (v := nI 32) hx hb dX1_alike_48 (by decide) ?_
                  refine k_ge (by omega) (by omega) (tgt := 91) hx hb dX1_alike_50 (by decide) (fun c1 => ?_) (fun c1 => ?_)
                  · have e : i = 32 := by omega
                    subst e
                    refine lv_iload hx hb dX1_alike_91 (lv_at hl 5 rfl) ?_
                    exact W.zret (v := bI sm) hx hb hr (k_nz _) (fun t9 ht9 hW9 => ⟨⟨bI sm, ((n, kk, ff, ss, w), va), rfl, ⟨by rw [hal, hsm], rfl⟩, by rw [ht9]; exact hP, va_K.moved hW9.alike hK, hD⟩, hS.F ht9⟩) hS.2.2 dX1_alike_93
                  · refine lv_iload hx hb dX1_alike_53 (lv_at hl 5 rfl) ?_
                    refine k_bif_eq (tgt := 91) hx hb dX1_alike_55 (by decide) (fun c2 => ?_) (fun c2 => ?_)
                    · refine lv_iload hx hb dX1_alike_91 (lv_at hl 5 rfl) ?_
                      exact W.zret (v := bI sm) hx hb hr (k_nz _) (fun t9 ht9 hW9 => ⟨⟨bI sm, ((n, kk, ff, ss, w), va), rfl, ⟨by rw [hal, c2, ← alk_mono (hsm.symm.trans c2) (32 - i), show i + (32 - i) = 32 by omega], rfl⟩, by rw [ht9]; exact hP, va_K.moved hW9.alike hK, hD⟩, hS.F ht9⟩) hS.2.2 dX1_alike_93
                    · refine lv_aload_n hx hb dX1_alike_58 rfl (lv_at hl 0 rfl) ?_
                      refine lv_iload hx hb dX1_alike_59 (lv_at hl 6 rfl) ?_
                      refine lv_iload_n hx hb dX1_alike_61 rfl (lv_at hl 1 rfl) ?_
                      refine lv_iload_n hx hb dX1_alike_62 rfl (lv_at hl 2 rfl) ?_
                      refine k_callM (u := ((n, kk, ff, ss, w), va)) (As := [.int (nI i), .int (nI ln), .int (bI v)]) (rest := []) ⟨hx, hb, hml, hown, hts⟩ (mM_shows l D ad d n kk ff ss w va H.size (nI i) (nI ln) (bI v) hw) (cwV 3 hts (lw_V q229 q218 q219 q11 q220) rfl rfl rfl (by decide +kernel) ⟨Nat.le_of_ble_eq_true rfl, Nat.le_of_ble_eq_true rfl⟩) hP hD hK hS hA rfl hl.1 rfl (Nat.le_of_ble_eq_true rfl) dX1_alike_63 ⟨Nat.zero_le _, Nat.zero_le _⟩ (fun r1 u1 H locs hp hP hD hS => ?_)
                      obtain ⟨C1, z1⟩ := u1
                      obtain ⟨hp, hC1⟩ := hp
                      obtain rfl : C1 = (n, kk, ff, ss, w) := hC1
                      have hP : va_P D vwCl (wO ad d n kk ff (yyF kk ss) w z1) H := hP
                      have hD : va_D A (wO ad d n kk ff (yyF kk ss) w z1) := hD
                      have hp1 := hp
                      refine lv_aload_n hx hb dX1_alike_66 rfl (lv_at hl 0 rfl) ?_
                      refine lv_iload hx hb dX1_alike_67 (lv_at hl 6 rfl) ?_
                      refine lv_iload_n hx hb dX1_alike_69 rfl (lv_at hl 3 rfl) ?_
                      refine lv_iload hx hb dX1_alike_70 (lv_at hl 4 rfl) ?_
                      refine k_callM (u := ((n, kk, ff, ss, w), z1)) (As := [.int (nI i), .int (nI l2), .int (bI v2)]) (rest := [.int r1]) ⟨hx, hb, hml, hown, hts⟩ (mM_shows l D ad d n kk ff ss w z1 H.size (nI i) (nI l2) (bI v2) hw) (cwV 3 hts (lw_V q229 q218 q219 q11 q220) rfl rfl rfl (by decide +kernel) ⟨Nat.le_of_ble_eq_true rfl, Nat.le_of_ble_eq_true rfl⟩) hP hD hK hS hA rfl hl.1 rfl (Nat.le_of_ble_eq_true rfl) dX1_alike_72 ⟨Nat.zero_le _, Nat.zero_le _⟩ (fun r2 u1 H locs hp hP hD hS => ?_)
                      obtain ⟨C2, z2⟩ := u1
                      obtain ⟨hp, hC1⟩ := hp
                      obtain rfl : C2 = (n, kk, ff, ss, w) := hC1
                      have hP : va_P D vwCl (wO ad d n kk ff (yyF kk ss) w z2) H := hP
                      have hD : va_D A (wO ad d n kk ff (yyF kk ss) w z2) := hD
                      refine lv_icmp_ne (tgt := 82) hx hb dX1_alike_75 (by decide) (fun c3 => ?_) (fun c3 => ?_)
                      · refine lv_iconst (v := nI 0) hx hb dX1_alike_82 (by decide) ?_
                        refine lv_istore (lv' := [(5, .int (bI false)), (0, .ref (ad 0)), (1, .int (nI ln)), (2, .int (bI v)), (3, .int (nI l2)), (4, .int (bI v2)), (6, .int (nI i))]) hx hb dX1_alike_83 hl (by decide) rfl (fun ls hl => ?_)
                        refine lv_iinc (v := nI (i + 1)) (lv' := [(6, .int (nI (i + 1))), (5, .int (bI false)), (0, .ref (ad 0)), (1, .int (nI ln)), (2, .int (bI v)), (3, .int (nI l2)), (4, .int (bI v2))]) hx hb dX1_alike_85 hl (k := 6) rfl (k_inc i) (by decide) rfl (fun ls hl => ?_)
                        refine lv_goto (tgt := 46) hx hb dX1_alike_88 (by decide) ?_
                        exact ih (i + 1) false z2 (by omega) (by omega) (alk_sf (by rw [hp1, hp] at c3; exact c3)) _ _ hP hD hS ls (lv_sub hl [2, 3, 4, 5, 6, 1, 0] rfl)
                      · refine lv_iconst (v := nI 1) hx hb dX1_alike_78 (by decide) ?_
                        refine lv_goto (tgt := 83) hx hb dX1_alike_79 (by decide) ?_
                        refine lv_istore (lv' := [(5, .int (bI true)), (0, .ref (ad 0)), (1, .int (nI ln)), (2, .int (bI v)), (3, .int (nI l2)), (4, .int (bI v2)), (6, .int (nI i))]) hx hb dX1_alike_83 hl (by decide) rfl (fun ls hl => ?_)
                        refine lv_iinc (v := nI (i + 1)) (lv' := [(6, .int (nI (i + 1))), (5, .int (bI true)), (0, .ref (ad 0)), (1, .int (nI ln)), (2, .int (bI v)), (3, .int (nI l2)), (4, .int (bI v2))]) hx hb dX1_alike_85 hl (k := 6) rfl (k_inc i) (by decide) rfl (fun ls hl => ?_)
                        refine lv_goto (tgt := 46) hx hb dX1_alike_88 (by decide) ?_
                        exact ih (i + 1) true z2 (by omega) (by omega) (alk_st (hsm.symm.trans c2) (by rw [hp1, hp] at c3; exact c3)) _ _ hP hD hS ls (lv_sub hl [2, 3, 4, 5, 6, 1, 0] rfl)
              exact loop 33 0 true va (by decide) (by decide) rfl _ _ hP hD hS ls (lv_sub hl [2, 3, 4, 5, 6, 1, 0] rfl)
          · refine lv_iload hx hb dX1_alike_25 (lv_at hl 4 rfl) ?_
            refine lv_if_eq (tgt := 36) hx hb dX1_alike_27 (by decide) (fun c7 => absurd c7 (no_0 hno)) (fun c7 => ?_)
            refine lv_iload hx hb dX1_alike_30 (lv_at hl 4 rfl) ?_
            refine lv_iconst (v := nI 1) hx hb dX1_alike_32 (by decide) ?_
            refine lv_icmp_ne (tgt := 40) hx hb dX1_alike_33 (by decide) (fun c8 => ?_) (fun c8 => absurd c8 (no_1 hno))
            refine lv_iconst (v := nI 0) hx hb dX1_alike_40 (by decide) ?_
            refine lv_istore (lv' := [(5, .int (nI 0)), (0, .ref (ad 0)), (1, .int (nI ln)), (2, .int (bI v)), (3, .int (nI l2)), (4, .int p4)]) hx hb dX1_alike_41 hl (by decide) rfl (fun ls hl => ?_)
            refine lv_iconst (v := nI 0) hx hb dX1_alike_43 (by decide) ?_
            refine lv_istore (lv' := [(6, .int (nI 0)), (5, .int (nI 0)), (0, .ref (ad 0)), (1, .int (nI ln)), (2, .int (bI v)), (3, .int (nI l2)), (4, .int p4)]) hx hb dX1_alike_44 hl (by decide) rfl (fun ls hl => ?_)
            refine lv_iload hx hb dX1_alike_46 (lv_at hl 0 rfl) ?_
            refine lv_bipush (v := nI 32) hx hb dX1_alike_48 (by decide) ?_
            refine k_ge (by omega) (by omega) (tgt := 91) hx hb dX1_alike_50 (by decide) (fun d1 => absurd d1 (by decide)) (fun d1 => ?_)
            refine lv_iload hx hb dX1_alike_53 (lv_at hl 1 rfl) ?_
            refine k_if_eq (by omega) (tgt := 91) hx hb dX1_alike_55 (by decide) (fun d2 => ?_) (fun d2 => absurd rfl d2)
            refine lv_iload hx hb dX1_alike_91 (lv_at hl 1 rfl) ?_
            exact W.zret (v := nI 0) hx hb hr (rfl) (fun t9 ht9 hW9 => ⟨⟨nI 0, ((n, kk, ff, ss, w), va), rfl, ⟨(r_alike_n4 hno).symm, rfl⟩, by rw [ht9]; exact hP, va_K.moved hW9.alike hK, hD⟩, hS.F ht9⟩) hS.2.2 dX1_alike_93
        · refine lv_iload_n hx hb dX1_alike_20 rfl (lv_at hl 2 rfl) ?_
          refine lv_iconst (v := nI 1) hx hb dX1_alike_21 (by decide) ?_
          refine lv_icmp_ne (tgt := 40) hx hb dX1_alike_22 (by decide) (fun c8 => absurd (by rw [c7]; rfl) c8) (fun c8 => ?_)
          rcases bit_or p4 with ⟨v2, rfl⟩ | hno
          · refine lv_iload hx hb dX1_alike_25 (lv_at hl 4 rfl) ?_
            refine k_bif_eq (tgt := 36) hx hb dX1_alike_27 (by decide) (fun c7 => ?_) (fun c7 => ?_)
            · have hal : r_alike (n, kk, ff, ss, w) (nI ln) (bI v) (nI l2) (bI v2) = bI (alk (n, kk, ff, ss, w) (nI ln) (bI v) (nI l2) (bI v2) 32) := r_alike_s (C := (n, kk, ff, ss, w)) hln hl2 hn16
              refine lv_iconst (v := nI 1) hx hb dX1_alike_36 (by decide) ?_
              refine lv_goto (tgt := 41) hx hb dX1_alike_37 (by decide) ?_
              refine lv_istore (lv' := [(5, .int (bI true)), (0, .ref (ad 0)), (1, .int (nI ln)), (2, .int (bI v)), (3, .int (nI l2)), (4, .int (bI v2))]) hx hb dX1_alike_41 hl (by decide) rfl (fun ls hl => ?_)
              refine lv_iconst (v := nI 0) hx hb dX1_alike_43 (by decide) ?_
              refine lv_istore (lv' := [(6, .int (nI 0)), (5, .int (bI true)), (0, .ref (ad 0)), (1, .int (nI ln)), (2, .int (bI v)), (3, .int (nI l2)), (4, .int (bI v2))]) hx hb dX1_alike_44 hl (by decide) rfl (fun ls hl => ?_)
              have loop : ∀ (f i : Nat) (sm : Bool) (va : Nat → Int32), i ≤ 32 → 32 + 1 ≤ i + f → (sm = alk (n, kk, ff, ss, w) (nI ln) (bI v) (nI l2) (bI v2) i) → ∀ (H : Heap) (locs : List Loc), va_P D vwCl (wO ad d n kk ff (yyF kk ss) w va) H → va_D A (wO ad d n kk ff (yyF kk ss) w va) → va_S A s.heap H locs → ∀ (ls : Array Slot), lv_has ls 7 [(0, .ref (ad 0)), (1, .int (nI ln)), (2, .int (bI v)), (3, .int (nI l2)), (4, .int (bI v2)), (5, .int (bI sm)), (6, .int (nI i))] → W p l e (headSpec (ws_ yX1_alike cX1_alike 7 (some .boolean)) ({ frames := 2, cells := 0, slots := 0, locals := 53 })).room s m ([.ref (ad 0), .int (nI ln), .int (bI v), .int (nI l2), .int (bI v2)] : List Value).toArray below meth c H locs 0 0 (MQ below (va_Qi (fun (r : Int32) (u1 : TM) => r = r_alike (n, kk, ff, ss, w) (nI ln) (bI v) (nI l2) (bI v2) ∧ u1.1 = (n, kk, ff, ss, w)) (BM D ad d A) A) ([.ref (ad 0), .int (nI ln), .int (bI v), .int (nI l2), .int (bI v2)] : List Value).toArray s 0 0 A) (F0 m 46 ls []) := by
                intro f
                induction f with
                | zero =>
                  intro i sm va h1 h2
                  exact absurd h2 (by omega)
                | succ f ih =>
                  intro i sm va hi hf hsm H locs hP hD hS ls hl
                  refine lv_iload hx hb dX1_alike_46 (lv_at hl 6 rfl) ?_
                  refine lv_bipush (v := nI 32) hx hb dX1_alike_48 (by decide) ?_
                  refine k_ge (by omega) (by omega) (tgt := 91) hx hb dX1_alike_50 (by decide) (fun c1 => ?_) (fun c1 => ?_)
                  · have e : i = 32 := by omega
                    subst e
                    refine lv_iload hx hb dX1_alike_91 (lv_at hl 5 rfl) ?_
                    exact W.zret (v := bI sm) hx hb hr (k_nz _) (fun t9 ht9 hW9 => ⟨⟨bI sm, ((n, kk, ff, ss, w), va), rfl, ⟨by rw [hal, hsm], rfl⟩, by rw [ht9]; exact hP, va_K.moved hW9.alike hK, hD⟩, hS.F ht9⟩) hS.2.2 dX1_alike_93
                  · refine lv_iload hx hb dX1_alike_53 (lv_at hl 5 rfl) ?_
                    refine k_bif_eq (tgt := 91) hx hb dX1_alike_55 (by decide) (fun c2 => ?_) (fun c2 => ?_)
                    · refine lv_iload hx hb dX1_alike_91 (lv_at hl 5 rfl) ?_
                      exact W.zret (v := bI sm) hx hb hr (k_nz _) (fun t9 ht9 hW9 => ⟨⟨bI sm, ((n, kk, ff, ss, w), va), rfl, ⟨by rw [hal, c2, ← alk_mono (hsm.symm.trans c2) (32 - i), show i + (32 - i) = 32 by omega], rfl⟩, by rw [ht9]; exact hP, va_K.moved hW9.alike hK, hD⟩, hS.F ht9⟩) hS.2.2 dX1_alike_93
                    · refine lv_aload_n hx hb dX1_alike_58 rfl (lv_at hl 0 rfl) ?_
                      refine lv_iload hx hb dX1_alike_59 (lv_at hl 6 rfl) ?_
                      refine lv_iload_n hx hb dX1_alike_61 rfl (lv_at hl 1 rfl) ?_
                      refine lv_iload_n hx hb dX1_alike_62 rfl (lv_at hl 2 rfl) ?_
                      refine k_callM (u := ((n, kk, ff, ss, w), va)) (As := [.int (nI i), .int (nI ln), .int (bI v)]) (rest := []) ⟨hx, hb, hml, hown, hts⟩ (mM_shows l D ad d n kk ff ss w va H.size (nI i) (nI ln) (bI v) hw) (cwV 3 hts (lw_V q229 q218 q219 q11 q220) rfl rfl rfl (by decide +kernel) ⟨Nat.le_of_ble_eq_true rfl, Nat.le_of_ble_eq_true rfl⟩) hP hD hK hS hA rfl hl.1 rfl (Nat.le_of_ble_eq_true rfl) dX1_alike_63 ⟨Nat.zero_le _, Nat.zero_le _⟩ (fun r1 u1 H locs hp hP hD hS => ?_)
                      obtain ⟨C1, z1⟩ := u1
                      obtain ⟨hp, hC1⟩ := hp
                      obtain rfl : C1 = (n, kk, ff, ss, w) := hC1
                      have hP : va_P D vwCl (wO ad d n kk ff (yyF kk ss) w z1) H := hP
                      have hD : va_D A (wO ad d n kk ff (yyF kk ss) w z1) := hD
                      have hp1 := hp
                      refine lv_aload_n hx hb dX1_alike_66 rfl (lv_at hl 0 rfl) ?_
                      refine lv_iload hx hb dX1_alike_67 (lv_at hl 6 rfl) ?_
                      refine lv_iload_n hx hb dX1_alike_69 rfl (lv_at hl 3 rfl) ?_
                      refine lv_iload hx hb dX1_alike_70 (lv_at hl 4 rfl) ?_
                      refine k_callM (u := ((n, kk, ff, ss, w), z1)) (As := [.int (nI i), .int (nI l2), .int (bI v2)]) (rest := [.int r1]) ⟨hx, hb, hml, hown, hts⟩ (mM_shows l D ad d n kk ff ss w z1 H.size (nI i) (nI l2) (bI v2) hw) (cwV 3 hts (lw_V q229 q218 q219 q11 q220) rfl rfl rfl (by decide +kernel) ⟨Nat.le_of_ble_eq_true rfl, Nat.le_of_ble_eq_true rfl⟩) hP hD hK hS hA rfl hl.1 rfl (Nat.le_of_ble_eq_true rfl) dX1_alike_72 ⟨Nat.zero_le _, Nat.zero_le _⟩ (fun r2 u1 H locs hp hP hD hS => ?_)
                      obtain ⟨C2, z2⟩ := u1
                      obtain ⟨hp, hC1⟩ := hp
                      obtain rfl : C2 = (n, kk, ff, ss, w) := hC1
                      have hP : va_P D vwCl (wO ad d n kk ff (yyF kk ss) w z2) H := hP
                      have hD : va_D A (wO ad d n kk ff (yyF kk ss) w z2) := hD
                      refine lv_icmp_ne (tgt := 82) hx hb dX1_alike_75 (by decide) (fun c3 => ?_) (fun c3 => ?_)
                      · refine lv_iconst (v := nI 0) hx hb dX1_alike_82 (by decide) ?_
                        refine lv_istore (lv' := [(5, .int (bI false)), (0, .ref (ad 0)), (1, .int (nI ln)), (2, .int (bI v)), (3, .int (nI l2)), (4, .int (bI v2)), (6, .int (nI i))]) hx hb dX1_alike_83 hl (by decide) rfl (fun ls hl => ?_)
                        refine lv_iinc (v := nI (i + 1)) (lv' := [(6, .int (nI (i + 1))), (5, .int (bI false)), (0, .ref (ad 0)), (1, .int (nI ln)), (2, .int (bI v)), (3, .int (nI l2)), (4, .int (bI v2))]) hx hb dX1_alike_85 hl (k := 6) rfl (k_inc i) (by decide) rfl (fun ls hl => ?_)
                        refine lv_goto (tgt := 46) hx hb dX1_alike_88 (by decide) ?_
                        exact ih (i + 1) false z2 (by omega) (by omega) (alk_sf (by rw [hp1, hp] at c3; exact c3)) _ _ hP hD hS ls (lv_sub hl [2, 3, 4, 5, 6, 1, 0] rfl)
                      · refine lv_iconst (v := nI 1) hx hb dX1_alike_78 (by decide) ?_
                        refine lv_goto (tgt := 83) hx hb dX1_alike_79 (by decide) ?_
                        refine lv_istore (lv' := [(5, .int (bI true)), (0, .ref (ad 0)), (1, .int (nI ln)), (2, .int (bI v)), (3, .int (nI l2)), (4, .int (bI v2)), (6, .int (nI i))]) hx hb dX1_alike_83 hl (by decide) rfl (fun ls hl => ?_)
                        refine lv_iinc (v := nI (i + 1)) (lv' := [(6, .int (nI (i + 1))), (5, .int (bI true)), (0, .ref (ad 0)), (1, .int (nI ln)), (2, .int (bI v)), (3, .int (nI l2)), (4, .int (bI v2))]) hx hb dX1_alike_85 hl (k := 6) rfl (k_inc i) (by decide) rfl (fun ls hl => ?_)
                        refine lv_goto (tgt := 46) hx hb dX1_alike_88 (by decide) ?_
                        exact ih (i + 1) true z2 (by omega) (by omega) (alk_st (hsm.symm.trans c2) (by rw [hp1, hp] at c3; exact c3)) _ _ hP hD hS ls (lv_sub hl [2, 3, 4, 5, 6, 1, 0] rfl)
              exact loop 33 0 true va (by decide) (by decide) rfl _ _ hP hD hS ls (lv_sub hl [2, 3, 4, 5, 6, 1, 0] rfl)
            · refine lv_iload hx hb dX1_alike_30 (lv_at hl 4 rfl) ?_
              refine lv_iconst (v := nI 1) hx hb dX1_alike_32 (by decide) ?_
              refine lv_icmp_ne (tgt := 40) hx hb dX1_alike_33 (by decide) (fun c8 => absurd (by rw [c7]; rfl) c8) (fun c8 => ?_)
              have hal : r_alike (n, kk, ff, ss, w) (nI ln) (bI v) (nI l2) (bI v2) = bI (alk (n, kk, ff, ss, w) (nI ln) (bI v) (nI l2) (bI v2) 32) := r_alike_s (C := (n, kk, ff, ss, w)) hln hl2 hn16
              refine lv_iconst (v := nI 1) hx hb dX1_alike_36 (by decide) ?_
              refine lv_goto (tgt := 41) hx hb dX1_alike_37 (by decide) ?_
              refine lv_istore (lv' := [(5, .int (bI true)), (0, .ref (ad 0)), (1, .int (nI ln)), (2, .int (bI v)), (3, .int (nI l2)), (4, .int (bI v2))]) hx hb dX1_alike_41 hl (by decide) rfl (fun ls hl => ?_)
              refine lv_iconst (v := nI 0) hx hb dX1_alike_43 (by decide) ?_
              refine lv_istore (lv' := [(6, .int (nI 0)), (5, .int (bI true)), (0, .ref (ad 0)), (1, .int (nI ln)), (2, .int (bI v)), (3, .int (nI l2)), (4, .int (bI v2))]) hx hb dX1_alike_44 hl (by decide) rfl (fun ls hl => ?_)
              have loop : ∀ (f i : Nat) (sm : Bool) (va : Nat → Int32), i ≤ 32 → 32 + 1 ≤ i + f → (sm = alk (n, kk, ff, ss, w) (nI ln) (bI v) (nI l2) (bI v2) i) → ∀ (H : Heap) (locs : List Loc), va_P D vwCl (wO ad d n kk ff (yyF kk ss) w va) H → va_D A (wO ad d n kk ff (yyF kk ss) w va) → va_S A s.heap H locs → ∀ (ls : Array Slot), lv_has ls 7 [(0, .ref (ad 0)), (1, .int (nI ln)), (2, .int (bI v)), (3, .int (nI l2)), (4, .int (bI v2)), (5, .int (bI sm)), (6, .int (nI i))] → W p l e (headSpec (ws_ yX1_alike cX1_alike 7 (some .boolean)) ({ frames := 2, cells := 0, slots := 0, locals := 53 })).room s m ([.ref (ad 0), .int (nI ln), .int (bI v), .int (nI l2), .int (bI v2)] : List Value).toArray below meth c H locs 0 0 (MQ below (va_Qi (fun (r : Int32) (u1 : TM) => r = r_alike (n, kk, ff, ss, w) (nI ln) (bI v) (nI l2) (bI v2) ∧ u1.1 = (n, kk, ff, ss, w)) (BM D ad d A) A) ([.ref (ad 0), .int (nI ln), .int (bI v), .int (nI l2), .int (bI v2)] : List Value).toArray s 0 0 A) (F0 m 46 ls []) := by
                intro f
                induction f with
                | zero =>
                  intro i sm va h1 h2
                  exact absurd h2 (by omega)
                | succ f ih =>
                  intro i sm va hi hf hsm H locs hP hD hS ls hl
                  refine lv_iload hx hb dX1_alike_46 (lv_at hl 6 rfl) ?_
                  refine lv_bipush (v := nI 32) hx hb dX1_alike_48 (by decide) ?_
                  refine k_ge (by omega) (by omega) (tgt := 91) hx hb dX1_alike_50 (by decide) (fun c1 => ?_) (fun c1 => ?_)
                  · have e : i = 32 := by omega
                    subst e
                    refine lv_iload hx hb dX1_alike_91 (lv_at hl 5 rfl) ?_
                    exact W.zret (v := bI sm) hx hb hr (k_nz _) (fun t9 ht9 hW9 => ⟨⟨bI sm, ((n, kk, ff, ss, w), va), rfl, ⟨by rw [hal, hsm], rfl⟩, by rw [ht9]; exact hP, va_K.moved hW9.alike hK, hD⟩, hS.F ht9⟩) hS.2.2 dX1_alike_93
                  · refine lv_iload hx hb dX1_alike_53 (lv_at hl 5 rfl) ?_
                    refine k_bif_eq (tgt := 91) hx hb dX1_alike_55 (by decide) (fun c2 => ?_) (fun c2 => ?_)
                    · refine lv_iload hx hb dX1_alike_91 (lv_at hl 5 rfl) ?_
                      exact W.zret (v := bI sm) hx hb hr (k_nz _) (fun t9 ht9 hW9 => ⟨⟨bI sm, ((n, kk, ff, ss, w), va), rfl, ⟨by rw [hal, c2, ← alk_mono (hsm.symm.trans c2) (32 - i), show i + (32 - i) = 32 by omega], rfl⟩, by rw [ht9]; exact hP, va_K.moved hW9.alike hK, hD⟩, hS.F ht9⟩) hS.2.2 dX1_alike_93
                    · refine lv_aload_n hx hb dX1_alike_58 rfl (lv_at hl 0 rfl) ?_
                      refine lv_iload hx hb dX1_alike_59 (lv_at hl 6 rfl) ?_
                      refine lv_iload_n hx hb dX1_alike_61 rfl (lv_at hl 1 rfl) ?_
                      refine lv_iload_n hx hb dX1_alike_62 rfl (lv_at hl 2 rfl) ?_
                      refine k_callM (u := ((n, kk, ff, ss, w), va)) (As := [.int (nI i), .int (nI ln), .int (bI v)]) (rest := []) ⟨hx, hb, hml, hown, hts⟩ (mM_shows l D ad d n kk ff ss w va H.size (nI i) (nI ln) (bI v) hw) (cwV 3 hts (lw_V q229 q218 q219 q11 q220) rfl rfl rfl (by decide +kernel) ⟨Nat.le_of_ble_eq_true rfl, Nat.le_of_ble_eq_true rfl⟩) hP hD hK hS hA rfl hl.1 rfl (Nat.le_of_ble_eq_true rfl) dX1_alike_63 ⟨Nat.zero_le _, Nat.zero_le _⟩ (fun r1 u1 H locs hp hP hD hS => ?_)
                      obtain ⟨C1, z1⟩ := u1
                      obtain ⟨hp, hC1⟩ := hp
                      obtain rfl : C1 = (n, kk, ff, ss, w) := hC1
                      have hP : va_P D vwCl (wO ad d n kk ff (yyF kk ss) w z1) H := hP
                      have hD : va_D A (wO ad d n kk ff (yyF kk ss) w z1) := hD
                      have hp1 := hp
                      refine lv_aload_n hx hb dX1_alike_66 rfl (lv_at hl 0 rfl) ?_
                      refine lv_iload hx hb dX1_alike_67 (lv_at hl 6 rfl) ?_
                      refine lv_iload_n hx hb dX1_alike_69 rfl (lv_at hl 3 rfl) ?_
                      refine lv_iload hx hb dX1_alike_70 (lv_at hl 4 rfl) ?_
                      refine k_callM (u := ((n, kk, ff, ss, w), z1)) (As := [.int (nI i), .int (nI l2), .int (bI v2)]) (rest := [.int r1]) ⟨hx, hb, hml, hown, hts⟩ (mM_shows l D ad d n kk ff ss w z1 H.size (nI i) (nI l2) (bI v2) hw) (cwV 3 hts (lw_V q229 q218 q219 q11 q220) rfl rfl rfl (by decide +kernel) ⟨Nat.le_of_ble_eq_true rfl, Nat.le_of_ble_eq_true rfl⟩) hP hD hK hS hA rfl hl.1 rfl (Nat.le_of_ble_eq_true rfl) dX1_alike_72 ⟨Nat.zero_le _, Nat.zero_le _⟩ (fun r2 u1 H locs hp hP hD hS => ?_)
                      obtain ⟨C2, z2⟩ := u1
                      obtain ⟨hp, hC1⟩ := hp
                      obtain rfl : C2 = (n, kk, ff, ss, w) := hC1
                      have hP : va_P D vwCl (wO ad d n kk ff (yyF kk ss) w z2) H := hP
                      have hD : va_D A (wO ad d n kk ff (yyF kk ss) w z2) := hD
                      refine lv_icmp_ne (tgt := 82) hx hb dX1_alike_75 (by decide) (fun c3 => ?_) (fun c3 => ?_)
                      · refine lv_iconst (v := nI 0) hx hb dX1_alike_82 (by decide) ?_
                        refine lv_istore (lv' := [(5, .int (bI false)), (0, .ref (ad 0)), (1, .int (nI ln)), (2, .int (bI v)), (3, .int (nI l2)), (4, .int (bI v2)), (6, .int (nI i))]) hx hb dX1_alike_83 hl (by decide) rfl (fun ls hl => ?_)
                        refine lv_iinc (v := nI (i + 1)) (lv' := [(6, .int (nI (i + 1))), (5, .int (bI false)), (0, .ref (ad 0)), (1, .int (nI ln)), (2, .int (bI v)), (3, .int (nI l2)), (4, .int (bI v2))]) hx hb dX1_alike_85 hl (k := 6) rfl (k_inc i) (by decide) rfl (fun ls hl => ?_)
                        refine lv_goto (tgt := 46) hx hb dX1_alike_88 (by decide) ?_
                        exact ih (i + 1) false z2 (by omega) (by omega) (alk_sf (by rw [hp1, hp] at c3; exact c3)) _ _ hP hD hS ls (lv_sub hl [2, 3, 4, 5, 6, 1, 0] rfl)
                      · refine lv_iconst (v := nI 1) hx hb dX1_alike_78 (by decide) ?_
                        refine lv_goto (tgt := 83) hx hb dX1_alike_79 (by decide) ?_
                        refine lv_istore (lv' := [(5, .int (bI true)), (0, .ref (ad 0)), (1, .int (nI ln)), (2, .int (bI v)), (3, .int (nI l2)), (4, .int (bI v2)), (6, .int (nI i))]) hx hb dX1_alike_83 hl (by decide) rfl (fun ls hl => ?_)
                        refine lv_iinc (v := nI (i + 1)) (lv' := [(6, .int (nI (i + 1))), (5, .int (bI true)), (0, .ref (ad 0)), (1, .int (nI ln)), (2, .int (bI v)), (3, .int (nI l2)), (4, .int (bI v2))]) hx hb dX1_alike_85 hl (k := 6) rfl (k_inc i) (by decide) rfl (fun ls hl => ?_)
                        refine lv_goto (tgt := 46) hx hb dX1_alike_88 (by decide) ?_
                        exact ih (i + 1) true z2 (by omega) (by omega) (alk_st (hsm.symm.trans c2) (by rw [hp1, hp] at c3; exact c3)) _ _ hP hD hS ls (lv_sub hl [2, 3, 4, 5, 6, 1, 0] rfl)
              exact loop 33 0 true va (by decide) (by decide) rfl _ _ hP hD hS ls (lv_sub hl [2, 3, 4, 5, 6, 1, 0] rfl)
          · refine lv_iload hx hb dX1_alike_25 (lv_at hl 4 rfl) ?_
            refine lv_if_eq (tgt := 36) hx hb dX1_alike_27 (by decide) (fun c7 => absurd c7 (no_0 hno)) (fun c7 => ?_)
            refine lv_iload hx hb dX1_alike_30 (lv_at hl 4 rfl) ?_
            refine lv_iconst (v := nI 1) hx hb dX1_alike_32 (by decide) ?_
            refine lv_icmp_ne (tgt := 40) hx hb dX1_alike_33 (by decide) (fun c8 => ?_) (fun c8 => absurd c8 (no_1 hno))
            refine lv_iconst (v := nI 0) hx hb dX1_alike_40 (by decide) ?_
            refine lv_istore (lv' := [(5, .int (nI 0)), (0, .ref (ad 0)), (1, .int (nI ln)), (2, .int (bI v)), (3, .int (nI l2)), (4, .int p4)]) hx hb dX1_alike_41 hl (by decide) rfl (fun ls hl => ?_)
            refine lv_iconst (v := nI 0) hx hb dX1_alike_43 (by decide) ?_
            refine lv_istore (lv' := [(6, .int (nI 0)), (5, .int (nI 0)), (0, .ref (ad 0)), (1, .int (nI ln)), (2, .int (bI v)), (3, .int (nI l2)), (4, .int p4)]) hx hb dX1_alike_44 hl (by decide) rfl (fun ls hl => ?_)
            refine lv_iload hx hb dX1_alike_46 (lv_at hl 0 rfl) ?_
            refine lv_bipush (v := nI 32) hx hb dX1_alike_48 (by decide) ?_
            refine k_ge (by omega) (by omega) (tgt := 91) hx hb dX1_alike_50 (by decide) (fun d1 => absurd d1 (by decide)) (fun d1 => ?_)
            refine lv_iload hx hb dX1_alike_53 (lv_at hl 1 rfl) ?_
            refine k_if_eq (by omega) (tgt := 91) hx hb dX1_alike_55 (by decide) (fun d2 => ?_) (fun d2 => absurd rfl d2)
            refine lv_iload hx hb dX1_alike_91 (lv_at hl 1 rfl) ?_
            exact W.zret (v := nI 0) hx hb hr (rfl) (fun t9 ht9 hW9 => ⟨⟨nI 0, ((n, kk, ff, ss, w), va), rfl, ⟨(r_alike_n4 hno).symm, rfl⟩, by rw [ht9]; exact hP, va_K.moved hW9.alike hK, hD⟩, hS.F ht9⟩) hS.2.2 dX1_alike_93
      · refine lv_iload_n hx hb dX1_alike_16 rfl (lv_at hl 2 rfl) ?_
        refine lv_if_eq (tgt := 25) hx hb dX1_alike_17 (by decide) (fun c7 => absurd c7 (no_0 hno)) (fun c7 => ?_)
        refine lv_iload_n hx hb dX1_alike_20 rfl (lv_at hl 2 rfl) ?_
        refine lv_iconst (v := nI 1) hx hb dX1_alike_21 (by decide) ?_
        refine lv_icmp_ne (tgt := 40) hx hb dX1_alike_22 (by decide) (fun c8 => ?_) (fun c8 => absurd c8 (no_1 hno))
        refine lv_iconst (v := nI 0) hx hb dX1_alike_40 (by decide) ?_
        refine lv_istore (lv' := [(5, .int (nI 0)), (0, .ref (ad 0)), (1, .int (nI ln)), (2, .int p2), (3, .int (nI l2)), (4, .int p4)]) hx hb dX1_alike_41 hl (by decide) rfl (fun ls hl => ?_)
        refine lv_iconst (v := nI 0) hx hb dX1_alike_43 (by decide) ?_
        refine lv_istore (lv' := [(6, .int (nI 0)), (5, .int (nI 0)), (0, .ref (ad 0)), (1, .int (nI ln)), (2, .int p2), (3, .int (nI l2)), (4, .int p4)]) hx hb dX1_alike_44 hl (by decide) rfl (fun ls hl => ?_)
        refine lv_iload hx hb dX1_alike_46 (lv_at hl 0 rfl) ?_
        refine lv_bipush (v := nI 32) hx hb dX1_alike_48 (by decide) ?_
        refine k_ge (by omega) (by omega) (tgt := 91) hx hb dX1_alike_50 (by decide) (fun d1 => absurd d1 (by decide)) (fun d1 => ?_)
        refine lv_iload hx hb dX1_alike_53 (lv_at hl 1 rfl) ?_
        refine k_if_eq (by omega) (tgt := 91) hx hb dX1_alike_55 (by decide) (fun d2 => ?_) (fun d2 => absurd rfl d2)
        refine lv_iload hx hb dX1_alike_91 (lv_at hl 1 rfl) ?_
        exact W.zret (v := nI 0) hx hb hr (rfl) (fun t9 ht9 hW9 => ⟨⟨nI 0, ((n, kk, ff, ss, w), va), rfl, ⟨(r_alike_n2 hno).symm, rfl⟩, by rw [ht9]; exact hP, va_K.moved hW9.alike hK, hD⟩, hS.F ht9⟩) hS.2.2 dX1_alike_93
    · refine k_if_eq (by omega) (tgt := 40) hx hb dX1_alike_13 (by decide) (fun c9 => ?_) (fun c9 => absurd rfl c9)
      refine lv_iconst (v := nI 0) hx hb dX1_alike_40 (by decide) ?_
      refine lv_istore (lv' := [(5, .int (nI 0)), (0, .ref (ad 0)), (1, .int (nI ln)), (2, .int p2), (3, .int p3), (4, .int p4)]) hx hb dX1_alike_41 hl (by decide) rfl (fun ls hl => ?_)
      refine lv_iconst (v := nI 0) hx hb dX1_alike_43 (by decide) ?_
      refine lv_istore (lv' := [(6, .int (nI 0)), (5, .int (nI 0)), (0, .ref (ad 0)), (1, .int (nI ln)), (2, .int p2), (3, .int p3), (4, .int p4)]) hx hb dX1_alike_44 hl (by decide) rfl (fun ls hl => ?_)
      refine lv_iload hx hb dX1_alike_46 (lv_at hl 0 rfl) ?_
      refine lv_bipush (v := nI 32) hx hb dX1_alike_48 (by decide) ?_
      refine k_ge (by omega) (by omega) (tgt := 91) hx hb dX1_alike_50 (by decide) (fun d1 => absurd d1 (by decide)) (fun d1 => ?_)
      refine lv_iload hx hb dX1_alike_53 (lv_at hl 1 rfl) ?_
      refine k_if_eq (by omega) (tgt := 91) hx hb dX1_alike_55 (by decide) (fun d2 => ?_) (fun d2 => absurd rfl d2)
      refine lv_iload hx hb dX1_alike_91 (lv_at hl 1 rfl) ?_
      exact W.zret (v := nI 0) hx hb hr (rfl) (fun t9 ht9 hW9 => ⟨⟨nI 0, ((n, kk, ff, ss, w), va), rfl, ⟨(r_alike_n3 hno).symm, rfl⟩, by rw [ht9]; exact hP, va_K.moved hW9.alike hK, hD⟩, hS.F ht9⟩) hS.2.2 dX1_alike_93
  · refine k_if_eq (by omega) (tgt := 40) hx hb dX1_alike_5 (by decide) (fun c9 => ?_) (fun c9 => absurd rfl c9)
    refine lv_iconst (v := nI 0) hx hb dX1_alike_40 (by decide) ?_
    refine lv_istore (lv' := [(5, .int (nI 0)), (0, .ref (ad 0)), (1, .int p1), (2, .int p2), (3, .int p3), (4, .int p4)]) hx hb dX1_alike_41 hl (by decide) rfl (fun ls hl => ?_)
    refine lv_iconst (v := nI 0) hx hb dX1_alike_43 (by decide) ?_
    refine lv_istore (lv' := [(6, .int (nI 0)), (5, .int (nI 0)), (0, .ref (ad 0)), (1, .int p1), (2, .int p2), (3, .int p3), (4, .int p4)]) hx hb dX1_alike_44 hl (by decide) rfl (fun ls hl => ?_)
    refine lv_iload hx hb dX1_alike_46 (lv_at hl 0 rfl) ?_
    refine lv_bipush (v := nI 32) hx hb dX1_alike_48 (by decide) ?_
    refine k_ge (by omega) (by omega) (tgt := 91) hx hb dX1_alike_50 (by decide) (fun d1 => absurd d1 (by decide)) (fun d1 => ?_)
    refine lv_iload hx hb dX1_alike_53 (lv_at hl 1 rfl) ?_
    refine k_if_eq (by omega) (tgt := 91) hx hb dX1_alike_55 (by decide) (fun d2 => ?_) (fun d2 => absurd rfl d2)
    refine lv_iload hx hb dX1_alike_91 (lv_at hl 1 rfl) ?_
    exact W.zret (v := nI 0) hx hb hr (rfl) (fun t9 ht9 hW9 => ⟨⟨nI 0, ((n, kk, ff, ss, w), va), rfl, ⟨(r_alike_n1 hno).symm, rfl⟩, by rw [ht9]; exact hP, va_K.moved hW9.alike hK, hD⟩, hS.F ht9⟩) hS.2.2 dX1_alike_93
end
section
theorem same_b {D : va_G} {cl : List vw_C} {tys : List (ClassId × FieldType)} {U : State} {a b : ClassId} (hK : va_K D cl tys U) (i j : Nat) (hi : tys[i]? = some (a, .byte)) (hj : tys[j]? = some (b, .byte)) : a = b := by
  have h1 : U.vm.findClass ("[" ++ FieldType.byte.toString) = some a := (hK.2 i _ hi).2
  have h2 : U.vm.findClass ("[" ++ FieldType.byte.toString) = some b := (hK.2 j _ hj).2
  exact Option.some.inj (h1.symm.trans h2)
theorem same_i {D : va_G} {cl : List vw_C} {tys : List (ClassId × FieldType)} {U : State} {a b : ClassId} (hK : va_K D cl tys U) (i j : Nat) (hi : tys[i]? = some (a, .int)) (hj : tys[j]? = some (b, .int)) : a = b := by
  have h1 : U.vm.findClass ("[" ++ FieldType.int.toString) = some a := (hK.2 i _ hi).2
  have h2 : U.vm.findClass ("[" ++ FieldType.int.toString) = some b := (hK.2 j _ hj).2
  exact Option.some.inj (h1.symm.trans h2)

set_option maxHeartbeats 4000000 in
set_option maxRecDepth 100000 in
theorem mA_init (l : Launch) (D : va_G) (h0 sz : Nat) : Met l yX0_init (ws_ yX0_init cX0_init 1 none) ({ frames := 1, cells := 9, slots := 133, locals := 12 }) (va_Pc [.ref h0] (fun U => U.heap.size = sz ∧ va_P D vwCl [(h0, .inr (0, [.int (nI 0), .null, .null, .null, .int (nI 0), .null, .null, .null, .null, .null, .null]))] U.heap ∧ va_K D vwCl [] U ∧ va_D (fun _ => True) [(h0, .inr (0, [.int (nI 0), .null, .null, .null, .int (nI 0), .null, .null, .null, .null, .null, .null]))])) (va_Qv (fun u : ((Nat → Nat) × (Nat → ClassId)) => u.1 0 = h0) (fun (u : ((Nat → Nat) × (Nat → ClassId))) t => BA D u.1 u.2 (va_A [(h0, .inr (0, [.int (nI 0), .null, .null, .null, .int (nI 0), .null, .null, .null, .null, .null, .null]))] sz) ((5, (fun _ => 0), (fun _ => 0), (fun _ => 0), nI 0), fun _ _ => nI 0) t) (va_A [(h0, .inr (0, [.int (nI 0), .null, .null, .null, .int (nI 0), .null, .null, .null, .null, .null, .null]))] sz)) 9 133 (va_A [(h0, .inr (0, [.int (nI 0), .null, .null, .null, .int (nI 0), .null, .null, .null, .null, .null, .null]))] sz) := by
  refine Met.ofW (cc := cX0_init) (maxL := 1) (ret := none) (by decide) rfl ?_
  intro p e s m args below meth c s₁ B hml hv
  obtain ⟨rfl, hsz, hP, hK, hD0⟩ := hv
  have hx := B.exec
  have hb := B.bytes
  have hr := B.returns
  have hts := atoms_spec (ws := (ws_ yX0_init cX0_init 1 none)) B.pre
  have hts : ∀ w ∈ lw_all, w.before _ s = true := fun w h => hts w (List.mem_cons_of_mem _ h)
  have hown : s.vm.findClass RX0 = some m.cls := findClass_of_methodNamed B.named
  have hlocks := B.notSynchronized
  have hin : meth.name = "<init>" := (name_of_methodNamed B.named B.method).1
  subst hsz
  have hD := hD0.self (sz := s.heap.size)
  generalize hAe : va_A [(h0, .inr (0, [.int (nI 0), .null, .null, .null, .int (nI 0), .null, .null, .null, .null, .null, .null]))] s.heap.size = A at hD ⊢
  have hA : ∀ q : Nat, s.heap.size ≤ q → A q := fun q h => by rw [← hAe]; exact Or.inr h
  have hS : va_S A s.heap s.heap [] := va_S.rf
  have hl := lv_entry ([.ref h0]) (n := 1) (Nat.le_of_ble_eq_true rfl)
  rw [lg_entry_eq]
  generalize (lg_sl ([.ref h0]) ++ List.replicate (1 - (lg_sl ([.ref h0])).length) Slot.unset).toArray = ls at hl ⊢
  have hl : lv_has ls 1 [(0, .ref h0)] := hl
  refine lv_aload_n hx hb dX0_init_0 rfl (lv_at hl 0 rfl) ?_
  refine W.objInit hx hb hown (hts _ q17) (hts _ q18) (hts _ q19) rfl (by rw [hml]; exact hl.1) rfl dX0_init_1 (Nat.le_of_ble_eq_true rfl) (Nat.le_of_ble_eq_true rfl) ?_
  refine W.eq (g2 := F0 m 4 ls []) rfl ?_
  refine lv_aload_n hx hb dX0_init_4 rfl (lv_at hl 0 rfl) ?_
  refine lv_iconst (v := nI 5) hx hb dX0_init_5 (by decide) ?_
  refine va_put (D := D) (ci := 0) (v := .int (nI 5)) (ty := .int) (C := RX0) (T := TX0) (N := 11) hx hb hts in_X0 tyX0 tyX0_ok nmX0 hown hK hP hD hS 0 rfl rfl 0 (by decide) (hts _ q20) (fun _ h9 => h9) rfl (by decide +kernel) rfl rfl (Nat.le_of_ble_eq_true rfl) dX0_init_6 (fun H locs hP hD hS => ?_)
  have hP : va_P D vwCl [(h0, .inr (0, [.int (nI 5), .null, .null, .null, .int (nI 0), .null, .null, .null, .null, .null, .null]))] H := hP
  have hD : va_D A [(h0, .inr (0, [.int (nI 5), .null, .null, .null, .int (nI 0), .null, .null, .null, .null, .null, .null]))] := hD
  refine lv_aload_n hx hb dX0_init_9 rfl (lv_at hl 0 rfl) ?_
  refine lv_bipush (v := nI 16) hx hb dX0_init_10 (by decide) ?_
  refine va_newa (atype := .byte) (ty := .byte) (a0 := (16, .inl (fun _ => nI 0))) hx hb (hts _ q54) rfl hK hP hD hS hA (fun _ => rfl) (by decide) (by decide) (by decide) (Nat.le_of_ble_eq_true rfl) (Nat.le_of_ble_eq_true rfl) dX0_init_12 (fun q_1 k_1 H hK hP hD hS => ?_)
  refine W.widen (k := 1) (n := 16) (by decide) (by decide) ?_
  have hK : va_K D vwCl [(k_1, .byte)] s := hK
  have hP : va_P D vwCl [(h0, .inr (0, [.int (nI 5), .null, .null, .null, .int (nI 0), .null, .null, .null, .null, .null, .null])), (q_1, .inl (k_1, 16, .inl (fun _ => nI 0)))] H := hP
  have hD : va_D A [(h0, .inr (0, [.int (nI 5), .null, .null, .null, .int (nI 0), .null, .null, .null, .null, .null, .null])), (q_1, .inl (k_1, 16, .inl (fun _ => nI 0)))] := hD
  refine va_putF (D := D) (ci := 0) (v := .ref q_1) (ty := .array .byte) (C := RX0) (T := TX0) (N := 11) hx hb hts in_X0 tyX0 tyX0_ok nmX0 hown hK hP hD hS 0 rfl rfl 1 (by decide) (hts _ q21) (fun _ h9 => h9) rfl hin rfl (by decide +kernel) rfl rfl (Nat.le_of_ble_eq_true rfl) dX0_init_14 (fun H locs hP hD hS => ?_)
  have hP : va_P D vwCl [(h0, .inr (0, [.int (nI 5), .ref q_1, .null, .null, .int (nI 0), .null, .null, .null, .null, .null, .null])), (q_1, .inl (k_1, 16, .inl (fun _ => nI 0)))] H := hP
  have hD : va_D A [(h0, .inr (0, [.int (nI 5), .ref q_1, .null, .null, .int (nI 0), .null, .null, .null, .null, .null, .null])), (q_1, .inl (k_1, 16, .inl (fun _ => nI 0)))] := hD
  refine lv_aload_n hx hb dX0_init_17 rfl (lv_at hl 0 rfl) ?_
  refine lv_bipush (v := nI 16) hx hb dX0_init_18 (by decide) ?_
  refine va_newa (atype := .byte) (ty := .byte) (a0 := (16, .inl (fun _ => nI 0))) hx hb (hts _ q54) rfl hK hP hD hS hA (fun _ => rfl) (by decide) (by decide) (by decide) (Nat.le_of_ble_eq_true rfl) (Nat.le_of_ble_eq_true rfl) dX0_init_20 (fun q_2 k_2 H hK hP hD hS => ?_)
  refine W.widen (k := 2) (n := 32) (by decide) (by decide) ?_
  have hK : va_K D vwCl [(k_1, .byte), (k_2, .byte)] s := hK
  have hP : va_P D vwCl [(h0, .inr (0, [.int (nI 5), .ref q_1, .null, .null, .int (nI 0), .null, .null, .null, .null, .null, .null])), (q_1, .inl (k_1, 16, .inl (fun _ => nI 0))), (q_2, .inl (k_2, 16, .inl (fun _ => nI 0)))] H := hP
  have hD : va_D A [(h0, .inr (0, [.int (nI 5), .ref q_1, .null, .null, .int (nI 0), .null, .null, .null, .null, .null, .null])), (q_1, .inl (k_1, 16, .inl (fun _ => nI 0))), (q_2, .inl (k_2, 16, .inl (fun _ => nI 0)))] := hD
  have ek : k_1 = k_2 := same_b hK 0 1 rfl rfl
  subst ek
  refine va_putF (D := D) (ci := 0) (v := .ref q_2) (ty := .array .byte) (C := RX0) (T := TX0) (N := 11) hx hb hts in_X0 tyX0 tyX0_ok nmX0 hown hK hP hD hS 0 rfl rfl 2 (by decide) (hts _ q22) (fun _ h9 => h9) rfl hin rfl (by decide +kernel) rfl rfl (Nat.le_of_ble_eq_true rfl) dX0_init_22 (fun H locs hP hD hS => ?_)
  have hP : va_P D vwCl [(h0, .inr (0, [.int (nI 5), .ref q_1, .ref q_2, .null, .int (nI 0), .null, .null, .null, .null, .null, .null])), (q_1, .inl (k_1, 16, .inl (fun _ => nI 0))), (q_2, .inl (k_1, 16, .inl (fun _ => nI 0)))] H := hP
  have hD : va_D A [(h0, .inr (0, [.int (nI 5), .ref q_1, .ref q_2, .null, .int (nI 0), .null, .null, .null, .null, .null, .null])), (q_1, .inl (k_1, 16, .inl (fun _ => nI 0))), (q_2, .inl (k_1, 16, .inl (fun _ => nI 0)))] := hD
  refine lv_aload_n hx hb dX0_init_25 rfl (lv_at hl 0 rfl) ?_
  refine lv_bipush (v := nI 16) hx hb dX0_init_26 (by decide) ?_
  refine va_newa (atype := .byte) (ty := .byte) (a0 := (16, .inl (fun _ => nI 0))) hx hb (hts _ q54) rfl hK hP hD hS hA (fun _ => rfl) (by decide) (by decide) (by decide) (Nat.le_of_ble_eq_true rfl) (Nat.le_of_ble_eq_true rfl) dX0_init_28 (fun q_3 k_3 H hK hP hD hS => ?_)
  refine W.widen (k := 3) (n := 48) (by decide) (by decide) ?_
  have hK : va_K D vwCl [(k_1, .byte), (k_1, .byte), (k_3, .byte)] s := hK
  have hP : va_P D vwCl [(h0, .inr (0, [.int (nI 5), .ref q_1, .ref q_2, .null, .int (nI 0), .null, .null, .null, .null, .null, .null])), (q_1, .inl (k_1, 16, .inl (fun _ => nI 0))), (q_2, .inl (k_1, 16, .inl (fun _ => nI 0))), (q_3, .inl (k_3, 16, .inl (fun _ => nI 0)))] H := hP
  have hD : va_D A [(h0, .inr (0, [.int (nI 5), .ref q_1, .ref q_2, .null, .int (nI 0), .null, .null, .null, .null, .null, .null])), (q_1, .inl (k_1, 16, .inl (fun _ => nI 0))), (q_2, .inl (k_1, 16, .inl (fun _ => nI 0))), (q_3, .inl (k_3, 16, .inl (fun _ => nI 0)))] := hD
  have ek : k_1 = k_3 := same_b hK 0 2 rfl rfl
  subst ek
  refine va_putF (D := D) (ci := 0) (v := .ref q_3) (ty := .array .byte) (C := RX0) (T := TX0) (N := 11) hx hb hts in_X0 tyX0 tyX0_ok nmX0 hown hK hP hD hS 0 rfl rfl 3 (by decide) (hts _ q23) (fun _ h9 => h9) rfl hin rfl (by decide +kernel) rfl rfl (Nat.le_of_ble_eq_true rfl) dX0_init_30 (fun H locs hP hD hS => ?_)
  have hP : va_P D vwCl [(h0, .inr (0, [.int (nI 5), .ref q_1, .ref q_2, .ref q_3, .int (nI 0), .null, .null, .null, .null, .null, .null])), (q_1, .inl (k_1, 16, .inl (fun _ => nI 0))), (q_2, .inl (k_1, 16, .inl (fun _ => nI 0))), (q_3, .inl (k_1, 16, .inl (fun _ => nI 0)))] H := hP
  have hD : va_D A [(h0, .inr (0, [.int (nI 5), .ref q_1, .ref q_2, .ref q_3, .int (nI 0), .null, .null, .null, .null, .null, .null])), (q_1, .inl (k_1, 16, .inl (fun _ => nI 0))), (q_2, .inl (k_1, 16, .inl (fun _ => nI 0))), (q_3, .inl (k_1, 16, .inl (fun _ => nI 0)))] := hD
  refine lv_aload_n hx hb dX0_init_33 rfl (lv_at hl 0 rfl) ?_
  refine lv_bipush (v := nI 16) hx hb dX0_init_34 (by decide) ?_
  refine va_newa (atype := .int) (ty := .int) (a0 := (16, .inl (fun _ => nI 0))) hx hb (hts _ q55) rfl hK hP hD hS hA (fun _ => rfl) (by decide) (by decide) (by decide) (Nat.le_of_ble_eq_true rfl) (Nat.le_of_ble_eq_true rfl) dX0_init_36 (fun q_4 k_4 H hK hP hD hS => ?_)
  refine W.widen (k := 4) (n := 64) (by decide) (by decide) ?_
  have hK : va_K D vwCl [(k_1, .byte), (k_1, .byte), (k_1, .byte), (k_4, .int)] s := hK
  have hP : va_P D vwCl [(h0, .inr (0, [.int (nI 5), .ref q_1, .ref q_2, .ref q_3, .int (nI 0), .null, .null, .null, .null, .null, .null])), (q_1, .inl (k_1, 16, .inl (fun _ => nI 0))), (q_2, .inl (k_1, 16, .inl (fun _ => nI 0))), (q_3, .inl (k_1, 16, .inl (fun _ => nI 0))), (q_4, .inl (k_4, 16, .inl (fun _ => nI 0)))] H := hP
  have hD : va_D A [(h0, .inr (0, [.int (nI 5), .ref q_1, .ref q_2, .ref q_3, .int (nI 0), .null, .null, .null, .null, .null, .null])), (q_1, .inl (k_1, 16, .inl (fun _ => nI 0))), (q_2, .inl (k_1, 16, .inl (fun _ => nI 0))), (q_3, .inl (k_1, 16, .inl (fun _ => nI 0))), (q_4, .inl (k_4, 16, .inl (fun _ => nI 0)))] := hD
  refine va_putF (D := D) (ci := 0) (v := .ref q_4) (ty := .array .int) (C := RX0) (T := TX0) (N := 11) hx hb hts in_X0 tyX0 tyX0_ok nmX0 hown hK hP hD hS 0 rfl rfl 5 (by decide) (hts _ q25) (fun _ h9 => h9) rfl hin rfl (by decide +kernel) rfl rfl (Nat.le_of_ble_eq_true rfl) dX0_init_38 (fun H locs hP hD hS => ?_)
  have hP : va_P D vwCl [(h0, .inr (0, [.int (nI 5), .ref q_1, .ref q_2, .ref q_3, .int (nI 0), .ref q_4, .null, .null, .null, .null, .null])), (q_1, .inl (k_1, 16, .inl (fun _ => nI 0))), (q_2, .inl (k_1, 16, .inl (fun _ => nI 0))), (q_3, .inl (k_1, 16, .inl (fun _ => nI 0))), (q_4, .inl (k_4, 16, .inl (fun _ => nI 0)))] H := hP
  have hD : va_D A [(h0, .inr (0, [.int (nI 5), .ref q_1, .ref q_2, .ref q_3, .int (nI 0), .ref q_4, .null, .null, .null, .null, .null])), (q_1, .inl (k_1, 16, .inl (fun _ => nI 0))), (q_2, .inl (k_1, 16, .inl (fun _ => nI 0))), (q_3, .inl (k_1, 16, .inl (fun _ => nI 0))), (q_4, .inl (k_4, 16, .inl (fun _ => nI 0)))] := hD
  refine lv_aload_n hx hb dX0_init_41 rfl (lv_at hl 0 rfl) ?_
  refine lv_bipush (v := nI 16) hx hb dX0_init_42 (by decide) ?_
  refine va_newa (atype := .int) (ty := .int) (a0 := (16, .inl (fun _ => nI 0))) hx hb (hts _ q55) rfl hK hP hD hS hA (fun _ => rfl) (by decide) (by decide) (by decide) (Nat.le_of_ble_eq_true rfl) (Nat.le_of_ble_eq_true rfl) dX0_init_44 (fun q_5 k_5 H hK hP hD hS => ?_)
  refine W.widen (k := 5) (n := 80) (by decide) (by decide) ?_
  have hK : va_K D vwCl [(k_1, .byte), (k_1, .byte), (k_1, .byte), (k_4, .int), (k_5, .int)] s := hK
  have hP : va_P D vwCl [(h0, .inr (0, [.int (nI 5), .ref q_1, .ref q_2, .ref q_3, .int (nI 0), .ref q_4, .null, .null, .null, .null, .null])), (q_1, .inl (k_1, 16, .inl (fun _ => nI 0))), (q_2, .inl (k_1, 16, .inl (fun _ => nI 0))), (q_3, .inl (k_1, 16, .inl (fun _ => nI 0))), (q_4, .inl (k_4, 16, .inl (fun _ => nI 0))), (q_5, .inl (k_5, 16, .inl (fun _ => nI 0)))] H := hP
  have hD : va_D A [(h0, .inr (0, [.int (nI 5), .ref q_1, .ref q_2, .ref q_3, .int (nI 0), .ref q_4, .null, .null, .null, .null, .null])), (q_1, .inl (k_1, 16, .inl (fun _ => nI 0))), (q_2, .inl (k_1, 16, .inl (fun _ => nI 0))), (q_3, .inl (k_1, 16, .inl (fun _ => nI 0))), (q_4, .inl (k_4, 16, .inl (fun _ => nI 0))), (q_5, .inl (k_5, 16, .inl (fun _ => nI 0)))] := hD
  have ek : k_4 = k_5 := same_i hK 3 4 rfl rfl
  subst ek
  refine va_putF (D := D) (ci := 0) (v := .ref q_5) (ty := .array .int) (C := RX0) (T := TX0) (N := 11) hx hb hts in_X0 tyX0 tyX0_ok nmX0 hown hK hP hD hS 0 rfl rfl 6 (by decide) (hts _ q26) (fun _ h9 => h9) rfl hin rfl (by decide +kernel) rfl rfl (Nat.le_of_ble_eq_true rfl) dX0_init_46 (fun H locs hP hD hS => ?_)
  have hP : va_P D vwCl [(h0, .inr (0, [.int (nI 5), .ref q_1, .ref q_2, .ref q_3, .int (nI 0), .ref q_4, .ref q_5, .null, .null, .null, .null])), (q_1, .inl (k_1, 16, .inl (fun _ => nI 0))), (q_2, .inl (k_1, 16, .inl (fun _ => nI 0))), (q_3, .inl (k_1, 16, .inl (fun _ => nI 0))), (q_4, .inl (k_4, 16, .inl (fun _ => nI 0))), (q_5, .inl (k_4, 16, .inl (fun _ => nI 0)))] H := hP
  have hD : va_D A [(h0, .inr (0, [.int (nI 5), .ref q_1, .ref q_2, .ref q_3, .int (nI 0), .ref q_4, .ref q_5, .null, .null, .null, .null])), (q_1, .inl (k_1, 16, .inl (fun _ => nI 0))), (q_2, .inl (k_1, 16, .inl (fun _ => nI 0))), (q_3, .inl (k_1, 16, .inl (fun _ => nI 0))), (q_4, .inl (k_4, 16, .inl (fun _ => nI 0))), (q_5, .inl (k_4, 16, .inl (fun _ => nI 0)))] := hD
  refine lv_aload_n hx hb dX0_init_49 rfl (lv_at hl 0 rfl) ?_
  refine lv_iconst (v := nI 5) hx hb dX0_init_50 (by decide) ?_
  refine va_newa (atype := .byte) (ty := .byte) (a0 := (5, .inl (fun _ => nI 0))) hx hb (hts _ q54) rfl hK hP hD hS hA (fun _ => rfl) (by decide) (by decide) (by decide) (Nat.le_of_ble_eq_true rfl) (Nat.le_of_ble_eq_true rfl) dX0_init_51 (fun q_6 k_6 H hK hP hD hS => ?_)
  refine W.widen (k := 6) (n := 85) (by decide) (by decide) ?_
  have hK : va_K D vwCl [(k_1, .byte), (k_1, .byte), (k_1, .byte), (k_4, .int), (k_4, .int), (k_6, .byte)] s := hK
  have hP : va_P D vwCl [(h0, .inr (0, [.int (nI 5), .ref q_1, .ref q_2, .ref q_3, .int (nI 0), .ref q_4, .ref q_5, .null, .null, .null, .null])), (q_1, .inl (k_1, 16, .inl (fun _ => nI 0))), (q_2, .inl (k_1, 16, .inl (fun _ => nI 0))), (q_3, .inl (k_1, 16, .inl (fun _ => nI 0))), (q_4, .inl (k_4, 16, .inl (fun _ => nI 0))), (q_5, .inl (k_4, 16, .inl (fun _ => nI 0))), (q_6, .inl (k_6, 5, .inl (fun _ => nI 0)))] H := hP
  have hD : va_D A [(h0, .inr (0, [.int (nI 5), .ref q_1, .ref q_2, .ref q_3, .int (nI 0), .ref q_4, .ref q_5, .null, .null, .null, .null])), (q_1, .inl (k_1, 16, .inl (fun _ => nI 0))), (q_2, .inl (k_1, 16, .inl (fun _ => nI 0))), (q_3, .inl (k_1, 16, .inl (fun _ => nI 0))), (q_4, .inl (k_4, 16, .inl (fun _ => nI 0))), (q_5, .inl (k_4, 16, .inl (fun _ => nI 0))), (q_6, .inl (k_6, 5, .inl (fun _ => nI 0)))] := hD
  have ek : k_1 = k_6 := same_b hK 0 5 rfl rfl
  subst ek
  refine va_putF (D := D) (ci := 0) (v := .ref q_6) (ty := .array .byte) (C := RX0) (T := TX0) (N := 11) hx hb hts in_X0 tyX0 tyX0_ok nmX0 hown hK hP hD hS 0 rfl rfl 7 (by decide) (hts _ q27) (fun _ h9 => h9) rfl hin rfl (by decide +kernel) rfl rfl (Nat.le_of_ble_eq_true rfl) dX0_init_53 (fun H locs hP hD hS => ?_)
  have hP : va_P D vwCl [(h0, .inr (0, [.int (nI 5), .ref q_1, .ref q_2, .ref q_3, .int (nI 0), .ref q_4, .ref q_5, .ref q_6, .null, .null, .null])), (q_1, .inl (k_1, 16, .inl (fun _ => nI 0))), (q_2, .inl (k_1, 16, .inl (fun _ => nI 0))), (q_3, .inl (k_1, 16, .inl (fun _ => nI 0))), (q_4, .inl (k_4, 16, .inl (fun _ => nI 0))), (q_5, .inl (k_4, 16, .inl (fun _ => nI 0))), (q_6, .inl (k_1, 5, .inl (fun _ => nI 0)))] H := hP
  have hD : va_D A [(h0, .inr (0, [.int (nI 5), .ref q_1, .ref q_2, .ref q_3, .int (nI 0), .ref q_4, .ref q_5, .ref q_6, .null, .null, .null])), (q_1, .inl (k_1, 16, .inl (fun _ => nI 0))), (q_2, .inl (k_1, 16, .inl (fun _ => nI 0))), (q_3, .inl (k_1, 16, .inl (fun _ => nI 0))), (q_4, .inl (k_4, 16, .inl (fun _ => nI 0))), (q_5, .inl (k_4, 16, .inl (fun _ => nI 0))), (q_6, .inl (k_1, 5, .inl (fun _ => nI 0)))] := hD
  refine lv_aload_n hx hb dX0_init_56 rfl (lv_at hl 0 rfl) ?_
  refine lv_bipush (v := nI 16) hx hb dX0_init_57 (by decide) ?_
  refine va_newa (atype := .byte) (ty := .byte) (a0 := (16, .inl (fun _ => nI 0))) hx hb (hts _ q54) rfl hK hP hD hS hA (fun _ => rfl) (by decide) (by decide) (by decide) (Nat.le_of_ble_eq_true rfl) (Nat.le_of_ble_eq_true rfl) dX0_init_59 (fun q_7 k_7 H hK hP hD hS => ?_)
  refine W.widen (k := 7) (n := 101) (by decide) (by decide) ?_
  have hK : va_K D vwCl [(k_1, .byte), (k_1, .byte), (k_1, .byte), (k_4, .int), (k_4, .int), (k_1, .byte), (k_7, .byte)] s := hK
  have hP : va_P D vwCl [(h0, .inr (0, [.int (nI 5), .ref q_1, .ref q_2, .ref q_3, .int (nI 0), .ref q_4, .ref q_5, .ref q_6, .null, .null, .null])), (q_1, .inl (k_1, 16, .inl (fun _ => nI 0))), (q_2, .inl (k_1, 16, .inl (fun _ => nI 0))), (q_3, .inl (k_1, 16, .inl (fun _ => nI 0))), (q_4, .inl (k_4, 16, .inl (fun _ => nI 0))), (q_5, .inl (k_4, 16, .inl (fun _ => nI 0))), (q_6, .inl (k_1, 5, .inl (fun _ => nI 0))), (q_7, .inl (k_7, 16, .inl (fun _ => nI 0)))] H := hP
  have hD : va_D A [(h0, .inr (0, [.int (nI 5), .ref q_1, .ref q_2, .ref q_3, .int (nI 0), .ref q_4, .ref q_5, .ref q_6, .null, .null, .null])), (q_1, .inl (k_1, 16, .inl (fun _ => nI 0))), (q_2, .inl (k_1, 16, .inl (fun _ => nI 0))), (q_3, .inl (k_1, 16, .inl (fun _ => nI 0))), (q_4, .inl (k_4, 16, .inl (fun _ => nI 0))), (q_5, .inl (k_4, 16, .inl (fun _ => nI 0))), (q_6, .inl (k_1, 5, .inl (fun _ => nI 0))), (q_7, .inl (k_7, 16, .inl (fun _ => nI 0)))] := hD
  have ek : k_1 = k_7 := same_b hK 0 6 rfl rfl
  subst ek
  refine va_putF (D := D) (ci := 0) (v := .ref q_7) (ty := .array .byte) (C := RX0) (T := TX0) (N := 11) hx hb hts in_X0 tyX0 tyX0_ok nmX0 hown hK hP hD hS 0 rfl rfl 8 (by decide) (hts _ q28) (fun _ h9 => h9) rfl hin rfl (by decide +kernel) rfl rfl (Nat.le_of_ble_eq_true rfl) dX0_init_61 (fun H locs hP hD hS => ?_)
  have hP : va_P D vwCl [(h0, .inr (0, [.int (nI 5), .ref q_1, .ref q_2, .ref q_3, .int (nI 0), .ref q_4, .ref q_5, .ref q_6, .ref q_7, .null, .null])), (q_1, .inl (k_1, 16, .inl (fun _ => nI 0))), (q_2, .inl (k_1, 16, .inl (fun _ => nI 0))), (q_3, .inl (k_1, 16, .inl (fun _ => nI 0))), (q_4, .inl (k_4, 16, .inl (fun _ => nI 0))), (q_5, .inl (k_4, 16, .inl (fun _ => nI 0))), (q_6, .inl (k_1, 5, .inl (fun _ => nI 0))), (q_7, .inl (k_1, 16, .inl (fun _ => nI 0)))] H := hP
  have hD : va_D A [(h0, .inr (0, [.int (nI 5), .ref q_1, .ref q_2, .ref q_3, .int (nI 0), .ref q_4, .ref q_5, .ref q_6, .ref q_7, .null, .null])), (q_1, .inl (k_1, 16, .inl (fun _ => nI 0))), (q_2, .inl (k_1, 16, .inl (fun _ => nI 0))), (q_3, .inl (k_1, 16, .inl (fun _ => nI 0))), (q_4, .inl (k_4, 16, .inl (fun _ => nI 0))), (q_5, .inl (k_4, 16, .inl (fun _ => nI 0))), (q_6, .inl (k_1, 5, .inl (fun _ => nI 0))), (q_7, .inl (k_1, 16, .inl (fun _ => nI 0)))] := hD
  refine lv_aload_n hx hb dX0_init_64 rfl (lv_at hl 0 rfl) ?_
  refine lv_bipush (v := nI 16) hx hb dX0_init_65 (by decide) ?_
  refine va_newa (atype := .byte) (ty := .byte) (a0 := (16, .inl (fun _ => nI 0))) hx hb (hts _ q54) rfl hK hP hD hS hA (fun _ => rfl) (by decide) (by decide) (by decide) (Nat.le_of_ble_eq_true rfl) (Nat.le_of_ble_eq_true rfl) dX0_init_67 (fun q_8 k_8 H hK hP hD hS => ?_)
  refine W.widen (k := 8) (n := 117) (by decide) (by decide) ?_
  have hK : va_K D vwCl [(k_1, .byte), (k_1, .byte), (k_1, .byte), (k_4, .int), (k_4, .int), (k_1, .byte), (k_1, .byte), (k_8, .byte)] s := hK
  have hP : va_P D vwCl [(h0, .inr (0, [.int (nI 5), .ref q_1, .ref q_2, .ref q_3, .int (nI 0), .ref q_4, .ref q_5, .ref q_6, .ref q_7, .null, .null])), (q_1, .inl (k_1, 16, .inl (fun _ => nI 0))), (q_2, .inl (k_1, 16, .inl (fun _ => nI 0))), (q_3, .inl (k_1, 16, .inl (fun _ => nI 0))), (q_4, .inl (k_4, 16, .inl (fun _ => nI 0))), (q_5, .inl (k_4, 16, .inl (fun _ => nI 0))), (q_6, .inl (k_1, 5, .inl (fun _ => nI 0))), (q_7, .inl (k_1, 16, .inl (fun _ => nI 0))), (q_8, .inl (k_8, 16, .inl (fun _ => nI 0)))] H := hP
  have hD : va_D A [(h0, .inr (0, [.int (nI 5), .ref q_1, .ref q_2, .ref q_3, .int (nI 0), .ref q_4, .ref q_5, .ref q_6, .ref q_7, .null, .null])), (q_1, .inl (k_1, 16, .inl (fun _ => nI 0))), (q_2, .inl (k_1, 16, .inl (fun _ => nI 0))), (q_3, .inl (k_1, 16, .inl (fun _ => nI 0))), (q_4, .inl (k_4, 16, .inl (fun _ => nI 0))), (q_5, .inl (k_4, 16, .inl (fun _ => nI 0))), (q_6, .inl (k_1, 5, .inl (fun _ => nI 0))), (q_7, .inl (k_1, 16, .inl (fun _ => nI 0))), (q_8, .inl (k_8, 16, .inl (fun _ => nI 0)))] := hD
  have ek : k_1 = k_8 := same_b hK 0 7 rfl rfl
  subst ek
  refine va_putF (D := D) (ci := 0) (v := .ref q_8) (ty := .array .byte) (C := RX0) (T := TX0) (N := 11) hx hb hts in_X0 tyX0 tyX0_ok nmX0 hown hK hP hD hS 0 rfl rfl 9 (by decide) (hts _ q29) (fun _ h9 => h9) rfl hin rfl (by decide +kernel) rfl rfl (Nat.le_of_ble_eq_true rfl) dX0_init_69 (fun H locs hP hD hS => ?_)
  have hP : va_P D vwCl [(h0, .inr (0, [.int (nI 5), .ref q_1, .ref q_2, .ref q_3, .int (nI 0), .ref q_4, .ref q_5, .ref q_6, .ref q_7, .ref q_8, .null])), (q_1, .inl (k_1, 16, .inl (fun _ => nI 0))), (q_2, .inl (k_1, 16, .inl (fun _ => nI 0))), (q_3, .inl (k_1, 16, .inl (fun _ => nI 0))), (q_4, .inl (k_4, 16, .inl (fun _ => nI 0))), (q_5, .inl (k_4, 16, .inl (fun _ => nI 0))), (q_6, .inl (k_1, 5, .inl (fun _ => nI 0))), (q_7, .inl (k_1, 16, .inl (fun _ => nI 0))), (q_8, .inl (k_1, 16, .inl (fun _ => nI 0)))] H := hP
  have hD : va_D A [(h0, .inr (0, [.int (nI 5), .ref q_1, .ref q_2, .ref q_3, .int (nI 0), .ref q_4, .ref q_5, .ref q_6, .ref q_7, .ref q_8, .null])), (q_1, .inl (k_1, 16, .inl (fun _ => nI 0))), (q_2, .inl (k_1, 16, .inl (fun _ => nI 0))), (q_3, .inl (k_1, 16, .inl (fun _ => nI 0))), (q_4, .inl (k_4, 16, .inl (fun _ => nI 0))), (q_5, .inl (k_4, 16, .inl (fun _ => nI 0))), (q_6, .inl (k_1, 5, .inl (fun _ => nI 0))), (q_7, .inl (k_1, 16, .inl (fun _ => nI 0))), (q_8, .inl (k_1, 16, .inl (fun _ => nI 0)))] := hD
  refine lv_aload_n hx hb dX0_init_72 rfl (lv_at hl 0 rfl) ?_
  refine lv_bipush (v := nI 16) hx hb dX0_init_73 (by decide) ?_
  refine va_newa (atype := .boolean) (ty := .boolean) (a0 := (16, .inl (fun _ => nI 0))) hx hb (hts _ q56) rfl hK hP hD hS hA (fun _ => rfl) (by decide) (by decide) (by decide) (Nat.le_of_ble_eq_true rfl) (Nat.le_of_ble_eq_true rfl) dX0_init_75 (fun q_9 k_9 H hK hP hD hS => ?_)
  refine W.widen (k := 9) (n := 133) (by decide) (by decide) ?_
  have hK : va_K D vwCl [(k_1, .byte), (k_1, .byte), (k_1, .byte), (k_4, .int), (k_4, .int), (k_1, .byte), (k_1, .byte), (k_1, .byte), (k_9, .boolean)] s := hK
  have hP : va_P D vwCl [(h0, .inr (0, [.int (nI 5), .ref q_1, .ref q_2, .ref q_3, .int (nI 0), .ref q_4, .ref q_5, .ref q_6, .ref q_7, .ref q_8, .null])), (q_1, .inl (k_1, 16, .inl (fun _ => nI 0))), (q_2, .inl (k_1, 16, .inl (fun _ => nI 0))), (q_3, .inl (k_1, 16, .inl (fun _ => nI 0))), (q_4, .inl (k_4, 16, .inl (fun _ => nI 0))), (q_5, .inl (k_4, 16, .inl (fun _ => nI 0))), (q_6, .inl (k_1, 5, .inl (fun _ => nI 0))), (q_7, .inl (k_1, 16, .inl (fun _ => nI 0))), (q_8, .inl (k_1, 16, .inl (fun _ => nI 0))), (q_9, .inl (k_9, 16, .inl (fun _ => nI 0)))] H := hP
  have hD : va_D A [(h0, .inr (0, [.int (nI 5), .ref q_1, .ref q_2, .ref q_3, .int (nI 0), .ref q_4, .ref q_5, .ref q_6, .ref q_7, .ref q_8, .null])), (q_1, .inl (k_1, 16, .inl (fun _ => nI 0))), (q_2, .inl (k_1, 16, .inl (fun _ => nI 0))), (q_3, .inl (k_1, 16, .inl (fun _ => nI 0))), (q_4, .inl (k_4, 16, .inl (fun _ => nI 0))), (q_5, .inl (k_4, 16, .inl (fun _ => nI 0))), (q_6, .inl (k_1, 5, .inl (fun _ => nI 0))), (q_7, .inl (k_1, 16, .inl (fun _ => nI 0))), (q_8, .inl (k_1, 16, .inl (fun _ => nI 0))), (q_9, .inl (k_9, 16, .inl (fun _ => nI 0)))] := hD
  refine va_putF (D := D) (ci := 0) (v := .ref q_9) (ty := .array .boolean) (C := RX0) (T := TX0) (N := 11) hx hb hts in_X0 tyX0 tyX0_ok nmX0 hown hK hP hD hS 0 rfl rfl 10 (by decide) (hts _ q30) (fun _ h9 => h9) rfl hin rfl (by decide +kernel) rfl rfl (Nat.le_of_ble_eq_true rfl) dX0_init_77 (fun H locs hP hD hS => ?_)
  have hP : va_P D vwCl [(h0, .inr (0, [.int (nI 5), .ref q_1, .ref q_2, .ref q_3, .int (nI 0), .ref q_4, .ref q_5, .ref q_6, .ref q_7, .ref q_8, .ref q_9])), (q_1, .inl (k_1, 16, .inl (fun _ => nI 0))), (q_2, .inl (k_1, 16, .inl (fun _ => nI 0))), (q_3, .inl (k_1, 16, .inl (fun _ => nI 0))), (q_4, .inl (k_4, 16, .inl (fun _ => nI 0))), (q_5, .inl (k_4, 16, .inl (fun _ => nI 0))), (q_6, .inl (k_1, 5, .inl (fun _ => nI 0))), (q_7, .inl (k_1, 16, .inl (fun _ => nI 0))), (q_8, .inl (k_1, 16, .inl (fun _ => nI 0))), (q_9, .inl (k_9, 16, .inl (fun _ => nI 0)))] H := hP
  have hD : va_D A [(h0, .inr (0, [.int (nI 5), .ref q_1, .ref q_2, .ref q_3, .int (nI 0), .ref q_4, .ref q_5, .ref q_6, .ref q_7, .ref q_8, .ref q_9])), (q_1, .inl (k_1, 16, .inl (fun _ => nI 0))), (q_2, .inl (k_1, 16, .inl (fun _ => nI 0))), (q_3, .inl (k_1, 16, .inl (fun _ => nI 0))), (q_4, .inl (k_4, 16, .inl (fun _ => nI 0))), (q_5, .inl (k_4, 16, .inl (fun _ => nI 0))), (q_6, .inl (k_1, 5, .inl (fun _ => nI 0))), (q_7, .inl (k_1, 16, .inl (fun _ => nI 0))), (q_8, .inl (k_1, 16, .inl (fun _ => nI 0))), (q_9, .inl (k_9, 16, .inl (fun _ => nI 0)))] := hD
  have hK9 : va_K D vwCl [(k_1, .byte), (k_4, .int), (k_9, .boolean)] s := hK.sub [0, 3, 8] rfl
  exact W.vret hx hb hr (fun t9 ht9 hW9 => ⟨⟨(fun k => match k with | 0 => h0 | 1 => q_1 | 2 => q_2 | 3 => q_3 | 4 => q_4 | 5 => q_5 | 6 => q_6 | 7 => q_7 | 8 => q_8 | _ => q_9, fun k => match k with | 0 => k_1 | 1 => k_4 | _ => k_9), rfl, rfl, by rw [ht9]; exact hP, va_K.moved hW9.alike hK9, hD⟩, hS.F ht9⟩) hS.2.2 dX0_init_80

set_option maxHeartbeats 4000000 in
set_option maxRecDepth 100000 in
theorem mM_init (l : Launch) (D : va_G) (h0 sz : Nat) : Met l yX1_init (ws_ yX1_init cX1_init 1 none) ({ frames := 1, cells := 4, slots := 64, locals := 12 }) (va_Pc [.ref h0] (fun U => U.heap.size = sz ∧ va_P D vwCl [(h0, .inr (1, [.int (nI 0), .null, .null, .null, .int (nI 0), .null]))] U.heap ∧ va_K D vwCl [] U ∧ va_D (fun _ => True) [(h0, .inr (1, [.int (nI 0), .null, .null, .null, .int (nI 0), .null]))])) (va_Qv (fun u : ((Nat → Nat) × ClassId) => u.1 0 = h0) (fun (u : ((Nat → Nat) × ClassId)) t => BM D u.1 u.2 (va_A [(h0, .inr (1, [.int (nI 0), .null, .null, .null, .int (nI 0), .null]))] sz) ((5, (fun _ => 0), (fun _ => 0), (fun _ => 0), nI 0), fun _ => nI 0) t) (va_A [(h0, .inr (1, [.int (nI 0), .null, .null, .null, .int (nI 0), .null]))] sz)) 4 64 (va_A [(h0, .inr (1, [.int (nI 0), .null, .null, .null, .int (nI 0), .null]))] sz) := by
  refine Met.ofW (cc := cX1_init) (maxL := 1) (ret := none) (by decide) rfl ?_
  intro p e s m args below meth c s₁ B hml hv
  obtain ⟨rfl, hsz, hP, hK, hD0⟩ := hv
  have hx := B.exec
  have hb := B.bytes
  have hr := B.returns
  have hts := atoms_spec (ws := (ws_ yX1_init cX1_init 1 none)) B.pre
  have hts : ∀ w ∈ lw_all, w.before _ s = true := fun w h => hts w (List.mem_cons_of_mem _ h)
  have hown : s.vm.findClass RX1 = some m.cls := findClass_of_methodNamed B.named
  have hlocks := B.notSynchronized
  have hin : meth.name = "<init>" := (name_of_methodNamed B.named B.method).1
  subst hsz
  have hD := hD0.self (sz := s.heap.size)
  generalize hAe : va_A [(h0, .inr (1, [.int (nI 0), .null, .null, .null, .int (nI 0), .null]))] s.heap.size = A at hD ⊢
  have hA : ∀ q : Nat, s.heap.size ≤ q → A q := fun q h => by rw [← hAe]; exact Or.inr h
  have hS : va_S A s.heap s.heap [] := va_S.rf
  have hl := lv_entry ([.ref h0]) (n := 1) (Nat.le_of_ble_eq_true rfl)
  rw [lg_entry_eq]
  generalize (lg_sl ([.ref h0]) ++ List.replicate (1 - (lg_sl ([.ref h0])).length) Slot.unset).toArray = ls at hl ⊢
  have hl : lv_has ls 1 [(0, .ref h0)] := hl
  refine lv_aload_n hx hb dX1_init_0 rfl (lv_at hl 0 rfl) ?_
  refine W.objInit hx hb hown (hts _ q161) (hts _ q18) (hts _ q19) rfl (by rw [hml]; exact hl.1) rfl dX1_init_1 (Nat.le_of_ble_eq_true rfl) (Nat.le_of_ble_eq_true rfl) ?_
  refine W.eq (g2 := F0 m 4 ls []) rfl ?_
  refine lv_aload_n hx hb dX1_init_4 rfl (lv_at hl 0 rfl) ?_
  refine lv_bipush (v := nI 16) hx hb dX1_init_5 (by decide) ?_
  refine va_newa (atype := .int) (ty := .int) (a0 := (16, .inl (fun _ => nI 0))) hx hb (hts _ q55) rfl hK hP hD hS hA (fun _ => rfl) (by decide) (by decide) (by decide) (Nat.le_of_ble_eq_true rfl) (Nat.le_of_ble_eq_true rfl) dX1_init_7 (fun q_1 k_1 H hK hP hD hS => ?_)
  refine W.widen (k := 1) (n := 16) (by decide) (by decide) ?_
  have hK : va_K D vwCl [(k_1, .int)] s := hK
  have hP : va_P D vwCl [(h0, .inr (1, [.int (nI 0), .null, .null, .null, .int (nI 0), .null])), (q_1, .inl (k_1, 16, .inl (fun _ => nI 0)))] H := hP
  have hD : va_D A [(h0, .inr (1, [.int (nI 0), .null, .null, .null, .int (nI 0), .null])), (q_1, .inl (k_1, 16, .inl (fun _ => nI 0)))] := hD
  refine va_put (D := D) (ci := 1) (v := .ref q_1) (ty := .array .int) (C := RX1) (T := TX1) (N := 6) hx hb hts in_X1 tyX1 tyX1_ok nmX1 hown hK hP hD hS 0 rfl rfl 1 (by decide) (hts _ q163) (fun _ h9 => h9) rfl (by decide +kernel) rfl rfl (Nat.le_of_ble_eq_true rfl) dX1_init_9 (fun H locs hP hD hS => ?_)
  have hP : va_P D vwCl [(h0, .inr (1, [.int (nI 0), .ref q_1, .null, .null, .int (nI 0), .null])), (q_1, .inl (k_1, 16, .inl (fun _ => nI 0)))] H := hP
  have hD : va_D A [(h0, .inr (1, [.int (nI 0), .ref q_1, .null, .null, .int (nI 0), .null])), (q_1, .inl (k_1, 16, .inl (fun _ => nI 0)))] := hD
  refine lv_aload_n hx hb dX1_init_12 rfl (lv_at hl 0 rfl) ?_
  refine lv_bipush (v := nI 16) hx hb dX1_init_13 (by decide) ?_
  refine va_newa (atype := .int) (ty := .int) (a0 := (16, .inl (fun _ => nI 0))) hx hb (hts _ q55) rfl hK hP hD hS hA (fun _ => rfl) (by decide) (by decide) (by decide) (Nat.le_of_ble_eq_true rfl) (Nat.le_of_ble_eq_true rfl) dX1_init_15 (fun q_2 k_2 H hK hP hD hS => ?_)
  refine W.widen (k := 2) (n := 32) (by decide) (by decide) ?_
  have hK : va_K D vwCl [(k_1, .int), (k_2, .int)] s := hK
  have hP : va_P D vwCl [(h0, .inr (1, [.int (nI 0), .ref q_1, .null, .null, .int (nI 0), .null])), (q_1, .inl (k_1, 16, .inl (fun _ => nI 0))), (q_2, .inl (k_2, 16, .inl (fun _ => nI 0)))] H := hP
  have hD : va_D A [(h0, .inr (1, [.int (nI 0), .ref q_1, .null, .null, .int (nI 0), .null])), (q_1, .inl (k_1, 16, .inl (fun _ => nI 0))), (q_2, .inl (k_2, 16, .inl (fun _ => nI 0)))] := hD
  have ek : k_1 = k_2 := same_i hK 0 1 rfl rfl
  subst ek
  refine va_put (D := D) (ci := 1) (v := .ref q_2) (ty := .array .int) (C := RX1) (T := TX1) (N := 6) hx hb hts in_X1 tyX1 tyX1_ok nmX1 hown hK hP hD hS 0 rfl rfl 2 (by decide) (hts _ q164) (fun _ h9 => h9) rfl (by decide +kernel) rfl rfl (Nat.le_of_ble_eq_true rfl) dX1_init_17 (fun H locs hP hD hS => ?_)
  have hP : va_P D vwCl [(h0, .inr (1, [.int (nI 0), .ref q_1, .ref q_2, .null, .int (nI 0), .null])), (q_1, .inl (k_1, 16, .inl (fun _ => nI 0))), (q_2, .inl (k_1, 16, .inl (fun _ => nI 0)))] H := hP
  have hD : va_D A [(h0, .inr (1, [.int (nI 0), .ref q_1, .ref q_2, .null, .int (nI 0), .null])), (q_1, .inl (k_1, 16, .inl (fun _ => nI 0))), (q_2, .inl (k_1, 16, .inl (fun _ => nI 0)))] := hD
  refine lv_aload_n hx hb dX1_init_20 rfl (lv_at hl 0 rfl) ?_
  refine lv_bipush (v := nI 16) hx hb dX1_init_21 (by decide) ?_
  refine va_newa (atype := .int) (ty := .int) (a0 := (16, .inl (fun _ => nI 0))) hx hb (hts _ q55) rfl hK hP hD hS hA (fun _ => rfl) (by decide) (by decide) (by decide) (Nat.le_of_ble_eq_true rfl) (Nat.le_of_ble_eq_true rfl) dX1_init_23 (fun q_3 k_3 H hK hP hD hS => ?_)
  refine W.widen (k := 3) (n := 48) (by decide) (by decide) ?_
  have hK : va_K D vwCl [(k_1, .int), (k_1, .int), (k_3, .int)] s := hK
  have hP : va_P D vwCl [(h0, .inr (1, [.int (nI 0), .ref q_1, .ref q_2, .null, .int (nI 0), .null])), (q_1, .inl (k_1, 16, .inl (fun _ => nI 0))), (q_2, .inl (k_1, 16, .inl (fun _ => nI 0))), (q_3, .inl (k_3, 16, .inl (fun _ => nI 0)))] H := hP
  have hD : va_D A [(h0, .inr (1, [.int (nI 0), .ref q_1, .ref q_2, .null, .int (nI 0), .null])), (q_1, .inl (k_1, 16, .inl (fun _ => nI 0))), (q_2, .inl (k_1, 16, .inl (fun _ => nI 0))), (q_3, .inl (k_3, 16, .inl (fun _ => nI 0)))] := hD
  have ek : k_1 = k_3 := same_i hK 0 2 rfl rfl
  subst ek
  refine va_put (D := D) (ci := 1) (v := .ref q_3) (ty := .array .int) (C := RX1) (T := TX1) (N := 6) hx hb hts in_X1 tyX1 tyX1_ok nmX1 hown hK hP hD hS 0 rfl rfl 3 (by decide) (hts _ q165) (fun _ h9 => h9) rfl (by decide +kernel) rfl rfl (Nat.le_of_ble_eq_true rfl) dX1_init_25 (fun H locs hP hD hS => ?_)
  have hP : va_P D vwCl [(h0, .inr (1, [.int (nI 0), .ref q_1, .ref q_2, .ref q_3, .int (nI 0), .null])), (q_1, .inl (k_1, 16, .inl (fun _ => nI 0))), (q_2, .inl (k_1, 16, .inl (fun _ => nI 0))), (q_3, .inl (k_1, 16, .inl (fun _ => nI 0)))] H := hP
  have hD : va_D A [(h0, .inr (1, [.int (nI 0), .ref q_1, .ref q_2, .ref q_3, .int (nI 0), .null])), (q_1, .inl (k_1, 16, .inl (fun _ => nI 0))), (q_2, .inl (k_1, 16, .inl (fun _ => nI 0))), (q_3, .inl (k_1, 16, .inl (fun _ => nI 0)))] := hD
  refine lv_aload_n hx hb dX1_init_28 rfl (lv_at hl 0 rfl) ?_
  refine lv_bipush (v := nI 16) hx hb dX1_init_29 (by decide) ?_
  refine va_newa (atype := .int) (ty := .int) (a0 := (16, .inl (fun _ => nI 0))) hx hb (hts _ q55) rfl hK hP hD hS hA (fun _ => rfl) (by decide) (by decide) (by decide) (Nat.le_of_ble_eq_true rfl) (Nat.le_of_ble_eq_true rfl) dX1_init_31 (fun q_4 k_4 H hK hP hD hS => ?_)
  refine W.widen (k := 4) (n := 64) (by decide) (by decide) ?_
  have hK : va_K D vwCl [(k_1, .int), (k_1, .int), (k_1, .int), (k_4, .int)] s := hK
  have hP : va_P D vwCl [(h0, .inr (1, [.int (nI 0), .ref q_1, .ref q_2, .ref q_3, .int (nI 0), .null])), (q_1, .inl (k_1, 16, .inl (fun _ => nI 0))), (q_2, .inl (k_1, 16, .inl (fun _ => nI 0))), (q_3, .inl (k_1, 16, .inl (fun _ => nI 0))), (q_4, .inl (k_4, 16, .inl (fun _ => nI 0)))] H := hP
  have hD : va_D A [(h0, .inr (1, [.int (nI 0), .ref q_1, .ref q_2, .ref q_3, .int (nI 0), .null])), (q_1, .inl (k_1, 16, .inl (fun _ => nI 0))), (q_2, .inl (k_1, 16, .inl (fun _ => nI 0))), (q_3, .inl (k_1, 16, .inl (fun _ => nI 0))), (q_4, .inl (k_4, 16, .inl (fun _ => nI 0)))] := hD
  have ek : k_1 = k_4 := same_i hK 0 3 rfl rfl
  subst ek
  refine va_put (D := D) (ci := 1) (v := .ref q_4) (ty := .array .int) (C := RX1) (T := TX1) (N := 6) hx hb hts in_X1 tyX1 tyX1_ok nmX1 hown hK hP hD hS 0 rfl rfl 5 (by decide) (hts _ q167) (fun _ h9 => h9) rfl (by decide +kernel) rfl rfl (Nat.le_of_ble_eq_true rfl) dX1_init_33 (fun H locs hP hD hS => ?_)
  have hP : va_P D vwCl [(h0, .inr (1, [.int (nI 0), .ref q_1, .ref q_2, .ref q_3, .int (nI 0), .ref q_4])), (q_1, .inl (k_1, 16, .inl (fun _ => nI 0))), (q_2, .inl (k_1, 16, .inl (fun _ => nI 0))), (q_3, .inl (k_1, 16, .inl (fun _ => nI 0))), (q_4, .inl (k_1, 16, .inl (fun _ => nI 0)))] H := hP
  have hD : va_D A [(h0, .inr (1, [.int (nI 0), .ref q_1, .ref q_2, .ref q_3, .int (nI 0), .ref q_4])), (q_1, .inl (k_1, 16, .inl (fun _ => nI 0))), (q_2, .inl (k_1, 16, .inl (fun _ => nI 0))), (q_3, .inl (k_1, 16, .inl (fun _ => nI 0))), (q_4, .inl (k_1, 16, .inl (fun _ => nI 0)))] := hD
  refine lv_aload_n hx hb dX1_init_36 rfl (lv_at hl 0 rfl) ?_
  refine lv_iconst (v := nI 5) hx hb dX1_init_37 (by decide) ?_
  refine va_put (D := D) (ci := 1) (v := .int (nI 5)) (ty := .int) (C := RX1) (T := TX1) (N := 6) hx hb hts in_X1 tyX1 tyX1_ok nmX1 hown hK hP hD hS 0 rfl rfl 0 (by decide) (hts _ q162) (fun _ h9 => h9) rfl (by decide +kernel) rfl rfl (Nat.le_of_ble_eq_true rfl) dX1_init_38 (fun H locs hP hD hS => ?_)
  have hP : va_P D vwCl [(h0, .inr (1, [.int (nI 5), .ref q_1, .ref q_2, .ref q_3, .int (nI 0), .ref q_4])), (q_1, .inl (k_1, 16, .inl (fun _ => nI 0))), (q_2, .inl (k_1, 16, .inl (fun _ => nI 0))), (q_3, .inl (k_1, 16, .inl (fun _ => nI 0))), (q_4, .inl (k_1, 16, .inl (fun _ => nI 0)))] H := hP
  have hD : va_D A [(h0, .inr (1, [.int (nI 5), .ref q_1, .ref q_2, .ref q_3, .int (nI 0), .ref q_4])), (q_1, .inl (k_1, 16, .inl (fun _ => nI 0))), (q_2, .inl (k_1, 16, .inl (fun _ => nI 0))), (q_3, .inl (k_1, 16, .inl (fun _ => nI 0))), (q_4, .inl (k_1, 16, .inl (fun _ => nI 0)))] := hD
  have hK9 : va_K D vwCl [(k_1, .int)] s := hK.sub [0] rfl
  exact W.vret hx hb hr (fun t9 ht9 hW9 => ⟨⟨(fun k => match k with | 0 => h0 | 1 => q_1 | 2 => q_2 | 3 => q_3 | _ => q_4, k_1), rfl, rfl, by rw [ht9]; exact hP, va_K.moved hW9.alike hK9, hD⟩, hS.F ht9⟩) hS.2.2 dX1_init_41
end
section
set_option maxRecDepth 100000
abbrev cL_law : ByteArray := code
theorem dL_law_0 : decode cL_law 0 = .ok (.new 7, 3) := by decide +kernel
theorem dL_law_3 : decode cL_law 3 = .ok (.dup, 1) := by decide +kernel
theorem dL_law_4 : decode cL_law 4 = .ok (.invokespecial 9, 3) := by decide +kernel
theorem dL_law_7 : decode cL_law 7 = .ok (.astore_n 1, 1) := by decide +kernel
theorem dL_law_8 : decode cL_law 8 = .ok (.new 10, 3) := by decide +kernel
theorem dL_law_11 : decode cL_law 11 = .ok (.dup, 1) := by decide +kernel
theorem dL_law_12 : decode cL_law 12 = .ok (.invokespecial 12, 3) := by decide +kernel
theorem dL_law_15 : decode cL_law 15 = .ok (.astore_n 2, 1) := by decide +kernel
theorem dL_law_16 : decode cL_law 16 = .ok (.iconst 0, 1) := by decide +kernel
theorem dL_law_17 : decode cL_law 17 = .ok (.istore_n 3, 1) := by decide +kernel
theorem dL_law_18 : decode cL_law 18 = .ok (.iload_n 3, 1) := by decide +kernel
theorem dL_law_19 : decode cL_law 19 = .ok (.aload_n 0, 1) := by decide +kernel
theorem dL_law_20 : decode cL_law 20 = .ok (.arraylength, 1) := by decide +kernel
theorem dL_law_21 : decode cL_law 21 = .ok (.iconst 5, 1) := by decide +kernel
theorem dL_law_22 : decode cL_law 22 = .ok (.isub, 1) := by decide +kernel
theorem dL_law_23 : decode cL_law 23 = .ok (.if_icmp .gt 505, 3) := by decide +kernel
theorem dL_law_26 : decode cL_law 26 = .ok (.aload_n 0, 1) := by decide +kernel
theorem dL_law_27 : decode cL_law 27 = .ok (.iload_n 3, 1) := by decide +kernel
theorem dL_law_28 : decode cL_law 28 = .ok (.iaload, 1) := by decide +kernel
theorem dL_law_29 : decode cL_law 29 = .ok (.bipush 15, 2) := by decide +kernel
theorem dL_law_31 : decode cL_law 31 = .ok (.iand, 1) := by decide +kernel
theorem dL_law_32 : decode cL_law 32 = .ok (.tableswitch 490 0 13 #[72, 115, 128, 177, 190, 203, 236, 279, 312, 355, 378, 401, 414, 467], 72) := by decide +kernel
theorem dL_law_104 : decode cL_law 104 = .ok (.aload_n 1, 1) := by decide +kernel
theorem dL_law_105 : decode cL_law 105 = .ok (.aload_n 0, 1) := by decide +kernel
theorem dL_law_106 : decode cL_law 106 = .ok (.iload_n 3, 1) := by decide +kernel
theorem dL_law_107 : decode cL_law 107 = .ok (.iconst 1, 1) := by decide +kernel
theorem dL_law_108 : decode cL_law 108 = .ok (.iadd, 1) := by decide +kernel
theorem dL_law_109 : decode cL_law 109 = .ok (.iaload, 1) := by decide +kernel
theorem dL_law_110 : decode cL_law 110 = .ok (.aload_n 0, 1) := by decide +kernel
theorem dL_law_111 : decode cL_law 111 = .ok (.iload_n 3, 1) := by decide +kernel
theorem dL_law_112 : decode cL_law 112 = .ok (.iconst 2, 1) := by decide +kernel
theorem dL_law_113 : decode cL_law 113 = .ok (.iadd, 1) := by decide +kernel
theorem dL_law_114 : decode cL_law 114 = .ok (.iaload, 1) := by decide +kernel
theorem dL_law_115 : decode cL_law 115 = .ok (.aload_n 0, 1) := by decide +kernel
theorem dL_law_116 : decode cL_law 116 = .ok (.iload_n 3, 1) := by decide +kernel
theorem dL_law_117 : decode cL_law 117 = .ok (.iconst 3, 1) := by decide +kernel
theorem dL_law_118 : decode cL_law 118 = .ok (.iadd, 1) := by decide +kernel
theorem dL_law_119 : decode cL_law 119 = .ok (.iaload, 1) := by decide +kernel
theorem dL_law_120 : decode cL_law 120 = .ok (.invokevirtual 13, 3) := by decide +kernel
theorem dL_law_123 : decode cL_law 123 = .ok (.aload_n 2, 1) := by decide +kernel
theorem dL_law_124 : decode cL_law 124 = .ok (.aload_n 0, 1) := by decide +kernel
theorem dL_law_125 : decode cL_law 125 = .ok (.iload_n 3, 1) := by decide +kernel
theorem dL_law_126 : decode cL_law 126 = .ok (.iconst 1, 1) := by decide +kernel
theorem dL_law_127 : decode cL_law 127 = .ok (.iadd, 1) := by decide +kernel
theorem dL_law_128 : decode cL_law 128 = .ok (.iaload, 1) := by decide +kernel
theorem dL_law_129 : decode cL_law 129 = .ok (.aload_n 0, 1) := by decide +kernel
theorem dL_law_130 : decode cL_law 130 = .ok (.iload_n 3, 1) := by decide +kernel
theorem dL_law_131 : decode cL_law 131 = .ok (.iconst 2, 1) := by decide +kernel
theorem dL_law_132 : decode cL_law 132 = .ok (.iadd, 1) := by decide +kernel
theorem dL_law_133 : decode cL_law 133 = .ok (.iaload, 1) := by decide +kernel
theorem dL_law_134 : decode cL_law 134 = .ok (.aload_n 0, 1) := by decide +kernel
end
section
set_option maxRecDepth 100000
theorem dL_law_135 : decode cL_law 135 = .ok (.iload_n 3, 1) := by decide +kernel
theorem dL_law_136 : decode cL_law 136 = .ok (.iconst 3, 1) := by decide +kernel
theorem dL_law_137 : decode cL_law 137 = .ok (.iadd, 1) := by decide +kernel
theorem dL_law_138 : decode cL_law 138 = .ok (.iaload, 1) := by decide +kernel
theorem dL_law_139 : decode cL_law 139 = .ok (.invokevirtual 17, 3) := by decide +kernel
theorem dL_law_142 : decode cL_law 142 = .ok (.if_icmp .eq 380, 3) := by decide +kernel
theorem dL_law_145 : decode cL_law 145 = .ok (.iconst 0, 1) := by decide +kernel
theorem dL_law_146 : decode cL_law 146 = .ok (.ireturn, 1) := by decide +kernel
theorem dL_law_147 : decode cL_law 147 = .ok (.aload_n 1, 1) := by decide +kernel
theorem dL_law_148 : decode cL_law 148 = .ok (.invokevirtual 18, 3) := by decide +kernel
theorem dL_law_151 : decode cL_law 151 = .ok (.aload_n 2, 1) := by decide +kernel
theorem dL_law_152 : decode cL_law 152 = .ok (.invokevirtual 22, 3) := by decide +kernel
theorem dL_law_155 : decode cL_law 155 = .ok (.if_icmp .eq 367, 3) := by decide +kernel
theorem dL_law_158 : decode cL_law 158 = .ok (.iconst 0, 1) := by decide +kernel
theorem dL_law_159 : decode cL_law 159 = .ok (.ireturn, 1) := by decide +kernel
theorem dL_law_160 : decode cL_law 160 = .ok (.aload_n 1, 1) := by decide +kernel
theorem dL_law_161 : decode cL_law 161 = .ok (.aload_n 0, 1) := by decide +kernel
theorem dL_law_162 : decode cL_law 162 = .ok (.iload_n 3, 1) := by decide +kernel
theorem dL_law_163 : decode cL_law 163 = .ok (.iconst 1, 1) := by decide +kernel
theorem dL_law_164 : decode cL_law 164 = .ok (.iadd, 1) := by decide +kernel
theorem dL_law_165 : decode cL_law 165 = .ok (.iaload, 1) := by decide +kernel
theorem dL_law_166 : decode cL_law 166 = .ok (.aload_n 0, 1) := by decide +kernel
theorem dL_law_167 : decode cL_law 167 = .ok (.iload_n 3, 1) := by decide +kernel
theorem dL_law_168 : decode cL_law 168 = .ok (.iconst 2, 1) := by decide +kernel
theorem dL_law_169 : decode cL_law 169 = .ok (.iadd, 1) := by decide +kernel
theorem dL_law_170 : decode cL_law 170 = .ok (.iaload, 1) := by decide +kernel
theorem dL_law_171 : decode cL_law 171 = .ok (.ifCond .eq 7, 3) := by decide +kernel
theorem dL_law_174 : decode cL_law 174 = .ok (.iconst 1, 1) := by decide +kernel
theorem dL_law_175 : decode cL_law 175 = .ok (.goto 4, 3) := by decide +kernel
theorem dL_law_178 : decode cL_law 178 = .ok (.iconst 0, 1) := by decide +kernel
theorem dL_law_179 : decode cL_law 179 = .ok (.invokevirtual 23, 3) := by decide +kernel
theorem dL_law_182 : decode cL_law 182 = .ok (.aload_n 2, 1) := by decide +kernel
theorem dL_law_183 : decode cL_law 183 = .ok (.aload_n 0, 1) := by decide +kernel
theorem dL_law_184 : decode cL_law 184 = .ok (.iload_n 3, 1) := by decide +kernel
theorem dL_law_185 : decode cL_law 185 = .ok (.iconst 1, 1) := by decide +kernel
theorem dL_law_186 : decode cL_law 186 = .ok (.iadd, 1) := by decide +kernel
theorem dL_law_187 : decode cL_law 187 = .ok (.iaload, 1) := by decide +kernel
theorem dL_law_188 : decode cL_law 188 = .ok (.aload_n 0, 1) := by decide +kernel
theorem dL_law_189 : decode cL_law 189 = .ok (.iload_n 3, 1) := by decide +kernel
theorem dL_law_190 : decode cL_law 190 = .ok (.iconst 2, 1) := by decide +kernel
theorem dL_law_191 : decode cL_law 191 = .ok (.iadd, 1) := by decide +kernel
theorem dL_law_192 : decode cL_law 192 = .ok (.iaload, 1) := by decide +kernel
theorem dL_law_193 : decode cL_law 193 = .ok (.ifCond .eq 7, 3) := by decide +kernel
theorem dL_law_196 : decode cL_law 196 = .ok (.iconst 1, 1) := by decide +kernel
theorem dL_law_197 : decode cL_law 197 = .ok (.goto 4, 3) := by decide +kernel
theorem dL_law_200 : decode cL_law 200 = .ok (.iconst 0, 1) := by decide +kernel
theorem dL_law_201 : decode cL_law 201 = .ok (.invokevirtual 27, 3) := by decide +kernel
theorem dL_law_204 : decode cL_law 204 = .ok (.if_icmp .eq 318, 3) := by decide +kernel
theorem dL_law_207 : decode cL_law 207 = .ok (.iconst 0, 1) := by decide +kernel
theorem dL_law_208 : decode cL_law 208 = .ok (.ireturn, 1) := by decide +kernel
theorem dL_law_209 : decode cL_law 209 = .ok (.aload_n 1, 1) := by decide +kernel
end
section
set_option maxRecDepth 100000
theorem dL_law_210 : decode cL_law 210 = .ok (.invokevirtual 28, 3) := by decide +kernel
theorem dL_law_213 : decode cL_law 213 = .ok (.aload_n 2, 1) := by decide +kernel
theorem dL_law_214 : decode cL_law 214 = .ok (.invokevirtual 31, 3) := by decide +kernel
theorem dL_law_217 : decode cL_law 217 = .ok (.if_icmp .eq 305, 3) := by decide +kernel
theorem dL_law_220 : decode cL_law 220 = .ok (.iconst 0, 1) := by decide +kernel
theorem dL_law_221 : decode cL_law 221 = .ok (.ireturn, 1) := by decide +kernel
theorem dL_law_222 : decode cL_law 222 = .ok (.aload_n 1, 1) := by decide +kernel
theorem dL_law_223 : decode cL_law 223 = .ok (.invokevirtual 32, 3) := by decide +kernel
theorem dL_law_226 : decode cL_law 226 = .ok (.aload_n 2, 1) := by decide +kernel
theorem dL_law_227 : decode cL_law 227 = .ok (.invokevirtual 35, 3) := by decide +kernel
theorem dL_law_230 : decode cL_law 230 = .ok (.if_icmp .eq 292, 3) := by decide +kernel
theorem dL_law_233 : decode cL_law 233 = .ok (.iconst 0, 1) := by decide +kernel
theorem dL_law_234 : decode cL_law 234 = .ok (.ireturn, 1) := by decide +kernel
theorem dL_law_235 : decode cL_law 235 = .ok (.aload_n 1, 1) := by decide +kernel
theorem dL_law_236 : decode cL_law 236 = .ok (.aload_n 0, 1) := by decide +kernel
theorem dL_law_237 : decode cL_law 237 = .ok (.iload_n 3, 1) := by decide +kernel
theorem dL_law_238 : decode cL_law 238 = .ok (.iconst 1, 1) := by decide +kernel
theorem dL_law_239 : decode cL_law 239 = .ok (.iadd, 1) := by decide +kernel
theorem dL_law_240 : decode cL_law 240 = .ok (.iaload, 1) := by decide +kernel
theorem dL_law_241 : decode cL_law 241 = .ok (.aload_n 0, 1) := by decide +kernel
theorem dL_law_242 : decode cL_law 242 = .ok (.iload_n 3, 1) := by decide +kernel
theorem dL_law_243 : decode cL_law 243 = .ok (.iconst 2, 1) := by decide +kernel
theorem dL_law_244 : decode cL_law 244 = .ok (.iadd, 1) := by decide +kernel
theorem dL_law_245 : decode cL_law 245 = .ok (.iaload, 1) := by decide +kernel
theorem dL_law_246 : decode cL_law 246 = .ok (.invokevirtual 36, 3) := by decide +kernel
theorem dL_law_249 : decode cL_law 249 = .ok (.aload_n 2, 1) := by decide +kernel
theorem dL_law_250 : decode cL_law 250 = .ok (.aload_n 0, 1) := by decide +kernel
theorem dL_law_251 : decode cL_law 251 = .ok (.iload_n 3, 1) := by decide +kernel
theorem dL_law_252 : decode cL_law 252 = .ok (.iconst 1, 1) := by decide +kernel
theorem dL_law_253 : decode cL_law 253 = .ok (.iadd, 1) := by decide +kernel
theorem dL_law_254 : decode cL_law 254 = .ok (.iaload, 1) := by decide +kernel
theorem dL_law_255 : decode cL_law 255 = .ok (.aload_n 0, 1) := by decide +kernel
theorem dL_law_256 : decode cL_law 256 = .ok (.iload_n 3, 1) := by decide +kernel
theorem dL_law_257 : decode cL_law 257 = .ok (.iconst 2, 1) := by decide +kernel
theorem dL_law_258 : decode cL_law 258 = .ok (.iadd, 1) := by decide +kernel
theorem dL_law_259 : decode cL_law 259 = .ok (.iaload, 1) := by decide +kernel
theorem dL_law_260 : decode cL_law 260 = .ok (.invokevirtual 40, 3) := by decide +kernel
theorem dL_law_263 : decode cL_law 263 = .ok (.if_icmp .eq 259, 3) := by decide +kernel
theorem dL_law_266 : decode cL_law 266 = .ok (.iconst 0, 1) := by decide +kernel
theorem dL_law_267 : decode cL_law 267 = .ok (.ireturn, 1) := by decide +kernel
theorem dL_law_268 : decode cL_law 268 = .ok (.aload_n 1, 1) := by decide +kernel
theorem dL_law_269 : decode cL_law 269 = .ok (.aload_n 0, 1) := by decide +kernel
theorem dL_law_270 : decode cL_law 270 = .ok (.iload_n 3, 1) := by decide +kernel
theorem dL_law_271 : decode cL_law 271 = .ok (.iconst 1, 1) := by decide +kernel
theorem dL_law_272 : decode cL_law 272 = .ok (.iadd, 1) := by decide +kernel
theorem dL_law_273 : decode cL_law 273 = .ok (.iaload, 1) := by decide +kernel
theorem dL_law_274 : decode cL_law 274 = .ok (.aload_n 0, 1) := by decide +kernel
theorem dL_law_275 : decode cL_law 275 = .ok (.iload_n 3, 1) := by decide +kernel
theorem dL_law_276 : decode cL_law 276 = .ok (.iconst 2, 1) := by decide +kernel
theorem dL_law_277 : decode cL_law 277 = .ok (.iadd, 1) := by decide +kernel
theorem dL_law_278 : decode cL_law 278 = .ok (.iaload, 1) := by decide +kernel
end
section
set_option maxRecDepth 100000
theorem dL_law_279 : decode cL_law 279 = .ok (.aload_n 0, 1) := by decide +kernel
theorem dL_law_280 : decode cL_law 280 = .ok (.iload_n 3, 1) := by decide +kernel
theorem dL_law_281 : decode cL_law 281 = .ok (.iconst 3, 1) := by decide +kernel
theorem dL_law_282 : decode cL_law 282 = .ok (.iadd, 1) := by decide +kernel
theorem dL_law_283 : decode cL_law 283 = .ok (.iaload, 1) := by decide +kernel
theorem dL_law_284 : decode cL_law 284 = .ok (.invokevirtual 41, 3) := by decide +kernel
theorem dL_law_287 : decode cL_law 287 = .ok (.aload_n 2, 1) := by decide +kernel
theorem dL_law_288 : decode cL_law 288 = .ok (.aload_n 0, 1) := by decide +kernel
theorem dL_law_289 : decode cL_law 289 = .ok (.iload_n 3, 1) := by decide +kernel
theorem dL_law_290 : decode cL_law 290 = .ok (.iconst 1, 1) := by decide +kernel
theorem dL_law_291 : decode cL_law 291 = .ok (.iadd, 1) := by decide +kernel
theorem dL_law_292 : decode cL_law 292 = .ok (.iaload, 1) := by decide +kernel
theorem dL_law_293 : decode cL_law 293 = .ok (.aload_n 0, 1) := by decide +kernel
theorem dL_law_294 : decode cL_law 294 = .ok (.iload_n 3, 1) := by decide +kernel
theorem dL_law_295 : decode cL_law 295 = .ok (.iconst 2, 1) := by decide +kernel
theorem dL_law_296 : decode cL_law 296 = .ok (.iadd, 1) := by decide +kernel
theorem dL_law_297 : decode cL_law 297 = .ok (.iaload, 1) := by decide +kernel
theorem dL_law_298 : decode cL_law 298 = .ok (.aload_n 0, 1) := by decide +kernel
theorem dL_law_299 : decode cL_law 299 = .ok (.iload_n 3, 1) := by decide +kernel
theorem dL_law_300 : decode cL_law 300 = .ok (.iconst 3, 1) := by decide +kernel
theorem dL_law_301 : decode cL_law 301 = .ok (.iadd, 1) := by decide +kernel
theorem dL_law_302 : decode cL_law 302 = .ok (.iaload, 1) := by decide +kernel
theorem dL_law_303 : decode cL_law 303 = .ok (.invokevirtual 45, 3) := by decide +kernel
theorem dL_law_306 : decode cL_law 306 = .ok (.if_icmp .eq 216, 3) := by decide +kernel
theorem dL_law_309 : decode cL_law 309 = .ok (.iconst 0, 1) := by decide +kernel
theorem dL_law_310 : decode cL_law 310 = .ok (.ireturn, 1) := by decide +kernel
theorem dL_law_311 : decode cL_law 311 = .ok (.aload_n 1, 1) := by decide +kernel
theorem dL_law_312 : decode cL_law 312 = .ok (.aload_n 0, 1) := by decide +kernel
theorem dL_law_313 : decode cL_law 313 = .ok (.iload_n 3, 1) := by decide +kernel
theorem dL_law_314 : decode cL_law 314 = .ok (.iconst 1, 1) := by decide +kernel
theorem dL_law_315 : decode cL_law 315 = .ok (.iadd, 1) := by decide +kernel
theorem dL_law_316 : decode cL_law 316 = .ok (.iaload, 1) := by decide +kernel
theorem dL_law_317 : decode cL_law 317 = .ok (.aload_n 0, 1) := by decide +kernel
theorem dL_law_318 : decode cL_law 318 = .ok (.iload_n 3, 1) := by decide +kernel
theorem dL_law_319 : decode cL_law 319 = .ok (.iconst 2, 1) := by decide +kernel
theorem dL_law_320 : decode cL_law 320 = .ok (.iadd, 1) := by decide +kernel
theorem dL_law_321 : decode cL_law 321 = .ok (.iaload, 1) := by decide +kernel
theorem dL_law_322 : decode cL_law 322 = .ok (.invokevirtual 46, 3) := by decide +kernel
theorem dL_law_325 : decode cL_law 325 = .ok (.aload_n 2, 1) := by decide +kernel
theorem dL_law_326 : decode cL_law 326 = .ok (.aload_n 0, 1) := by decide +kernel
theorem dL_law_327 : decode cL_law 327 = .ok (.iload_n 3, 1) := by decide +kernel
theorem dL_law_328 : decode cL_law 328 = .ok (.iconst 1, 1) := by decide +kernel
theorem dL_law_329 : decode cL_law 329 = .ok (.iadd, 1) := by decide +kernel
theorem dL_law_330 : decode cL_law 330 = .ok (.iaload, 1) := by decide +kernel
theorem dL_law_331 : decode cL_law 331 = .ok (.aload_n 0, 1) := by decide +kernel
theorem dL_law_332 : decode cL_law 332 = .ok (.iload_n 3, 1) := by decide +kernel
theorem dL_law_333 : decode cL_law 333 = .ok (.iconst 2, 1) := by decide +kernel
theorem dL_law_334 : decode cL_law 334 = .ok (.iadd, 1) := by decide +kernel
theorem dL_law_335 : decode cL_law 335 = .ok (.iaload, 1) := by decide +kernel
theorem dL_law_336 : decode cL_law 336 = .ok (.invokevirtual 49, 3) := by decide +kernel
theorem dL_law_339 : decode cL_law 339 = .ok (.if_icmp .eq 183, 3) := by decide +kernel
end
section
set_option maxRecDepth 100000
theorem dL_law_342 : decode cL_law 342 = .ok (.iconst 0, 1) := by decide +kernel
theorem dL_law_343 : decode cL_law 343 = .ok (.ireturn, 1) := by decide +kernel
theorem dL_law_344 : decode cL_law 344 = .ok (.aload_n 1, 1) := by decide +kernel
theorem dL_law_345 : decode cL_law 345 = .ok (.aload_n 0, 1) := by decide +kernel
theorem dL_law_346 : decode cL_law 346 = .ok (.iload_n 3, 1) := by decide +kernel
theorem dL_law_347 : decode cL_law 347 = .ok (.iconst 1, 1) := by decide +kernel
theorem dL_law_348 : decode cL_law 348 = .ok (.iadd, 1) := by decide +kernel
theorem dL_law_349 : decode cL_law 349 = .ok (.iaload, 1) := by decide +kernel
theorem dL_law_350 : decode cL_law 350 = .ok (.aload_n 0, 1) := by decide +kernel
theorem dL_law_351 : decode cL_law 351 = .ok (.iload_n 3, 1) := by decide +kernel
theorem dL_law_352 : decode cL_law 352 = .ok (.iconst 2, 1) := by decide +kernel
theorem dL_law_353 : decode cL_law 353 = .ok (.iadd, 1) := by decide +kernel
theorem dL_law_354 : decode cL_law 354 = .ok (.iaload, 1) := by decide +kernel
theorem dL_law_355 : decode cL_law 355 = .ok (.aload_n 0, 1) := by decide +kernel
theorem dL_law_356 : decode cL_law 356 = .ok (.iload_n 3, 1) := by decide +kernel
theorem dL_law_357 : decode cL_law 357 = .ok (.iconst 3, 1) := by decide +kernel
theorem dL_law_358 : decode cL_law 358 = .ok (.iadd, 1) := by decide +kernel
theorem dL_law_359 : decode cL_law 359 = .ok (.iaload, 1) := by decide +kernel
theorem dL_law_360 : decode cL_law 360 = .ok (.invokevirtual 50, 3) := by decide +kernel
theorem dL_law_363 : decode cL_law 363 = .ok (.aload_n 2, 1) := by decide +kernel
theorem dL_law_364 : decode cL_law 364 = .ok (.aload_n 0, 1) := by decide +kernel
theorem dL_law_365 : decode cL_law 365 = .ok (.iload_n 3, 1) := by decide +kernel
theorem dL_law_366 : decode cL_law 366 = .ok (.iconst 1, 1) := by decide +kernel
theorem dL_law_367 : decode cL_law 367 = .ok (.iadd, 1) := by decide +kernel
theorem dL_law_368 : decode cL_law 368 = .ok (.iaload, 1) := by decide +kernel
theorem dL_law_369 : decode cL_law 369 = .ok (.aload_n 0, 1) := by decide +kernel
theorem dL_law_370 : decode cL_law 370 = .ok (.iload_n 3, 1) := by decide +kernel
theorem dL_law_371 : decode cL_law 371 = .ok (.iconst 2, 1) := by decide +kernel
theorem dL_law_372 : decode cL_law 372 = .ok (.iadd, 1) := by decide +kernel
theorem dL_law_373 : decode cL_law 373 = .ok (.iaload, 1) := by decide +kernel
theorem dL_law_374 : decode cL_law 374 = .ok (.aload_n 0, 1) := by decide +kernel
theorem dL_law_375 : decode cL_law 375 = .ok (.iload_n 3, 1) := by decide +kernel
theorem dL_law_376 : decode cL_law 376 = .ok (.iconst 3, 1) := by decide +kernel
theorem dL_law_377 : decode cL_law 377 = .ok (.iadd, 1) := by decide +kernel
theorem dL_law_378 : decode cL_law 378 = .ok (.iaload, 1) := by decide +kernel
theorem dL_law_379 : decode cL_law 379 = .ok (.invokevirtual 53, 3) := by decide +kernel
theorem dL_law_382 : decode cL_law 382 = .ok (.if_icmp .eq 140, 3) := by decide +kernel
theorem dL_law_385 : decode cL_law 385 = .ok (.iconst 0, 1) := by decide +kernel
theorem dL_law_386 : decode cL_law 386 = .ok (.ireturn, 1) := by decide +kernel
theorem dL_law_387 : decode cL_law 387 = .ok (.aload_n 1, 1) := by decide +kernel
theorem dL_law_388 : decode cL_law 388 = .ok (.aload_n 0, 1) := by decide +kernel
theorem dL_law_389 : decode cL_law 389 = .ok (.iload_n 3, 1) := by decide +kernel
theorem dL_law_390 : decode cL_law 390 = .ok (.iconst 1, 1) := by decide +kernel
theorem dL_law_391 : decode cL_law 391 = .ok (.iadd, 1) := by decide +kernel
theorem dL_law_392 : decode cL_law 392 = .ok (.iaload, 1) := by decide +kernel
theorem dL_law_393 : decode cL_law 393 = .ok (.invokevirtual 54, 3) := by decide +kernel
theorem dL_law_396 : decode cL_law 396 = .ok (.aload_n 2, 1) := by decide +kernel
theorem dL_law_397 : decode cL_law 397 = .ok (.aload_n 0, 1) := by decide +kernel
theorem dL_law_398 : decode cL_law 398 = .ok (.iload_n 3, 1) := by decide +kernel
theorem dL_law_399 : decode cL_law 399 = .ok (.iconst 1, 1) := by decide +kernel
theorem dL_law_400 : decode cL_law 400 = .ok (.iadd, 1) := by decide +kernel
end
section
set_option maxRecDepth 100000
theorem dL_law_401 : decode cL_law 401 = .ok (.iaload, 1) := by decide +kernel
theorem dL_law_402 : decode cL_law 402 = .ok (.invokevirtual 58, 3) := by decide +kernel
theorem dL_law_405 : decode cL_law 405 = .ok (.if_icmp .eq 117, 3) := by decide +kernel
theorem dL_law_408 : decode cL_law 408 = .ok (.iconst 0, 1) := by decide +kernel
theorem dL_law_409 : decode cL_law 409 = .ok (.ireturn, 1) := by decide +kernel
theorem dL_law_410 : decode cL_law 410 = .ok (.aload_n 1, 1) := by decide +kernel
theorem dL_law_411 : decode cL_law 411 = .ok (.aload_n 0, 1) := by decide +kernel
theorem dL_law_412 : decode cL_law 412 = .ok (.iload_n 3, 1) := by decide +kernel
theorem dL_law_413 : decode cL_law 413 = .ok (.iconst 1, 1) := by decide +kernel
theorem dL_law_414 : decode cL_law 414 = .ok (.iadd, 1) := by decide +kernel
theorem dL_law_415 : decode cL_law 415 = .ok (.iaload, 1) := by decide +kernel
theorem dL_law_416 : decode cL_law 416 = .ok (.invokevirtual 59, 3) := by decide +kernel
theorem dL_law_419 : decode cL_law 419 = .ok (.aload_n 2, 1) := by decide +kernel
theorem dL_law_420 : decode cL_law 420 = .ok (.aload_n 0, 1) := by decide +kernel
theorem dL_law_421 : decode cL_law 421 = .ok (.iload_n 3, 1) := by decide +kernel
theorem dL_law_422 : decode cL_law 422 = .ok (.iconst 1, 1) := by decide +kernel
theorem dL_law_423 : decode cL_law 423 = .ok (.iadd, 1) := by decide +kernel
theorem dL_law_424 : decode cL_law 424 = .ok (.iaload, 1) := by decide +kernel
theorem dL_law_425 : decode cL_law 425 = .ok (.invokevirtual 62, 3) := by decide +kernel
theorem dL_law_428 : decode cL_law 428 = .ok (.if_icmp .eq 94, 3) := by decide +kernel
theorem dL_law_431 : decode cL_law 431 = .ok (.iconst 0, 1) := by decide +kernel
theorem dL_law_432 : decode cL_law 432 = .ok (.ireturn, 1) := by decide +kernel
theorem dL_law_433 : decode cL_law 433 = .ok (.aload_n 1, 1) := by decide +kernel
theorem dL_law_434 : decode cL_law 434 = .ok (.invokevirtual 63, 3) := by decide +kernel
theorem dL_law_437 : decode cL_law 437 = .ok (.aload_n 2, 1) := by decide +kernel
theorem dL_law_438 : decode cL_law 438 = .ok (.invokevirtual 66, 3) := by decide +kernel
theorem dL_law_441 : decode cL_law 441 = .ok (.if_icmp .eq 81, 3) := by decide +kernel
theorem dL_law_444 : decode cL_law 444 = .ok (.iconst 0, 1) := by decide +kernel
theorem dL_law_445 : decode cL_law 445 = .ok (.ireturn, 1) := by decide +kernel
theorem dL_law_446 : decode cL_law 446 = .ok (.aload_n 1, 1) := by decide +kernel
theorem dL_law_447 : decode cL_law 447 = .ok (.aload_n 0, 1) := by decide +kernel
theorem dL_law_448 : decode cL_law 448 = .ok (.iload_n 3, 1) := by decide +kernel
theorem dL_law_449 : decode cL_law 449 = .ok (.iconst 1, 1) := by decide +kernel
theorem dL_law_450 : decode cL_law 450 = .ok (.iadd, 1) := by decide +kernel
theorem dL_law_451 : decode cL_law 451 = .ok (.iaload, 1) := by decide +kernel
theorem dL_law_452 : decode cL_law 452 = .ok (.aload_n 0, 1) := by decide +kernel
theorem dL_law_453 : decode cL_law 453 = .ok (.iload_n 3, 1) := by decide +kernel
theorem dL_law_454 : decode cL_law 454 = .ok (.iconst 2, 1) := by decide +kernel
theorem dL_law_455 : decode cL_law 455 = .ok (.iadd, 1) := by decide +kernel
theorem dL_law_456 : decode cL_law 456 = .ok (.iaload, 1) := by decide +kernel
theorem dL_law_457 : decode cL_law 457 = .ok (.aload_n 0, 1) := by decide +kernel
theorem dL_law_458 : decode cL_law 458 = .ok (.iload_n 3, 1) := by decide +kernel
theorem dL_law_459 : decode cL_law 459 = .ok (.iconst 3, 1) := by decide +kernel
theorem dL_law_460 : decode cL_law 460 = .ok (.iadd, 1) := by decide +kernel
theorem dL_law_461 : decode cL_law 461 = .ok (.iaload, 1) := by decide +kernel
theorem dL_law_462 : decode cL_law 462 = .ok (.aload_n 0, 1) := by decide +kernel
theorem dL_law_463 : decode cL_law 463 = .ok (.iload_n 3, 1) := by decide +kernel
theorem dL_law_464 : decode cL_law 464 = .ok (.iconst 4, 1) := by decide +kernel
theorem dL_law_465 : decode cL_law 465 = .ok (.iadd, 1) := by decide +kernel
theorem dL_law_466 : decode cL_law 466 = .ok (.iaload, 1) := by decide +kernel
theorem dL_law_467 : decode cL_law 467 = .ok (.invokevirtual 67, 3) := by decide +kernel
end
section
set_option maxRecDepth 100000
theorem dL_law_470 : decode cL_law 470 = .ok (.aload_n 2, 1) := by decide +kernel
theorem dL_law_471 : decode cL_law 471 = .ok (.aload_n 0, 1) := by decide +kernel
theorem dL_law_472 : decode cL_law 472 = .ok (.iload_n 3, 1) := by decide +kernel
theorem dL_law_473 : decode cL_law 473 = .ok (.iconst 1, 1) := by decide +kernel
theorem dL_law_474 : decode cL_law 474 = .ok (.iadd, 1) := by decide +kernel
theorem dL_law_475 : decode cL_law 475 = .ok (.iaload, 1) := by decide +kernel
theorem dL_law_476 : decode cL_law 476 = .ok (.aload_n 0, 1) := by decide +kernel
theorem dL_law_477 : decode cL_law 477 = .ok (.iload_n 3, 1) := by decide +kernel
theorem dL_law_478 : decode cL_law 478 = .ok (.iconst 2, 1) := by decide +kernel
theorem dL_law_479 : decode cL_law 479 = .ok (.iadd, 1) := by decide +kernel
theorem dL_law_480 : decode cL_law 480 = .ok (.iaload, 1) := by decide +kernel
theorem dL_law_481 : decode cL_law 481 = .ok (.aload_n 0, 1) := by decide +kernel
theorem dL_law_482 : decode cL_law 482 = .ok (.iload_n 3, 1) := by decide +kernel
theorem dL_law_483 : decode cL_law 483 = .ok (.iconst 3, 1) := by decide +kernel
theorem dL_law_484 : decode cL_law 484 = .ok (.iadd, 1) := by decide +kernel
theorem dL_law_485 : decode cL_law 485 = .ok (.iaload, 1) := by decide +kernel
theorem dL_law_486 : decode cL_law 486 = .ok (.aload_n 0, 1) := by decide +kernel
theorem dL_law_487 : decode cL_law 487 = .ok (.iload_n 3, 1) := by decide +kernel
theorem dL_law_488 : decode cL_law 488 = .ok (.iconst 4, 1) := by decide +kernel
theorem dL_law_489 : decode cL_law 489 = .ok (.iadd, 1) := by decide +kernel
theorem dL_law_490 : decode cL_law 490 = .ok (.iaload, 1) := by decide +kernel
theorem dL_law_491 : decode cL_law 491 = .ok (.invokevirtual 71, 3) := by decide +kernel
theorem dL_law_494 : decode cL_law 494 = .ok (.if_icmp .eq 28, 3) := by decide +kernel
theorem dL_law_497 : decode cL_law 497 = .ok (.iconst 0, 1) := by decide +kernel
theorem dL_law_498 : decode cL_law 498 = .ok (.ireturn, 1) := by decide +kernel
theorem dL_law_499 : decode cL_law 499 = .ok (.aload_n 1, 1) := by decide +kernel
theorem dL_law_500 : decode cL_law 500 = .ok (.aload_n 0, 1) := by decide +kernel
theorem dL_law_501 : decode cL_law 501 = .ok (.iload_n 3, 1) := by decide +kernel
theorem dL_law_502 : decode cL_law 502 = .ok (.iconst 1, 1) := by decide +kernel
theorem dL_law_503 : decode cL_law 503 = .ok (.iadd, 1) := by decide +kernel
theorem dL_law_504 : decode cL_law 504 = .ok (.iaload, 1) := by decide +kernel
theorem dL_law_505 : decode cL_law 505 = .ok (.invokevirtual 72, 3) := by decide +kernel
theorem dL_law_508 : decode cL_law 508 = .ok (.aload_n 2, 1) := by decide +kernel
theorem dL_law_509 : decode cL_law 509 = .ok (.aload_n 0, 1) := by decide +kernel
theorem dL_law_510 : decode cL_law 510 = .ok (.iload_n 3, 1) := by decide +kernel
theorem dL_law_511 : decode cL_law 511 = .ok (.iconst 1, 1) := by decide +kernel
theorem dL_law_512 : decode cL_law 512 = .ok (.iadd, 1) := by decide +kernel
theorem dL_law_513 : decode cL_law 513 = .ok (.iaload, 1) := by decide +kernel
theorem dL_law_514 : decode cL_law 514 = .ok (.invokevirtual 75, 3) := by decide +kernel
theorem dL_law_517 : decode cL_law 517 = .ok (.if_icmp .eq 5, 3) := by decide +kernel
theorem dL_law_520 : decode cL_law 520 = .ok (.iconst 0, 1) := by decide +kernel
theorem dL_law_521 : decode cL_law 521 = .ok (.ireturn, 1) := by decide +kernel
theorem dL_law_522 : decode cL_law 522 = .ok (.iinc 3 5, 3) := by decide +kernel
theorem dL_law_525 : decode cL_law 525 = .ok (.goto (-507), 3) := by decide +kernel
theorem dL_law_528 : decode cL_law 528 = .ok (.iconst 1, 1) := by decide +kernel
theorem dL_law_529 : decode cL_law 529 = .ok (.ireturn, 1) := by decide +kernel
end
section
/-! THE CLAIM OUT OF ONE WALK OF THE LAW'S BODY. Your part is whole_start (and what it stands on); all else here is the same for every law, but numbers. -/
def R_law : String := "TestPatternsLaw"
def lw_P (b : Addr) (xs : List Int32) (args : Array Value) (s : State) : Prop := args = #[.ref b] ∧ s.IntsAt b xs ∧ xs.length ≤ 320 ∧ (Jvm.Cond.and given_1 narrow_1).before args s = true
def lw_Q (_ : Array Value) (s : State) (o : Outcome) (t : State) : Prop := o = .returned (some (.int 1)) ∧ Framed s o t [] 600000 7290000
def lw_Z (below : List Frame) (a : Array Value) (s : State) : State → Prop := fun t => ∃ o, t.status = .running ∧ Ended t below o ∧ lw_Q a s o t
/-- the law's own end, with 1 on the stack, nothing written that was there before, its room as the claim has it -/
theorem lw_ret {p : Program} {l : Launch} {e : Env} {s : State} {m : MethodId} {below : List Frame} {meth : Method} {c : Code} {b : Nat} (hx : p.tables.exec = Jvm.exec) (hb : c.code = code) (hr : meth.sig.returnType = ret) (hlocks : meth.locks = false) {pc : Nat} {H : Heap} {ls : Array Slot} (hdg : decode code pc = .ok (.ireturn, 1)) : W p l e room_1 s m #[Value.ref b] below meth c H [] 600000 7290000 (lw_Z below #[Value.ref b] s) (F0 m pc ls [.int 1]) := by
  intro T hT X
  obtain ⟨fs, hret, hrun, hended, hW, hframe⟩ := X.leave (v := some (.int 1)) (hlocks := hlocks) (fun h => by rw [hr] at h; cases h)
  have hmeth' : T.vm.method? m = some meth := X.method'
  refine ⟨T.setFrames fs, ?_, .returned (some (.int 1)), hrun, hended, rfl, ⟨_, rfl⟩, hW, hframe⟩
  jvm_step X.here [X.here.top, hx, hb, hdg, hmeth', hr, ret, narrow_b1]
  (try refine ⟨rfl, ?_⟩); (try refine ⟨rfl, ?_⟩)
  first | (intro acts; rw [hret _ acts rfl rfl rfl]) | rw [hret _ _ rfl rfl rfl]
  exact Steps.refl _
/-- what holds at the law's entry: the machine, the code, the tables' words (any of lw_tbl by 'hts w (by decide +kernel)'), the script of L ints xs at the cell b, what the Statement gives of the start (any of its parts by flat_of_before) -/
def lw_At (p : Program) (s : State) (m : MethodId) (meth : Method) (c : Code) (b L : Nat) (xs : Nat → Int32) : Prop :=
  p.tables.exec = Jvm.exec ∧ c.code = code ∧ meth.sig.returnType = ret ∧ c.maxLocals = 4 ∧ s.vm.findClass R_law = some m.cls ∧ (∀ w ∈ lw_tbl, w.before #[Value.ref b] s = true) ∧ va_X b L xs s s.heap ∧ b < s.heap.size ∧ meth.locks = false ∧ (Jvm.Cond.and given_1 narrow_1).before #[Value.ref b] s = true
end
section
section OWNL
variable {p : Program} {l : Launch} {e : Env} {R : Room} {s : State} {m : MethodId} {args : Array Value} {below : List Frame} {meth : Method} {c : Code} {H : Heap} {locs : List Loc} {cells slots : Nat} {Q : State → Prop}
variable {cc : ByteArray} {pc : Nat} {ls : Array Slot} {rest : List Value} {D : va_G} {A : Nat → Prop} {H0 : Heap}
variable {nL index maxL nA : Nat} {Ts wc : List Cond} {own : String} {y : MethodName} {bytes : ByteArray} {ret : Option FieldType} {rm : Room} {As st : List Value} {ad am : Nat → Nat} {d : Nat → ClassId} {dm : ClassId} {u : TS} {um : TM}
/-- the law calls TestPatterns: the reference's cells stay -/
theorem k_lawA {post : Int32 → TS → Prop} (S : CallFix p m c cc nL s args Ts own) (hM : MetA l D ad d y wc rm u H.size (.ref (ad 0) :: As) post) (cw : CallW R s args own RX0 index y bytes maxL ret wc rm 0 0 nA) (hP : va_P D vwCl (wC ad d u ++ wM am dm um) H) (hD : va_D A (wC ad d u ++ wM am dm um)) (hK : va_K D vwCl (tyA d) s) (hS : va_S A H0 H locs) (hA : ∀ q, H0.size ≤ q → A q) (hn : As.length = nA) (hsize : ls.size = nL) (hst : st = As.reverse ++ .ref (ad 0) :: rest) (hW : (rest.map fun v => v.category).sum ≤ 8) (hdg : decode cc pc = .ok (.invokevirtual index, 3)) (hf : cells + 0 ≤ R.cells ∧ slots + 0 ≤ R.slots)
    (kk : ∀ (r : Int32) (u1 : TS) (H1 : Heap) (locs1 : List Loc), post r u1 → va_P D vwCl (wM am dm um ++ wC ad d u1) H1 → va_D A (wM am dm um ++ wC ad d u1) → va_S A H0 H1 locs1 → W p l e R s m args below meth c H1 locs1 cells slots Q (F0 m (pc + 3) ls (.int r :: rest))) : W p l e R s m args below meth c H locs cells slots Q (F0 m pc ls st) := by
  have hPc : va_P D vwCl (wC ad d u) H := hP.sub [0, 1, 2, 3, 4, 5, 6, 7, 8, 9] rfl
  have hDc : va_D A (wC ad d u) := hD.sub [0, 1, 2, 3, 4, 5, 6, 7, 8, 9] (by decide) rfl
  have hFc := va_free (wc := wC ad d u) hD hS hA [0, 1, 2, 3, 4, 5, 6, 7, 8, 9] rfl
  refine va_calli (va_runV S hM cw ⟨PA_blind, va_recv hK hPc (ci := 0) (q0 := 0) rfl rfl, fun U hU hW => ⟨rfl, by rw [hU], by rw [hU]; exact hPc, va_K.moved hW.alike hK, hDc.weaken (fun _ _ _ _ => trivial)⟩⟩ rfl hn hsize hst (lv_room hW) hdg hf) hS (fun q _ h => hFc q h) hFc (fun r u1 t H1 locs1 ht hvm hp hB hz1 hk1 hS1 => ?_)
  obtain ⟨hP1, hK1, hD1⟩ := hB
  rw [ht] at hP1
  obtain ⟨hP2, hD2⟩ := va_join (wr := wM am dm um) (w1 := wC ad d u1) hP hD [0, 1, 2, 3, 4, 5, 6, 7, 8, 9] [10, 11, 12, 13, 14] rfl rfl (by decide) (by decide) hk1 hFc hP1 hD1
  exact kk r u1 H1 locs1 hp hP2 hD2 hS1
/-- the law calls the reference: the other cells stay -/
theorem k_lawM {post : Int32 → TM → Prop} (S : CallFix p m c cc nL s args Ts own) (hM : MetM l D am dm y wc rm um H.size (.ref (am 0) :: As) post) (cw : CallW R s args own RX1 index y bytes maxL ret wc rm 0 0 nA) (hP : va_P D vwCl (wM am dm um ++ wC ad d u) H) (hD : va_D A (wM am dm um ++ wC ad d u)) (hK : va_K D vwCl [(dm, .int)] s) (hS : va_S A H0 H locs) (hA : ∀ q, H0.size ≤ q → A q) (hn : As.length = nA) (hsize : ls.size = nL) (hst : st = As.reverse ++ .ref (am 0) :: rest) (hW : (rest.map fun v => v.category).sum ≤ 8) (hdg : decode cc pc = .ok (.invokevirtual index, 3)) (hf : cells + 0 ≤ R.cells ∧ slots + 0 ≤ R.slots)
    (kk : ∀ (r : Int32) (u1 : TM) (H1 : Heap) (locs1 : List Loc), post r u1 → va_P D vwCl (wC ad d u ++ wM am dm u1) H1 → va_D A (wC ad d u ++ wM am dm u1) → va_S A H0 H1 locs1 → W p l e R s m args below meth c H1 locs1 cells slots Q (F0 m (pc + 3) ls (.int r :: rest))) : W p l e R s m args below meth c H locs cells slots Q (F0 m pc ls st) := by
  have hPc : va_P D vwCl (wM am dm um) H := hP.sub [0, 1, 2, 3, 4] rfl
  have hDc : va_D A (wM am dm um) := hD.sub [0, 1, 2, 3, 4] (by decide) rfl
  have hFc := va_free (wc := wM am dm um) hD hS hA [0, 1, 2, 3, 4] rfl
  refine va_calli (va_runV S hM cw ⟨PM_blind, va_recv hK hPc (ci := 1) (q0 := 0) rfl rfl, fun U hU hW => ⟨rfl, by rw [hU], by rw [hU]; exact hPc, va_K.moved hW.alike hK, hDc.weaken (fun _ _ _ _ => trivial)⟩⟩ rfl hn hsize hst (lv_room hW) hdg hf) hS (fun q _ h => hFc q h) hFc (fun r u1 t H1 locs1 ht hvm hp hB hz1 hk1 hS1 => ?_)
  obtain ⟨hP1, hK1, hD1⟩ := hB
  rw [ht] at hP1
  obtain ⟨hP2, hD2⟩ := va_join (wr := wC ad d u) (w1 := wM am dm u1) hP hD [0, 1, 2, 3, 4] [5, 6, 7, 8, 9, 10, 11, 12, 13, 14] rfl rfl (by decide) (by decide) hk1 hFc hP1 hD1
  exact kk r u1 H1 locs1 hp hP2 hD2 hS1
theorem k_sld {b L : Nat} {xs : Nat → Int32} (hx : p.tables.exec = Jvm.exec) (hb : c.code = cc) (hX : va_X b L xs s H0) (hbl : b < H0.size) (hbA : ¬ A b) (hS : va_S A H0 H locs) (hL : L ≤ 320) {j : Nat} (hj : j < L) (hdg : decode cc pc = .ok (.iaload, 1))
    (kk : W p l e R s m args below meth c H locs cells slots Q (F0 m (pc + 1) ls (.int (xs j) :: rest))) : W p l e R s m args below meth c H locs cells slots Q (F0 m pc ls (.int (nI j) :: .ref b :: rest)) := by
  refine va_sld hx hb hX hbl hbA hS (vp_in_nI hj (by omega)) hdg ?_
  rw [nI_clamp (by omega)]
  exact kk
end OWNL
/-- the law between two steps: both objects hold the same circuit -/
abbrev LawW (p : Program) (l : Launch) (e : Env) (s : State) (m : MethodId) (b : Nat) (below : List Frame) (meth : Method) (c : Code) (D : va_G) (ad am : Nat → Nat) (d : Nat → ClassId) (dm : ClassId) (i pc : Nat) : Prop :=
  ∀ (C : TC) (z : TZ) (va : Nat → Int32), wfT C → ∀ (H : Heap) (locs : List Loc), va_P D vwCl (wC ad d (C, z) ++ wM am dm (C, va)) H → va_D (fun q : Nat => s.heap.size ≤ q) (wC ad d (C, z) ++ wM am dm (C, va)) → va_S (fun q : Nat => s.heap.size ≤ q) s.heap H locs → ∀ (ls : Array Slot), lv_has ls 4 [(0, .ref b), (1, .ref (ad 0)), (2, .ref (am 0)), (3, .int (nI i))] → W p l e room_1 s m #[Value.ref b] below meth c H locs 15 214 (lw_Z below #[Value.ref b] s) (F0 m pc ls [])
end
section
set_option maxHeartbeats 4000000 in
set_option maxRecDepth 100000 in
theorem law_gate {p : Program} {e : Env} {s : State} {m : MethodId} {below : List Frame} {meth : Method} {c : Code} (l : Launch) {b L : Nat} {xs : Nat → Int32} (hL : L ≤ 320) (C0 : lw_At p s m meth c b L xs) {D : va_G} {ad am : Nat → Nat} {d : Nat → ClassId} {dm : ClassId} (hK : va_K D vwCl (tyA d ++ [(dm, .int)]) s) {i : Nat} (hi : i + 5 ≤ L) (hc : LawW p l e s m b below meth c D ad am d dm i 522) : LawW p l e s m b below meth c D ad am d dm i 104 := by
  obtain ⟨hx, hb, hr, hml, hown, hts0, hX, hbl, hlocks, hgv⟩ := C0
  have hts : ∀ w ∈ lw_all, w.before #[Value.ref b] s = true := fun w h => hts0 w (lw_all_tbl h)
  have hA : ∀ q : Nat, s.heap.size ≤ q → (fun q : Nat => s.heap.size ≤ q) q := fun _ h => h
  have hbA : ¬ (fun q : Nat => s.heap.size ≤ q) b := Nat.not_le.mpr hbl
  intro C z va hw H locs hP hD hS ls hl
  obtain ⟨n, kk, ff, ss, w⟩ := C
  refine lv_aload_n hx hb dL_law_104 rfl (lv_at hl 1 rfl) ?_
  refine lv_aload_n hx hb dL_law_105 rfl (lv_at hl 0 rfl) ?_
  refine lv_iload_n hx hb dL_law_106 rfl (lv_at hl 3 rfl) ?_
  refine lv_iconst (v := nI 1) hx hb dL_law_107 (by decide) ?_
  refine lv_iadd hx hb dL_law_108 ?_
  refine k_ti (y := nI (i + 1)) (nI_add i 1) ?_
  refine k_sld hx hb hX hbl hbA hS hL (by omega) dL_law_109 ?_
  refine lv_aload_n hx hb dL_law_110 rfl (lv_at hl 0 rfl) ?_
  refine lv_iload_n hx hb dL_law_111 rfl (lv_at hl 3 rfl) ?_
  refine lv_iconst (v := nI 2) hx hb dL_law_112 (by decide) ?_
  refine lv_iadd hx hb dL_law_113 ?_
  refine k_ti (y := nI (i + 2)) (nI_add i 2) ?_
  refine k_sld hx hb hX hbl hbA hS hL (by omega) dL_law_114 ?_
  refine lv_aload_n hx hb dL_law_115 rfl (lv_at hl 0 rfl) ?_
  refine lv_iload_n hx hb dL_law_116 rfl (lv_at hl 3 rfl) ?_
  refine lv_iconst (v := nI 3) hx hb dL_law_117 (by decide) ?_
  refine lv_iadd hx hb dL_law_118 ?_
  refine k_ti (y := nI (i + 3)) (nI_add i 3) ?_
  refine k_sld hx hb hX hbl hbA hS hL (by omega) dL_law_119 ?_
  refine k_lawA (u := ((n, kk, ff, ss, w), zz (z 0) (z 1) (z 2) (z 3) (z 4) (z 5))) (um := ((n, kk, ff, ss, w), va)) (As := [.int (xs (i + 1)), .int (xs (i + 2)), .int (xs (i + 3))]) (rest := []) ⟨hx, hb, hml, hown, hts⟩ (mA_gate l D ad d n kk ff ss w (z 0) (z 1) (z 2) (z 3) (z 4) (z 5) H.size (xs (i + 1)) (xs (i + 2)) (xs (i + 3)) hw) (cwV 3 hts (lw_V q57 q58 q59 q10 q60) rfl rfl rfl (by decide +kernel) ⟨Nat.le_of_ble_eq_true rfl, Nat.le_of_ble_eq_true rfl⟩) hP hD (hK.sub [0, 1, 2] rfl) hS hA rfl hl.1 rfl (Nat.le_of_ble_eq_true rfl) dL_law_120 ⟨Nat.le_of_ble_eq_true rfl, Nat.le_of_ble_eq_true rfl⟩ (fun r1 u1 H locs hp1 hP hD hS => ?_)
  obtain ⟨C1, z1⟩ := u1
  obtain ⟨hp1, hC1⟩ := hp1
  have hC1 : C1 = _ := hC1
  subst hC1
  refine lv_aload_n hx hb dL_law_123 rfl (lv_at hl 2 rfl) ?_
  refine lv_aload_n hx hb dL_law_124 rfl (lv_at hl 0 rfl) ?_
  refine lv_iload_n hx hb dL_law_125 rfl (lv_at hl 3 rfl) ?_
  refine lv_iconst (v := nI 1) hx hb dL_law_126 (by decide) ?_
  refine lv_iadd hx hb dL_law_127 ?_
  refine k_ti (y := nI (i + 1)) (nI_add i 1) ?_
  refine k_sld hx hb hX hbl hbA hS hL (by omega) dL_law_128 ?_
  refine lv_aload_n hx hb dL_law_129 rfl (lv_at hl 0 rfl) ?_
  refine lv_iload_n hx hb dL_law_130 rfl (lv_at hl 3 rfl) ?_
  refine lv_iconst (v := nI 2) hx hb dL_law_131 (by decide) ?_
  refine lv_iadd hx hb dL_law_132 ?_
  refine k_ti (y := nI (i + 2)) (nI_add i 2) ?_
  refine k_sld hx hb hX hbl hbA hS hL (by omega) dL_law_133 ?_
  refine lv_aload_n hx hb dL_law_134 rfl (lv_at hl 0 rfl) ?_
  refine lv_iload_n hx hb dL_law_135 rfl (lv_at hl 3 rfl) ?_
  refine lv_iconst (v := nI 3) hx hb dL_law_136 (by decide) ?_
  refine lv_iadd hx hb dL_law_137 ?_
  refine k_ti (y := nI (i + 3)) (nI_add i 3) ?_
  refine k_sld hx hb hX hbl hbA hS hL (by omega) dL_law_138 ?_
  refine k_lawM (u := (_, z1)) (um := ((n, kk, ff, ss, w), va)) (As := [.int (xs (i + 1)), .int (xs (i + 2)), .int (xs (i + 3))]) (rest := [.int r1]) ⟨hx, hb, hml, hown, hts⟩ (mM_gate l D am dm n kk ff ss w va H.size (xs (i + 1)) (xs (i + 2)) (xs (i + 3)) hw) (cwV 3 hts (lw_V q181 q182 q183 q11 q184) rfl rfl rfl (by decide +kernel) ⟨Nat.le_of_ble_eq_true rfl, Nat.le_of_ble_eq_true rfl⟩) hP hD (hK.sub [3] rfl) hS hA rfl hl.1 rfl (Nat.le_of_ble_eq_true rfl) dL_law_139 ⟨Nat.le_of_ble_eq_true rfl, Nat.le_of_ble_eq_true rfl⟩ (fun r2 u2 H locs hp2 hP hD hS => ?_)
  obtain ⟨C2, z2⟩ := u2
  obtain ⟨hp2, hC2⟩ := hp2
  have hC2 : C2 = _ := hC2
  subst hC2
  refine lv_icmp_eq (tgt := 522) hx hb dL_law_142 (by decide) (fun c1 => ?_) (fun c1 => absurd (hp1.trans hp2.symm) c1)
  exact hc _ z1 z2 (wf_gate hw) _ _ hP hD hS ls hl

set_option maxHeartbeats 4000000 in
set_option maxRecDepth 100000 in
theorem law_drop {p : Program} {e : Env} {s : State} {m : MethodId} {below : List Frame} {meth : Method} {c : Code} (l : Launch) {b L : Nat} {xs : Nat → Int32} (hL : L ≤ 320) (C0 : lw_At p s m meth c b L xs) {D : va_G} {ad am : Nat → Nat} {d : Nat → ClassId} {dm : ClassId} (hK : va_K D vwCl (tyA d ++ [(dm, .int)]) s) {i : Nat} (hi : i + 5 ≤ L) (hc : LawW p l e s m b below meth c D ad am d dm i 522) : LawW p l e s m b below meth c D ad am d dm i 147 := by
  obtain ⟨hx, hb, hr, hml, hown, hts0, hX, hbl, hlocks, hgv⟩ := C0
  have hts : ∀ w ∈ lw_all, w.before #[Value.ref b] s = true := fun w h => hts0 w (lw_all_tbl h)
  have hA : ∀ q : Nat, s.heap.size ≤ q → (fun q : Nat => s.heap.size ≤ q) q := fun _ h => h
  have hbA : ¬ (fun q : Nat => s.heap.size ≤ q) b := Nat.not_le.mpr hbl
  intro C z va hw H locs hP hD hS ls hl
  obtain ⟨n, kk, ff, ss, w⟩ := C
  refine lv_aload_n hx hb dL_law_147 rfl (lv_at hl 1 rfl) ?_
  refine k_lawA (u := ((n, kk, ff, ss, w), zz (z 0) (z 1) (z 2) (z 3) (z 4) (z 5))) (um := ((n, kk, ff, ss, w), va)) (As := []) (rest := []) ⟨hx, hb, hml, hown, hts⟩ (mA_drop l D ad d n kk ff ss w (z 0) (z 1) (z 2) (z 3) (z 4) (z 5) H.size hw) (cwV 0 hts (lw_V q65 q66 q67 q10 q68) rfl rfl rfl (by decide +kernel) ⟨Nat.le_of_ble_eq_true rfl, Nat.le_of_ble_eq_true rfl⟩) hP hD (hK.sub [0, 1, 2] rfl) hS hA rfl hl.1 rfl (Nat.le_of_ble_eq_true rfl) dL_law_148 ⟨Nat.le_of_ble_eq_true rfl, Nat.le_of_ble_eq_true rfl⟩ (fun r1 u1 H locs hp1 hP hD hS => ?_)
  obtain ⟨C1, z1⟩ := u1
  obtain ⟨hp1, hC1⟩ := hp1
  have hC1 : C1 = _ := hC1
  subst hC1
  refine lv_aload_n hx hb dL_law_151 rfl (lv_at hl 2 rfl) ?_
  refine k_lawM (u := (_, z1)) (um := ((n, kk, ff, ss, w), va)) (As := []) (rest := [.int r1]) ⟨hx, hb, hml, hown, hts⟩ (mM_drop l D am dm n kk ff ss w va H.size hw) (cwV 0 hts (lw_V q189 q190 q191 q11 q192) rfl rfl rfl (by decide +kernel) ⟨Nat.le_of_ble_eq_true rfl, Nat.le_of_ble_eq_true rfl⟩) hP hD (hK.sub [3] rfl) hS hA rfl hl.1 rfl (Nat.le_of_ble_eq_true rfl) dL_law_152 ⟨Nat.le_of_ble_eq_true rfl, Nat.le_of_ble_eq_true rfl⟩ (fun r2 u2 H locs hp2 hP hD hS => ?_)
  obtain ⟨C2, z2⟩ := u2
  obtain ⟨hp2, hC2⟩ := hp2
  have hC2 : C2 = _ := hC2
  subst hC2
  refine lv_icmp_eq (tgt := 522) hx hb dL_law_155 (by decide) (fun c1 => ?_) (fun c1 => absurd (hp1.trans hp2.symm) c1)
  exact hc _ z1 z2 (wf_drop hw) _ _ hP hD hS ls hl

set_option maxHeartbeats 4000000 in
set_option maxRecDepth 100000 in
theorem law_watch {p : Program} {e : Env} {s : State} {m : MethodId} {below : List Frame} {meth : Method} {c : Code} (l : Launch) {b L : Nat} {xs : Nat → Int32} (hL : L ≤ 320) (C0 : lw_At p s m meth c b L xs) {D : va_G} {ad am : Nat → Nat} {d : Nat → ClassId} {dm : ClassId} (hK : va_K D vwCl (tyA d ++ [(dm, .int)]) s) {i : Nat} (hi : i + 5 ≤ L) (hc : LawW p l e s m b below meth c D ad am d dm i 522) : LawW p l e s m b below meth c D ad am d dm i 160 := by
  obtain ⟨hx, hb, hr, hml, hown, hts0, hX, hbl, hlocks, hgv⟩ := C0
  have hts : ∀ w ∈ lw_all, w.before #[Value.ref b] s = true := fun w h => hts0 w (lw_all_tbl h)
  have hA : ∀ q : Nat, s.heap.size ≤ q → (fun q : Nat => s.heap.size ≤ q) q := fun _ h => h
  have hbA : ¬ (fun q : Nat => s.heap.size ≤ q) b := Nat.not_le.mpr hbl
  intro C z va hw H locs hP hD hS ls hl
  obtain ⟨n, kk, ff, ss, w⟩ := C
  by_cases hz : xs (i + 2) = 0
  · refine lv_aload_n hx hb dL_law_160 rfl (lv_at hl 1 rfl) ?_
    refine lv_aload_n hx hb dL_law_161 rfl (lv_at hl 0 rfl) ?_
    refine lv_iload_n hx hb dL_law_162 rfl (lv_at hl 3 rfl) ?_
    refine lv_iconst (v := nI 1) hx hb dL_law_163 (by decide) ?_
    refine lv_iadd hx hb dL_law_164 ?_
    refine k_ti (y := nI (i + 1)) (nI_add i 1) ?_
    refine k_sld hx hb hX hbl hbA hS hL (by omega) dL_law_165 ?_
    refine lv_aload_n hx hb dL_law_166 rfl (lv_at hl 0 rfl) ?_
    refine lv_iload_n hx hb dL_law_167 rfl (lv_at hl 3 rfl) ?_
    refine lv_iconst (v := nI 2) hx hb dL_law_168 (by decide) ?_
    refine lv_iadd hx hb dL_law_169 ?_
    refine k_ti (y := nI (i + 2)) (nI_add i 2) ?_
    refine k_sld hx hb hX hbl hbA hS hL (by omega) dL_law_170 ?_
    refine lv_if_eq (tgt := 178) hx hb dL_law_171 (by decide) (fun c5 => ?_) (fun c5 => absurd hz c5)
    refine lv_iconst (v := nI 0) hx hb dL_law_178 (by decide) ?_
    refine k_lawA (u := ((n, kk, ff, ss, w), zz (z 0) (z 1) (z 2) (z 3) (z 4) (z 5))) (um := ((n, kk, ff, ss, w), va)) (As := [.int (xs (i + 1)), .int (bI false)]) (rest := []) ⟨hx, hb, hml, hown, hts⟩ (mA_watch l D ad d n kk ff ss w (z 0) (z 1) (z 2) (z 3) (z 4) (z 5) H.size (xs (i + 1)) false hw) (cwV 2 hts (lw_V q69 q70 q71 q10 q72) rfl rfl rfl (by decide +kernel) ⟨Nat.le_of_ble_eq_true rfl, Nat.le_of_ble_eq_true rfl⟩) hP hD (hK.sub [0, 1, 2] rfl) hS hA rfl hl.1 rfl (Nat.le_of_ble_eq_true rfl) dL_law_179 ⟨Nat.le_of_ble_eq_true rfl, Nat.le_of_ble_eq_true rfl⟩ (fun r1 u1 H locs hp1 hP hD hS => ?_)
    obtain ⟨C1, z1⟩ := u1
    obtain ⟨hp1, hC1⟩ := hp1
    have hC1 : C1 = _ := hC1
    subst hC1
    refine lv_aload_n hx hb dL_law_182 rfl (lv_at hl 2 rfl) ?_
    refine lv_aload_n hx hb dL_law_183 rfl (lv_at hl 0 rfl) ?_
    refine lv_iload_n hx hb dL_law_184 rfl (lv_at hl 3 rfl) ?_
    refine lv_iconst (v := nI 1) hx hb dL_law_185 (by decide) ?_
    refine lv_iadd hx hb dL_law_186 ?_
    refine k_ti (y := nI (i + 1)) (nI_add i 1) ?_
    refine k_sld hx hb hX hbl hbA hS hL (by omega) dL_law_187 ?_
    refine lv_aload_n hx hb dL_law_188 rfl (lv_at hl 0 rfl) ?_
    refine lv_iload_n hx hb dL_law_189 rfl (lv_at hl 3 rfl) ?_
    refine lv_iconst (v := nI 2) hx hb dL_law_190 (by decide) ?_
    refine lv_iadd hx hb dL_law_191 ?_
    refine k_ti (y := nI (i + 2)) (nI_add i 2) ?_
    refine k_sld hx hb hX hbl hbA hS hL (by omega) dL_law_192 ?_
    refine lv_if_eq (tgt := 200) hx hb dL_law_193 (by decide) (fun c5 => ?_) (fun c5 => absurd hz c5)
    refine lv_iconst (v := nI 0) hx hb dL_law_200 (by decide) ?_
    refine k_lawM (u := (_, z1)) (um := ((n, kk, ff, ss, w), va)) (As := [.int (xs (i + 1)), .int (bI false)]) (rest := [.int r1]) ⟨hx, hb, hml, hown, hts⟩ (mM_watch l D am dm n kk ff ss w va H.size (xs (i + 1)) false hw) (cwV 2 hts (lw_V q193 q194 q195 q11 q196) rfl rfl rfl (by decide +kernel) ⟨Nat.le_of_ble_eq_true rfl, Nat.le_of_ble_eq_true rfl⟩) hP hD (hK.sub [3] rfl) hS hA rfl hl.1 rfl (Nat.le_of_ble_eq_true rfl) dL_law_201 ⟨Nat.le_of_ble_eq_true rfl, Nat.le_of_ble_eq_true rfl⟩ (fun r2 u2 H locs hp2 hP hD hS => ?_)
    obtain ⟨C2, z2⟩ := u2
    obtain ⟨hp2, hC2⟩ := hp2
    have hC2 : C2 = _ := hC2
    subst hC2
    refine lv_icmp_eq (tgt := 522) hx hb dL_law_204 (by decide) (fun c1 => ?_) (fun c1 => absurd (hp1.trans hp2.symm) c1)
    exact hc _ z1 z2 (wf_watch hw) _ _ hP hD hS ls hl
  · refine lv_aload_n hx hb dL_law_160 rfl (lv_at hl 1 rfl) ?_
    refine lv_aload_n hx hb dL_law_161 rfl (lv_at hl 0 rfl) ?_
    refine lv_iload_n hx hb dL_law_162 rfl (lv_at hl 3 rfl) ?_
    refine lv_iconst (v := nI 1) hx hb dL_law_163 (by decide) ?_
    refine lv_iadd hx hb dL_law_164 ?_
    refine k_ti (y := nI (i + 1)) (nI_add i 1) ?_
    refine k_sld hx hb hX hbl hbA hS hL (by omega) dL_law_165 ?_
    refine lv_aload_n hx hb dL_law_166 rfl (lv_at hl 0 rfl) ?_
    refine lv_iload_n hx hb dL_law_167 rfl (lv_at hl 3 rfl) ?_
    refine lv_iconst (v := nI 2) hx hb dL_law_168 (by decide) ?_
    refine lv_iadd hx hb dL_law_169 ?_
    refine k_ti (y := nI (i + 2)) (nI_add i 2) ?_
    refine k_sld hx hb hX hbl hbA hS hL (by omega) dL_law_170 ?_
    refine lv_if_eq (tgt := 178) hx hb dL_law_171 (by decide) (fun c5 => absurd c5 hz) (fun c5 => ?_)
    refine lv_iconst (v := nI 1) hx hb dL_law_174 (by decide) ?_
    refine lv_goto (tgt := 179) hx hb dL_law_175 (by decide) ?_
    refine k_lawA (u := ((n, kk, ff, ss, w), zz (z 0) (z 1) (z 2) (z 3) (z 4) (z 5))) (um := ((n, kk, ff, ss, w), va)) (As := [.int (xs (i + 1)), .int (bI true)]) (rest := []) ⟨hx, hb, hml, hown, hts⟩ (mA_watch l D ad d n kk ff ss w (z 0) (z 1) (z 2) (z 3) (z 4) (z 5) H.size (xs (i + 1)) true hw) (cwV 2 hts (lw_V q69 q70 q71 q10 q72) rfl rfl rfl (by decide +kernel) ⟨Nat.le_of_ble_eq_true rfl, Nat.le_of_ble_eq_true rfl⟩) hP hD (hK.sub [0, 1, 2] rfl) hS hA rfl hl.1 rfl (Nat.le_of_ble_eq_true rfl) dL_law_179 ⟨Nat.le_of_ble_eq_true rfl, Nat.le_of_ble_eq_true rfl⟩ (fun r1 u1 H locs hp1 hP hD hS => ?_)
    obtain ⟨C1, z1⟩ := u1
    obtain ⟨hp1, hC1⟩ := hp1
    have hC1 : C1 = _ := hC1
    subst hC1
    refine lv_aload_n hx hb dL_law_182 rfl (lv_at hl 2 rfl) ?_
    refine lv_aload_n hx hb dL_law_183 rfl (lv_at hl 0 rfl) ?_
    refine lv_iload_n hx hb dL_law_184 rfl (lv_at hl 3 rfl) ?_
    refine lv_iconst (v := nI 1) hx hb dL_law_185 (by decide) ?_
    refine lv_iadd hx hb dL_law_186 ?_
    refine k_ti (y := nI (i + 1)) (nI_add i 1) ?_
    refine k_sld hx hb hX hbl hbA hS hL (by omega) dL_law_187 ?_
    refine lv_aload_n hx hb dL_law_188 rfl (lv_at hl 0 rfl) ?_
    refine lv_iload_n hx hb dL_law_189 rfl (lv_at hl 3 rfl) ?_
    refine lv_iconst (v := nI 2) hx hb dL_law_190 (by decide) ?_
    refine lv_iadd hx hb dL_law_191 ?_
    refine k_ti (y := nI (i + 2)) (nI_add i 2) ?_
    refine k_sld hx hb hX hbl hbA hS hL (by omega) dL_law_192 ?_
    refine lv_if_eq (tgt := 200) hx hb dL_law_193 (by decide) (fun c5 => absurd c5 hz) (fun c5 => ?_)
    refine lv_iconst (v := nI 1) hx hb dL_law_196 (by decide) ?_
    refine lv_goto (tgt := 201) hx hb dL_law_197 (by decide) ?_
    refine k_lawM (u := (_, z1)) (um := ((n, kk, ff, ss, w), va)) (As := [.int (xs (i + 1)), .int (bI true)]) (rest := [.int r1]) ⟨hx, hb, hml, hown, hts⟩ (mM_watch l D am dm n kk ff ss w va H.size (xs (i + 1)) true hw) (cwV 2 hts (lw_V q193 q194 q195 q11 q196) rfl rfl rfl (by decide +kernel) ⟨Nat.le_of_ble_eq_true rfl, Nat.le_of_ble_eq_true rfl⟩) hP hD (hK.sub [3] rfl) hS hA rfl hl.1 rfl (Nat.le_of_ble_eq_true rfl) dL_law_201 ⟨Nat.le_of_ble_eq_true rfl, Nat.le_of_ble_eq_true rfl⟩ (fun r2 u2 H locs hp2 hP hD hS => ?_)
    obtain ⟨C2, z2⟩ := u2
    obtain ⟨hp2, hC2⟩ := hp2
    have hC2 : C2 = _ := hC2
    subst hC2
    refine lv_icmp_eq (tgt := 522) hx hb dL_law_204 (by decide) (fun c1 => ?_) (fun c1 => absurd (hp1.trans hp2.symm) c1)
    exact hc _ z1 z2 (wf_watch hw) _ _ hP hD hS ls hl

set_option maxHeartbeats 4000000 in
set_option maxRecDepth 100000 in
theorem law_lines {p : Program} {e : Env} {s : State} {m : MethodId} {below : List Frame} {meth : Method} {c : Code} (l : Launch) {b L : Nat} {xs : Nat → Int32} (hL : L ≤ 320) (C0 : lw_At p s m meth c b L xs) {D : va_G} {ad am : Nat → Nat} {d : Nat → ClassId} {dm : ClassId} (hK : va_K D vwCl (tyA d ++ [(dm, .int)]) s) {i : Nat} (hi : i + 5 ≤ L) (hc : LawW p l e s m b below meth c D ad am d dm i 522) : LawW p l e s m b below meth c D ad am d dm i 209 := by
  obtain ⟨hx, hb, hr, hml, hown, hts0, hX, hbl, hlocks, hgv⟩ := C0
  have hts : ∀ w ∈ lw_all, w.before #[Value.ref b] s = true := fun w h => hts0 w (lw_all_tbl h)
  have hA : ∀ q : Nat, s.heap.size ≤ q → (fun q : Nat => s.heap.size ≤ q) q := fun _ h => h
  have hbA : ¬ (fun q : Nat => s.heap.size ≤ q) b := Nat.not_le.mpr hbl
  intro C z va hw H locs hP hD hS ls hl
  obtain ⟨n, kk, ff, ss, w⟩ := C
  refine lv_aload_n hx hb dL_law_209 rfl (lv_at hl 1 rfl) ?_
  refine k_lawA (u := ((n, kk, ff, ss, w), zz (z 0) (z 1) (z 2) (z 3) (z 4) (z 5))) (um := ((n, kk, ff, ss, w), va)) (As := []) (rest := []) ⟨hx, hb, hml, hown, hts⟩ (mA_lines l D ad d n kk ff ss w (z 0) (z 1) (z 2) (z 3) (z 4) (z 5) H.size ) (cwV 0 hts (lw_V q73 q74 q75 q10 q76) rfl rfl rfl (by decide +kernel) ⟨Nat.le_of_ble_eq_true rfl, Nat.le_of_ble_eq_true rfl⟩) hP hD (hK.sub [0, 1, 2] rfl) hS hA rfl hl.1 rfl (Nat.le_of_ble_eq_true rfl) dL_law_210 ⟨Nat.le_of_ble_eq_true rfl, Nat.le_of_ble_eq_true rfl⟩ (fun r1 u1 H locs hp1 hP hD hS => ?_)
  obtain ⟨C1, z1⟩ := u1
  obtain ⟨hp1, hC1⟩ := hp1
  have hC1 : C1 = _ := hC1
  subst hC1
  refine lv_aload_n hx hb dL_law_213 rfl (lv_at hl 2 rfl) ?_
  refine k_lawM (u := (_, z1)) (um := ((n, kk, ff, ss, w), va)) (As := []) (rest := [.int r1]) ⟨hx, hb, hml, hown, hts⟩ (mM_lines l D am dm n kk ff ss w va H.size ) (cwV 0 hts (lw_V q197 q198 q199 q11 q200) rfl rfl rfl (by decide +kernel) ⟨Nat.le_of_ble_eq_true rfl, Nat.le_of_ble_eq_true rfl⟩) hP hD (hK.sub [3] rfl) hS hA rfl hl.1 rfl (Nat.le_of_ble_eq_true rfl) dL_law_214 ⟨Nat.le_of_ble_eq_true rfl, Nat.le_of_ble_eq_true rfl⟩ (fun r2 u2 H locs hp2 hP hD hS => ?_)
  obtain ⟨C2, z2⟩ := u2
  obtain ⟨hp2, hC2⟩ := hp2
  have hC2 : C2 = _ := hC2
  subst hC2
  refine lv_icmp_eq (tgt := 522) hx hb dL_law_217 (by decide) (fun c1 => ?_) (fun c1 => absurd (hp1.trans hp2.symm) c1)
  exact hc _ z1 z2 (hw) _ _ hP hD hS ls hl

set_option maxHeartbeats 4000000 in
set_option maxRecDepth 100000 in
theorem law_watched {p : Program} {e : Env} {s : State} {m : MethodId} {below : List Frame} {meth : Method} {c : Code} (l : Launch) {b L : Nat} {xs : Nat → Int32} (hL : L ≤ 320) (C0 : lw_At p s m meth c b L xs) {D : va_G} {ad am : Nat → Nat} {d : Nat → ClassId} {dm : ClassId} (hK : va_K D vwCl (tyA d ++ [(dm, .int)]) s) {i : Nat} (hi : i + 5 ≤ L) (hc : LawW p l e s m b below meth c D ad am d dm i 522) : LawW p l e s m b below meth c D ad am d dm i 222 := by
  obtain ⟨hx, hb, hr, hml, hown, hts0, hX, hbl, hlocks, hgv⟩ := C0
  have hts : ∀ w ∈ lw_all, w.before #[Value.ref b] s = true := fun w h => hts0 w (lw_all_tbl h)
  have hA : ∀ q : Nat, s.heap.size ≤ q → (fun q : Nat => s.heap.size ≤ q) q := fun _ h => h
  have hbA : ¬ (fun q : Nat => s.heap.size ≤ q) b := Nat.not_le.mpr hbl
  intro C z va hw H locs hP hD hS ls hl
  obtain ⟨n, kk, ff, ss, w⟩ := C
  refine lv_aload_n hx hb dL_law_222 rfl (lv_at hl 1 rfl) ?_
  refine k_lawA (u := ((n, kk, ff, ss, w), zz (z 0) (z 1) (z 2) (z 3) (z 4) (z 5))) (um := ((n, kk, ff, ss, w), va)) (As := []) (rest := []) ⟨hx, hb, hml, hown, hts⟩ (mA_watched l D ad d n kk ff ss w (z 0) (z 1) (z 2) (z 3) (z 4) (z 5) H.size ) (cwV 0 hts (lw_V q77 q78 q79 q10 q80) rfl rfl rfl (by decide +kernel) ⟨Nat.le_of_ble_eq_true rfl, Nat.le_of_ble_eq_true rfl⟩) hP hD (hK.sub [0, 1, 2] rfl) hS hA rfl hl.1 rfl (Nat.le_of_ble_eq_true rfl) dL_law_223 ⟨Nat.le_of_ble_eq_true rfl, Nat.le_of_ble_eq_true rfl⟩ (fun r1 u1 H locs hp1 hP hD hS => ?_)
  obtain ⟨C1, z1⟩ := u1
  obtain ⟨hp1, hC1⟩ := hp1
  have hC1 : C1 = _ := hC1
  subst hC1
  refine lv_aload_n hx hb dL_law_226 rfl (lv_at hl 2 rfl) ?_
  refine k_lawM (u := (_, z1)) (um := ((n, kk, ff, ss, w), va)) (As := []) (rest := [.int r1]) ⟨hx, hb, hml, hown, hts⟩ (mM_watched l D am dm n kk ff ss w va H.size ) (cwV 0 hts (lw_V q201 q202 q203 q11 q204) rfl rfl rfl (by decide +kernel) ⟨Nat.le_of_ble_eq_true rfl, Nat.le_of_ble_eq_true rfl⟩) hP hD (hK.sub [3] rfl) hS hA rfl hl.1 rfl (Nat.le_of_ble_eq_true rfl) dL_law_227 ⟨Nat.le_of_ble_eq_true rfl, Nat.le_of_ble_eq_true rfl⟩ (fun r2 u2 H locs hp2 hP hD hS => ?_)
  obtain ⟨C2, z2⟩ := u2
  obtain ⟨hp2, hC2⟩ := hp2
  have hC2 : C2 = _ := hC2
  subst hC2
  refine lv_icmp_eq (tgt := 522) hx hb dL_law_230 (by decide) (fun c1 => ?_) (fun c1 => absurd (hp1.trans hp2.symm) c1)
  exact hc _ z1 z2 (hw) _ _ hP hD hS ls hl

set_option maxHeartbeats 4000000 in
set_option maxRecDepth 100000 in
theorem law_value {p : Program} {e : Env} {s : State} {m : MethodId} {below : List Frame} {meth : Method} {c : Code} (l : Launch) {b L : Nat} {xs : Nat → Int32} (hL : L ≤ 320) (C0 : lw_At p s m meth c b L xs) {D : va_G} {ad am : Nat → Nat} {d : Nat → ClassId} {dm : ClassId} (hK : va_K D vwCl (tyA d ++ [(dm, .int)]) s) {i : Nat} (hi : i + 5 ≤ L) (hc : LawW p l e s m b below meth c D ad am d dm i 522) : LawW p l e s m b below meth c D ad am d dm i 235 := by
  obtain ⟨hx, hb, hr, hml, hown, hts0, hX, hbl, hlocks, hgv⟩ := C0
  have hts : ∀ w ∈ lw_all, w.before #[Value.ref b] s = true := fun w h => hts0 w (lw_all_tbl h)
  have hA : ∀ q : Nat, s.heap.size ≤ q → (fun q : Nat => s.heap.size ≤ q) q := fun _ h => h
  have hbA : ¬ (fun q : Nat => s.heap.size ≤ q) b := Nat.not_le.mpr hbl
  intro C z va hw H locs hP hD hS ls hl
  obtain ⟨n, kk, ff, ss, w⟩ := C
  refine lv_aload_n hx hb dL_law_235 rfl (lv_at hl 1 rfl) ?_
  refine lv_aload_n hx hb dL_law_236 rfl (lv_at hl 0 rfl) ?_
  refine lv_iload_n hx hb dL_law_237 rfl (lv_at hl 3 rfl) ?_
  refine lv_iconst (v := nI 1) hx hb dL_law_238 (by decide) ?_
  refine lv_iadd hx hb dL_law_239 ?_
  refine k_ti (y := nI (i + 1)) (nI_add i 1) ?_
  refine k_sld hx hb hX hbl hbA hS hL (by omega) dL_law_240 ?_
  refine lv_aload_n hx hb dL_law_241 rfl (lv_at hl 0 rfl) ?_
  refine lv_iload_n hx hb dL_law_242 rfl (lv_at hl 3 rfl) ?_
  refine lv_iconst (v := nI 2) hx hb dL_law_243 (by decide) ?_
  refine lv_iadd hx hb dL_law_244 ?_
  refine k_ti (y := nI (i + 2)) (nI_add i 2) ?_
  refine k_sld hx hb hX hbl hbA hS hL (by omega) dL_law_245 ?_
  refine k_lawA (u := ((n, kk, ff, ss, w), zz (z 0) (z 1) (z 2) (z 3) (z 4) (z 5))) (um := ((n, kk, ff, ss, w), va)) (As := [.int (xs (i + 1)), .int (xs (i + 2))]) (rest := []) ⟨hx, hb, hml, hown, hts⟩ (mA_value l D ad d n kk ff ss w (z 0) (z 1) (z 2) (z 3) (z 4) (z 5) H.size (xs (i + 1)) (xs (i + 2)) hw) (cwV 2 hts (lw_V q81 q82 q83 q10 q84) rfl rfl rfl (by decide +kernel) ⟨Nat.le_of_ble_eq_true rfl, Nat.le_of_ble_eq_true rfl⟩) hP hD (hK.sub [0, 1, 2] rfl) hS hA rfl hl.1 rfl (Nat.le_of_ble_eq_true rfl) dL_law_246 ⟨Nat.le_of_ble_eq_true rfl, Nat.le_of_ble_eq_true rfl⟩ (fun r1 u1 H locs hp1 hP hD hS => ?_)
  obtain ⟨C1, z1⟩ := u1
  obtain ⟨hp1, hC1⟩ := hp1
  have hC1 : C1 = _ := hC1
  subst hC1
  refine lv_aload_n hx hb dL_law_249 rfl (lv_at hl 2 rfl) ?_
  refine lv_aload_n hx hb dL_law_250 rfl (lv_at hl 0 rfl) ?_
  refine lv_iload_n hx hb dL_law_251 rfl (lv_at hl 3 rfl) ?_
  refine lv_iconst (v := nI 1) hx hb dL_law_252 (by decide) ?_
  refine lv_iadd hx hb dL_law_253 ?_
  refine k_ti (y := nI (i + 1)) (nI_add i 1) ?_
  refine k_sld hx hb hX hbl hbA hS hL (by omega) dL_law_254 ?_
  refine lv_aload_n hx hb dL_law_255 rfl (lv_at hl 0 rfl) ?_
  refine lv_iload_n hx hb dL_law_256 rfl (lv_at hl 3 rfl) ?_
  refine lv_iconst (v := nI 2) hx hb dL_law_257 (by decide) ?_
  refine lv_iadd hx hb dL_law_258 ?_
  refine k_ti (y := nI (i + 2)) (nI_add i 2) ?_
  refine k_sld hx hb hX hbl hbA hS hL (by omega) dL_law_259 ?_
  refine k_lawM (u := (_, z1)) (um := ((n, kk, ff, ss, w), va)) (As := [.int (xs (i + 1)), .int (xs (i + 2))]) (rest := [.int r1]) ⟨hx, hb, hml, hown, hts⟩ (mM_value l D am dm n kk ff ss w va H.size (xs (i + 1)) (xs (i + 2)) hw) (cwV 2 hts (lw_V q205 q206 q207 q11 q208) rfl rfl rfl (by decide +kernel) ⟨Nat.le_of_ble_eq_true rfl, Nat.le_of_ble_eq_true rfl⟩) hP hD (hK.sub [3] rfl) hS hA rfl hl.1 rfl (Nat.le_of_ble_eq_true rfl) dL_law_260 ⟨Nat.le_of_ble_eq_true rfl, Nat.le_of_ble_eq_true rfl⟩ (fun r2 u2 H locs hp2 hP hD hS => ?_)
  obtain ⟨C2, z2⟩ := u2
  obtain ⟨hp2, hC2⟩ := hp2
  have hC2 : C2 = _ := hC2
  subst hC2
  refine lv_icmp_eq (tgt := 522) hx hb dL_law_263 (by decide) (fun c1 => ?_) (fun c1 => absurd (hp1.trans hp2.symm) c1)
  exact hc _ z1 z2 (hw) _ _ hP hD hS ls hl

set_option maxHeartbeats 4000000 in
set_option maxRecDepth 100000 in
theorem law_shows {p : Program} {e : Env} {s : State} {m : MethodId} {below : List Frame} {meth : Method} {c : Code} (l : Launch) {b L : Nat} {xs : Nat → Int32} (hL : L ≤ 320) (C0 : lw_At p s m meth c b L xs) {D : va_G} {ad am : Nat → Nat} {d : Nat → ClassId} {dm : ClassId} (hK : va_K D vwCl (tyA d ++ [(dm, .int)]) s) {i : Nat} (hi : i + 5 ≤ L) (hc : LawW p l e s m b below meth c D ad am d dm i 522) : LawW p l e s m b below meth c D ad am d dm i 268 := by
  obtain ⟨hx, hb, hr, hml, hown, hts0, hX, hbl, hlocks, hgv⟩ := C0
  have hts : ∀ w ∈ lw_all, w.before #[Value.ref b] s = true := fun w h => hts0 w (lw_all_tbl h)
  have hA : ∀ q : Nat, s.heap.size ≤ q → (fun q : Nat => s.heap.size ≤ q) q := fun _ h => h
  have hbA : ¬ (fun q : Nat => s.heap.size ≤ q) b := Nat.not_le.mpr hbl
  intro C z va hw H locs hP hD hS ls hl
  obtain ⟨n, kk, ff, ss, w⟩ := C
  refine lv_aload_n hx hb dL_law_268 rfl (lv_at hl 1 rfl) ?_
  refine lv_aload_n hx hb dL_law_269 rfl (lv_at hl 0 rfl) ?_
  refine lv_iload_n hx hb dL_law_270 rfl (lv_at hl 3 rfl) ?_
  refine lv_iconst (v := nI 1) hx hb dL_law_271 (by decide) ?_
  refine lv_iadd hx hb dL_law_272 ?_
  refine k_ti (y := nI (i + 1)) (nI_add i 1) ?_
  refine k_sld hx hb hX hbl hbA hS hL (by omega) dL_law_273 ?_
  refine lv_aload_n hx hb dL_law_274 rfl (lv_at hl 0 rfl) ?_
  refine lv_iload_n hx hb dL_law_275 rfl (lv_at hl 3 rfl) ?_
  refine lv_iconst (v := nI 2) hx hb dL_law_276 (by decide) ?_
  refine lv_iadd hx hb dL_law_277 ?_
  refine k_ti (y := nI (i + 2)) (nI_add i 2) ?_
  refine k_sld hx hb hX hbl hbA hS hL (by omega) dL_law_278 ?_
  refine lv_aload_n hx hb dL_law_279 rfl (lv_at hl 0 rfl) ?_
  refine lv_iload_n hx hb dL_law_280 rfl (lv_at hl 3 rfl) ?_
  refine lv_iconst (v := nI 3) hx hb dL_law_281 (by decide) ?_
  refine lv_iadd hx hb dL_law_282 ?_
  refine k_ti (y := nI (i + 3)) (nI_add i 3) ?_
  refine k_sld hx hb hX hbl hbA hS hL (by omega) dL_law_283 ?_
  refine k_lawA (u := ((n, kk, ff, ss, w), zz (z 0) (z 1) (z 2) (z 3) (z 4) (z 5))) (um := ((n, kk, ff, ss, w), va)) (As := [.int (xs (i + 1)), .int (xs (i + 2)), .int (xs (i + 3))]) (rest := []) ⟨hx, hb, hml, hown, hts⟩ (mA_shows l D ad d n kk ff ss w (z 0) (z 1) (z 2) (z 3) (z 4) (z 5) H.size (xs (i + 1)) (xs (i + 2)) (xs (i + 3)) hw) (cwV 3 hts (lw_V q98 q99 q100 q10 q101) rfl rfl rfl (by decide +kernel) ⟨Nat.le_of_ble_eq_true rfl, Nat.le_of_ble_eq_true rfl⟩) hP hD (hK.sub [0, 1, 2] rfl) hS hA rfl hl.1 rfl (Nat.le_of_ble_eq_true rfl) dL_law_284 ⟨Nat.le_of_ble_eq_true rfl, Nat.le_of_ble_eq_true rfl⟩ (fun r1 u1 H locs hp1 hP hD hS => ?_)
  obtain ⟨C1, z1⟩ := u1
  obtain ⟨hp1, hC1⟩ := hp1
  have hC1 : C1 = _ := hC1
  subst hC1
  refine lv_aload_n hx hb dL_law_287 rfl (lv_at hl 2 rfl) ?_
  refine lv_aload_n hx hb dL_law_288 rfl (lv_at hl 0 rfl) ?_
  refine lv_iload_n hx hb dL_law_289 rfl (lv_at hl 3 rfl) ?_
  refine lv_iconst (v := nI 1) hx hb dL_law_290 (by decide) ?_
  refine lv_iadd hx hb dL_law_291 ?_
  refine k_ti (y := nI (i + 1)) (nI_add i 1) ?_
  refine k_sld hx hb hX hbl hbA hS hL (by omega) dL_law_292 ?_
  refine lv_aload_n hx hb dL_law_293 rfl (lv_at hl 0 rfl) ?_
  refine lv_iload_n hx hb dL_law_294 rfl (lv_at hl 3 rfl) ?_
  refine lv_iconst (v := nI 2) hx hb dL_law_295 (by decide) ?_
  refine lv_iadd hx hb dL_law_296 ?_
  refine k_ti (y := nI (i + 2)) (nI_add i 2) ?_
  refine k_sld hx hb hX hbl hbA hS hL (by omega) dL_law_297 ?_
  refine lv_aload_n hx hb dL_law_298 rfl (lv_at hl 0 rfl) ?_
  refine lv_iload_n hx hb dL_law_299 rfl (lv_at hl 3 rfl) ?_
  refine lv_iconst (v := nI 3) hx hb dL_law_300 (by decide) ?_
  refine lv_iadd hx hb dL_law_301 ?_
  refine k_ti (y := nI (i + 3)) (nI_add i 3) ?_
  refine k_sld hx hb hX hbl hbA hS hL (by omega) dL_law_302 ?_
  refine k_lawM (u := (_, z1)) (um := ((n, kk, ff, ss, w), va)) (As := [.int (xs (i + 1)), .int (xs (i + 2)), .int (xs (i + 3))]) (rest := [.int r1]) ⟨hx, hb, hml, hown, hts⟩ (mM_shows l D am dm n kk ff ss w va H.size (xs (i + 1)) (xs (i + 2)) (xs (i + 3)) hw) (cwV 3 hts (lw_V q217 q218 q219 q11 q220) rfl rfl rfl (by decide +kernel) ⟨Nat.le_of_ble_eq_true rfl, Nat.le_of_ble_eq_true rfl⟩) hP hD (hK.sub [3] rfl) hS hA rfl hl.1 rfl (Nat.le_of_ble_eq_true rfl) dL_law_303 ⟨Nat.le_of_ble_eq_true rfl, Nat.le_of_ble_eq_true rfl⟩ (fun r2 u2 H locs hp2 hP hD hS => ?_)
  obtain ⟨C2, z2⟩ := u2
  obtain ⟨hp2, hC2⟩ := hp2
  have hC2 : C2 = _ := hC2
  subst hC2
  refine lv_icmp_eq (tgt := 522) hx hb dL_law_306 (by decide) (fun c1 => ?_) (fun c1 => absurd (hp1.trans hp2.symm) c1)
  exact hc _ z1 z2 (hw) _ _ hP hD hS ls hl

set_option maxHeartbeats 4000000 in
set_option maxRecDepth 100000 in
theorem law_test {p : Program} {e : Env} {s : State} {m : MethodId} {below : List Frame} {meth : Method} {c : Code} (l : Launch) {b L : Nat} {xs : Nat → Int32} (hL : L ≤ 320) (C0 : lw_At p s m meth c b L xs) {D : va_G} {ad am : Nat → Nat} {d : Nat → ClassId} {dm : ClassId} (hK : va_K D vwCl (tyA d ++ [(dm, .int)]) s) {i : Nat} (hi : i + 5 ≤ L) (hc : LawW p l e s m b below meth c D ad am d dm i 522) : LawW p l e s m b below meth c D ad am d dm i 311 := by
  obtain ⟨hx, hb, hr, hml, hown, hts0, hX, hbl, hlocks, hgv⟩ := C0
  have hts : ∀ w ∈ lw_all, w.before #[Value.ref b] s = true := fun w h => hts0 w (lw_all_tbl h)
  have hA : ∀ q : Nat, s.heap.size ≤ q → (fun q : Nat => s.heap.size ≤ q) q := fun _ h => h
  have hbA : ¬ (fun q : Nat => s.heap.size ≤ q) b := Nat.not_le.mpr hbl
  intro C z va hw H locs hP hD hS ls hl
  obtain ⟨n, kk, ff, ss, w⟩ := C
  refine lv_aload_n hx hb dL_law_311 rfl (lv_at hl 1 rfl) ?_
  refine lv_aload_n hx hb dL_law_312 rfl (lv_at hl 0 rfl) ?_
  refine lv_iload_n hx hb dL_law_313 rfl (lv_at hl 3 rfl) ?_
  refine lv_iconst (v := nI 1) hx hb dL_law_314 (by decide) ?_
  refine lv_iadd hx hb dL_law_315 ?_
  refine k_ti (y := nI (i + 1)) (nI_add i 1) ?_
  refine k_sld hx hb hX hbl hbA hS hL (by omega) dL_law_316 ?_
  refine lv_aload_n hx hb dL_law_317 rfl (lv_at hl 0 rfl) ?_
  refine lv_iload_n hx hb dL_law_318 rfl (lv_at hl 3 rfl) ?_
  refine lv_iconst (v := nI 2) hx hb dL_law_319 (by decide) ?_
  refine lv_iadd hx hb dL_law_320 ?_
  refine k_ti (y := nI (i + 2)) (nI_add i 2) ?_
  refine k_sld hx hb hX hbl hbA hS hL (by omega) dL_law_321 ?_
  refine k_lawA (u := ((n, kk, ff, ss, w), zz (z 0) (z 1) (z 2) (z 3) (z 4) (z 5))) (um := ((n, kk, ff, ss, w), va)) (As := [.int (xs (i + 1)), .int (xs (i + 2))]) (rest := []) ⟨hx, hb, hml, hown, hts⟩ (mA_test l D ad d n kk ff ss w (z 0) (z 1) (z 2) (z 3) (z 4) (z 5) H.size (xs (i + 1)) (xs (i + 2)) hw) (cwV 2 hts (lw_V q109 q110 q111 q10 q112) rfl rfl rfl (by decide +kernel) ⟨Nat.le_of_ble_eq_true rfl, Nat.le_of_ble_eq_true rfl⟩) hP hD (hK.sub [0, 1, 2] rfl) hS hA rfl hl.1 rfl (Nat.le_of_ble_eq_true rfl) dL_law_322 ⟨Nat.le_of_ble_eq_true rfl, Nat.le_of_ble_eq_true rfl⟩ (fun r1 u1 H locs hp1 hP hD hS => ?_)
  obtain ⟨C1, z1⟩ := u1
  obtain ⟨hp1, hC1⟩ := hp1
  have hC1 : C1 = _ := hC1
  subst hC1
  refine lv_aload_n hx hb dL_law_325 rfl (lv_at hl 2 rfl) ?_
  refine lv_aload_n hx hb dL_law_326 rfl (lv_at hl 0 rfl) ?_
  refine lv_iload_n hx hb dL_law_327 rfl (lv_at hl 3 rfl) ?_
  refine lv_iconst (v := nI 1) hx hb dL_law_328 (by decide) ?_
  refine lv_iadd hx hb dL_law_329 ?_
  refine k_ti (y := nI (i + 1)) (nI_add i 1) ?_
  refine k_sld hx hb hX hbl hbA hS hL (by omega) dL_law_330 ?_
  refine lv_aload_n hx hb dL_law_331 rfl (lv_at hl 0 rfl) ?_
  refine lv_iload_n hx hb dL_law_332 rfl (lv_at hl 3 rfl) ?_
  refine lv_iconst (v := nI 2) hx hb dL_law_333 (by decide) ?_
  refine lv_iadd hx hb dL_law_334 ?_
  refine k_ti (y := nI (i + 2)) (nI_add i 2) ?_
  refine k_sld hx hb hX hbl hbA hS hL (by omega) dL_law_335 ?_
  refine k_lawM (u := (_, z1)) (um := ((n, kk, ff, ss, w), va)) (As := [.int (xs (i + 1)), .int (xs (i + 2))]) (rest := [.int r1]) ⟨hx, hb, hml, hown, hts⟩ (mM_test l D am dm n kk ff ss w va H.size (xs (i + 1)) (xs (i + 2)) hw) (cwV 2 hts (lw_V q221 q222 q223 q11 q224) rfl rfl rfl (by decide +kernel) ⟨Nat.le_of_ble_eq_true rfl, Nat.le_of_ble_eq_true rfl⟩) hP hD (hK.sub [3] rfl) hS hA rfl hl.1 rfl (Nat.le_of_ble_eq_true rfl) dL_law_336 ⟨Nat.le_of_ble_eq_true rfl, Nat.le_of_ble_eq_true rfl⟩ (fun r2 u2 H locs hp2 hP hD hS => ?_)
  obtain ⟨C2, z2⟩ := u2
  obtain ⟨hp2, hC2⟩ := hp2
  have hC2 : C2 = _ := hC2
  subst hC2
  refine lv_icmp_eq (tgt := 522) hx hb dL_law_339 (by decide) (fun c1 => ?_) (fun c1 => absurd (hp1.trans hp2.symm) c1)
  exact hc _ z1 z2 (hw) _ _ hP hD hS ls hl

set_option maxHeartbeats 4000000 in
set_option maxRecDepth 100000 in
theorem law_testFrom {p : Program} {e : Env} {s : State} {m : MethodId} {below : List Frame} {meth : Method} {c : Code} (l : Launch) {b L : Nat} {xs : Nat → Int32} (hL : L ≤ 320) (C0 : lw_At p s m meth c b L xs) {D : va_G} {ad am : Nat → Nat} {d : Nat → ClassId} {dm : ClassId} (hK : va_K D vwCl (tyA d ++ [(dm, .int)]) s) {i : Nat} (hi : i + 5 ≤ L) (hc : LawW p l e s m b below meth c D ad am d dm i 522) : LawW p l e s m b below meth c D ad am d dm i 344 := by
  obtain ⟨hx, hb, hr, hml, hown, hts0, hX, hbl, hlocks, hgv⟩ := C0
  have hts : ∀ w ∈ lw_all, w.before #[Value.ref b] s = true := fun w h => hts0 w (lw_all_tbl h)
  have hA : ∀ q : Nat, s.heap.size ≤ q → (fun q : Nat => s.heap.size ≤ q) q := fun _ h => h
  have hbA : ¬ (fun q : Nat => s.heap.size ≤ q) b := Nat.not_le.mpr hbl
  intro C z va hw H locs hP hD hS ls hl
  obtain ⟨n, kk, ff, ss, w⟩ := C
  refine lv_aload_n hx hb dL_law_344 rfl (lv_at hl 1 rfl) ?_
  refine lv_aload_n hx hb dL_law_345 rfl (lv_at hl 0 rfl) ?_
  refine lv_iload_n hx hb dL_law_346 rfl (lv_at hl 3 rfl) ?_
  refine lv_iconst (v := nI 1) hx hb dL_law_347 (by decide) ?_
  refine lv_iadd hx hb dL_law_348 ?_
  refine k_ti (y := nI (i + 1)) (nI_add i 1) ?_
  refine k_sld hx hb hX hbl hbA hS hL (by omega) dL_law_349 ?_
  refine lv_aload_n hx hb dL_law_350 rfl (lv_at hl 0 rfl) ?_
  refine lv_iload_n hx hb dL_law_351 rfl (lv_at hl 3 rfl) ?_
  refine lv_iconst (v := nI 2) hx hb dL_law_352 (by decide) ?_
  refine lv_iadd hx hb dL_law_353 ?_
  refine k_ti (y := nI (i + 2)) (nI_add i 2) ?_
  refine k_sld hx hb hX hbl hbA hS hL (by omega) dL_law_354 ?_
  refine lv_aload_n hx hb dL_law_355 rfl (lv_at hl 0 rfl) ?_
  refine lv_iload_n hx hb dL_law_356 rfl (lv_at hl 3 rfl) ?_
  refine lv_iconst (v := nI 3) hx hb dL_law_357 (by decide) ?_
  refine lv_iadd hx hb dL_law_358 ?_
  refine k_ti (y := nI (i + 3)) (nI_add i 3) ?_
  refine k_sld hx hb hX hbl hbA hS hL (by omega) dL_law_359 ?_
  refine k_lawA (u := ((n, kk, ff, ss, w), zz (z 0) (z 1) (z 2) (z 3) (z 4) (z 5))) (um := ((n, kk, ff, ss, w), va)) (As := [.int (xs (i + 1)), .int (xs (i + 2)), .int (xs (i + 3))]) (rest := []) ⟨hx, hb, hml, hown, hts⟩ (mA_testFrom l D ad d n kk ff ss w (z 0) (z 1) (z 2) (z 3) (z 4) (z 5) H.size (xs (i + 1)) (xs (i + 2)) (xs (i + 3)) hw) (cwV 3 hts (lw_V q131 q114 q115 q10 q116) rfl rfl rfl (by decide +kernel) ⟨Nat.le_of_ble_eq_true rfl, Nat.le_of_ble_eq_true rfl⟩) hP hD (hK.sub [0, 1, 2] rfl) hS hA rfl hl.1 rfl (Nat.le_of_ble_eq_true rfl) dL_law_360 ⟨Nat.le_of_ble_eq_true rfl, Nat.le_of_ble_eq_true rfl⟩ (fun r1 u1 H locs hp1 hP hD hS => ?_)
  obtain ⟨C1, z1⟩ := u1
  obtain ⟨hp1, hC1⟩ := hp1
  have hC1 : C1 = _ := hC1
  subst hC1
  refine lv_aload_n hx hb dL_law_363 rfl (lv_at hl 2 rfl) ?_
  refine lv_aload_n hx hb dL_law_364 rfl (lv_at hl 0 rfl) ?_
  refine lv_iload_n hx hb dL_law_365 rfl (lv_at hl 3 rfl) ?_
  refine lv_iconst (v := nI 1) hx hb dL_law_366 (by decide) ?_
  refine lv_iadd hx hb dL_law_367 ?_
  refine k_ti (y := nI (i + 1)) (nI_add i 1) ?_
  refine k_sld hx hb hX hbl hbA hS hL (by omega) dL_law_368 ?_
  refine lv_aload_n hx hb dL_law_369 rfl (lv_at hl 0 rfl) ?_
  refine lv_iload_n hx hb dL_law_370 rfl (lv_at hl 3 rfl) ?_
  refine lv_iconst (v := nI 2) hx hb dL_law_371 (by decide) ?_
  refine lv_iadd hx hb dL_law_372 ?_
  refine k_ti (y := nI (i + 2)) (nI_add i 2) ?_
  refine k_sld hx hb hX hbl hbA hS hL (by omega) dL_law_373 ?_
  refine lv_aload_n hx hb dL_law_374 rfl (lv_at hl 0 rfl) ?_
  refine lv_iload_n hx hb dL_law_375 rfl (lv_at hl 3 rfl) ?_
  refine lv_iconst (v := nI 3) hx hb dL_law_376 (by decide) ?_
  refine lv_iadd hx hb dL_law_377 ?_
  refine k_ti (y := nI (i + 3)) (nI_add i 3) ?_
  refine k_sld hx hb hX hbl hbA hS hL (by omega) dL_law_378 ?_
  refine k_lawM (u := (_, z1)) (um := ((n, kk, ff, ss, w), va)) (As := [.int (xs (i + 1)), .int (xs (i + 2)), .int (xs (i + 3))]) (rest := [.int r1]) ⟨hx, hb, hml, hown, hts⟩ (mM_testFrom l D am dm n kk ff ss w va H.size (xs (i + 1)) (xs (i + 2)) (xs (i + 3)) hw) (cwV 3 hts (lw_V q230 q226 q227 q11 q228) rfl rfl rfl (by decide +kernel) ⟨Nat.le_of_ble_eq_true rfl, Nat.le_of_ble_eq_true rfl⟩) hP hD (hK.sub [3] rfl) hS hA rfl hl.1 rfl (Nat.le_of_ble_eq_true rfl) dL_law_379 ⟨Nat.le_of_ble_eq_true rfl, Nat.le_of_ble_eq_true rfl⟩ (fun r2 u2 H locs hp2 hP hD hS => ?_)
  obtain ⟨C2, z2⟩ := u2
  obtain ⟨hp2, hC2⟩ := hp2
  have hC2 : C2 = _ := hC2
  subst hC2
  refine lv_icmp_eq (tgt := 522) hx hb dL_law_382 (by decide) (fun c1 => ?_) (fun c1 => absurd (hp1.trans hp2.symm) c1)
  exact hc _ z1 z2 (hw) _ _ hP hD hS ls hl

set_option maxHeartbeats 4000000 in
set_option maxRecDepth 100000 in
theorem law_hidden {p : Program} {e : Env} {s : State} {m : MethodId} {below : List Frame} {meth : Method} {c : Code} (l : Launch) {b L : Nat} {xs : Nat → Int32} (hL : L ≤ 320) (C0 : lw_At p s m meth c b L xs) {D : va_G} {ad am : Nat → Nat} {d : Nat → ClassId} {dm : ClassId} (hK : va_K D vwCl (tyA d ++ [(dm, .int)]) s) {i : Nat} (hi : i + 5 ≤ L) (hc : LawW p l e s m b below meth c D ad am d dm i 522) : LawW p l e s m b below meth c D ad am d dm i 387 := by
  obtain ⟨hx, hb, hr, hml, hown, hts0, hX, hbl, hlocks, hgv⟩ := C0
  have hts : ∀ w ∈ lw_all, w.before #[Value.ref b] s = true := fun w h => hts0 w (lw_all_tbl h)
  have hA : ∀ q : Nat, s.heap.size ≤ q → (fun q : Nat => s.heap.size ≤ q) q := fun _ h => h
  have hbA : ¬ (fun q : Nat => s.heap.size ≤ q) b := Nat.not_le.mpr hbl
  intro C z va hw H locs hP hD hS ls hl
  obtain ⟨n, kk, ff, ss, w⟩ := C
  refine lv_aload_n hx hb dL_law_387 rfl (lv_at hl 1 rfl) ?_
  refine lv_aload_n hx hb dL_law_388 rfl (lv_at hl 0 rfl) ?_
  refine lv_iload_n hx hb dL_law_389 rfl (lv_at hl 3 rfl) ?_
  refine lv_iconst (v := nI 1) hx hb dL_law_390 (by decide) ?_
  refine lv_iadd hx hb dL_law_391 ?_
  refine k_ti (y := nI (i + 1)) (nI_add i 1) ?_
  refine k_sld hx hb hX hbl hbA hS hL (by omega) dL_law_392 ?_
  refine k_lawA (u := ((n, kk, ff, ss, w), zz (z 0) (z 1) (z 2) (z 3) (z 4) (z 5))) (um := ((n, kk, ff, ss, w), va)) (As := [.int (xs (i + 1))]) (rest := []) ⟨hx, hb, hml, hown, hts⟩ (mA_hidden l D ad d n kk ff ss w (z 0) (z 1) (z 2) (z 3) (z 4) (z 5) H.size (xs (i + 1)) hw) (cwV 1 hts (lw_V q132 q133 q134 q10 q135) rfl rfl rfl (by decide +kernel) ⟨Nat.le_of_ble_eq_true rfl, Nat.le_of_ble_eq_true rfl⟩) hP hD (hK.sub [0, 1, 2] rfl) hS hA rfl hl.1 rfl (Nat.le_of_ble_eq_true rfl) dL_law_393 ⟨Nat.le_of_ble_eq_true rfl, Nat.le_of_ble_eq_true rfl⟩ (fun r1 u1 H locs hp1 hP hD hS => ?_)
  obtain ⟨C1, z1⟩ := u1
  obtain ⟨hp1, hC1⟩ := hp1
  have hC1 : C1 = _ := hC1
  subst hC1
  refine lv_aload_n hx hb dL_law_396 rfl (lv_at hl 2 rfl) ?_
  refine lv_aload_n hx hb dL_law_397 rfl (lv_at hl 0 rfl) ?_
  refine lv_iload_n hx hb dL_law_398 rfl (lv_at hl 3 rfl) ?_
  refine lv_iconst (v := nI 1) hx hb dL_law_399 (by decide) ?_
  refine lv_iadd hx hb dL_law_400 ?_
  refine k_ti (y := nI (i + 1)) (nI_add i 1) ?_
  refine k_sld hx hb hX hbl hbA hS hL (by omega) dL_law_401 ?_
  refine k_lawM (u := (_, z1)) (um := ((n, kk, ff, ss, w), va)) (As := [.int (xs (i + 1))]) (rest := [.int r1]) ⟨hx, hb, hml, hown, hts⟩ (mM_hidden l D am dm n kk ff ss w va H.size (xs (i + 1)) hw) (cwV 1 hts (lw_V q231 q232 q233 q11 q234) rfl rfl rfl (by decide +kernel) ⟨Nat.le_of_ble_eq_true rfl, Nat.le_of_ble_eq_true rfl⟩) hP hD (hK.sub [3] rfl) hS hA rfl hl.1 rfl (Nat.le_of_ble_eq_true rfl) dL_law_402 ⟨Nat.le_of_ble_eq_true rfl, Nat.le_of_ble_eq_true rfl⟩ (fun r2 u2 H locs hp2 hP hD hS => ?_)
  obtain ⟨C2, z2⟩ := u2
  obtain ⟨hp2, hC2⟩ := hp2
  have hC2 : C2 = _ := hC2
  subst hC2
  refine lv_icmp_eq (tgt := 522) hx hb dL_law_405 (by decide) (fun c1 => ?_) (fun c1 => absurd (hp1.trans hp2.symm) c1)
  exact hc _ z1 z2 (hw) _ _ hP hD hS ls hl

set_option maxHeartbeats 4000000 in
set_option maxRecDepth 100000 in
theorem law_shownBy {p : Program} {e : Env} {s : State} {m : MethodId} {below : List Frame} {meth : Method} {c : Code} (l : Launch) {b L : Nat} {xs : Nat → Int32} (hL : L ≤ 320) (C0 : lw_At p s m meth c b L xs) {D : va_G} {ad am : Nat → Nat} {d : Nat → ClassId} {dm : ClassId} (hK : va_K D vwCl (tyA d ++ [(dm, .int)]) s) {i : Nat} (hi : i + 5 ≤ L) (hc : LawW p l e s m b below meth c D ad am d dm i 522) : LawW p l e s m b below meth c D ad am d dm i 410 := by
  obtain ⟨hx, hb, hr, hml, hown, hts0, hX, hbl, hlocks, hgv⟩ := C0
  have hts : ∀ w ∈ lw_all, w.before #[Value.ref b] s = true := fun w h => hts0 w (lw_all_tbl h)
  have hA : ∀ q : Nat, s.heap.size ≤ q → (fun q : Nat => s.heap.size ≤ q) q := fun _ h => h
  have hbA : ¬ (fun q : Nat => s.heap.size ≤ q) b := Nat.not_le.mpr hbl
  intro C z va hw H locs hP hD hS ls hl
  obtain ⟨n, kk, ff, ss, w⟩ := C
  refine lv_aload_n hx hb dL_law_410 rfl (lv_at hl 1 rfl) ?_
  refine lv_aload_n hx hb dL_law_411 rfl (lv_at hl 0 rfl) ?_
  refine lv_iload_n hx hb dL_law_412 rfl (lv_at hl 3 rfl) ?_
  refine lv_iconst (v := nI 1) hx hb dL_law_413 (by decide) ?_
  refine lv_iadd hx hb dL_law_414 ?_
  refine k_ti (y := nI (i + 1)) (nI_add i 1) ?_
  refine k_sld hx hb hX hbl hbA hS hL (by omega) dL_law_415 ?_
  refine k_lawA (u := ((n, kk, ff, ss, w), zz (z 0) (z 1) (z 2) (z 3) (z 4) (z 5))) (um := ((n, kk, ff, ss, w), va)) (As := [.int (xs (i + 1))]) (rest := []) ⟨hx, hb, hml, hown, hts⟩ (mA_shownBy l D ad d n kk ff ss w (z 0) (z 1) (z 2) (z 3) (z 4) (z 5) H.size (xs (i + 1)) hw) (cwV 1 hts (lw_V q136 q137 q138 q10 q139) rfl rfl rfl (by decide +kernel) ⟨Nat.le_of_ble_eq_true rfl, Nat.le_of_ble_eq_true rfl⟩) hP hD (hK.sub [0, 1, 2] rfl) hS hA rfl hl.1 rfl (Nat.le_of_ble_eq_true rfl) dL_law_416 ⟨Nat.le_of_ble_eq_true rfl, Nat.le_of_ble_eq_true rfl⟩ (fun r1 u1 H locs hp1 hP hD hS => ?_)
  obtain ⟨C1, z1⟩ := u1
  obtain ⟨hp1, hC1⟩ := hp1
  have hC1 : C1 = _ := hC1
  subst hC1
  refine lv_aload_n hx hb dL_law_419 rfl (lv_at hl 2 rfl) ?_
  refine lv_aload_n hx hb dL_law_420 rfl (lv_at hl 0 rfl) ?_
  refine lv_iload_n hx hb dL_law_421 rfl (lv_at hl 3 rfl) ?_
  refine lv_iconst (v := nI 1) hx hb dL_law_422 (by decide) ?_
  refine lv_iadd hx hb dL_law_423 ?_
  refine k_ti (y := nI (i + 1)) (nI_add i 1) ?_
  refine k_sld hx hb hX hbl hbA hS hL (by omega) dL_law_424 ?_
  refine k_lawM (u := (_, z1)) (um := ((n, kk, ff, ss, w), va)) (As := [.int (xs (i + 1))]) (rest := [.int r1]) ⟨hx, hb, hml, hown, hts⟩ (mM_shownBy l D am dm n kk ff ss w va H.size (xs (i + 1)) hw) (cwV 1 hts (lw_V q236 q237 q238 q11 q239) rfl rfl rfl (by decide +kernel) ⟨Nat.le_of_ble_eq_true rfl, Nat.le_of_ble_eq_true rfl⟩) hP hD (hK.sub [3] rfl) hS hA rfl hl.1 rfl (Nat.le_of_ble_eq_true rfl) dL_law_425 ⟨Nat.le_of_ble_eq_true rfl, Nat.le_of_ble_eq_true rfl⟩ (fun r2 u2 H locs hp2 hP hD hS => ?_)
  obtain ⟨C2, z2⟩ := u2
  obtain ⟨hp2, hC2⟩ := hp2
  have hC2 : C2 = _ := hC2
  subst hC2
  refine lv_icmp_eq (tgt := 522) hx hb dL_law_428 (by decide) (fun c1 => ?_) (fun c1 => absurd (hp1.trans hp2.symm) c1)
  exact hc _ z1 z2 (hw) _ _ hP hD hS ls hl

set_option maxHeartbeats 4000000 in
set_option maxRecDepth 100000 in
theorem law_bestVector {p : Program} {e : Env} {s : State} {m : MethodId} {below : List Frame} {meth : Method} {c : Code} (l : Launch) {b L : Nat} {xs : Nat → Int32} (hL : L ≤ 320) (C0 : lw_At p s m meth c b L xs) {D : va_G} {ad am : Nat → Nat} {d : Nat → ClassId} {dm : ClassId} (hK : va_K D vwCl (tyA d ++ [(dm, .int)]) s) {i : Nat} (hi : i + 5 ≤ L) (hc : LawW p l e s m b below meth c D ad am d dm i 522) : LawW p l e s m b below meth c D ad am d dm i 433 := by
  obtain ⟨hx, hb, hr, hml, hown, hts0, hX, hbl, hlocks, hgv⟩ := C0
  have hts : ∀ w ∈ lw_all, w.before #[Value.ref b] s = true := fun w h => hts0 w (lw_all_tbl h)
  have hA : ∀ q : Nat, s.heap.size ≤ q → (fun q : Nat => s.heap.size ≤ q) q := fun _ h => h
  have hbA : ¬ (fun q : Nat => s.heap.size ≤ q) b := Nat.not_le.mpr hbl
  intro C z va hw H locs hP hD hS ls hl
  obtain ⟨n, kk, ff, ss, w⟩ := C
  refine lv_aload_n hx hb dL_law_433 rfl (lv_at hl 1 rfl) ?_
  refine k_lawA (u := ((n, kk, ff, ss, w), zz (z 0) (z 1) (z 2) (z 3) (z 4) (z 5))) (um := ((n, kk, ff, ss, w), va)) (As := []) (rest := []) ⟨hx, hb, hml, hown, hts⟩ (mA_bestVector l D ad d n kk ff ss w (z 0) (z 1) (z 2) (z 3) (z 4) (z 5) H.size hw) (cwV 0 hts (lw_V q144 q145 q146 q10 q147) rfl rfl rfl (by decide +kernel) ⟨Nat.le_of_ble_eq_true rfl, Nat.le_of_ble_eq_true rfl⟩) hP hD (hK.sub [0, 1, 2] rfl) hS hA rfl hl.1 rfl (Nat.le_of_ble_eq_true rfl) dL_law_434 ⟨Nat.le_of_ble_eq_true rfl, Nat.le_of_ble_eq_true rfl⟩ (fun r1 u1 H locs hp1 hP hD hS => ?_)
  obtain ⟨C1, z1⟩ := u1
  obtain ⟨hp1, hC1⟩ := hp1
  have hC1 : C1 = _ := hC1
  subst hC1
  refine lv_aload_n hx hb dL_law_437 rfl (lv_at hl 2 rfl) ?_
  refine k_lawM (u := (_, z1)) (um := ((n, kk, ff, ss, w), va)) (As := []) (rest := [.int r1]) ⟨hx, hb, hml, hown, hts⟩ (mM_bestVector l D am dm n kk ff ss w va H.size hw) (cwV 0 hts (lw_V q240 q241 q242 q11 q243) rfl rfl rfl (by decide +kernel) ⟨Nat.le_of_ble_eq_true rfl, Nat.le_of_ble_eq_true rfl⟩) hP hD (hK.sub [3] rfl) hS hA rfl hl.1 rfl (Nat.le_of_ble_eq_true rfl) dL_law_438 ⟨Nat.le_of_ble_eq_true rfl, Nat.le_of_ble_eq_true rfl⟩ (fun r2 u2 H locs hp2 hP hD hS => ?_)
  obtain ⟨C2, z2⟩ := u2
  obtain ⟨hp2, hC2⟩ := hp2
  have hC2 : C2 = _ := hC2
  subst hC2
  refine lv_icmp_eq (tgt := 522) hx hb dL_law_441 (by decide) (fun c1 => ?_) (fun c1 => absurd (hp1.trans hp2.symm) c1)
  exact hc _ z1 z2 (hw) _ _ hP hD hS ls hl

set_option maxHeartbeats 4000000 in
set_option maxRecDepth 100000 in
theorem law_alike {p : Program} {e : Env} {s : State} {m : MethodId} {below : List Frame} {meth : Method} {c : Code} (l : Launch) {b L : Nat} {xs : Nat → Int32} (hL : L ≤ 320) (C0 : lw_At p s m meth c b L xs) {D : va_G} {ad am : Nat → Nat} {d : Nat → ClassId} {dm : ClassId} (hK : va_K D vwCl (tyA d ++ [(dm, .int)]) s) {i : Nat} (hi : i + 5 ≤ L) (hc : LawW p l e s m b below meth c D ad am d dm i 522) : LawW p l e s m b below meth c D ad am d dm i 446 := by
  obtain ⟨hx, hb, hr, hml, hown, hts0, hX, hbl, hlocks, hgv⟩ := C0
  have hts : ∀ w ∈ lw_all, w.before #[Value.ref b] s = true := fun w h => hts0 w (lw_all_tbl h)
  have hA : ∀ q : Nat, s.heap.size ≤ q → (fun q : Nat => s.heap.size ≤ q) q := fun _ h => h
  have hbA : ¬ (fun q : Nat => s.heap.size ≤ q) b := Nat.not_le.mpr hbl
  intro C z va hw H locs hP hD hS ls hl
  obtain ⟨n, kk, ff, ss, w⟩ := C
  refine lv_aload_n hx hb dL_law_446 rfl (lv_at hl 1 rfl) ?_
  refine lv_aload_n hx hb dL_law_447 rfl (lv_at hl 0 rfl) ?_
  refine lv_iload_n hx hb dL_law_448 rfl (lv_at hl 3 rfl) ?_
  refine lv_iconst (v := nI 1) hx hb dL_law_449 (by decide) ?_
  refine lv_iadd hx hb dL_law_450 ?_
  refine k_ti (y := nI (i + 1)) (nI_add i 1) ?_
  refine k_sld hx hb hX hbl hbA hS hL (by omega) dL_law_451 ?_
  refine lv_aload_n hx hb dL_law_452 rfl (lv_at hl 0 rfl) ?_
  refine lv_iload_n hx hb dL_law_453 rfl (lv_at hl 3 rfl) ?_
  refine lv_iconst (v := nI 2) hx hb dL_law_454 (by decide) ?_
  refine lv_iadd hx hb dL_law_455 ?_
  refine k_ti (y := nI (i + 2)) (nI_add i 2) ?_
  refine k_sld hx hb hX hbl hbA hS hL (by omega) dL_law_456 ?_
  refine lv_aload_n hx hb dL_law_457 rfl (lv_at hl 0 rfl) ?_
  refine lv_iload_n hx hb dL_law_458 rfl (lv_at hl 3 rfl) ?_
  refine lv_iconst (v := nI 3) hx hb dL_law_459 (by decide) ?_
  refine lv_iadd hx hb dL_law_460 ?_
  refine k_ti (y := nI (i + 3)) (nI_add i 3) ?_
  refine k_sld hx hb hX hbl hbA hS hL (by omega) dL_law_461 ?_
  refine lv_aload_n hx hb dL_law_462 rfl (lv_at hl 0 rfl) ?_
  refine lv_iload_n hx hb dL_law_463 rfl (lv_at hl 3 rfl) ?_
  refine lv_iconst (v := nI 4) hx hb dL_law_464 (by decide) ?_
  refine lv_iadd hx hb dL_law_465 ?_
  refine k_ti (y := nI (i + 4)) (nI_add i 4) ?_
  refine k_sld hx hb hX hbl hbA hS hL (by omega) dL_law_466 ?_
  refine k_lawA (u := ((n, kk, ff, ss, w), zz (z 0) (z 1) (z 2) (z 3) (z 4) (z 5))) (um := ((n, kk, ff, ss, w), va)) (As := [.int (xs (i + 1)), .int (xs (i + 2)), .int (xs (i + 3)), .int (xs (i + 4))]) (rest := []) ⟨hx, hb, hml, hown, hts⟩ (mA_alike l D ad d n kk ff ss w (z 0) (z 1) (z 2) (z 3) (z 4) (z 5) H.size (xs (i + 1)) (xs (i + 2)) (xs (i + 3)) (xs (i + 4)) hw) (cwV 4 hts (lw_V q148 q149 q150 q10 q151) rfl rfl rfl (by decide +kernel) ⟨Nat.le_of_ble_eq_true rfl, Nat.le_of_ble_eq_true rfl⟩) hP hD (hK.sub [0, 1, 2] rfl) hS hA rfl hl.1 rfl (Nat.le_of_ble_eq_true rfl) dL_law_467 ⟨Nat.le_of_ble_eq_true rfl, Nat.le_of_ble_eq_true rfl⟩ (fun r1 u1 H locs hp1 hP hD hS => ?_)
  obtain ⟨C1, z1⟩ := u1
  obtain ⟨hp1, hC1⟩ := hp1
  have hC1 : C1 = _ := hC1
  subst hC1
  refine lv_aload_n hx hb dL_law_470 rfl (lv_at hl 2 rfl) ?_
  refine lv_aload_n hx hb dL_law_471 rfl (lv_at hl 0 rfl) ?_
  refine lv_iload_n hx hb dL_law_472 rfl (lv_at hl 3 rfl) ?_
  refine lv_iconst (v := nI 1) hx hb dL_law_473 (by decide) ?_
  refine lv_iadd hx hb dL_law_474 ?_
  refine k_ti (y := nI (i + 1)) (nI_add i 1) ?_
  refine k_sld hx hb hX hbl hbA hS hL (by omega) dL_law_475 ?_
  refine lv_aload_n hx hb dL_law_476 rfl (lv_at hl 0 rfl) ?_
  refine lv_iload_n hx hb dL_law_477 rfl (lv_at hl 3 rfl) ?_
  refine lv_iconst (v := nI 2) hx hb dL_law_478 (by decide) ?_
  refine lv_iadd hx hb dL_law_479 ?_
  refine k_ti (y := nI (i + 2)) (nI_add i 2) ?_
  refine k_sld hx hb hX hbl hbA hS hL (by omega) dL_law_480 ?_
  refine lv_aload_n hx hb dL_law_481 rfl (lv_at hl 0 rfl) ?_
  refine lv_iload_n hx hb dL_law_482 rfl (lv_at hl 3 rfl) ?_
  refine lv_iconst (v := nI 3) hx hb dL_law_483 (by decide) ?_
  refine lv_iadd hx hb dL_law_484 ?_
  refine k_ti (y := nI (i + 3)) (nI_add i 3) ?_
  refine k_sld hx hb hX hbl hbA hS hL (by omega) dL_law_485 ?_
  refine lv_aload_n hx hb dL_law_486 rfl (lv_at hl 0 rfl) ?_
  refine lv_iload_n hx hb dL_law_487 rfl (lv_at hl 3 rfl) ?_
  refine lv_iconst (v := nI 4) hx hb dL_law_488 (by decide) ?_
  refine lv_iadd hx hb dL_law_489 ?_
  refine k_ti (y := nI (i + 4)) (nI_add i 4) ?_
  refine k_sld hx hb hX hbl hbA hS hL (by omega) dL_law_490 ?_
  refine k_lawM (u := (_, z1)) (um := ((n, kk, ff, ss, w), va)) (As := [.int (xs (i + 1)), .int (xs (i + 2)), .int (xs (i + 3)), .int (xs (i + 4))]) (rest := [.int r1]) ⟨hx, hb, hml, hown, hts⟩ (mM_alike l D am dm n kk ff ss w va H.size (xs (i + 1)) (xs (i + 2)) (xs (i + 3)) (xs (i + 4)) hw) (cwV 4 hts (lw_V q245 q246 q247 q11 q248) rfl rfl rfl (by decide +kernel) ⟨Nat.le_of_ble_eq_true rfl, Nat.le_of_ble_eq_true rfl⟩) hP hD (hK.sub [3] rfl) hS hA rfl hl.1 rfl (Nat.le_of_ble_eq_true rfl) dL_law_491 ⟨Nat.le_of_ble_eq_true rfl, Nat.le_of_ble_eq_true rfl⟩ (fun r2 u2 H locs hp2 hP hD hS => ?_)
  obtain ⟨C2, z2⟩ := u2
  obtain ⟨hp2, hC2⟩ := hp2
  have hC2 : C2 = _ := hC2
  subst hC2
  refine lv_icmp_eq (tgt := 522) hx hb dL_law_494 (by decide) (fun c1 => ?_) (fun c1 => absurd (hp1.trans hp2.symm) c1)
  exact hc _ z1 z2 (hw) _ _ hP hD hS ls hl

set_option maxHeartbeats 4000000 in
set_option maxRecDepth 100000 in
theorem law_ones {p : Program} {e : Env} {s : State} {m : MethodId} {below : List Frame} {meth : Method} {c : Code} (l : Launch) {b L : Nat} {xs : Nat → Int32} (hL : L ≤ 320) (C0 : lw_At p s m meth c b L xs) {D : va_G} {ad am : Nat → Nat} {d : Nat → ClassId} {dm : ClassId} (hK : va_K D vwCl (tyA d ++ [(dm, .int)]) s) {i : Nat} (hi : i + 5 ≤ L) (hc : LawW p l e s m b below meth c D ad am d dm i 522) : LawW p l e s m b below meth c D ad am d dm i 499 := by
  obtain ⟨hx, hb, hr, hml, hown, hts0, hX, hbl, hlocks, hgv⟩ := C0
  have hts : ∀ w ∈ lw_all, w.before #[Value.ref b] s = true := fun w h => hts0 w (lw_all_tbl h)
  have hA : ∀ q : Nat, s.heap.size ≤ q → (fun q : Nat => s.heap.size ≤ q) q := fun _ h => h
  have hbA : ¬ (fun q : Nat => s.heap.size ≤ q) b := Nat.not_le.mpr hbl
  intro C z va hw H locs hP hD hS ls hl
  obtain ⟨n, kk, ff, ss, w⟩ := C
  refine lv_aload_n hx hb dL_law_499 rfl (lv_at hl 1 rfl) ?_
  refine lv_aload_n hx hb dL_law_500 rfl (lv_at hl 0 rfl) ?_
  refine lv_iload_n hx hb dL_law_501 rfl (lv_at hl 3 rfl) ?_
  refine lv_iconst (v := nI 1) hx hb dL_law_502 (by decide) ?_
  refine lv_iadd hx hb dL_law_503 ?_
  refine k_ti (y := nI (i + 1)) (nI_add i 1) ?_
  refine k_sld hx hb hX hbl hbA hS hL (by omega) dL_law_504 ?_
  refine k_lawA (u := ((n, kk, ff, ss, w), zz (z 0) (z 1) (z 2) (z 3) (z 4) (z 5))) (um := ((n, kk, ff, ss, w), va)) (As := [.int (xs (i + 1))]) (rest := []) ⟨hx, hb, hml, hown, hts⟩ (mA_ones l D ad d n kk ff ss w (z 0) (z 1) (z 2) (z 3) (z 4) (z 5) H.size (xs (i + 1)) hw) (cwV 1 hts (lw_V q152 q153 q154 q10 q155) rfl rfl rfl (by decide +kernel) ⟨Nat.le_of_ble_eq_true rfl, Nat.le_of_ble_eq_true rfl⟩) hP hD (hK.sub [0, 1, 2] rfl) hS hA rfl hl.1 rfl (Nat.le_of_ble_eq_true rfl) dL_law_505 ⟨Nat.le_of_ble_eq_true rfl, Nat.le_of_ble_eq_true rfl⟩ (fun r1 u1 H locs hp1 hP hD hS => ?_)
  obtain ⟨C1, z1⟩ := u1
  obtain ⟨hp1, hC1⟩ := hp1
  have hC1 : C1 = _ := hC1
  subst hC1
  refine lv_aload_n hx hb dL_law_508 rfl (lv_at hl 2 rfl) ?_
  refine lv_aload_n hx hb dL_law_509 rfl (lv_at hl 0 rfl) ?_
  refine lv_iload_n hx hb dL_law_510 rfl (lv_at hl 3 rfl) ?_
  refine lv_iconst (v := nI 1) hx hb dL_law_511 (by decide) ?_
  refine lv_iadd hx hb dL_law_512 ?_
  refine k_ti (y := nI (i + 1)) (nI_add i 1) ?_
  refine k_sld hx hb hX hbl hbA hS hL (by omega) dL_law_513 ?_
  refine k_lawM (u := (_, z1)) (um := ((n, kk, ff, ss, w), va)) (As := [.int (xs (i + 1))]) (rest := [.int r1]) ⟨hx, hb, hml, hown, hts⟩ (mM_ones l D am dm n kk ff ss w va H.size (xs (i + 1)) hw) (cwV 1 hts (lw_V q249 q250 q251 q11 q252) rfl rfl rfl (by decide +kernel) ⟨Nat.le_of_ble_eq_true rfl, Nat.le_of_ble_eq_true rfl⟩) hP hD (hK.sub [3] rfl) hS hA rfl hl.1 rfl (Nat.le_of_ble_eq_true rfl) dL_law_514 ⟨Nat.le_of_ble_eq_true rfl, Nat.le_of_ble_eq_true rfl⟩ (fun r2 u2 H locs hp2 hP hD hS => ?_)
  obtain ⟨C2, z2⟩ := u2
  obtain ⟨hp2, hC2⟩ := hp2
  have hC2 : C2 = _ := hC2
  subst hC2
  refine lv_icmp_eq (tgt := 522) hx hb dL_law_517 (by decide) (fun c1 => ?_) (fun c1 => absurd (hp1.trans hp2.symm) c1)
  exact hc _ z1 z2 (hw) _ _ hP hD hS ls hl
end
section
theorem wf_0 : wfT (5, (fun _ => 0), (fun _ => 0), (fun _ => 0), nI 0) := by
  refine ⟨by decide, by decide, fun i => ⟨by show 0 ≤ 5; omega, Nat.zero_le _, Nat.zero_le _, fun h => ⟨by show 0 < i; omega, by show 0 < i; omega⟩⟩⟩
theorem law_lt {i L : Nat} (hL : L ≤ 320) (hi : i ≤ L) (h : ¬ Int32.ofNat L - nI 5 < nI i) : i + 5 ≤ L := by
  have h1 : (nI L - nI 5).toInt = (L : Int) - 5 := pk_sub_toInt (by omega) (by omega)
  have h2 := Int32.not_lt.mp h
  rw [Int32.le_iff_toInt_le, show Int32.ofNat L - nI 5 = nI L - nI 5 from rfl, h1, nI_toInt (by omega)] at h2
  omega
set_option maxHeartbeats 4000000 in
set_option maxRecDepth 100000 in
theorem law_loop {p : Program} {e : Env} {s : State} {m : MethodId} {below : List Frame} {meth : Method} {c : Code} (l : Launch) {b L : Nat} {xs : Nat → Int32} (hL : L ≤ 320) (C0 : lw_At p s m meth c b L xs) {D : va_G} {ad am : Nat → Nat} {d : Nat → ClassId} {dm : ClassId} (hK : va_K D vwCl (tyA d ++ [(dm, .int)]) s) : ∀ (f i : Nat), i ≤ L → L + 1 ≤ i + f → LawW p l e s m b below meth c D ad am d dm i 18 := by
  obtain ⟨hx, hb, hr, hml, hown, hts0, hX, hbl, hlocks, hgv⟩ := id C0
  have hbA : ¬ (fun q : Nat => s.heap.size ≤ q) b := Nat.not_le.mpr hbl
  intro f
  induction f with
  | zero =>
    intro i h1 h2
    exact absurd h2 (by omega)
  | succ f ih =>
    intro i hi hf C z va hw H locs hP hD hS ls hl
    refine lv_iload_n hx hb dL_law_18 rfl (lv_at hl 3 rfl) ?_
    refine lv_aload_n hx hb dL_law_19 rfl (lv_at hl 0 rfl) ?_
    refine va_slen hx hb hX hbl hbA hS dL_law_20 ?_
    refine lv_iconst (v := nI 5) hx hb dL_law_21 (by decide) ?_
    refine lv_isub hx hb dL_law_22 ?_
    refine lv_icmp_gt (tgt := 528) hx hb dL_law_23 (by decide) (fun c1 => ?_) (fun c1 => ?_)
    · refine lv_iconst (v := 1) hx hb dL_law_528 (by decide) ?_
      refine va_forget (fun q hq => hS.2.2 q hq) ?_
      refine W.widen (k := 600000) (n := 7290000) (by decide) (by decide) ?_
      exact lw_ret hx hb hr hlocks dL_law_529
    · have hi5 : i + 5 ≤ L := law_lt hL hi c1
      have hc : LawW p l e s m b below meth c D ad am d dm i 522 := by
        intro C z va hw H locs hP hD hS ls hl
        refine lv_iinc (v := nI (i + 5)) (lv' := [(3, .int (nI (i + 5))), (0, .ref b), (1, .ref (ad 0)), (2, .ref (am 0))]) hx hb dL_law_522 hl (k := 3) rfl (nI_add i 5) (by decide) rfl (fun ls hl => ?_)
        refine lv_goto (tgt := 18) hx hb dL_law_525 (by decide) ?_
        exact ih (i + 5) hi5 (by omega) C z va hw H locs hP hD hS ls (lv_sub hl [1, 2, 3, 0] rfl)
      refine lv_aload_n hx hb dL_law_26 rfl (lv_at hl 0 rfl) ?_
      refine lv_iload_n hx hb dL_law_27 rfl (lv_at hl 3 rfl) ?_
      refine k_sld hx hb hX hbl hbA hS hL (by omega) dL_law_28 ?_
      refine lv_bipush (v := nI 15) hx hb dL_law_29 (by decide) ?_
      refine lv_iand hx hb dL_law_31 ?_
      obtain ⟨j, hj, ej⟩ := pk_andE (xs i) (m := nI 15) 4 (by decide)
      refine k_ti (y := nI j) ej ?_
      rcases (show j = 0 ∨ j = 1 ∨ j = 2 ∨ j = 3 ∨ j = 4 ∨ j = 5 ∨ j = 6 ∨ j = 7 ∨ j = 8 ∨ j = 9 ∨ j = 10 ∨ j = 11 ∨ j = 12 ∨ j = 13 ∨ j = 14 ∨ j = 15 by omega) with rfl | rfl | rfl | rfl | rfl | rfl | rfl | rfl | rfl | rfl | rfl | rfl | rfl | rfl | rfl | rfl
      · refine lv_tableIn (off := 72) (tgt := 104) hx hb dL_law_32 (by decide) (by decide) (by decide) (by decide) ?_
        exact law_gate l hL C0 hK hi5 hc C z va hw H locs hP hD hS ls hl
      · refine lv_tableIn (off := 115) (tgt := 147) hx hb dL_law_32 (by decide) (by decide) (by decide) (by decide) ?_
        exact law_drop l hL C0 hK hi5 hc C z va hw H locs hP hD hS ls hl
      · refine lv_tableIn (off := 128) (tgt := 160) hx hb dL_law_32 (by decide) (by decide) (by decide) (by decide) ?_
        exact law_watch l hL C0 hK hi5 hc C z va hw H locs hP hD hS ls hl
      · refine lv_tableIn (off := 177) (tgt := 209) hx hb dL_law_32 (by decide) (by decide) (by decide) (by decide) ?_
        exact law_lines l hL C0 hK hi5 hc C z va hw H locs hP hD hS ls hl
      · refine lv_tableIn (off := 190) (tgt := 222) hx hb dL_law_32 (by decide) (by decide) (by decide) (by decide) ?_
        exact law_watched l hL C0 hK hi5 hc C z va hw H locs hP hD hS ls hl
      · refine lv_tableIn (off := 203) (tgt := 235) hx hb dL_law_32 (by decide) (by decide) (by decide) (by decide) ?_
        exact law_value l hL C0 hK hi5 hc C z va hw H locs hP hD hS ls hl
      · refine lv_tableIn (off := 236) (tgt := 268) hx hb dL_law_32 (by decide) (by decide) (by decide) (by decide) ?_
        exact law_shows l hL C0 hK hi5 hc C z va hw H locs hP hD hS ls hl
      · refine lv_tableIn (off := 279) (tgt := 311) hx hb dL_law_32 (by decide) (by decide) (by decide) (by decide) ?_
        exact law_test l hL C0 hK hi5 hc C z va hw H locs hP hD hS ls hl
      · refine lv_tableIn (off := 312) (tgt := 344) hx hb dL_law_32 (by decide) (by decide) (by decide) (by decide) ?_
        exact law_testFrom l hL C0 hK hi5 hc C z va hw H locs hP hD hS ls hl
      · refine lv_tableIn (off := 355) (tgt := 387) hx hb dL_law_32 (by decide) (by decide) (by decide) (by decide) ?_
        exact law_hidden l hL C0 hK hi5 hc C z va hw H locs hP hD hS ls hl
      · refine lv_tableIn (off := 378) (tgt := 410) hx hb dL_law_32 (by decide) (by decide) (by decide) (by decide) ?_
        exact law_shownBy l hL C0 hK hi5 hc C z va hw H locs hP hD hS ls hl
      · refine lv_tableIn (off := 401) (tgt := 433) hx hb dL_law_32 (by decide) (by decide) (by decide) (by decide) ?_
        exact law_bestVector l hL C0 hK hi5 hc C z va hw H locs hP hD hS ls hl
      · refine lv_tableIn (off := 414) (tgt := 446) hx hb dL_law_32 (by decide) (by decide) (by decide) (by decide) ?_
        exact law_alike l hL C0 hK hi5 hc C z va hw H locs hP hD hS ls hl
      · refine lv_tableIn (off := 467) (tgt := 499) hx hb dL_law_32 (by decide) (by decide) (by decide) (by decide) ?_
        exact law_ones l hL C0 hK hi5 hc C z va hw H locs hP hD hS ls hl
      · refine lv_tableOut (tgt := 522) hx hb dL_law_32 (Or.inr (by decide)) (by decide) ?_
        exact hc C z va hw H locs hP hD hS ls hl
      · refine lv_tableOut (tgt := 522) hx hb dL_law_32 (Or.inr (by decide)) (by decide) ?_
        exact hc C z va hw H locs hP hD hS ls hl
set_option maxHeartbeats 4000000 in
set_option maxRecDepth 100000 in
/-- THE LAW, from its entry -/
theorem whole_start {p : Program} {e : Env} {s : State} {m : MethodId} {below : List Frame} {meth : Method} {c : Code} (l : Launch) {b L : Nat} {xs : Nat → Int32} (hL : L ≤ 320) (C0 : lw_At p s m meth c b L xs) : W p l e room_1 s m #[Value.ref b] below meth c s.heap [] 0 0 (lw_Z below #[Value.ref b] s) (entryFrame m ([Value.ref b] : List Value).toArray 4) := by
  obtain ⟨hx, hb, hr, hml, hown, hts0, hX, hbl, hlocks, hgv⟩ := id C0
  have hts : ∀ w ∈ lw_all, w.before #[Value.ref b] s = true := fun w h => hts0 w (lw_all_tbl h)
  have hA : ∀ q : Nat, s.heap.size ≤ q → (fun q : Nat => s.heap.size ≤ q) q := fun _ h => h
  obtain ⟨c0, iS0, hKn0⟩ := u_known (C := RX0) (T := TX0) (N := 11) (n := 11) hts0 (fun w h => lw_all_tbl (in_X0 w h)) (hts _ q13)
  obtain ⟨c1, iS1, hKn1⟩ := u_known (C := RX1) (T := TX1) (N := 6) (n := 6) hts0 (fun w h => lw_all_tbl (in_X1 w h)) (hts _ q157)
  obtain ⟨dC, dI, hKc⟩ : ∃ (dC : Nat → ClassId) (dI : Nat → Nat → Nat), ∀ (k : Nat) (q : vw_C), vwCl[k]? = some q → u_Kn s q.1 q.2.1 q.2.2 (dC k) (dI k) := by
    refine ⟨fun k => if k = 0 then c0 else c1, fun k => if k = 0 then iS0 else iS1, ?_⟩
    intro k q hq
    match k, hq with
    | 0, hq => cases hq; exact hKn0
    | 1, hq => cases hq; exact hKn1
    | k + 2, hq => simp [vwCl] at hq
  have hS : va_S (fun q : Nat => s.heap.size ≤ q) s.heap s.heap [] := va_S.rf
  have hK : va_K (dC, dI) vwCl [] s := ⟨hKc, fun k q h => by simp at h⟩
  have hP : va_P (dC, dI) vwCl [] s.heap := fun k q h => by simp at h
  have hD : va_D (fun q : Nat => s.heap.size ≤ q) [] := ⟨fun i j p q h => by simp at h, fun k q h => by simp at h⟩
  have hl := lv_entry ([.ref b]) (n := 4) (Nat.le_of_ble_eq_true rfl)
  rw [lg_entry_eq]
  generalize (lg_sl ([.ref b]) ++ List.replicate (4 - (lg_sl ([.ref b])).length) Slot.unset).toArray = ls at hl ⊢
  have hl : lv_has ls 4 [(0, .ref b)] := hl
  refine va_new (ci := 0) (fs := [.int (nI 0), .null, .null, .null, .int (nI 0), .null, .null, .null, .null, .null, .null]) (C := RX0) (T := TX0) (N := 11) hx hb hts in_X0 tyX0 tyX0_ok hown (hts _ q12) (hts _ q13) (hts _ q10) hK hP hD hS hA rfl (fun j hj => by rcases (show j = 0 ∨ j = 1 ∨ j = 2 ∨ j = 3 ∨ j = 4 ∨ j = 5 ∨ j = 6 ∨ j = 7 ∨ j = 8 ∨ j = 9 ∨ j = 10 by omega) with rfl | rfl | rfl | rfl | rfl | rfl | rfl | rfl | rfl | rfl | rfl <;> rfl) (Nat.le_of_ble_eq_true rfl) (Nat.le_of_ble_eq_true rfl) dL_law_0 (fun h0 H hP hD hS => ?_)
  have hP : va_P (dC, dI) vwCl [(h0, .inr (0, [.int (nI 0), .null, .null, .null, .int (nI 0), .null, .null, .null, .null, .null, .null]))] H := hP
  have hD : va_D (fun q : Nat => s.heap.size ≤ q) [(h0, .inr (0, [.int (nI 0), .null, .null, .null, .int (nI 0), .null, .null, .null, .null, .null, .null]))] := hD
  refine W.widen (k := 1) (n := 11) (by decide) (by decide) ?_
  refine lv_dup hx hb dL_law_3 rfl ?_
  have hFc := va_free (wc := [(h0, .inr (0, [.int (nI 0), .null, .null, .null, .int (nI 0), .null, .null, .null, .null, .null, .null]))]) hD hS hA [0] rfl
  refine va_callv (va_runI (As := []) (rest := [.ref h0]) ⟨hx, hb, hml, hown, hts⟩ (mA_init l (dC, dI) h0 H.size) (cwI 0 hts (lw_meth q16) rfl rfl rfl (hts _ q10) (hts _ q14) (hts _ q15) rfl (by decide +kernel) ⟨Nat.le_of_ble_eq_true rfl, Nat.le_of_ble_eq_true rfl⟩) ⟨fun a U g mk q => by obtain ⟨q0, q1, qP, qK, qD⟩ := q; exact ⟨q0, q1, qP, va_K.moved (u := U) (U := U.calling g mk a) (Vm.Alike.refl U.vm) qK, qD⟩, fun U hU hW => ⟨rfl, by rw [hU], by rw [hU]; exact hP, va_K.moved hW.alike hK, hD.weaken (fun _ _ _ _ => trivial)⟩⟩ rfl rfl hl.1 rfl (lv_room (Nat.le_of_ble_eq_true rfl)) dL_law_4 ⟨Nat.le_of_ble_eq_true rfl, Nat.le_of_ble_eq_true rfl⟩) hS (fun q _ h => hFc q h) hFc (fun u t H1 locs ht hvm hw hB hz1 hk1 hS => ?_)
  obtain ⟨ad, d⟩ := u
  obtain ⟨hP1, hK1, hD1⟩ := hB
  rw [ht] at hP1
  have hK1 : va_K (dC, dI) vwCl (tyA d) s := va_K.moved hvm.symm hK1
  have hw : ad 0 = h0 := hw
  subst hw
  obtain ⟨hP, hD⟩ := va_join (wr := []) (w1 := wC ad d ((5, (fun _ => 0), (fun _ => 0), (fun _ => 0), nI 0), fun _ _ => nI 0)) hP hD [0] [] rfl rfl (by decide) (by decide) hk1 hFc hP1 hD1
  generalize H1 = H at hP hS ⊢
  have hP : va_P (dC, dI) vwCl (wC ad d ((5, (fun _ => 0), (fun _ => 0), (fun _ => 0), nI 0), fun _ _ => nI 0)) H := hP
  have hD : va_D (fun q : Nat => s.heap.size ≤ q) (wC ad d ((5, (fun _ => 0), (fun _ => 0), (fun _ => 0), nI 0), fun _ _ => nI 0)) := hD
  refine W.widen (k := 10) (n := 144) (by decide) (by decide) ?_
  refine lv_astore_n (lv' := [(1, .ref (ad 0)), (0, .ref b)]) hx hb dL_law_7 rfl hl (by decide) rfl (fun ls hl => ?_)
  refine va_new (ci := 1) (fs := [.int (nI 0), .null, .null, .null, .int (nI 0), .null]) (C := RX1) (T := TX1) (N := 6) hx hb hts in_X1 tyX1 tyX1_ok hown (hts _ q156) (hts _ q157) (hts _ q11) hK1 hP hD hS hA rfl (fun j hj => by rcases (show j = 0 ∨ j = 1 ∨ j = 2 ∨ j = 3 ∨ j = 4 ∨ j = 5 by omega) with rfl | rfl | rfl | rfl | rfl | rfl <;> rfl) (Nat.le_of_ble_eq_true rfl) (Nat.le_of_ble_eq_true rfl) dL_law_8 (fun h1 H hP hD hS => ?_)
  refine W.widen (k := 11) (n := 150) (by decide) (by decide) ?_
  refine lv_dup hx hb dL_law_11 rfl ?_
  have hPc : va_P (dC, dI) vwCl [(h1, .inr (1, [.int (nI 0), .null, .null, .null, .int (nI 0), .null]))] H := hP.sub [10] rfl
  have hDc : va_D (fun q : Nat => s.heap.size ≤ q) [(h1, .inr (1, [.int (nI 0), .null, .null, .null, .int (nI 0), .null]))] := hD.sub [10] (by decide) rfl
  have hFc := va_free (wc := [(h1, .inr (1, [.int (nI 0), .null, .null, .null, .int (nI 0), .null]))]) hD hS hA [10] rfl
  refine va_callv (va_runI (As := []) (rest := [.ref h1]) ⟨hx, hb, hml, hown, hts⟩ (mM_init l (dC, dI) h1 H.size) (cwI 0 hts (lw_meth q160) rfl rfl rfl (hts _ q11) (hts _ q158) (hts _ q159) rfl (by decide +kernel) ⟨Nat.le_of_ble_eq_true rfl, Nat.le_of_ble_eq_true rfl⟩) ⟨fun a U g mk q => by obtain ⟨q0, q1, qP, qK, qD⟩ := q; exact ⟨q0, q1, qP, va_K.moved (u := U) (U := U.calling g mk a) (Vm.Alike.refl U.vm) qK, qD⟩, fun U hU hW => ⟨rfl, by rw [hU], by rw [hU]; exact hPc, va_K.moved hW.alike hK, hDc.weaken (fun _ _ _ _ => trivial)⟩⟩ rfl rfl hl.1 rfl (lv_room (Nat.le_of_ble_eq_true rfl)) dL_law_12 ⟨Nat.le_of_ble_eq_true rfl, Nat.le_of_ble_eq_true rfl⟩) hS (fun q _ h => hFc q h) hFc (fun u t H1 locs ht hvm hw hB hz1 hk1 hS => ?_)
  obtain ⟨am, dm⟩ := u
  obtain ⟨hP1, hK2, hD1⟩ := hB
  rw [ht] at hP1
  have hK2 : va_K (dC, dI) vwCl [(dm, .int)] s := va_K.moved hvm.symm hK2
  have hw : am 0 = h1 := hw
  subst hw
  obtain ⟨hP, hD⟩ := va_join (wr := wC ad d ((5, (fun _ => 0), (fun _ => 0), (fun _ => 0), nI 0), fun _ _ => nI 0)) (w1 := wM am dm ((5, (fun _ => 0), (fun _ => 0), (fun _ => 0), nI 0), fun _ => nI 0)) hP hD [10] [0, 1, 2, 3, 4, 5, 6, 7, 8, 9] rfl rfl (by decide) (by decide) hk1 hFc hP1 hD1
  have hK3 := hK1.app hK2
  generalize H1 = H at hP hS ⊢
  refine W.widen (k := 15) (n := 214) (by decide) (by decide) ?_
  refine lv_astore_n (lv' := [(2, .ref (am 0)), (1, .ref (ad 0)), (0, .ref b)]) hx hb dL_law_15 rfl hl (by decide) rfl (fun ls hl => ?_)
  refine lv_iconst (v := nI 0) hx hb dL_law_16 (by decide) ?_
  refine lv_istore_n (lv' := [(3, .int (nI 0)), (2, .ref (am 0)), (1, .ref (ad 0)), (0, .ref b)]) hx hb dL_law_17 rfl hl (by decide) rfl (fun ls hl => ?_)
  exact law_loop l hL C0 hK3 (L + 1) 0 (Nat.zero_le L) (by omega) (5, (fun _ => 0), (fun _ => 0), (fun _ => 0), nI 0) (fun _ _ => nI 0) (fun _ => nI 0) wf_0 _ _ hP hD hS ls (lv_sub hl [3, 2, 1, 0] rfl)
end
section
set_option maxHeartbeats 4000000 in
theorem lw_walk (l : Launch) (b : Addr) (xs : List Int32) : MetFree l x (headSpec (Jvm.Cond.code x code maxLocals ret :: tables_1) room_1) (lw_P b xs) (fun _ _ _ _ _ => True) lw_Q := by
  refine MetFree.of_bodyS (code := code) (maxLocals := maxLocals) (ret := ret) (by decide) ?_ ?_
  · intro args s m h hn
    obtain ⟨meth, c, h1, h2, h3, h4, h5, h6, -, -⟩ := Cond.code_spec hn (atoms_spec (ws := Jvm.Cond.code x code maxLocals ret :: tables_1) h _ List.mem_cons_self)
    exact ⟨meth, c, h1, h2, h3, h4, h5, h6⟩
  · intro p e s m args below meth c s₁ B hml0 hP _
    obtain ⟨rfl, hx, hbd, hgv⟩ := hP
    obtain ⟨scr, harrAt, hlist, hof, hsmall⟩ := hx
    obtain ⟨hcb, hkn, -, -⟩ := State.arrayAt?_spec harrAt
    have hown : s.vm.findClass R_law = some m.cls := findClass_of_methodNamed B.named
    have hts0 : ∀ c ∈ (Jvm.Cond.code x code maxLocals ret :: tables_1), c.before #[Value.ref b] s = true := atoms_spec (ws := Jvm.Cond.code x code maxLocals ret :: tables_1) B.pre
    have hts : ∀ w ∈ lw_tbl, w.before #[Value.ref b] s = true := k2_hts_sels lw_privs (fun w hw => hts0 w (List.mem_cons_of_mem _ hw)) lw_privs_ok
    have hml : c.maxLocals = 4 := B.maxLocals_eq (hts0 _ List.mem_cons_self)
    have X₀ : Stand p l e room_1 s m #[Value.ref b] below meth c s₁ [] 0 0 := Stand.of_body B
    have hh0 : s₁.heap = s.heap := by rw [B.state]; rfl
    have hsz : scr.slots.size = xs.length := by rw [← Array.length_toList, hlist, List.length_map]
    have hval : ∀ j : Nat, j < xs.length → scr.slots[j]? = some (.int (xs.getD j 0)) := fun j hj => by
      rw [← Array.getElem?_toList, hlist]
      simp [hj]
    have hbl : b < s.heap.size := (Array.getElem?_eq_some_iff.mp hcb).1
    have hX : va_X b xs.length (fun j => xs.getD j 0) s s.heap := ⟨scr, hcb, hof, hkn, hsz, hval⟩
    have K : W p l e room_1 s m #[Value.ref b] below meth c s₁.heap [] 0 0 (lw_Z below #[Value.ref b] s) (entryFrame m ([Value.ref b] : List Value).toArray 4) := by
      rw [hh0]
      exact whole_start l hbd ⟨B.exec, B.bytes, B.returns, hml, hown, hts, hX, hbl, B.notSynchronized, hgv⟩
    obtain ⟨t, a1, o, b1, b2, b3⟩ := K s₁ rfl X₀
    exact ⟨t, o, a1, b1, b2, b3⟩
theorem lw_pre_spec {args : Array Value} {s : State} (h : (Jvm.Cond.and given_1 narrow_1).before args s = true) (hr : rest_1_c.before args s = true) : ∃ (b : Addr) (xs : List Int32), lw_P b xs args s := by
  have hs := flat_of_before _ h
  have hq := flat_of_before _ hr
  have hc : (Cond.count 1).before args s = true := hs _ (by decide +kernel)
  have harr : (Cond.arrayOf (.arg 0) .int).before args s = true := hs _ (by decide +kernel)
  have hle : (Cond.le (.length (.arg 0)) (.int 320)).before args s = true := hs _ (by decide +kernel)
  have hlen : (Cond.isInt (.length (.arg 0))).before args s = true := hq _ (by decide +kernel)
  have hall : (Cond.all (.arg 0) (.isInt (.elem (.arg 0) (.index 0)))).before args s = true := hq _ (by decide +kernel)
  obtain ⟨b, xs, hb, hx⟩ := State.ints_of_pre rfl harr hlen hall
  have hsm : xs.length < 2 ^ 31 := hx.choose_spec.2.2.2
  have hev : (Term.length (.arg 0)).eval args s none [] s = some (.int xs.length.toInt32) := hx.length_eval hb
  have hv := Cond.le_ints hev (show (Term.int 320).eval args s none [] s = some (.int 320) from rfl)
  have hd : xs.length.toInt32 ≤ 320 := by
    simpa [Cond.before, Cond.holds, hv] using hle
  have hN : xs.length ≤ 320 := (Int32.ofNat_le_ofNat hsm (by decide)).mp (show Int32.ofNat xs.length ≤ Int32.ofNat 320 from hd)
  exact ⟨b, xs, Cond.one_arg hc (show args[0]? = some (.ref b) from hb), hx, hN, h⟩
theorem lw_comes (l : Launch) : Comes l x (Jvm.Cond.code x code maxLocals ret :: tables_1) room_1 (fun tb e args s => Calls_1 tb e args s ∧ rest_1 tb e args s ∧ Pre_1 tb e args s)
    (fun _ _ args s o t => lw_Q args s o t) := by
  intro p e ha hc hk s m args below hf hfit hheap happ hpre
  obtain ⟨b, xs, hP⟩ := lw_pre_spec hpre.2.2 hpre.2.1
  obtain ⟨k, o, h1, h2, h3, hQ⟩ := lw_walk l b xs p e ha hc hk s m args below hf ((Spec.applies_iff_loose hf).mp happ).1 hP trivial
  exact ⟨k, o, h1, h2, h3, hQ⟩
theorem lw_frame {s t : State} {o : Outcome} {args : Array Value} (h : Framed s o t [] 600000 7290000) :
    Framed s o t (fieldLocs frame_1_writes args s ++ arrayLocs frame_1_arrays args s ++ staticLocs frame_1_statics s) 600000 7290000 := h
theorem lw_limb (L : Cond) (hL : ∀ (args : Array Value) (s t : State), L.after args s (.returned (some (.int 1))) t = true) :
    ArmFor flags0 classFile x code maxLocals ret World_1 tables_1 room_1 Calls_1 rest_1 Pre_1
      (fun tb e a s o t => postC L tb e a s o t ∧ Framed s o t (fieldLocs frame_1_writes a s ++ arrayLocs frame_1_arrays a s ++ staticLocs frame_1_statics s) 600000 7290000) := by
  intro l _ _ _ p e ha hc hk s m args below hf hfit hheap happ hpre
  obtain ⟨k, o, h1, h2, h3, rfl, hF⟩ := lw_comes l p e ha hc hk s m args below hf hfit hheap happ hpre
  exact ⟨k, _, h1, h2, h3, hL args s _, lw_frame hF⟩
theorem i_vc : Claimed_1_1 ∧ Claimed_1_2 := ⟨lw_limb limb_1_1 (fun args s t => by simp [limb_1_1, Cond.after, Cond.holds, Cond.value]), lw_limb limb_1_2 (fun args s t => Cond.after_iff.mpr (by
  first | (rw [show limb_1_2 = Cond.eq .result (.int 1) from rfl, Cond.eq_ints (x := 1) (y := 1) rfl rfl]; simp; done) | (simp [limb_1_2, Cond.value, Term.eval]; done)))⟩
end
