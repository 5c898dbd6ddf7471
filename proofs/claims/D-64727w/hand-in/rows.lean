section
-- ===== PART A: goes FIRST, ahead of the names: the tables' words, and 'selects' of the private methods out of them =====
/-- a private method of a class that the tables say can be made, by its rows of tables_1 -/
def lw_okq (q : MethodName × Nat) : Prop := (q.1.cls ≠ "java/lang/invoke/MethodHandle" ∧ q.1.cls ≠ "java/lang/invoke/VarHandle") ∧ Cond.instantiable q.1.cls q.2 ∈ tables_1 ∧ Cond.privateMethod q.1 ∈ tables_1 ∧ Cond.instanceMethod q.1 ∈ tables_1
set_option maxRecDepth 100000
theorem lw_t1 {w : Cond} (h : w ∈ tables_1_1) : w ∈ tables_1 := List.mem_append_left _ h
theorem lw_t2 {w : Cond} (h : w ∈ tables_1_2) : w ∈ tables_1 := List.mem_append_right _ h
theorem lw_p0 : lw_okq (⟨"PatternTables", "missing", "(I)I"⟩, 13) := ⟨⟨by decide +kernel, by decide +kernel⟩, lw_t1 (List.mem_of_getElem? (i := 4) rfl), lw_t1 (List.mem_of_getElem? (i := 61) rfl), lw_t1 (List.mem_of_getElem? (i := 62) rfl)⟩
theorem lw_p1 : lw_okq (⟨"PatternTables", "missingInSubject", "()I"⟩, 13) := ⟨⟨by decide +kernel, by decide +kernel⟩, lw_t1 (List.mem_of_getElem? (i := 4) rfl), lw_t1 (List.mem_of_getElem? (i := 76) rfl), lw_t1 (List.mem_of_getElem? (i := 77) rfl)⟩
theorem lw_p2 : lw_okq (⟨"PatternTables", "isNode", "(I)Z"⟩, 13) := ⟨⟨by decide +kernel, by decide +kernel⟩, lw_t1 (List.mem_of_getElem? (i := 4) rfl), lw_t1 (List.mem_of_getElem? (i := 96) rfl), lw_t1 (List.mem_of_getElem? (i := 97) rfl)⟩
theorem lw_p3 : lw_okq (⟨"PatternTables", "learn", "()Z"⟩, 13) := ⟨⟨by decide +kernel, by decide +kernel⟩, lw_t1 (List.mem_of_getElem? (i := 4) rfl), lw_t1 (List.mem_of_getElem? (i := 100) rfl), lw_t1 (List.mem_of_getElem? (i := 101) rfl)⟩
theorem lw_p4 : lw_okq (⟨"PatternTables", "measure", "(I)V"⟩, 13) := ⟨⟨by decide +kernel, by decide +kernel⟩, lw_t1 (List.mem_of_getElem? (i := 4) rfl), lw_t1 (List.mem_of_getElem? (i := 105) rfl), lw_t1 (List.mem_of_getElem? (i := 106) rfl)⟩
theorem lw_p5 : lw_okq (⟨"PatternTables", "lookUp", "(I)I"⟩, 13) := ⟨⟨by decide +kernel, by decide +kernel⟩, lw_t1 (List.mem_of_getElem? (i := 4) rfl), lw_t1 (List.mem_of_getElem? (i := 110) rfl), lw_t1 (List.mem_of_getElem? (i := 111) rfl)⟩
theorem lw_p6 : lw_okq (⟨"PatternTables", "secondPart", "(I)I"⟩, 13) := ⟨⟨by decide +kernel, by decide +kernel⟩, lw_t1 (List.mem_of_getElem? (i := 4) rfl), lw_t1 (List.mem_of_getElem? (i := 114) rfl), lw_t1 (List.mem_of_getElem? (i := 115) rfl)⟩
theorem lw_p7 : lw_okq (⟨"PatternTables", "combine", "(IJJ)J"⟩, 13) := ⟨⟨by decide +kernel, by decide +kernel⟩, lw_t1 (List.mem_of_getElem? (i := 4) rfl), lw_t1 (List.mem_of_getElem? (i := 118) rfl), lw_t1 (List.mem_of_getElem? (i := 119) rfl)⟩
theorem lw_p8 : lw_okq (⟨"PatternTables", "partsFit", "(IIJJ)Z"⟩, 13) := ⟨⟨by decide +kernel, by decide +kernel⟩, lw_t1 (List.mem_of_getElem? (i := 4) rfl), lw_t1 (List.mem_of_getElem? (i := 122) rfl), lw_t1 (List.mem_of_getElem? (i := 123) rfl)⟩
theorem lw_p9 : lw_okq (⟨"PatternTables", "stateOf", "(J)I"⟩, 13) := ⟨⟨by decide +kernel, by decide +kernel⟩, lw_t1 (List.mem_of_getElem? (i := 4) rfl), lw_t1 (List.mem_of_getElem? (i := 126) rfl), lw_t1 (List.mem_of_getElem? (i := 127) rfl)⟩
theorem lw_p10 : lw_okq (⟨"PatternTables", "samePart", "(II)Z"⟩, 13) := ⟨⟨by decide +kernel, by decide +kernel⟩, lw_t1 (List.mem_of_getElem? (i := 4) rfl), lw_t1 (List.mem_of_getElem? (i := 133) rfl), lw_t1 (List.mem_of_getElem? (i := 134) rfl)⟩
theorem lw_p11 : lw_okq (⟨"PatternTablesModel", "pattern", "(I)Z"⟩, 2) := ⟨⟨by decide +kernel, by decide +kernel⟩, lw_t1 (List.mem_of_getElem? (i := 170) rfl), lw_t1 (List.mem_of_getElem? (i := 188) rfl), lw_t1 (List.mem_of_getElem? (i := 189) rfl)⟩
theorem lw_p12 : lw_okq (⟨"PatternTablesModel", "append", "(III)I"⟩, 2) := ⟨⟨by decide +kernel, by decide +kernel⟩, lw_t1 (List.mem_of_getElem? (i := 170) rfl), lw_t1 (List.mem_of_getElem? (i := 192) rfl), lw_t1 (List.mem_of_getElem? (i := 193) rfl)⟩
theorem lw_p13 : lw_okq (⟨"PatternTablesModel", "done", "(I)Z"⟩, 2) := ⟨⟨by decide +kernel, by decide +kernel⟩, lw_t1 (List.mem_of_getElem? (i := 170) rfl), lw_t1 (List.mem_of_getElem? (i := 196) rfl), lw_t1 (List.mem_of_getElem? (i := 197) rfl)⟩
theorem lw_p14 : lw_okq (⟨"PatternTablesModel", "parts", "(I)I"⟩, 2) := ⟨⟨by decide +kernel, by decide +kernel⟩, lw_t1 (List.mem_of_getElem? (i := 170) rfl), lw_t1 (List.mem_of_getElem? (i := 200) rfl), lw_t1 (List.mem_of_getElem? (i := 201) rfl)⟩
theorem lw_p15 : lw_okq (⟨"PatternTablesModel", "take", "(I)I"⟩, 2) := ⟨⟨by decide +kernel, by decide +kernel⟩, lw_t1 (List.mem_of_getElem? (i := 170) rfl), lw_t1 (List.mem_of_getElem? (i := 208) rfl), lw_t1 (List.mem_of_getElem? (i := 209) rfl)⟩
def lw_privs_1 : List (MethodName × Nat) := [(⟨"PatternTables", "missing", "(I)I"⟩, 13), (⟨"PatternTables", "missingInSubject", "()I"⟩, 13), (⟨"PatternTables", "isNode", "(I)Z"⟩, 13), (⟨"PatternTables", "learn", "()Z"⟩, 13), (⟨"PatternTables", "measure", "(I)V"⟩, 13), (⟨"PatternTables", "lookUp", "(I)I"⟩, 13), (⟨"PatternTables", "secondPart", "(I)I"⟩, 13), (⟨"PatternTables", "combine", "(IJJ)J"⟩, 13), (⟨"PatternTables", "partsFit", "(IIJJ)Z"⟩, 13), (⟨"PatternTables", "stateOf", "(J)I"⟩, 13), (⟨"PatternTables", "samePart", "(II)Z"⟩, 13), (⟨"PatternTablesModel", "pattern", "(I)Z"⟩, 2), (⟨"PatternTablesModel", "append", "(III)I"⟩, 2), (⟨"PatternTablesModel", "done", "(I)Z"⟩, 2), (⟨"PatternTablesModel", "parts", "(I)I"⟩, 2), (⟨"PatternTablesModel", "take", "(I)I"⟩, 2)]
theorem lw_r1 : ∀ q ∈ lw_privs_1, lw_okq q := List.forall_mem_cons.mpr ⟨lw_p0, List.forall_mem_cons.mpr ⟨lw_p1, List.forall_mem_cons.mpr ⟨lw_p2, List.forall_mem_cons.mpr ⟨lw_p3, List.forall_mem_cons.mpr ⟨lw_p4, List.forall_mem_cons.mpr ⟨lw_p5, List.forall_mem_cons.mpr ⟨lw_p6, List.forall_mem_cons.mpr ⟨lw_p7, List.forall_mem_cons.mpr ⟨lw_p8, List.forall_mem_cons.mpr ⟨lw_p9, List.forall_mem_cons.mpr ⟨lw_p10, List.forall_mem_cons.mpr ⟨lw_p11, List.forall_mem_cons.mpr ⟨lw_p12, List.forall_mem_cons.mpr ⟨lw_p13, List.forall_mem_cons.mpr ⟨lw_p14, List.forall_mem_cons.mpr ⟨lw_p15, fun _ h => absurd h List.not_mem_nil⟩⟩⟩⟩⟩⟩⟩⟩⟩⟩⟩⟩⟩⟩⟩⟩
theorem lw_p16 : lw_okq (⟨"PatternTablesModel", "fits", "(II)Z"⟩, 2) := ⟨⟨by decide +kernel, by decide +kernel⟩, lw_t1 (List.mem_of_getElem? (i := 170) rfl), lw_t1 (List.mem_of_getElem? (i := 232) rfl), lw_t1 (List.mem_of_getElem? (i := 233) rfl)⟩
theorem lw_p17 : lw_okq (⟨"PatternTablesModel", "node", "(I)Z"⟩, 2) := ⟨⟨by decide +kernel, by decide +kernel⟩, lw_t1 (List.mem_of_getElem? (i := 170) rfl), lw_t1 (List.mem_of_getElem? (i := 236) rfl), lw_t1 (List.mem_of_getElem? (i := 237) rfl)⟩
theorem lw_p18 : lw_okq (⟨"PatternTablesModel", "lies", "(IIII)I"⟩, 2) := ⟨⟨by decide +kernel, by decide +kernel⟩, lw_t1 (List.mem_of_getElem? (i := 170) rfl), lw_t2 (List.mem_of_getElem? (i := 0) rfl), lw_t2 (List.mem_of_getElem? (i := 1) rfl)⟩
theorem lw_p19 : lw_okq (⟨"PatternTablesModel", "behind", "(II)I"⟩, 2) := ⟨⟨by decide +kernel, by decide +kernel⟩, lw_t1 (List.mem_of_getElem? (i := 170) rfl), lw_t2 (List.mem_of_getElem? (i := 4) rfl), lw_t2 (List.mem_of_getElem? (i := 5) rfl)⟩
def lw_privs_2 : List (MethodName × Nat) := [(⟨"PatternTablesModel", "fits", "(II)Z"⟩, 2), (⟨"PatternTablesModel", "node", "(I)Z"⟩, 2), (⟨"PatternTablesModel", "lies", "(IIII)I"⟩, 2), (⟨"PatternTablesModel", "behind", "(II)I"⟩, 2)]
theorem lw_r2 : ∀ q ∈ lw_privs_2, lw_okq q := List.forall_mem_cons.mpr ⟨lw_p16, List.forall_mem_cons.mpr ⟨lw_p17, List.forall_mem_cons.mpr ⟨lw_p18, List.forall_mem_cons.mpr ⟨lw_p19, fun _ h => absurd h List.not_mem_nil⟩⟩⟩⟩
def lw_privs : List (MethodName × Nat) := lw_privs_1 ++ (lw_privs_2)
def lw_tbl : List Cond := k2_sels lw_privs ++ tables_1
theorem lw_privs_ok : ∀ q ∈ lw_privs, lw_okq q := by
  show ∀ q ∈ lw_privs_1 ++ (lw_privs_2), lw_okq q
  exact List.forall_mem_append.mpr ⟨lw_r1, lw_r2⟩
-- ===== ONE list of words for every method: the tables' words that hold all through a run =====
def lw_all : List Cond := lw_tbl.filter goodWord
/-- a word of the tables by its place: claim/WORDS.tsv -/
theorem lw_w {w : Cond} (i : Nat) (h : lw_tbl[i]? = some w) (g : goodWord w = true) : w ∈ lw_all := List.mem_filter.mpr ⟨List.mem_of_getElem? h, g⟩
theorem lw_all_tbl {w : Cond} (h : w ∈ lw_all) : w ∈ lw_tbl := (List.mem_filter.mp h).1
theorem lw_self : GoodIn lw_all lw_all := fun w h => ⟨h, good_of_word (List.mem_filter.mp h).2⟩
/-- a class's field words, by their places -/
theorem lw_in (ws : List Cond) (ps : List Nat) (hp : ws = ps.filterMap (fun i => lw_tbl[i]?)) (hg : ws.all goodWord = true) : ∀ w ∈ ws, w ∈ lw_all := by
  intro w h
  have h1 := List.all_eq_true.mp hg w h
  rw [hp] at h
  obtain ⟨i, -, hi⟩ := List.mem_filterMap.mp h
  exact lw_w i hi h1
/-- the words of a contract for the method y with code b, L locals, answer r -/
abbrev ws_ (y : MethodName) (b : ByteArray) (L : Nat) (r : Option FieldType) : List Cond := Cond.code y b L r :: lw_all
theorem lw_meth {y : MethodName} {b : ByteArray} {L : Nat} {r : Option FieldType} (h : Cond.code y b L r ∈ lw_all) : GoodIn lw_all (ws_ y b L r) := by
  intro w hw
  rcases List.mem_cons.mp hw with e | e
  · rw [e]
    exact lw_self _ h
  · exact lw_self _ e
theorem lw_app {a c : List Cond} (ha : ∀ w ∈ a, w ∈ lw_all) (hc : GoodIn lw_all c) : GoodIn lw_all (a ++ c) := by
  intro w hw
  rcases List.mem_append.mp hw with e | e
  · exact lw_self w (ha w e)
  · exact hc w e
/-- what a call through an object asks: cwV n hts (lw_V ..) -/
theorem lw_V {own : String} {idx : Nat} {C : String} {y : MethodName} {b : ByteArray} {L : Nat} {r : Option FieldType} (h1 : Cond.methodLink own idx y ∈ lw_all) (h2 : Cond.instanceMethod y ∈ lw_all) (h3 : Cond.selects C y y ∈ lw_all) (h4 : Cond.initialized C ∈ lw_all) (h5 : Cond.code y b L r ∈ lw_all) : GoodIn lw_all (wsV own idx C y (ws_ y b L r)) := by
  refine lw_app ?_ (lw_meth h5)
  intro w hw
  simp only [List.mem_cons, List.not_mem_nil, or_false] at hw
  rcases hw with e | e | e | e
  · rw [e]; exact h1
  · rw [e]; exact h2
  · rw [e]; exact h3
  · rw [e]; exact h4
/-- what a static call asks: va_cwS n hts (lw_S ..) -/
theorem lw_S {own : String} {idx : Nat} {y : MethodName} {b : ByteArray} {L : Nat} {r : Option FieldType} (h1 : Cond.methodLink own idx y ∈ lw_all) (h2 : Cond.static y ∈ lw_all) (h3 : Cond.initialized y.cls ∈ lw_all) (h4 : Cond.code y b L r ∈ lw_all) : GoodIn lw_all (va_wsS own idx y (ws_ y b L r)) := by
  refine lw_app ?_ (lw_meth h4)
  intro w hw
  simp only [List.mem_cons, List.not_mem_nil, or_false] at hw
  rcases hw with e | e | e
  · rw [e]; exact h1
  · rw [e]; exact h2
  · rw [e]; exact h3
/-- the words of a contract for a method WITH HANDLERS (hh: its table) -/
abbrev wsW_ (y : MethodName) (b : ByteArray) (L : Nat) (r : Option FieldType) (hh : List (Nat × Nat × Nat × Nat)) : List Cond := Cond.codeWith y b L r hh :: lw_all
theorem lw_methW {y : MethodName} {b : ByteArray} {L : Nat} {r : Option FieldType} {hh : List (Nat × Nat × Nat × Nat)} (h : Cond.codeWith y b L r hh ∈ lw_all) : GoodIn lw_all (wsW_ y b L r hh) := by
  intro w hw
  rcases List.mem_cons.mp hw with e | e
  · rw [e]
    exact lw_self _ h
  · exact lw_self _ e
/-- any list of words by their places (lw_in), good -/
theorem lw_good {ws : List Cond} (h : ∀ w ∈ ws, w ∈ lw_all) : GoodIn lw_all ws := fun w hw => lw_self w (h w hw)
/-- what a call of a method with handlers asks: vx_cwVW n hts (lw_VW ..), vx_cwSW n hts (lw_SW ..) -/
theorem lw_VW {own : String} {idx : Nat} {C : String} {y : MethodName} {b : ByteArray} {L : Nat} {r : Option FieldType} {hh : List (Nat × Nat × Nat × Nat)} (h1 : Cond.methodLink own idx y ∈ lw_all) (h2 : Cond.instanceMethod y ∈ lw_all) (h3 : Cond.selects C y y ∈ lw_all) (h4 : Cond.initialized C ∈ lw_all) (h5 : Cond.codeWith y b L r hh ∈ lw_all) : GoodIn lw_all (wsV own idx C y (wsW_ y b L r hh)) := by
  refine lw_app ?_ (lw_methW h5)
  intro w hw
  simp only [List.mem_cons, List.not_mem_nil, or_false] at hw
  rcases hw with e | e | e | e
  · rw [e]; exact h1
  · rw [e]; exact h2
  · rw [e]; exact h3
  · rw [e]; exact h4
theorem lw_SW {own : String} {idx : Nat} {y : MethodName} {b : ByteArray} {L : Nat} {r : Option FieldType} {hh : List (Nat × Nat × Nat × Nat)} (h1 : Cond.methodLink own idx y ∈ lw_all) (h2 : Cond.static y ∈ lw_all) (h3 : Cond.initialized y.cls ∈ lw_all) (h4 : Cond.codeWith y b L r hh ∈ lw_all) : GoodIn lw_all (va_wsS own idx y (wsW_ y b L r hh)) := by
  refine lw_app ?_ (lw_methW h4)
  intro w hw
  simp only [List.mem_cons, List.not_mem_nil, or_false] at hw
  rcases hw with e | e | e
  · rw [e]; exact h1
  · rw [e]; exact h2
  · rw [e]; exact h3
/-- a word by its place in its run of the tables -/
theorem lw_at {r : List Cond} (hr : ∀ w ∈ r, w ∈ lw_tbl) {w : Cond} (i : Nat) (h : r[i]? = some w) : w ∈ lw_tbl := hr w (List.mem_of_getElem? h)
theorem lw_g {w : Cond} (h : w ∈ lw_tbl) (g : goodWord w = true) : w ∈ lw_all := List.mem_filter.mpr ⟨h, g⟩
theorem lw_ms : ∀ w ∈ k2_sels lw_privs, w ∈ lw_tbl := fun w h => show w ∈ k2_sels lw_privs ++ tables_1 from List.mem_append_left _ h
theorem lw_m1 : ∀ w ∈ tables_1_1, w ∈ lw_tbl := fun w h => show w ∈ k2_sels lw_privs ++ tables_1 from List.mem_append_right (k2_sels lw_privs) (show w ∈ tables_1 from List.mem_append_left _ h)
theorem lw_m2 : ∀ w ∈ tables_1_2, w ∈ lw_tbl := fun w h => show w ∈ k2_sels lw_privs ++ tables_1 from List.mem_append_right (k2_sels lw_privs) (show w ∈ tables_1 from List.mem_append_right _ h)
theorem qs0 : (Cond.selects "PatternTables" ⟨"PatternTables", "missing", "(I)I"⟩ ⟨"PatternTables", "missing", "(I)I"⟩) ∈ lw_all := lw_g (lw_at lw_ms 0 rfl) rfl
theorem qs1 : (Cond.selects "PatternTables" ⟨"PatternTables", "missingInSubject", "()I"⟩ ⟨"PatternTables", "missingInSubject", "()I"⟩) ∈ lw_all := lw_g (lw_at lw_ms 1 rfl) rfl
theorem qs2 : (Cond.selects "PatternTables" ⟨"PatternTables", "isNode", "(I)Z"⟩ ⟨"PatternTables", "isNode", "(I)Z"⟩) ∈ lw_all := lw_g (lw_at lw_ms 2 rfl) rfl
theorem qs3 : (Cond.selects "PatternTables" ⟨"PatternTables", "learn", "()Z"⟩ ⟨"PatternTables", "learn", "()Z"⟩) ∈ lw_all := lw_g (lw_at lw_ms 3 rfl) rfl
theorem qs4 : (Cond.selects "PatternTables" ⟨"PatternTables", "measure", "(I)V"⟩ ⟨"PatternTables", "measure", "(I)V"⟩) ∈ lw_all := lw_g (lw_at lw_ms 4 rfl) rfl
theorem qs5 : (Cond.selects "PatternTables" ⟨"PatternTables", "lookUp", "(I)I"⟩ ⟨"PatternTables", "lookUp", "(I)I"⟩) ∈ lw_all := lw_g (lw_at lw_ms 5 rfl) rfl
theorem qs6 : (Cond.selects "PatternTables" ⟨"PatternTables", "secondPart", "(I)I"⟩ ⟨"PatternTables", "secondPart", "(I)I"⟩) ∈ lw_all := lw_g (lw_at lw_ms 6 rfl) rfl
theorem qs7 : (Cond.selects "PatternTables" ⟨"PatternTables", "combine", "(IJJ)J"⟩ ⟨"PatternTables", "combine", "(IJJ)J"⟩) ∈ lw_all := lw_g (lw_at lw_ms 7 rfl) rfl
theorem qs8 : (Cond.selects "PatternTables" ⟨"PatternTables", "partsFit", "(IIJJ)Z"⟩ ⟨"PatternTables", "partsFit", "(IIJJ)Z"⟩) ∈ lw_all := lw_g (lw_at lw_ms 8 rfl) rfl
theorem qs9 : (Cond.selects "PatternTables" ⟨"PatternTables", "stateOf", "(J)I"⟩ ⟨"PatternTables", "stateOf", "(J)I"⟩) ∈ lw_all := lw_g (lw_at lw_ms 9 rfl) rfl
theorem qs10 : (Cond.selects "PatternTables" ⟨"PatternTables", "samePart", "(II)Z"⟩ ⟨"PatternTables", "samePart", "(II)Z"⟩) ∈ lw_all := lw_g (lw_at lw_ms 10 rfl) rfl
theorem qs11 : (Cond.selects "PatternTablesModel" ⟨"PatternTablesModel", "pattern", "(I)Z"⟩ ⟨"PatternTablesModel", "pattern", "(I)Z"⟩) ∈ lw_all := lw_g (lw_at lw_ms 11 rfl) rfl
theorem qs12 : (Cond.selects "PatternTablesModel" ⟨"PatternTablesModel", "append", "(III)I"⟩ ⟨"PatternTablesModel", "append", "(III)I"⟩) ∈ lw_all := lw_g (lw_at lw_ms 12 rfl) rfl
theorem qs13 : (Cond.selects "PatternTablesModel" ⟨"PatternTablesModel", "done", "(I)Z"⟩ ⟨"PatternTablesModel", "done", "(I)Z"⟩) ∈ lw_all := lw_g (lw_at lw_ms 13 rfl) rfl
theorem qs14 : (Cond.selects "PatternTablesModel" ⟨"PatternTablesModel", "parts", "(I)I"⟩ ⟨"PatternTablesModel", "parts", "(I)I"⟩) ∈ lw_all := lw_g (lw_at lw_ms 14 rfl) rfl
theorem qs15 : (Cond.selects "PatternTablesModel" ⟨"PatternTablesModel", "take", "(I)I"⟩ ⟨"PatternTablesModel", "take", "(I)I"⟩) ∈ lw_all := lw_g (lw_at lw_ms 15 rfl) rfl
theorem qs16 : (Cond.selects "PatternTablesModel" ⟨"PatternTablesModel", "fits", "(II)Z"⟩ ⟨"PatternTablesModel", "fits", "(II)Z"⟩) ∈ lw_all := lw_g (lw_at lw_ms 16 rfl) rfl
theorem qs17 : (Cond.selects "PatternTablesModel" ⟨"PatternTablesModel", "node", "(I)Z"⟩ ⟨"PatternTablesModel", "node", "(I)Z"⟩) ∈ lw_all := lw_g (lw_at lw_ms 17 rfl) rfl
theorem qs18 : (Cond.selects "PatternTablesModel" ⟨"PatternTablesModel", "lies", "(IIII)I"⟩ ⟨"PatternTablesModel", "lies", "(IIII)I"⟩) ∈ lw_all := lw_g (lw_at lw_ms 18 rfl) rfl
theorem qs19 : (Cond.selects "PatternTablesModel" ⟨"PatternTablesModel", "behind", "(II)I"⟩ ⟨"PatternTablesModel", "behind", "(II)I"⟩) ∈ lw_all := lw_g (lw_at lw_ms 19 rfl) rfl
end
section
set_option maxRecDepth 100000
/-! java/lang/Object -/
def RJ0 : String := "java/lang/Object"
abbrev cJ0_init : ByteArray := object_method_1_code
def yJ0_init : MethodName := ⟨RJ0, "<init>", "()V"⟩
theorem dJ0_init_0 : decode cJ0_init 0 = .ok (.return_, 1) := by decide +kernel
theorem q29 : (Jvm.Cond.instanceMethod ({ cls := "java/lang/Object", name := "<init>", desc := "()V" } : Jvm.MethodName)) ∈ lw_all := lw_g (lw_at lw_m1 9 rfl) rfl
theorem q30 : (Jvm.Cond.code ({ cls := "java/lang/Object", name := "<init>", desc := "()V" } : Jvm.MethodName) object_method_1_code (1 : Nat) (Option.none : Option Jvm.ClassFile.FieldType)) ∈ lw_all := lw_g (lw_at lw_m1 10 rfl) rfl
theorem q71 : (Jvm.Cond.arrayClass Jvm.ClassFile.FieldType.byte) ∈ lw_all := lw_g (lw_at lw_m1 51 rfl) rfl
theorem q72 : (Jvm.Cond.arrayClass Jvm.ClassFile.FieldType.long) ∈ lw_all := lw_g (lw_at lw_m1 52 rfl) rfl
theorem q202 : (Jvm.Cond.arrayClass Jvm.ClassFile.FieldType.int) ∈ lw_all := lw_g (lw_at lw_m1 182 rfl) rfl
theorem q20 : (Jvm.Cond.initialized "PatternTablesLaw") ∈ lw_all := lw_g (lw_at lw_m1 0 rfl) rfl
theorem q23 : (Jvm.Cond.classLink "PatternTablesLaw" (7 : Nat) "PatternTables") ∈ lw_all := lw_g (lw_at lw_m1 3 rfl) rfl
theorem q25 : (Jvm.Cond.methodLink "PatternTablesLaw" (9 : Nat) ({ cls := "PatternTables", name := "<init>", desc := "()V" } : Jvm.MethodName)) ∈ lw_all := lw_g (lw_at lw_m1 5 rfl) rfl
theorem q73 : (Jvm.Cond.methodLink "PatternTablesLaw" (13 : Nat) ({ cls := "PatternTables", name := "extend", desc := "(II)I" } : Jvm.MethodName)) ∈ lw_all := lw_g (lw_at lw_m1 53 rfl) rfl
theorem q87 : (Jvm.Cond.methodLink "PatternTablesLaw" (18 : Nat) ({ cls := "PatternTables", name := "shorten", desc := "(I)I" } : Jvm.MethodName)) ∈ lw_all := lw_g (lw_at lw_m1 67 rfl) rfl
theorem q91 : (Jvm.Cond.methodLink "PatternTablesLaw" (23 : Nat) ({ cls := "PatternTables", name := "grow", desc := "(I)I" } : Jvm.MethodName)) ∈ lw_all := lw_g (lw_at lw_m1 71 rfl) rfl
theorem q99 : (Jvm.Cond.methodLink "PatternTablesLaw" (27 : Nat) ({ cls := "PatternTables", name := "prune", desc := "()I" } : Jvm.MethodName)) ∈ lw_all := lw_g (lw_at lw_m1 79 rfl) rfl
theorem q103 : (Jvm.Cond.methodLink "PatternTablesLaw" (32 : Nat) ({ cls := "PatternTables", name := "complete", desc := "(I)Z" } : Jvm.MethodName)) ∈ lw_all := lw_g (lw_at lw_m1 83 rfl) rfl
theorem q107 : (Jvm.Cond.methodLink "PatternTablesLaw" (37 : Nat) ({ cls := "PatternTables", name := "whole", desc := "()Z" } : Jvm.MethodName)) ∈ lw_all := lw_g (lw_at lw_m1 87 rfl) rfl
theorem q111 : (Jvm.Cond.methodLink "PatternTablesLaw" (42 : Nat) ({ cls := "PatternTables", name := "fitsAt", desc := "(I)I" } : Jvm.MethodName)) ∈ lw_all := lw_g (lw_at lw_m1 91 rfl) rfl
theorem q156 : (Jvm.Cond.methodLink "PatternTablesLaw" (46 : Nat) ({ cls := "PatternTables", name := "count", desc := "(I)I" } : Jvm.MethodName)) ∈ lw_all := lw_g (lw_at lw_m1 136 rfl) rfl
theorem q161 : (Jvm.Cond.methodLink "PatternTablesLaw" (50 : Nat) ({ cls := "PatternTables", name := "next", desc := "(II)I" } : Jvm.MethodName)) ∈ lw_all := lw_g (lw_at lw_m1 141 rfl) rfl
theorem q165 : (Jvm.Cond.methodLink "PatternTablesLaw" (54 : Nat) ({ cls := "PatternTables", name := "gapAt", desc := "(III)I" } : Jvm.MethodName)) ∈ lw_all := lw_g (lw_at lw_m1 145 rfl) rfl
theorem q169 : (Jvm.Cond.methodLink "PatternTablesLaw" (59 : Nat) ({ cls := "PatternTables", name := "size", desc := "(I)I" } : Jvm.MethodName)) ∈ lw_all := lw_g (lw_at lw_m1 149 rfl) rfl
theorem q173 : (Jvm.Cond.methodLink "PatternTablesLaw" (63 : Nat) ({ cls := "PatternTables", name := "equal", desc := "(II)Z" } : Jvm.MethodName)) ∈ lw_all := lw_g (lw_at lw_m1 153 rfl) rfl
theorem q177 : (Jvm.Cond.methodLink "PatternTablesLaw" (68 : Nat) ({ cls := "PatternTables", name := "kinds", desc := "()I" } : Jvm.MethodName)) ∈ lw_all := lw_g (lw_at lw_m1 157 rfl) rfl
theorem q181 : (Jvm.Cond.methodLink "PatternTablesLaw" (72 : Nat) ({ cls := "PatternTables", name := "covers", desc := "(II)Z" } : Jvm.MethodName)) ∈ lw_all := lw_g (lw_at lw_m1 161 rfl) rfl
theorem q185 : (Jvm.Cond.methodLink "PatternTablesLaw" (76 : Nat) ({ cls := "PatternTables", name := "bare", desc := "()I" } : Jvm.MethodName)) ∈ lw_all := lw_g (lw_at lw_m1 165 rfl) rfl
theorem q189 : (Jvm.Cond.classLink "PatternTablesLaw" (10 : Nat) "PatternTablesModel") ∈ lw_all := lw_g (lw_at lw_m1 169 rfl) rfl
theorem q191 : (Jvm.Cond.methodLink "PatternTablesLaw" (12 : Nat) ({ cls := "PatternTablesModel", name := "<init>", desc := "()V" } : Jvm.MethodName)) ∈ lw_all := lw_g (lw_at lw_m1 171 rfl) rfl
theorem q203 : (Jvm.Cond.methodLink "PatternTablesLaw" (17 : Nat) ({ cls := "PatternTablesModel", name := "extend", desc := "(II)I" } : Jvm.MethodName)) ∈ lw_all := lw_g (lw_at lw_m1 183 rfl) rfl
theorem q223 : (Jvm.Cond.methodLink "PatternTablesLaw" (22 : Nat) ({ cls := "PatternTablesModel", name := "shorten", desc := "(I)I" } : Jvm.MethodName)) ∈ lw_all := lw_g (lw_at lw_m1 203 rfl) rfl
theorem q231 : (Jvm.Cond.methodLink "PatternTablesLaw" (26 : Nat) ({ cls := "PatternTablesModel", name := "grow", desc := "(I)I" } : Jvm.MethodName)) ∈ lw_all := lw_g (lw_at lw_m1 211 rfl) rfl
theorem q235 : (Jvm.Cond.methodLink "PatternTablesLaw" (31 : Nat) ({ cls := "PatternTablesModel", name := "prune", desc := "()I" } : Jvm.MethodName)) ∈ lw_all := lw_g (lw_at lw_m1 215 rfl) rfl
theorem q239 : (Jvm.Cond.methodLink "PatternTablesLaw" (36 : Nat) ({ cls := "PatternTablesModel", name := "complete", desc := "(I)Z" } : Jvm.MethodName)) ∈ lw_all := lw_g (lw_at lw_m1 219 rfl) rfl
theorem q243 : (Jvm.Cond.methodLink "PatternTablesLaw" (41 : Nat) ({ cls := "PatternTablesModel", name := "whole", desc := "()Z" } : Jvm.MethodName)) ∈ lw_all := lw_g (lw_at lw_m1 223 rfl) rfl
theorem q247 : (Jvm.Cond.methodLink "PatternTablesLaw" (45 : Nat) ({ cls := "PatternTablesModel", name := "fitsAt", desc := "(I)I" } : Jvm.MethodName)) ∈ lw_all := lw_g (lw_at lw_m1 227 rfl) rfl
theorem q267 : (Jvm.Cond.methodLink "PatternTablesLaw" (49 : Nat) ({ cls := "PatternTablesModel", name := "count", desc := "(I)I" } : Jvm.MethodName)) ∈ lw_all := lw_g (lw_at lw_m2 7 rfl) rfl
theorem q271 : (Jvm.Cond.methodLink "PatternTablesLaw" (53 : Nat) ({ cls := "PatternTablesModel", name := "next", desc := "(II)I" } : Jvm.MethodName)) ∈ lw_all := lw_g (lw_at lw_m2 11 rfl) rfl
theorem q275 : (Jvm.Cond.methodLink "PatternTablesLaw" (58 : Nat) ({ cls := "PatternTablesModel", name := "gapAt", desc := "(III)I" } : Jvm.MethodName)) ∈ lw_all := lw_g (lw_at lw_m2 15 rfl) rfl
theorem q279 : (Jvm.Cond.methodLink "PatternTablesLaw" (62 : Nat) ({ cls := "PatternTablesModel", name := "size", desc := "(I)I" } : Jvm.MethodName)) ∈ lw_all := lw_g (lw_at lw_m2 19 rfl) rfl
theorem q283 : (Jvm.Cond.methodLink "PatternTablesLaw" (67 : Nat) ({ cls := "PatternTablesModel", name := "equal", desc := "(II)Z" } : Jvm.MethodName)) ∈ lw_all := lw_g (lw_at lw_m2 23 rfl) rfl
theorem q288 : (Jvm.Cond.methodLink "PatternTablesLaw" (71 : Nat) ({ cls := "PatternTablesModel", name := "kinds", desc := "()I" } : Jvm.MethodName)) ∈ lw_all := lw_g (lw_at lw_m2 28 rfl) rfl
theorem q293 : (Jvm.Cond.methodLink "PatternTablesLaw" (75 : Nat) ({ cls := "PatternTablesModel", name := "covers", desc := "(II)Z" } : Jvm.MethodName)) ∈ lw_all := lw_g (lw_at lw_m2 33 rfl) rfl
theorem q298 : (Jvm.Cond.methodLink "PatternTablesLaw" (79 : Nat) ({ cls := "PatternTablesModel", name := "bare", desc := "()I" } : Jvm.MethodName)) ∈ lw_all := lw_g (lw_at lw_m2 38 rfl) rfl
end
section
/-! PatternTables -/
set_option maxRecDepth 100000
def RX0 : String := "PatternTables"
def TX0 : u_T := fun k => match k with
  | 0 => ("PatternTables", "sizes", "[B", true)
  | 1 => ("PatternTables", "tokens", "[B", true)
  | 2 => ("PatternTables", "spans", "[B", true)
  | 3 => ("PatternTables", "count", "I", false)
  | 4 => ("PatternTables", "subject", "[B", true)
  | 5 => ("PatternTables", "parts", "[B", true)
  | 6 => ("PatternTables", "known", "Z", false)
  | 7 => ("PatternTables", "stateCount", "I", false)
  | 8 => ("PatternTables", "states", "[J", true)
  | 9 => ("PatternTables", "table", "[B", true)
  | 10 => ("PatternTables", "stateAt", "[B", true)
  | 11 => ("PatternTables", "fits", "[B", true)
  | _ => ("PatternTables", "sameAs", "[B", true)
def tyX0 : Nat → FieldType := fun k => match k with
  | 0 => .array .byte
  | 1 => .array .byte
  | 2 => .array .byte
  | 3 => .int
  | 4 => .array .byte
  | 5 => .array .byte
  | 6 => .boolean
  | 7 => .int
  | 8 => .array .long
  | 9 => .array .byte
  | 10 => .array .byte
  | 11 => .array .byte
  | _ => .array .byte
abbrev wsX00 : List Cond := u_ws RX0 TX0 13
set_option maxRecDepth 100000 in
theorem nmX0 : ∀ a, a < 13 → ∀ b, b < 13 → a ≠ b → (TX0 a).2.1 ≠ (TX0 b).2.1 := by decide +kernel
set_option maxRecDepth 100000 in
theorem tyX0_ok : ∀ k, k < 13 → parseFieldDescriptor (TX0 k).2.2.1 = some (tyX0 k) := by decide +kernel
abbrev cX0_init : ByteArray := prog_1_method_1_code
def yX0_init : MethodName := ⟨RX0, "<init>", "()V"⟩
abbrev cX0_extend : ByteArray := prog_1_method_6_code
def yX0_extend : MethodName := ⟨RX0, "extend", "(II)I"⟩
abbrev cX0_isPattern : ByteArray := prog_1_method_2_code
def yX0_isPattern : MethodName := ⟨RX0, "isPattern", "(I)Z"⟩
abbrev cX0_missing : ByteArray := prog_1_method_4_code
def yX0_missing : MethodName := ⟨RX0, "missing", "(I)I"⟩
abbrev cX0_arity : ByteArray := prog_1_method_3_code
def yX0_arity : MethodName := ⟨RX0, "arity", "(I)I"⟩
abbrev cX0_shorten : ByteArray := prog_1_method_7_code
def yX0_shorten : MethodName := ⟨RX0, "shorten", "(I)I"⟩
abbrev cX0_grow : ByteArray := prog_1_method_8_code
def yX0_grow : MethodName := ⟨RX0, "grow", "(I)I"⟩
abbrev cX0_missingInSubject : ByteArray := prog_1_method_5_code
def yX0_missingInSubject : MethodName := ⟨RX0, "missingInSubject", "()I"⟩
abbrev cX0_prune : ByteArray := prog_1_method_9_code
def yX0_prune : MethodName := ⟨RX0, "prune", "()I"⟩
abbrev cX0_complete : ByteArray := prog_1_method_10_code
def yX0_complete : MethodName := ⟨RX0, "complete", "(I)Z"⟩
abbrev cX0_whole : ByteArray := prog_1_method_11_code
def yX0_whole : MethodName := ⟨RX0, "whole", "()Z"⟩
abbrev cX0_fitsAt : ByteArray := prog_1_method_22_code
def yX0_fitsAt : MethodName := ⟨RX0, "fitsAt", "(I)I"⟩
abbrev cX0_isNode : ByteArray := prog_1_method_21_code
def yX0_isNode : MethodName := ⟨RX0, "isNode", "(I)Z"⟩
abbrev cX0_learn : ByteArray := prog_1_method_12_code
def yX0_learn : MethodName := ⟨RX0, "learn", "()Z"⟩
abbrev cX0_measure : ByteArray := prog_1_method_13_code
def yX0_measure : MethodName := ⟨RX0, "measure", "(I)V"⟩
abbrev cX0_lookUp : ByteArray := prog_1_method_15_code
def yX0_lookUp : MethodName := ⟨RX0, "lookUp", "(I)I"⟩
abbrev cX0_secondPart : ByteArray := prog_1_method_14_code
def yX0_secondPart : MethodName := ⟨RX0, "secondPart", "(I)I"⟩
abbrev cX0_combine : ByteArray := prog_1_method_16_code
def yX0_combine : MethodName := ⟨RX0, "combine", "(IJJ)J"⟩
abbrev cX0_partsFit : ByteArray := prog_1_method_17_code
def yX0_partsFit : MethodName := ⟨RX0, "partsFit", "(IIJJ)Z"⟩
abbrev cX0_stateOf : ByteArray := prog_1_method_18_code
def yX0_stateOf : MethodName := ⟨RX0, "stateOf", "(J)I"⟩
abbrev cX0_wholePatterns : ByteArray := prog_1_method_19_code
def yX0_wholePatterns : MethodName := ⟨RX0, "wholePatterns", "(J)I"⟩
abbrev cX0_samePart : ByteArray := prog_1_method_20_code
def yX0_samePart : MethodName := ⟨RX0, "samePart", "(II)Z"⟩
abbrev cX0_count : ByteArray := prog_1_method_23_code
def yX0_count : MethodName := ⟨RX0, "count", "(I)I"⟩
abbrev cX0_next : ByteArray := prog_1_method_24_code
def yX0_next : MethodName := ⟨RX0, "next", "(II)I"⟩
abbrev cX0_gapAt : ByteArray := prog_1_method_25_code
def yX0_gapAt : MethodName := ⟨RX0, "gapAt", "(III)I"⟩
abbrev cX0_size : ByteArray := prog_1_method_26_code
def yX0_size : MethodName := ⟨RX0, "size", "(I)I"⟩
abbrev cX0_equal : ByteArray := prog_1_method_27_code
def yX0_equal : MethodName := ⟨RX0, "equal", "(II)Z"⟩
abbrev cX0_kinds : ByteArray := prog_1_method_28_code
def yX0_kinds : MethodName := ⟨RX0, "kinds", "()I"⟩
abbrev cX0_covers : ByteArray := prog_1_method_29_code
def yX0_covers : MethodName := ⟨RX0, "covers", "(II)Z"⟩
abbrev cX0_bare : ByteArray := prog_1_method_30_code
def yX0_bare : MethodName := ⟨RX0, "bare", "()I"⟩
theorem q21 : (Jvm.Cond.initialized "PatternTables") ∈ lw_all := lw_g (lw_at lw_m1 1 rfl) rfl
theorem q24 : (Jvm.Cond.instantiable "PatternTables" (13 : Nat)) ∈ lw_all := lw_g (lw_at lw_m1 4 rfl) rfl
theorem q26 : (Jvm.Cond.instanceMethod ({ cls := "PatternTables", name := "<init>", desc := "()V" } : Jvm.MethodName)) ∈ lw_all := lw_g (lw_at lw_m1 6 rfl) rfl
theorem q27 : (Jvm.Cond.code ({ cls := "PatternTables", name := "<init>", desc := "()V" } : Jvm.MethodName) prog_1_method_1_code (1 : Nat) (Option.none : Option Jvm.ClassFile.FieldType)) ∈ lw_all := lw_g (lw_at lw_m1 7 rfl) rfl
theorem q28 : (Jvm.Cond.methodLink "PatternTables" (1 : Nat) ({ cls := "java/lang/Object", name := "<init>", desc := "()V" } : Jvm.MethodName)) ∈ lw_all := lw_g (lw_at lw_m1 8 rfl) rfl
theorem q31 : (Jvm.Cond.fieldLink "PatternTables" (7 : Nat) "PatternTables" "sizes" "[B") ∈ lw_all := lw_g (lw_at lw_m1 11 rfl) rfl
theorem q32 : (Jvm.Cond.fieldLink "PatternTables" (13 : Nat) "PatternTables" "tokens" "[B") ∈ lw_all := lw_g (lw_at lw_m1 12 rfl) rfl
theorem q33 : (Jvm.Cond.fieldLink "PatternTables" (16 : Nat) "PatternTables" "spans" "[B") ∈ lw_all := lw_g (lw_at lw_m1 13 rfl) rfl
theorem q34 : (Jvm.Cond.fieldLink "PatternTables" (45 : Nat) "PatternTables" "count" "I") ∈ lw_all := lw_g (lw_at lw_m1 14 rfl) rfl
theorem q35 : (Jvm.Cond.fieldLink "PatternTables" (19 : Nat) "PatternTables" "subject" "[B") ∈ lw_all := lw_g (lw_at lw_m1 15 rfl) rfl
theorem q36 : (Jvm.Cond.fieldLink "PatternTables" (22 : Nat) "PatternTables" "parts" "[B") ∈ lw_all := lw_g (lw_at lw_m1 16 rfl) rfl
theorem q37 : (Jvm.Cond.fieldLink "PatternTables" (56 : Nat) "PatternTables" "known" "Z") ∈ lw_all := lw_g (lw_at lw_m1 17 rfl) rfl
theorem q38 : (Jvm.Cond.fieldLink "PatternTables" (72 : Nat) "PatternTables" "stateCount" "I") ∈ lw_all := lw_g (lw_at lw_m1 18 rfl) rfl
theorem q39 : (Jvm.Cond.fieldLink "PatternTables" (25 : Nat) "PatternTables" "states" "[J") ∈ lw_all := lw_g (lw_at lw_m1 19 rfl) rfl
theorem q40 : (Jvm.Cond.fieldLink "PatternTables" (29 : Nat) "PatternTables" "table" "[B") ∈ lw_all := lw_g (lw_at lw_m1 20 rfl) rfl
theorem q41 : (Jvm.Cond.fieldLink "PatternTables" (32 : Nat) "PatternTables" "stateAt" "[B") ∈ lw_all := lw_g (lw_at lw_m1 21 rfl) rfl
theorem q42 : (Jvm.Cond.fieldLink "PatternTables" (35 : Nat) "PatternTables" "fits" "[B") ∈ lw_all := lw_g (lw_at lw_m1 22 rfl) rfl
theorem q43 : (Jvm.Cond.fieldLink "PatternTables" (38 : Nat) "PatternTables" "sameAs" "[B") ∈ lw_all := lw_g (lw_at lw_m1 23 rfl) rfl
theorem q44 : (Jvm.Cond.laysFinal "PatternTables" "PatternTables" "sizes" "[B") ∈ lw_all := lw_g (lw_at lw_m1 24 rfl) rfl
theorem q45 : (Jvm.Cond.soleField "PatternTables" "sizes") ∈ lw_all := lw_g (lw_at lw_m1 25 rfl) rfl
theorem q46 : (Jvm.Cond.laysFinal "PatternTables" "PatternTables" "tokens" "[B") ∈ lw_all := lw_g (lw_at lw_m1 26 rfl) rfl
theorem q47 : (Jvm.Cond.soleField "PatternTables" "tokens") ∈ lw_all := lw_g (lw_at lw_m1 27 rfl) rfl
theorem q48 : (Jvm.Cond.laysFinal "PatternTables" "PatternTables" "spans" "[B") ∈ lw_all := lw_g (lw_at lw_m1 28 rfl) rfl
theorem q49 : (Jvm.Cond.soleField "PatternTables" "spans") ∈ lw_all := lw_g (lw_at lw_m1 29 rfl) rfl
theorem q50 : (Jvm.Cond.lays "PatternTables" "PatternTables" "count" "I") ∈ lw_all := lw_g (lw_at lw_m1 30 rfl) rfl
theorem q51 : (Jvm.Cond.soleField "PatternTables" "count") ∈ lw_all := lw_g (lw_at lw_m1 31 rfl) rfl
theorem q52 : (Jvm.Cond.laysFinal "PatternTables" "PatternTables" "subject" "[B") ∈ lw_all := lw_g (lw_at lw_m1 32 rfl) rfl
theorem q53 : (Jvm.Cond.soleField "PatternTables" "subject") ∈ lw_all := lw_g (lw_at lw_m1 33 rfl) rfl
theorem q54 : (Jvm.Cond.laysFinal "PatternTables" "PatternTables" "parts" "[B") ∈ lw_all := lw_g (lw_at lw_m1 34 rfl) rfl
theorem q55 : (Jvm.Cond.soleField "PatternTables" "parts") ∈ lw_all := lw_g (lw_at lw_m1 35 rfl) rfl
theorem q56 : (Jvm.Cond.lays "PatternTables" "PatternTables" "known" "Z") ∈ lw_all := lw_g (lw_at lw_m1 36 rfl) rfl
theorem q57 : (Jvm.Cond.soleField "PatternTables" "known") ∈ lw_all := lw_g (lw_at lw_m1 37 rfl) rfl
theorem q58 : (Jvm.Cond.lays "PatternTables" "PatternTables" "stateCount" "I") ∈ lw_all := lw_g (lw_at lw_m1 38 rfl) rfl
theorem q59 : (Jvm.Cond.soleField "PatternTables" "stateCount") ∈ lw_all := lw_g (lw_at lw_m1 39 rfl) rfl
theorem q60 : (Jvm.Cond.laysFinal "PatternTables" "PatternTables" "states" "[J") ∈ lw_all := lw_g (lw_at lw_m1 40 rfl) rfl
theorem q61 : (Jvm.Cond.soleField "PatternTables" "states") ∈ lw_all := lw_g (lw_at lw_m1 41 rfl) rfl
theorem q62 : (Jvm.Cond.laysFinal "PatternTables" "PatternTables" "table" "[B") ∈ lw_all := lw_g (lw_at lw_m1 42 rfl) rfl
theorem q63 : (Jvm.Cond.soleField "PatternTables" "table") ∈ lw_all := lw_g (lw_at lw_m1 43 rfl) rfl
theorem q64 : (Jvm.Cond.laysFinal "PatternTables" "PatternTables" "stateAt" "[B") ∈ lw_all := lw_g (lw_at lw_m1 44 rfl) rfl
theorem q65 : (Jvm.Cond.soleField "PatternTables" "stateAt") ∈ lw_all := lw_g (lw_at lw_m1 45 rfl) rfl
theorem q66 : (Jvm.Cond.laysFinal "PatternTables" "PatternTables" "fits" "[B") ∈ lw_all := lw_g (lw_at lw_m1 46 rfl) rfl
theorem q67 : (Jvm.Cond.soleField "PatternTables" "fits") ∈ lw_all := lw_g (lw_at lw_m1 47 rfl) rfl
theorem q68 : (Jvm.Cond.laysFinal "PatternTables" "PatternTables" "sameAs" "[B") ∈ lw_all := lw_g (lw_at lw_m1 48 rfl) rfl
theorem q69 : (Jvm.Cond.soleField "PatternTables" "sameAs") ∈ lw_all := lw_g (lw_at lw_m1 49 rfl) rfl
theorem q70 : (Jvm.Cond.superclass "PatternTables" "java/lang/Object") ∈ lw_all := lw_g (lw_at lw_m1 50 rfl) rfl
theorem q74 : (Jvm.Cond.instanceMethod ({ cls := "PatternTables", name := "extend", desc := "(II)I" } : Jvm.MethodName)) ∈ lw_all := lw_g (lw_at lw_m1 54 rfl) rfl
theorem q75 : (Jvm.Cond.selects "PatternTables" ({ cls := "PatternTables", name := "extend", desc := "(II)I" } : Jvm.MethodName) ({ cls := "PatternTables", name := "extend", desc := "(II)I" } : Jvm.MethodName)) ∈ lw_all := lw_g (lw_at lw_m1 55 rfl) rfl
theorem q76 : (Jvm.Cond.code ({ cls := "PatternTables", name := "extend", desc := "(II)I" } : Jvm.MethodName) prog_1_method_6_code (3 : Nat) (Option.some Jvm.ClassFile.FieldType.int)) ∈ lw_all := lw_g (lw_at lw_m1 56 rfl) rfl
theorem q77 : (Jvm.Cond.methodLink "PatternTables" (49 : Nat) ({ cls := "PatternTables", name := "isPattern", desc := "(I)Z" } : Jvm.MethodName)) ∈ lw_all := lw_g (lw_at lw_m1 57 rfl) rfl
theorem q78 : (Jvm.Cond.static ({ cls := "PatternTables", name := "isPattern", desc := "(I)Z" } : Jvm.MethodName)) ∈ lw_all := lw_g (lw_at lw_m1 58 rfl) rfl
theorem q79 : (Jvm.Cond.code ({ cls := "PatternTables", name := "isPattern", desc := "(I)Z" } : Jvm.MethodName) prog_1_method_2_code (1 : Nat) (Option.some Jvm.ClassFile.FieldType.boolean)) ∈ lw_all := lw_g (lw_at lw_m1 59 rfl) rfl
theorem q80 : (Jvm.Cond.methodLink "PatternTables" (53 : Nat) ({ cls := "PatternTables", name := "missing", desc := "(I)I" } : Jvm.MethodName)) ∈ lw_all := lw_g (lw_at lw_m1 60 rfl) rfl
theorem q81 : (Jvm.Cond.privateMethod ({ cls := "PatternTables", name := "missing", desc := "(I)I" } : Jvm.MethodName)) ∈ lw_tbl := lw_at lw_m1 61 rfl
theorem q82 : (Jvm.Cond.instanceMethod ({ cls := "PatternTables", name := "missing", desc := "(I)I" } : Jvm.MethodName)) ∈ lw_all := lw_g (lw_at lw_m1 62 rfl) rfl
theorem q83 : (Jvm.Cond.code ({ cls := "PatternTables", name := "missing", desc := "(I)I" } : Jvm.MethodName) prog_1_method_4_code (4 : Nat) (Option.some Jvm.ClassFile.FieldType.int)) ∈ lw_all := lw_g (lw_at lw_m1 63 rfl) rfl
theorem q84 : (Jvm.Cond.methodLink "PatternTables" (41 : Nat) ({ cls := "PatternTables", name := "arity", desc := "(I)I" } : Jvm.MethodName)) ∈ lw_all := lw_g (lw_at lw_m1 64 rfl) rfl
theorem q85 : (Jvm.Cond.static ({ cls := "PatternTables", name := "arity", desc := "(I)I" } : Jvm.MethodName)) ∈ lw_all := lw_g (lw_at lw_m1 65 rfl) rfl
theorem q86 : (Jvm.Cond.code ({ cls := "PatternTables", name := "arity", desc := "(I)I" } : Jvm.MethodName) prog_1_method_3_code (1 : Nat) (Option.some Jvm.ClassFile.FieldType.int)) ∈ lw_all := lw_g (lw_at lw_m1 66 rfl) rfl
theorem q88 : (Jvm.Cond.instanceMethod ({ cls := "PatternTables", name := "shorten", desc := "(I)I" } : Jvm.MethodName)) ∈ lw_all := lw_g (lw_at lw_m1 68 rfl) rfl
theorem q89 : (Jvm.Cond.selects "PatternTables" ({ cls := "PatternTables", name := "shorten", desc := "(I)I" } : Jvm.MethodName) ({ cls := "PatternTables", name := "shorten", desc := "(I)I" } : Jvm.MethodName)) ∈ lw_all := lw_g (lw_at lw_m1 69 rfl) rfl
theorem q90 : (Jvm.Cond.code ({ cls := "PatternTables", name := "shorten", desc := "(I)I" } : Jvm.MethodName) prog_1_method_7_code (2 : Nat) (Option.some Jvm.ClassFile.FieldType.int)) ∈ lw_all := lw_g (lw_at lw_m1 70 rfl) rfl
theorem q92 : (Jvm.Cond.instanceMethod ({ cls := "PatternTables", name := "grow", desc := "(I)I" } : Jvm.MethodName)) ∈ lw_all := lw_g (lw_at lw_m1 72 rfl) rfl
theorem q93 : (Jvm.Cond.selects "PatternTables" ({ cls := "PatternTables", name := "grow", desc := "(I)I" } : Jvm.MethodName) ({ cls := "PatternTables", name := "grow", desc := "(I)I" } : Jvm.MethodName)) ∈ lw_all := lw_g (lw_at lw_m1 73 rfl) rfl
theorem q94 : (Jvm.Cond.code ({ cls := "PatternTables", name := "grow", desc := "(I)I" } : Jvm.MethodName) prog_1_method_8_code (2 : Nat) (Option.some Jvm.ClassFile.FieldType.int)) ∈ lw_all := lw_g (lw_at lw_m1 74 rfl) rfl
theorem q95 : (Jvm.Cond.methodLink "PatternTables" (60 : Nat) ({ cls := "PatternTables", name := "missingInSubject", desc := "()I" } : Jvm.MethodName)) ∈ lw_all := lw_g (lw_at lw_m1 75 rfl) rfl
theorem q96 : (Jvm.Cond.privateMethod ({ cls := "PatternTables", name := "missingInSubject", desc := "()I" } : Jvm.MethodName)) ∈ lw_tbl := lw_at lw_m1 76 rfl
theorem q97 : (Jvm.Cond.instanceMethod ({ cls := "PatternTables", name := "missingInSubject", desc := "()I" } : Jvm.MethodName)) ∈ lw_all := lw_g (lw_at lw_m1 77 rfl) rfl
theorem q98 : (Jvm.Cond.code ({ cls := "PatternTables", name := "missingInSubject", desc := "()I" } : Jvm.MethodName) prog_1_method_5_code (3 : Nat) (Option.some Jvm.ClassFile.FieldType.int)) ∈ lw_all := lw_g (lw_at lw_m1 78 rfl) rfl
theorem q100 : (Jvm.Cond.instanceMethod ({ cls := "PatternTables", name := "prune", desc := "()I" } : Jvm.MethodName)) ∈ lw_all := lw_g (lw_at lw_m1 80 rfl) rfl
theorem q101 : (Jvm.Cond.selects "PatternTables" ({ cls := "PatternTables", name := "prune", desc := "()I" } : Jvm.MethodName) ({ cls := "PatternTables", name := "prune", desc := "()I" } : Jvm.MethodName)) ∈ lw_all := lw_g (lw_at lw_m1 81 rfl) rfl
theorem q102 : (Jvm.Cond.code ({ cls := "PatternTables", name := "prune", desc := "()I" } : Jvm.MethodName) prog_1_method_9_code (1 : Nat) (Option.some Jvm.ClassFile.FieldType.int)) ∈ lw_all := lw_g (lw_at lw_m1 82 rfl) rfl
theorem q104 : (Jvm.Cond.instanceMethod ({ cls := "PatternTables", name := "complete", desc := "(I)Z" } : Jvm.MethodName)) ∈ lw_all := lw_g (lw_at lw_m1 84 rfl) rfl
theorem q105 : (Jvm.Cond.selects "PatternTables" ({ cls := "PatternTables", name := "complete", desc := "(I)Z" } : Jvm.MethodName) ({ cls := "PatternTables", name := "complete", desc := "(I)Z" } : Jvm.MethodName)) ∈ lw_all := lw_g (lw_at lw_m1 85 rfl) rfl
theorem q106 : (Jvm.Cond.code ({ cls := "PatternTables", name := "complete", desc := "(I)Z" } : Jvm.MethodName) prog_1_method_10_code (2 : Nat) (Option.some Jvm.ClassFile.FieldType.boolean)) ∈ lw_all := lw_g (lw_at lw_m1 86 rfl) rfl
theorem q108 : (Jvm.Cond.instanceMethod ({ cls := "PatternTables", name := "whole", desc := "()Z" } : Jvm.MethodName)) ∈ lw_all := lw_g (lw_at lw_m1 88 rfl) rfl
theorem q109 : (Jvm.Cond.selects "PatternTables" ({ cls := "PatternTables", name := "whole", desc := "()Z" } : Jvm.MethodName) ({ cls := "PatternTables", name := "whole", desc := "()Z" } : Jvm.MethodName)) ∈ lw_all := lw_g (lw_at lw_m1 89 rfl) rfl
theorem q110 : (Jvm.Cond.code ({ cls := "PatternTables", name := "whole", desc := "()Z" } : Jvm.MethodName) prog_1_method_11_code (1 : Nat) (Option.some Jvm.ClassFile.FieldType.boolean)) ∈ lw_all := lw_g (lw_at lw_m1 90 rfl) rfl
theorem q112 : (Jvm.Cond.instanceMethod ({ cls := "PatternTables", name := "fitsAt", desc := "(I)I" } : Jvm.MethodName)) ∈ lw_all := lw_g (lw_at lw_m1 92 rfl) rfl
theorem q113 : (Jvm.Cond.selects "PatternTables" ({ cls := "PatternTables", name := "fitsAt", desc := "(I)I" } : Jvm.MethodName) ({ cls := "PatternTables", name := "fitsAt", desc := "(I)I" } : Jvm.MethodName)) ∈ lw_all := lw_g (lw_at lw_m1 93 rfl) rfl
theorem q114 : (Jvm.Cond.code ({ cls := "PatternTables", name := "fitsAt", desc := "(I)I" } : Jvm.MethodName) prog_1_method_22_code (2 : Nat) (Option.some Jvm.ClassFile.FieldType.int)) ∈ lw_all := lw_g (lw_at lw_m1 94 rfl) rfl
theorem q115 : (Jvm.Cond.methodLink "PatternTables" (106 : Nat) ({ cls := "PatternTables", name := "isNode", desc := "(I)Z" } : Jvm.MethodName)) ∈ lw_all := lw_g (lw_at lw_m1 95 rfl) rfl
theorem q116 : (Jvm.Cond.privateMethod ({ cls := "PatternTables", name := "isNode", desc := "(I)Z" } : Jvm.MethodName)) ∈ lw_tbl := lw_at lw_m1 96 rfl
theorem q117 : (Jvm.Cond.instanceMethod ({ cls := "PatternTables", name := "isNode", desc := "(I)Z" } : Jvm.MethodName)) ∈ lw_all := lw_g (lw_at lw_m1 97 rfl) rfl
theorem q118 : (Jvm.Cond.code ({ cls := "PatternTables", name := "isNode", desc := "(I)Z" } : Jvm.MethodName) prog_1_method_21_code (2 : Nat) (Option.some Jvm.ClassFile.FieldType.boolean)) ∈ lw_all := lw_g (lw_at lw_m1 98 rfl) rfl
theorem q119 : (Jvm.Cond.methodLink "PatternTables" (103 : Nat) ({ cls := "PatternTables", name := "learn", desc := "()Z" } : Jvm.MethodName)) ∈ lw_all := lw_g (lw_at lw_m1 99 rfl) rfl
theorem q120 : (Jvm.Cond.privateMethod ({ cls := "PatternTables", name := "learn", desc := "()Z" } : Jvm.MethodName)) ∈ lw_tbl := lw_at lw_m1 100 rfl
theorem q121 : (Jvm.Cond.instanceMethod ({ cls := "PatternTables", name := "learn", desc := "()Z" } : Jvm.MethodName)) ∈ lw_all := lw_g (lw_at lw_m1 101 rfl) rfl
theorem q122 : (Jvm.Cond.code ({ cls := "PatternTables", name := "learn", desc := "()Z" } : Jvm.MethodName) prog_1_method_12_code (4 : Nat) (Option.some Jvm.ClassFile.FieldType.boolean)) ∈ lw_all := lw_g (lw_at lw_m1 102 rfl) rfl
theorem q123 : (Jvm.Cond.methodLink "PatternTables" (64 : Nat) ({ cls := "PatternTables", name := "whole", desc := "()Z" } : Jvm.MethodName)) ∈ lw_all := lw_g (lw_at lw_m1 103 rfl) rfl
theorem q124 : (Jvm.Cond.methodLink "PatternTables" (68 : Nat) ({ cls := "PatternTables", name := "measure", desc := "(I)V" } : Jvm.MethodName)) ∈ lw_all := lw_g (lw_at lw_m1 104 rfl) rfl
theorem q125 : (Jvm.Cond.privateMethod ({ cls := "PatternTables", name := "measure", desc := "(I)V" } : Jvm.MethodName)) ∈ lw_tbl := lw_at lw_m1 105 rfl
theorem q126 : (Jvm.Cond.instanceMethod ({ cls := "PatternTables", name := "measure", desc := "(I)V" } : Jvm.MethodName)) ∈ lw_all := lw_g (lw_at lw_m1 106 rfl) rfl
theorem q127 : (Jvm.Cond.code ({ cls := "PatternTables", name := "measure", desc := "(I)V" } : Jvm.MethodName) prog_1_method_13_code (6 : Nat) (Option.none : Option Jvm.ClassFile.FieldType)) ∈ lw_all := lw_g (lw_at lw_m1 107 rfl) rfl
theorem q128 : (Jvm.Cond.methodLink "PatternTables" (86 : Nat) ({ cls := "PatternTables", name := "complete", desc := "(I)Z" } : Jvm.MethodName)) ∈ lw_all := lw_g (lw_at lw_m1 108 rfl) rfl
theorem q129 : (Jvm.Cond.methodLink "PatternTables" (75 : Nat) ({ cls := "PatternTables", name := "lookUp", desc := "(I)I" } : Jvm.MethodName)) ∈ lw_all := lw_g (lw_at lw_m1 109 rfl) rfl
theorem q130 : (Jvm.Cond.privateMethod ({ cls := "PatternTables", name := "lookUp", desc := "(I)I" } : Jvm.MethodName)) ∈ lw_tbl := lw_at lw_m1 110 rfl
theorem q131 : (Jvm.Cond.instanceMethod ({ cls := "PatternTables", name := "lookUp", desc := "(I)I" } : Jvm.MethodName)) ∈ lw_all := lw_g (lw_at lw_m1 111 rfl) rfl
theorem q132 : (Jvm.Cond.code ({ cls := "PatternTables", name := "lookUp", desc := "(I)I" } : Jvm.MethodName) prog_1_method_15_code (9 : Nat) (Option.some Jvm.ClassFile.FieldType.int)) ∈ lw_all := lw_g (lw_at lw_m1 112 rfl) rfl
theorem q133 : (Jvm.Cond.methodLink "PatternTables" (89 : Nat) ({ cls := "PatternTables", name := "secondPart", desc := "(I)I" } : Jvm.MethodName)) ∈ lw_all := lw_g (lw_at lw_m1 113 rfl) rfl
theorem q134 : (Jvm.Cond.privateMethod ({ cls := "PatternTables", name := "secondPart", desc := "(I)I" } : Jvm.MethodName)) ∈ lw_tbl := lw_at lw_m1 114 rfl
theorem q135 : (Jvm.Cond.instanceMethod ({ cls := "PatternTables", name := "secondPart", desc := "(I)I" } : Jvm.MethodName)) ∈ lw_all := lw_g (lw_at lw_m1 115 rfl) rfl
theorem q136 : (Jvm.Cond.code ({ cls := "PatternTables", name := "secondPart", desc := "(I)I" } : Jvm.MethodName) prog_1_method_14_code (2 : Nat) (Option.some Jvm.ClassFile.FieldType.int)) ∈ lw_all := lw_g (lw_at lw_m1 116 rfl) rfl
theorem q137 : (Jvm.Cond.methodLink "PatternTables" (92 : Nat) ({ cls := "PatternTables", name := "combine", desc := "(IJJ)J" } : Jvm.MethodName)) ∈ lw_all := lw_g (lw_at lw_m1 117 rfl) rfl
theorem q138 : (Jvm.Cond.privateMethod ({ cls := "PatternTables", name := "combine", desc := "(IJJ)J" } : Jvm.MethodName)) ∈ lw_tbl := lw_at lw_m1 118 rfl
theorem q139 : (Jvm.Cond.instanceMethod ({ cls := "PatternTables", name := "combine", desc := "(IJJ)J" } : Jvm.MethodName)) ∈ lw_all := lw_g (lw_at lw_m1 119 rfl) rfl
theorem q140 : (Jvm.Cond.code ({ cls := "PatternTables", name := "combine", desc := "(IJJ)J" } : Jvm.MethodName) prog_1_method_16_code (12 : Nat) (Option.some Jvm.ClassFile.FieldType.long)) ∈ lw_all := lw_g (lw_at lw_m1 120 rfl) rfl
theorem q141 : (Jvm.Cond.methodLink "PatternTables" (99 : Nat) ({ cls := "PatternTables", name := "partsFit", desc := "(IIJJ)Z" } : Jvm.MethodName)) ∈ lw_all := lw_g (lw_at lw_m1 121 rfl) rfl
theorem q142 : (Jvm.Cond.privateMethod ({ cls := "PatternTables", name := "partsFit", desc := "(IIJJ)Z" } : Jvm.MethodName)) ∈ lw_tbl := lw_at lw_m1 122 rfl
theorem q143 : (Jvm.Cond.instanceMethod ({ cls := "PatternTables", name := "partsFit", desc := "(IIJJ)Z" } : Jvm.MethodName)) ∈ lw_all := lw_g (lw_at lw_m1 123 rfl) rfl
theorem q144 : (Jvm.Cond.code ({ cls := "PatternTables", name := "partsFit", desc := "(IIJJ)Z" } : Jvm.MethodName) prog_1_method_17_code (8 : Nat) (Option.some Jvm.ClassFile.FieldType.boolean)) ∈ lw_all := lw_g (lw_at lw_m1 124 rfl) rfl
theorem q145 : (Jvm.Cond.methodLink "PatternTables" (96 : Nat) ({ cls := "PatternTables", name := "stateOf", desc := "(J)I" } : Jvm.MethodName)) ∈ lw_all := lw_g (lw_at lw_m1 125 rfl) rfl
theorem q146 : (Jvm.Cond.privateMethod ({ cls := "PatternTables", name := "stateOf", desc := "(J)I" } : Jvm.MethodName)) ∈ lw_tbl := lw_at lw_m1 126 rfl
theorem q147 : (Jvm.Cond.instanceMethod ({ cls := "PatternTables", name := "stateOf", desc := "(J)I" } : Jvm.MethodName)) ∈ lw_all := lw_g (lw_at lw_m1 127 rfl) rfl
theorem q148 : (Jvm.Cond.code ({ cls := "PatternTables", name := "stateOf", desc := "(J)I" } : Jvm.MethodName) prog_1_method_18_code (4 : Nat) (Option.some Jvm.ClassFile.FieldType.int)) ∈ lw_all := lw_g (lw_at lw_m1 128 rfl) rfl
theorem q149 : (Jvm.Cond.methodLink "PatternTables" (78 : Nat) ({ cls := "PatternTables", name := "wholePatterns", desc := "(J)I" } : Jvm.MethodName)) ∈ lw_all := lw_g (lw_at lw_m1 129 rfl) rfl
theorem q150 : (Jvm.Cond.static ({ cls := "PatternTables", name := "wholePatterns", desc := "(J)I" } : Jvm.MethodName)) ∈ lw_all := lw_g (lw_at lw_m1 130 rfl) rfl
theorem q151 : (Jvm.Cond.code ({ cls := "PatternTables", name := "wholePatterns", desc := "(J)I" } : Jvm.MethodName) prog_1_method_19_code (4 : Nat) (Option.some Jvm.ClassFile.FieldType.int)) ∈ lw_all := lw_g (lw_at lw_m1 131 rfl) rfl
theorem q152 : (Jvm.Cond.methodLink "PatternTables" (82 : Nat) ({ cls := "PatternTables", name := "samePart", desc := "(II)Z" } : Jvm.MethodName)) ∈ lw_all := lw_g (lw_at lw_m1 132 rfl) rfl
theorem q153 : (Jvm.Cond.privateMethod ({ cls := "PatternTables", name := "samePart", desc := "(II)Z" } : Jvm.MethodName)) ∈ lw_tbl := lw_at lw_m1 133 rfl
theorem q154 : (Jvm.Cond.instanceMethod ({ cls := "PatternTables", name := "samePart", desc := "(II)Z" } : Jvm.MethodName)) ∈ lw_all := lw_g (lw_at lw_m1 134 rfl) rfl
theorem q155 : (Jvm.Cond.code ({ cls := "PatternTables", name := "samePart", desc := "(II)Z" } : Jvm.MethodName) prog_1_method_20_code (4 : Nat) (Option.some Jvm.ClassFile.FieldType.boolean)) ∈ lw_all := lw_g (lw_at lw_m1 135 rfl) rfl
theorem q157 : (Jvm.Cond.instanceMethod ({ cls := "PatternTables", name := "count", desc := "(I)I" } : Jvm.MethodName)) ∈ lw_all := lw_g (lw_at lw_m1 137 rfl) rfl
theorem q158 : (Jvm.Cond.selects "PatternTables" ({ cls := "PatternTables", name := "count", desc := "(I)I" } : Jvm.MethodName) ({ cls := "PatternTables", name := "count", desc := "(I)I" } : Jvm.MethodName)) ∈ lw_all := lw_g (lw_at lw_m1 138 rfl) rfl
theorem q159 : (Jvm.Cond.code ({ cls := "PatternTables", name := "count", desc := "(I)I" } : Jvm.MethodName) prog_1_method_23_code (4 : Nat) (Option.some Jvm.ClassFile.FieldType.int)) ∈ lw_all := lw_g (lw_at lw_m1 139 rfl) rfl
theorem q160 : (Jvm.Cond.methodLink "PatternTables" (109 : Nat) ({ cls := "PatternTables", name := "fitsAt", desc := "(I)I" } : Jvm.MethodName)) ∈ lw_all := lw_g (lw_at lw_m1 140 rfl) rfl
theorem q162 : (Jvm.Cond.instanceMethod ({ cls := "PatternTables", name := "next", desc := "(II)I" } : Jvm.MethodName)) ∈ lw_all := lw_g (lw_at lw_m1 142 rfl) rfl
theorem q163 : (Jvm.Cond.selects "PatternTables" ({ cls := "PatternTables", name := "next", desc := "(II)I" } : Jvm.MethodName) ({ cls := "PatternTables", name := "next", desc := "(II)I" } : Jvm.MethodName)) ∈ lw_all := lw_g (lw_at lw_m1 143 rfl) rfl
theorem q164 : (Jvm.Cond.code ({ cls := "PatternTables", name := "next", desc := "(II)I" } : Jvm.MethodName) prog_1_method_24_code (4 : Nat) (Option.some Jvm.ClassFile.FieldType.int)) ∈ lw_all := lw_g (lw_at lw_m1 144 rfl) rfl
theorem q166 : (Jvm.Cond.instanceMethod ({ cls := "PatternTables", name := "gapAt", desc := "(III)I" } : Jvm.MethodName)) ∈ lw_all := lw_g (lw_at lw_m1 146 rfl) rfl
theorem q167 : (Jvm.Cond.selects "PatternTables" ({ cls := "PatternTables", name := "gapAt", desc := "(III)I" } : Jvm.MethodName) ({ cls := "PatternTables", name := "gapAt", desc := "(III)I" } : Jvm.MethodName)) ∈ lw_all := lw_g (lw_at lw_m1 147 rfl) rfl
theorem q168 : (Jvm.Cond.code ({ cls := "PatternTables", name := "gapAt", desc := "(III)I" } : Jvm.MethodName) prog_1_method_25_code (7 : Nat) (Option.some Jvm.ClassFile.FieldType.int)) ∈ lw_all := lw_g (lw_at lw_m1 148 rfl) rfl
theorem q170 : (Jvm.Cond.instanceMethod ({ cls := "PatternTables", name := "size", desc := "(I)I" } : Jvm.MethodName)) ∈ lw_all := lw_g (lw_at lw_m1 150 rfl) rfl
theorem q171 : (Jvm.Cond.selects "PatternTables" ({ cls := "PatternTables", name := "size", desc := "(I)I" } : Jvm.MethodName) ({ cls := "PatternTables", name := "size", desc := "(I)I" } : Jvm.MethodName)) ∈ lw_all := lw_g (lw_at lw_m1 151 rfl) rfl
theorem q172 : (Jvm.Cond.code ({ cls := "PatternTables", name := "size", desc := "(I)I" } : Jvm.MethodName) prog_1_method_26_code (2 : Nat) (Option.some Jvm.ClassFile.FieldType.int)) ∈ lw_all := lw_g (lw_at lw_m1 152 rfl) rfl
theorem q174 : (Jvm.Cond.instanceMethod ({ cls := "PatternTables", name := "equal", desc := "(II)Z" } : Jvm.MethodName)) ∈ lw_all := lw_g (lw_at lw_m1 154 rfl) rfl
theorem q175 : (Jvm.Cond.selects "PatternTables" ({ cls := "PatternTables", name := "equal", desc := "(II)Z" } : Jvm.MethodName) ({ cls := "PatternTables", name := "equal", desc := "(II)Z" } : Jvm.MethodName)) ∈ lw_all := lw_g (lw_at lw_m1 155 rfl) rfl
theorem q176 : (Jvm.Cond.code ({ cls := "PatternTables", name := "equal", desc := "(II)Z" } : Jvm.MethodName) prog_1_method_27_code (3 : Nat) (Option.some Jvm.ClassFile.FieldType.boolean)) ∈ lw_all := lw_g (lw_at lw_m1 156 rfl) rfl
theorem q178 : (Jvm.Cond.instanceMethod ({ cls := "PatternTables", name := "kinds", desc := "()I" } : Jvm.MethodName)) ∈ lw_all := lw_g (lw_at lw_m1 158 rfl) rfl
theorem q179 : (Jvm.Cond.selects "PatternTables" ({ cls := "PatternTables", name := "kinds", desc := "()I" } : Jvm.MethodName) ({ cls := "PatternTables", name := "kinds", desc := "()I" } : Jvm.MethodName)) ∈ lw_all := lw_g (lw_at lw_m1 159 rfl) rfl
theorem q180 : (Jvm.Cond.code ({ cls := "PatternTables", name := "kinds", desc := "()I" } : Jvm.MethodName) prog_1_method_28_code (4 : Nat) (Option.some Jvm.ClassFile.FieldType.int)) ∈ lw_all := lw_g (lw_at lw_m1 160 rfl) rfl
theorem q182 : (Jvm.Cond.instanceMethod ({ cls := "PatternTables", name := "covers", desc := "(II)Z" } : Jvm.MethodName)) ∈ lw_all := lw_g (lw_at lw_m1 162 rfl) rfl
theorem q183 : (Jvm.Cond.selects "PatternTables" ({ cls := "PatternTables", name := "covers", desc := "(II)Z" } : Jvm.MethodName) ({ cls := "PatternTables", name := "covers", desc := "(II)Z" } : Jvm.MethodName)) ∈ lw_all := lw_g (lw_at lw_m1 163 rfl) rfl
theorem q184 : (Jvm.Cond.code ({ cls := "PatternTables", name := "covers", desc := "(II)Z" } : Jvm.MethodName) prog_1_method_29_code (6 : Nat) (Option.some Jvm.ClassFile.FieldType.boolean)) ∈ lw_all := lw_g (lw_at lw_m1 164 rfl) rfl
theorem q186 : (Jvm.Cond.instanceMethod ({ cls := "PatternTables", name := "bare", desc := "()I" } : Jvm.MethodName)) ∈ lw_all := lw_g (lw_at lw_m1 166 rfl) rfl
theorem q187 : (Jvm.Cond.selects "PatternTables" ({ cls := "PatternTables", name := "bare", desc := "()I" } : Jvm.MethodName) ({ cls := "PatternTables", name := "bare", desc := "()I" } : Jvm.MethodName)) ∈ lw_all := lw_g (lw_at lw_m1 167 rfl) rfl
theorem q188 : (Jvm.Cond.code ({ cls := "PatternTables", name := "bare", desc := "()I" } : Jvm.MethodName) prog_1_method_30_code (3 : Nat) (Option.some Jvm.ClassFile.FieldType.int)) ∈ lw_all := lw_g (lw_at lw_m1 168 rfl) rfl
theorem in_X0 : ∀ w ∈ wsX00, w ∈ lw_all := lw_in wsX00 [44, 46, 48, 50, 52, 54, 56, 58, 60, 62, 64, 66, 68] (by decide +kernel) (by decide +kernel)
end
section
set_option maxRecDepth 100000
theorem dX0_init_0 : decode cX0_init 0 = .ok (.aload_n 0, 1) := by decide +kernel
theorem dX0_init_1 : decode cX0_init 1 = .ok (.invokespecial 1, 3) := by decide +kernel
theorem dX0_init_4 : decode cX0_init 4 = .ok (.aload_n 0, 1) := by decide +kernel
theorem dX0_init_5 : decode cX0_init 5 = .ok (.iconst 4, 1) := by decide +kernel
theorem dX0_init_6 : decode cX0_init 6 = .ok (.newarray .byte, 2) := by decide +kernel
theorem dX0_init_8 : decode cX0_init 8 = .ok (.putfield 7, 3) := by decide +kernel
theorem dX0_init_11 : decode cX0_init 11 = .ok (.aload_n 0, 1) := by decide +kernel
theorem dX0_init_12 : decode cX0_init 12 = .ok (.bipush 36, 2) := by decide +kernel
theorem dX0_init_14 : decode cX0_init 14 = .ok (.newarray .byte, 2) := by decide +kernel
theorem dX0_init_16 : decode cX0_init 16 = .ok (.putfield 13, 3) := by decide +kernel
theorem dX0_init_19 : decode cX0_init 19 = .ok (.aload_n 0, 1) := by decide +kernel
theorem dX0_init_20 : decode cX0_init 20 = .ok (.bipush 36, 2) := by decide +kernel
theorem dX0_init_22 : decode cX0_init 22 = .ok (.newarray .byte, 2) := by decide +kernel
theorem dX0_init_24 : decode cX0_init 24 = .ok (.putfield 16, 3) := by decide +kernel
theorem dX0_init_27 : decode cX0_init 27 = .ok (.aload_n 0, 1) := by decide +kernel
theorem dX0_init_28 : decode cX0_init 28 = .ok (.bipush 25, 2) := by decide +kernel
theorem dX0_init_30 : decode cX0_init 30 = .ok (.newarray .byte, 2) := by decide +kernel
theorem dX0_init_32 : decode cX0_init 32 = .ok (.putfield 19, 3) := by decide +kernel
theorem dX0_init_35 : decode cX0_init 35 = .ok (.aload_n 0, 1) := by decide +kernel
theorem dX0_init_36 : decode cX0_init 36 = .ok (.bipush 25, 2) := by decide +kernel
theorem dX0_init_38 : decode cX0_init 38 = .ok (.newarray .byte, 2) := by decide +kernel
theorem dX0_init_40 : decode cX0_init 40 = .ok (.putfield 22, 3) := by decide +kernel
theorem dX0_init_43 : decode cX0_init 43 = .ok (.aload_n 0, 1) := by decide +kernel
theorem dX0_init_44 : decode cX0_init 44 = .ok (.bipush 26, 2) := by decide +kernel
theorem dX0_init_46 : decode cX0_init 46 = .ok (.newarray .long, 2) := by decide +kernel
theorem dX0_init_48 : decode cX0_init 48 = .ok (.putfield 25, 3) := by decide +kernel
theorem dX0_init_51 : decode cX0_init 51 = .ok (.aload_n 0, 1) := by decide +kernel
theorem dX0_init_52 : decode cX0_init 52 = .ok (.sipush 1408, 3) := by decide +kernel
theorem dX0_init_55 : decode cX0_init 55 = .ok (.newarray .byte, 2) := by decide +kernel
theorem dX0_init_57 : decode cX0_init 57 = .ok (.putfield 29, 3) := by decide +kernel
theorem dX0_init_60 : decode cX0_init 60 = .ok (.aload_n 0, 1) := by decide +kernel
theorem dX0_init_61 : decode cX0_init 61 = .ok (.bipush 25, 2) := by decide +kernel
theorem dX0_init_63 : decode cX0_init 63 = .ok (.newarray .byte, 2) := by decide +kernel
theorem dX0_init_65 : decode cX0_init 65 = .ok (.putfield 32, 3) := by decide +kernel
theorem dX0_init_68 : decode cX0_init 68 = .ok (.aload_n 0, 1) := by decide +kernel
theorem dX0_init_69 : decode cX0_init 69 = .ok (.bipush 25, 2) := by decide +kernel
theorem dX0_init_71 : decode cX0_init 71 = .ok (.newarray .byte, 2) := by decide +kernel
theorem dX0_init_73 : decode cX0_init 73 = .ok (.putfield 35, 3) := by decide +kernel
theorem dX0_init_76 : decode cX0_init 76 = .ok (.aload_n 0, 1) := by decide +kernel
theorem dX0_init_77 : decode cX0_init 77 = .ok (.bipush 25, 2) := by decide +kernel
theorem dX0_init_79 : decode cX0_init 79 = .ok (.newarray .byte, 2) := by decide +kernel
theorem dX0_init_81 : decode cX0_init 81 = .ok (.putfield 38, 3) := by decide +kernel
theorem dX0_init_84 : decode cX0_init 84 = .ok (.return_, 1) := by decide +kernel
theorem dX0_extend_0 : decode cX0_extend 0 = .ok (.iload_n 1, 1) := by decide +kernel
theorem dX0_extend_1 : decode cX0_extend 1 = .ok (.invokestatic 49, 3) := by decide +kernel
theorem dX0_extend_4 : decode cX0_extend 4 = .ok (.ifCond .eq 13, 3) := by decide +kernel
theorem dX0_extend_7 : decode cX0_extend 7 = .ok (.iload_n 2, 1) := by decide +kernel
theorem dX0_extend_8 : decode cX0_extend 8 = .ok (.ifCond .lt 9, 3) := by decide +kernel
theorem dX0_extend_11 : decode cX0_extend 11 = .ok (.iload_n 2, 1) := by decide +kernel
theorem dX0_extend_12 : decode cX0_extend 12 = .ok (.bipush 7, 2) := by decide +kernel
theorem dX0_extend_14 : decode cX0_extend 14 = .ok (.if_icmp .le 5, 3) := by decide +kernel
theorem dX0_extend_17 : decode cX0_extend 17 = .ok (.iconst (-1), 1) := by decide +kernel
theorem dX0_extend_18 : decode cX0_extend 18 = .ok (.ireturn, 1) := by decide +kernel
theorem dX0_extend_19 : decode cX0_extend 19 = .ok (.aload_n 0, 1) := by decide +kernel
theorem dX0_extend_20 : decode cX0_extend 20 = .ok (.getfield 7, 3) := by decide +kernel
theorem dX0_extend_23 : decode cX0_extend 23 = .ok (.iload_n 1, 1) := by decide +kernel
theorem dX0_extend_24 : decode cX0_extend 24 = .ok (.baload, 1) := by decide +kernel
theorem dX0_extend_25 : decode cX0_extend 25 = .ok (.bipush 9, 2) := by decide +kernel
theorem dX0_extend_27 : decode cX0_extend 27 = .ok (.if_icmp .ge 11, 3) := by decide +kernel
theorem dX0_extend_30 : decode cX0_extend 30 = .ok (.aload_n 0, 1) := by decide +kernel
theorem dX0_extend_31 : decode cX0_extend 31 = .ok (.iload_n 1, 1) := by decide +kernel
theorem dX0_extend_32 : decode cX0_extend 32 = .ok (.invokevirtual 53, 3) := by decide +kernel
theorem dX0_extend_35 : decode cX0_extend 35 = .ok (.ifCond .ne 6, 3) := by decide +kernel
theorem dX0_extend_38 : decode cX0_extend 38 = .ok (.bipush (-2), 2) := by decide +kernel
theorem dX0_extend_40 : decode cX0_extend 40 = .ok (.ireturn, 1) := by decide +kernel
theorem dX0_extend_41 : decode cX0_extend 41 = .ok (.aload_n 0, 1) := by decide +kernel
theorem dX0_extend_42 : decode cX0_extend 42 = .ok (.getfield 13, 3) := by decide +kernel
theorem dX0_extend_45 : decode cX0_extend 45 = .ok (.iload_n 1, 1) := by decide +kernel
theorem dX0_extend_46 : decode cX0_extend 46 = .ok (.bipush 9, 2) := by decide +kernel
theorem dX0_extend_48 : decode cX0_extend 48 = .ok (.imul, 1) := by decide +kernel
theorem dX0_extend_49 : decode cX0_extend 49 = .ok (.aload_n 0, 1) := by decide +kernel
theorem dX0_extend_50 : decode cX0_extend 50 = .ok (.getfield 7, 3) := by decide +kernel
theorem dX0_extend_53 : decode cX0_extend 53 = .ok (.iload_n 1, 1) := by decide +kernel
theorem dX0_extend_54 : decode cX0_extend 54 = .ok (.baload, 1) := by decide +kernel
theorem dX0_extend_55 : decode cX0_extend 55 = .ok (.iadd, 1) := by decide +kernel
theorem dX0_extend_56 : decode cX0_extend 56 = .ok (.iload_n 2, 1) := by decide +kernel
theorem dX0_extend_57 : decode cX0_extend 57 = .ok (.i2b, 1) := by decide +kernel
theorem dX0_extend_58 : decode cX0_extend 58 = .ok (.bastore, 1) := by decide +kernel
theorem dX0_extend_59 : decode cX0_extend 59 = .ok (.aload_n 0, 1) := by decide +kernel
theorem dX0_extend_60 : decode cX0_extend 60 = .ok (.getfield 7, 3) := by decide +kernel
theorem dX0_extend_63 : decode cX0_extend 63 = .ok (.iload_n 1, 1) := by decide +kernel
theorem dX0_extend_64 : decode cX0_extend 64 = .ok (.dup2, 1) := by decide +kernel
theorem dX0_extend_65 : decode cX0_extend 65 = .ok (.baload, 1) := by decide +kernel
theorem dX0_extend_66 : decode cX0_extend 66 = .ok (.iconst 1, 1) := by decide +kernel
theorem dX0_extend_67 : decode cX0_extend 67 = .ok (.iadd, 1) := by decide +kernel
theorem dX0_extend_68 : decode cX0_extend 68 = .ok (.i2b, 1) := by decide +kernel
theorem dX0_extend_69 : decode cX0_extend 69 = .ok (.bastore, 1) := by decide +kernel
theorem dX0_extend_70 : decode cX0_extend 70 = .ok (.aload_n 0, 1) := by decide +kernel
theorem dX0_extend_71 : decode cX0_extend 71 = .ok (.iconst 0, 1) := by decide +kernel
theorem dX0_extend_72 : decode cX0_extend 72 = .ok (.putfield 56, 3) := by decide +kernel
theorem dX0_extend_75 : decode cX0_extend 75 = .ok (.aload_n 0, 1) := by decide +kernel
theorem dX0_extend_76 : decode cX0_extend 76 = .ok (.getfield 7, 3) := by decide +kernel
theorem dX0_extend_79 : decode cX0_extend 79 = .ok (.iload_n 1, 1) := by decide +kernel
theorem dX0_extend_80 : decode cX0_extend 80 = .ok (.baload, 1) := by decide +kernel
theorem dX0_extend_81 : decode cX0_extend 81 = .ok (.ireturn, 1) := by decide +kernel
theorem dX0_isPattern_0 : decode cX0_isPattern 0 = .ok (.iload_n 0, 1) := by decide +kernel
theorem dX0_isPattern_1 : decode cX0_isPattern 1 = .ok (.ifCond .lt 12, 3) := by decide +kernel
theorem dX0_isPattern_4 : decode cX0_isPattern 4 = .ok (.iload_n 0, 1) := by decide +kernel
theorem dX0_isPattern_5 : decode cX0_isPattern 5 = .ok (.iconst 4, 1) := by decide +kernel
theorem dX0_isPattern_6 : decode cX0_isPattern 6 = .ok (.if_icmp .ge 7, 3) := by decide +kernel
theorem dX0_isPattern_9 : decode cX0_isPattern 9 = .ok (.iconst 1, 1) := by decide +kernel
theorem dX0_isPattern_10 : decode cX0_isPattern 10 = .ok (.goto 4, 3) := by decide +kernel
theorem dX0_isPattern_13 : decode cX0_isPattern 13 = .ok (.iconst 0, 1) := by decide +kernel
theorem dX0_isPattern_14 : decode cX0_isPattern 14 = .ok (.ireturn, 1) := by decide +kernel
theorem dX0_missing_0 : decode cX0_missing 0 = .ok (.iconst 1, 1) := by decide +kernel
theorem dX0_missing_1 : decode cX0_missing 1 = .ok (.istore_n 2, 1) := by decide +kernel
theorem dX0_missing_2 : decode cX0_missing 2 = .ok (.iconst 0, 1) := by decide +kernel
theorem dX0_missing_3 : decode cX0_missing 3 = .ok (.istore_n 3, 1) := by decide +kernel
theorem dX0_missing_4 : decode cX0_missing 4 = .ok (.iload_n 3, 1) := by decide +kernel
theorem dX0_missing_5 : decode cX0_missing 5 = .ok (.aload_n 0, 1) := by decide +kernel
theorem dX0_missing_6 : decode cX0_missing 6 = .ok (.getfield 7, 3) := by decide +kernel
theorem dX0_missing_9 : decode cX0_missing 9 = .ok (.iload_n 1, 1) := by decide +kernel
theorem dX0_missing_10 : decode cX0_missing 10 = .ok (.baload, 1) := by decide +kernel
theorem dX0_missing_11 : decode cX0_missing 11 = .ok (.if_icmp .ge 28, 3) := by decide +kernel
theorem dX0_missing_14 : decode cX0_missing 14 = .ok (.iload_n 2, 1) := by decide +kernel
theorem dX0_missing_15 : decode cX0_missing 15 = .ok (.aload_n 0, 1) := by decide +kernel
theorem dX0_missing_16 : decode cX0_missing 16 = .ok (.getfield 13, 3) := by decide +kernel
theorem dX0_missing_19 : decode cX0_missing 19 = .ok (.iload_n 1, 1) := by decide +kernel
theorem dX0_missing_20 : decode cX0_missing 20 = .ok (.bipush 9, 2) := by decide +kernel
theorem dX0_missing_22 : decode cX0_missing 22 = .ok (.imul, 1) := by decide +kernel
theorem dX0_missing_23 : decode cX0_missing 23 = .ok (.iload_n 3, 1) := by decide +kernel
theorem dX0_missing_24 : decode cX0_missing 24 = .ok (.iadd, 1) := by decide +kernel
theorem dX0_missing_25 : decode cX0_missing 25 = .ok (.baload, 1) := by decide +kernel
theorem dX0_missing_26 : decode cX0_missing 26 = .ok (.invokestatic 41, 3) := by decide +kernel
theorem dX0_missing_29 : decode cX0_missing 29 = .ok (.iconst 1, 1) := by decide +kernel
theorem dX0_missing_30 : decode cX0_missing 30 = .ok (.isub, 1) := by decide +kernel
theorem dX0_missing_31 : decode cX0_missing 31 = .ok (.iadd, 1) := by decide +kernel
theorem dX0_missing_32 : decode cX0_missing 32 = .ok (.istore_n 2, 1) := by decide +kernel
theorem dX0_missing_33 : decode cX0_missing 33 = .ok (.iinc 3 1, 3) := by decide +kernel
theorem dX0_missing_36 : decode cX0_missing 36 = .ok (.goto (-32), 3) := by decide +kernel
theorem dX0_missing_39 : decode cX0_missing 39 = .ok (.iload_n 2, 1) := by decide +kernel
theorem dX0_missing_40 : decode cX0_missing 40 = .ok (.ireturn, 1) := by decide +kernel
theorem dX0_arity_0 : decode cX0_arity 0 = .ok (.iload_n 0, 1) := by decide +kernel
theorem dX0_arity_1 : decode cX0_arity 1 = .ok (.iconst 2, 1) := by decide +kernel
theorem dX0_arity_2 : decode cX0_arity 2 = .ok (.if_icmp .ge 5, 3) := by decide +kernel
theorem dX0_arity_5 : decode cX0_arity 5 = .ok (.iconst 2, 1) := by decide +kernel
theorem dX0_arity_6 : decode cX0_arity 6 = .ok (.ireturn, 1) := by decide +kernel
theorem dX0_arity_7 : decode cX0_arity 7 = .ok (.iload_n 0, 1) := by decide +kernel
theorem dX0_arity_8 : decode cX0_arity 8 = .ok (.iconst 4, 1) := by decide +kernel
theorem dX0_arity_9 : decode cX0_arity 9 = .ok (.if_icmp .ge 7, 3) := by decide +kernel
theorem dX0_arity_12 : decode cX0_arity 12 = .ok (.iconst 1, 1) := by decide +kernel
theorem dX0_arity_13 : decode cX0_arity 13 = .ok (.goto 4, 3) := by decide +kernel
theorem dX0_arity_16 : decode cX0_arity 16 = .ok (.iconst 0, 1) := by decide +kernel
theorem dX0_arity_17 : decode cX0_arity 17 = .ok (.ireturn, 1) := by decide +kernel
theorem dX0_shorten_0 : decode cX0_shorten 0 = .ok (.iload_n 1, 1) := by decide +kernel
theorem dX0_shorten_1 : decode cX0_shorten 1 = .ok (.invokestatic 49, 3) := by decide +kernel
theorem dX0_shorten_4 : decode cX0_shorten 4 = .ok (.ifCond .eq 12, 3) := by decide +kernel
theorem dX0_shorten_7 : decode cX0_shorten 7 = .ok (.aload_n 0, 1) := by decide +kernel
theorem dX0_shorten_8 : decode cX0_shorten 8 = .ok (.getfield 7, 3) := by decide +kernel
theorem dX0_shorten_11 : decode cX0_shorten 11 = .ok (.iload_n 1, 1) := by decide +kernel
theorem dX0_shorten_12 : decode cX0_shorten 12 = .ok (.baload, 1) := by decide +kernel
theorem dX0_shorten_13 : decode cX0_shorten 13 = .ok (.ifCond .ne 5, 3) := by decide +kernel
theorem dX0_shorten_16 : decode cX0_shorten 16 = .ok (.iconst (-1), 1) := by decide +kernel
theorem dX0_shorten_17 : decode cX0_shorten 17 = .ok (.ireturn, 1) := by decide +kernel
theorem dX0_shorten_18 : decode cX0_shorten 18 = .ok (.aload_n 0, 1) := by decide +kernel
theorem dX0_shorten_19 : decode cX0_shorten 19 = .ok (.getfield 7, 3) := by decide +kernel
theorem dX0_shorten_22 : decode cX0_shorten 22 = .ok (.iload_n 1, 1) := by decide +kernel
theorem dX0_shorten_23 : decode cX0_shorten 23 = .ok (.dup2, 1) := by decide +kernel
theorem dX0_shorten_24 : decode cX0_shorten 24 = .ok (.baload, 1) := by decide +kernel
theorem dX0_shorten_25 : decode cX0_shorten 25 = .ok (.iconst 1, 1) := by decide +kernel
theorem dX0_shorten_26 : decode cX0_shorten 26 = .ok (.isub, 1) := by decide +kernel
theorem dX0_shorten_27 : decode cX0_shorten 27 = .ok (.i2b, 1) := by decide +kernel
theorem dX0_shorten_28 : decode cX0_shorten 28 = .ok (.bastore, 1) := by decide +kernel
theorem dX0_shorten_29 : decode cX0_shorten 29 = .ok (.aload_n 0, 1) := by decide +kernel
theorem dX0_shorten_30 : decode cX0_shorten 30 = .ok (.iconst 0, 1) := by decide +kernel
theorem dX0_shorten_31 : decode cX0_shorten 31 = .ok (.putfield 56, 3) := by decide +kernel
theorem dX0_shorten_34 : decode cX0_shorten 34 = .ok (.aload_n 0, 1) := by decide +kernel
theorem dX0_shorten_35 : decode cX0_shorten 35 = .ok (.getfield 13, 3) := by decide +kernel
theorem dX0_shorten_38 : decode cX0_shorten 38 = .ok (.iload_n 1, 1) := by decide +kernel
theorem dX0_shorten_39 : decode cX0_shorten 39 = .ok (.bipush 9, 2) := by decide +kernel
theorem dX0_shorten_41 : decode cX0_shorten 41 = .ok (.imul, 1) := by decide +kernel
theorem dX0_shorten_42 : decode cX0_shorten 42 = .ok (.aload_n 0, 1) := by decide +kernel
theorem dX0_shorten_43 : decode cX0_shorten 43 = .ok (.getfield 7, 3) := by decide +kernel
theorem dX0_shorten_46 : decode cX0_shorten 46 = .ok (.iload_n 1, 1) := by decide +kernel
theorem dX0_shorten_47 : decode cX0_shorten 47 = .ok (.baload, 1) := by decide +kernel
theorem dX0_shorten_48 : decode cX0_shorten 48 = .ok (.iadd, 1) := by decide +kernel
theorem dX0_shorten_49 : decode cX0_shorten 49 = .ok (.baload, 1) := by decide +kernel
theorem dX0_shorten_50 : decode cX0_shorten 50 = .ok (.ireturn, 1) := by decide +kernel
theorem dX0_grow_0 : decode cX0_grow 0 = .ok (.iload_n 1, 1) := by decide +kernel
theorem dX0_grow_1 : decode cX0_grow 1 = .ok (.ifCond .lt 9, 3) := by decide +kernel
theorem dX0_grow_4 : decode cX0_grow 4 = .ok (.iload_n 1, 1) := by decide +kernel
theorem dX0_grow_5 : decode cX0_grow 5 = .ok (.bipush 6, 2) := by decide +kernel
theorem dX0_grow_7 : decode cX0_grow 7 = .ok (.if_icmp .le 5, 3) := by decide +kernel
theorem dX0_grow_10 : decode cX0_grow 10 = .ok (.iconst (-1), 1) := by decide +kernel
theorem dX0_grow_11 : decode cX0_grow 11 = .ok (.ireturn, 1) := by decide +kernel
theorem dX0_grow_12 : decode cX0_grow 12 = .ok (.aload_n 0, 1) := by decide +kernel
theorem dX0_grow_13 : decode cX0_grow 13 = .ok (.getfield 45, 3) := by decide +kernel
theorem dX0_grow_16 : decode cX0_grow 16 = .ok (.bipush 25, 2) := by decide +kernel
theorem dX0_grow_18 : decode cX0_grow 18 = .ok (.if_icmp .ge 10, 3) := by decide +kernel
theorem dX0_grow_21 : decode cX0_grow 21 = .ok (.aload_n 0, 1) := by decide +kernel
theorem dX0_grow_22 : decode cX0_grow 22 = .ok (.invokevirtual 60, 3) := by decide +kernel
theorem dX0_grow_25 : decode cX0_grow 25 = .ok (.ifCond .ne 6, 3) := by decide +kernel
theorem dX0_grow_28 : decode cX0_grow 28 = .ok (.bipush (-2), 2) := by decide +kernel
theorem dX0_grow_30 : decode cX0_grow 30 = .ok (.ireturn, 1) := by decide +kernel
theorem dX0_grow_31 : decode cX0_grow 31 = .ok (.aload_n 0, 1) := by decide +kernel
theorem dX0_grow_32 : decode cX0_grow 32 = .ok (.getfield 19, 3) := by decide +kernel
theorem dX0_grow_35 : decode cX0_grow 35 = .ok (.aload_n 0, 1) := by decide +kernel
theorem dX0_grow_36 : decode cX0_grow 36 = .ok (.getfield 45, 3) := by decide +kernel
theorem dX0_grow_39 : decode cX0_grow 39 = .ok (.iload_n 1, 1) := by decide +kernel
theorem dX0_grow_40 : decode cX0_grow 40 = .ok (.i2b, 1) := by decide +kernel
theorem dX0_grow_41 : decode cX0_grow 41 = .ok (.bastore, 1) := by decide +kernel
theorem dX0_grow_42 : decode cX0_grow 42 = .ok (.aload_n 0, 1) := by decide +kernel
theorem dX0_grow_43 : decode cX0_grow 43 = .ok (.dup, 1) := by decide +kernel
theorem dX0_grow_44 : decode cX0_grow 44 = .ok (.getfield 45, 3) := by decide +kernel
theorem dX0_grow_47 : decode cX0_grow 47 = .ok (.iconst 1, 1) := by decide +kernel
theorem dX0_grow_48 : decode cX0_grow 48 = .ok (.iadd, 1) := by decide +kernel
theorem dX0_grow_49 : decode cX0_grow 49 = .ok (.putfield 45, 3) := by decide +kernel
theorem dX0_grow_52 : decode cX0_grow 52 = .ok (.aload_n 0, 1) := by decide +kernel
theorem dX0_grow_53 : decode cX0_grow 53 = .ok (.iconst 0, 1) := by decide +kernel
theorem dX0_grow_54 : decode cX0_grow 54 = .ok (.putfield 56, 3) := by decide +kernel
theorem dX0_grow_57 : decode cX0_grow 57 = .ok (.aload_n 0, 1) := by decide +kernel
theorem dX0_grow_58 : decode cX0_grow 58 = .ok (.getfield 45, 3) := by decide +kernel
theorem dX0_grow_61 : decode cX0_grow 61 = .ok (.ireturn, 1) := by decide +kernel
theorem dX0_missingInSubject_0 : decode cX0_missingInSubject 0 = .ok (.iconst 1, 1) := by decide +kernel
theorem dX0_missingInSubject_1 : decode cX0_missingInSubject 1 = .ok (.istore_n 1, 1) := by decide +kernel
theorem dX0_missingInSubject_2 : decode cX0_missingInSubject 2 = .ok (.iconst 0, 1) := by decide +kernel
theorem dX0_missingInSubject_3 : decode cX0_missingInSubject 3 = .ok (.istore_n 2, 1) := by decide +kernel
theorem dX0_missingInSubject_4 : decode cX0_missingInSubject 4 = .ok (.iload_n 2, 1) := by decide +kernel
theorem dX0_missingInSubject_5 : decode cX0_missingInSubject 5 = .ok (.aload_n 0, 1) := by decide +kernel
theorem dX0_missingInSubject_6 : decode cX0_missingInSubject 6 = .ok (.getfield 45, 3) := by decide +kernel
theorem dX0_missingInSubject_9 : decode cX0_missingInSubject 9 = .ok (.if_icmp .ge 23, 3) := by decide +kernel
theorem dX0_missingInSubject_12 : decode cX0_missingInSubject 12 = .ok (.iload_n 1, 1) := by decide +kernel
theorem dX0_missingInSubject_13 : decode cX0_missingInSubject 13 = .ok (.aload_n 0, 1) := by decide +kernel
theorem dX0_missingInSubject_14 : decode cX0_missingInSubject 14 = .ok (.getfield 19, 3) := by decide +kernel
theorem dX0_missingInSubject_17 : decode cX0_missingInSubject 17 = .ok (.iload_n 2, 1) := by decide +kernel
theorem dX0_missingInSubject_18 : decode cX0_missingInSubject 18 = .ok (.baload, 1) := by decide +kernel
theorem dX0_missingInSubject_19 : decode cX0_missingInSubject 19 = .ok (.invokestatic 41, 3) := by decide +kernel
theorem dX0_missingInSubject_22 : decode cX0_missingInSubject 22 = .ok (.iconst 1, 1) := by decide +kernel
theorem dX0_missingInSubject_23 : decode cX0_missingInSubject 23 = .ok (.isub, 1) := by decide +kernel
theorem dX0_missingInSubject_24 : decode cX0_missingInSubject 24 = .ok (.iadd, 1) := by decide +kernel
theorem dX0_missingInSubject_25 : decode cX0_missingInSubject 25 = .ok (.istore_n 1, 1) := by decide +kernel
theorem dX0_missingInSubject_26 : decode cX0_missingInSubject 26 = .ok (.iinc 2 1, 3) := by decide +kernel
theorem dX0_missingInSubject_29 : decode cX0_missingInSubject 29 = .ok (.goto (-25), 3) := by decide +kernel
theorem dX0_missingInSubject_32 : decode cX0_missingInSubject 32 = .ok (.iload_n 1, 1) := by decide +kernel
theorem dX0_missingInSubject_33 : decode cX0_missingInSubject 33 = .ok (.ireturn, 1) := by decide +kernel
theorem dX0_prune_0 : decode cX0_prune 0 = .ok (.aload_n 0, 1) := by decide +kernel
theorem dX0_prune_1 : decode cX0_prune 1 = .ok (.getfield 45, 3) := by decide +kernel
theorem dX0_prune_4 : decode cX0_prune 4 = .ok (.ifCond .ne 5, 3) := by decide +kernel
theorem dX0_prune_7 : decode cX0_prune 7 = .ok (.iconst (-1), 1) := by decide +kernel
theorem dX0_prune_8 : decode cX0_prune 8 = .ok (.ireturn, 1) := by decide +kernel
theorem dX0_prune_9 : decode cX0_prune 9 = .ok (.aload_n 0, 1) := by decide +kernel
theorem dX0_prune_10 : decode cX0_prune 10 = .ok (.dup, 1) := by decide +kernel
theorem dX0_prune_11 : decode cX0_prune 11 = .ok (.getfield 45, 3) := by decide +kernel
theorem dX0_prune_14 : decode cX0_prune 14 = .ok (.iconst 1, 1) := by decide +kernel
theorem dX0_prune_15 : decode cX0_prune 15 = .ok (.isub, 1) := by decide +kernel
theorem dX0_prune_16 : decode cX0_prune 16 = .ok (.putfield 45, 3) := by decide +kernel
theorem dX0_prune_19 : decode cX0_prune 19 = .ok (.aload_n 0, 1) := by decide +kernel
theorem dX0_prune_20 : decode cX0_prune 20 = .ok (.iconst 0, 1) := by decide +kernel
theorem dX0_prune_21 : decode cX0_prune 21 = .ok (.putfield 56, 3) := by decide +kernel
theorem dX0_prune_24 : decode cX0_prune 24 = .ok (.aload_n 0, 1) := by decide +kernel
theorem dX0_prune_25 : decode cX0_prune 25 = .ok (.getfield 19, 3) := by decide +kernel
theorem dX0_prune_28 : decode cX0_prune 28 = .ok (.aload_n 0, 1) := by decide +kernel
theorem dX0_prune_29 : decode cX0_prune 29 = .ok (.getfield 45, 3) := by decide +kernel
theorem dX0_prune_32 : decode cX0_prune 32 = .ok (.baload, 1) := by decide +kernel
theorem dX0_prune_33 : decode cX0_prune 33 = .ok (.ireturn, 1) := by decide +kernel
theorem dX0_complete_0 : decode cX0_complete 0 = .ok (.iload_n 1, 1) := by decide +kernel
theorem dX0_complete_1 : decode cX0_complete 1 = .ok (.invokestatic 49, 3) := by decide +kernel
theorem dX0_complete_4 : decode cX0_complete 4 = .ok (.ifCond .eq 15, 3) := by decide +kernel
theorem dX0_complete_7 : decode cX0_complete 7 = .ok (.aload_n 0, 1) := by decide +kernel
theorem dX0_complete_8 : decode cX0_complete 8 = .ok (.iload_n 1, 1) := by decide +kernel
theorem dX0_complete_9 : decode cX0_complete 9 = .ok (.invokevirtual 53, 3) := by decide +kernel
theorem dX0_complete_12 : decode cX0_complete 12 = .ok (.ifCond .ne 7, 3) := by decide +kernel
theorem dX0_complete_15 : decode cX0_complete 15 = .ok (.iconst 1, 1) := by decide +kernel
theorem dX0_complete_16 : decode cX0_complete 16 = .ok (.goto 4, 3) := by decide +kernel
theorem dX0_complete_19 : decode cX0_complete 19 = .ok (.iconst 0, 1) := by decide +kernel
theorem dX0_complete_20 : decode cX0_complete 20 = .ok (.ireturn, 1) := by decide +kernel
theorem dX0_whole_0 : decode cX0_whole 0 = .ok (.aload_n 0, 1) := by decide +kernel
theorem dX0_whole_1 : decode cX0_whole 1 = .ok (.invokevirtual 60, 3) := by decide +kernel
theorem dX0_whole_4 : decode cX0_whole 4 = .ok (.ifCond .ne 7, 3) := by decide +kernel
theorem dX0_whole_7 : decode cX0_whole 7 = .ok (.iconst 1, 1) := by decide +kernel
theorem dX0_whole_8 : decode cX0_whole 8 = .ok (.goto 4, 3) := by decide +kernel
theorem dX0_whole_11 : decode cX0_whole 11 = .ok (.iconst 0, 1) := by decide +kernel
theorem dX0_whole_12 : decode cX0_whole 12 = .ok (.ireturn, 1) := by decide +kernel
theorem dX0_fitsAt_0 : decode cX0_fitsAt 0 = .ok (.aload_n 0, 1) := by decide +kernel
theorem dX0_fitsAt_1 : decode cX0_fitsAt 1 = .ok (.iload_n 1, 1) := by decide +kernel
theorem dX0_fitsAt_2 : decode cX0_fitsAt 2 = .ok (.invokevirtual 106, 3) := by decide +kernel
theorem dX0_fitsAt_5 : decode cX0_fitsAt 5 = .ok (.ifCond .eq 12, 3) := by decide +kernel
theorem dX0_fitsAt_8 : decode cX0_fitsAt 8 = .ok (.aload_n 0, 1) := by decide +kernel
theorem dX0_fitsAt_9 : decode cX0_fitsAt 9 = .ok (.getfield 35, 3) := by decide +kernel
theorem dX0_fitsAt_12 : decode cX0_fitsAt 12 = .ok (.iload_n 1, 1) := by decide +kernel
theorem dX0_fitsAt_13 : decode cX0_fitsAt 13 = .ok (.baload, 1) := by decide +kernel
theorem dX0_fitsAt_14 : decode cX0_fitsAt 14 = .ok (.goto 4, 3) := by decide +kernel
theorem dX0_fitsAt_17 : decode cX0_fitsAt 17 = .ok (.iconst 0, 1) := by decide +kernel
theorem dX0_fitsAt_18 : decode cX0_fitsAt 18 = .ok (.ireturn, 1) := by decide +kernel
theorem dX0_isNode_0 : decode cX0_isNode 0 = .ok (.iload_n 1, 1) := by decide +kernel
theorem dX0_isNode_1 : decode cX0_isNode 1 = .ok (.ifCond .lt 22, 3) := by decide +kernel
theorem dX0_isNode_4 : decode cX0_isNode 4 = .ok (.iload_n 1, 1) := by decide +kernel
theorem dX0_isNode_5 : decode cX0_isNode 5 = .ok (.aload_n 0, 1) := by decide +kernel
theorem dX0_isNode_6 : decode cX0_isNode 6 = .ok (.getfield 45, 3) := by decide +kernel
theorem dX0_isNode_9 : decode cX0_isNode 9 = .ok (.if_icmp .ge 14, 3) := by decide +kernel
theorem dX0_isNode_12 : decode cX0_isNode 12 = .ok (.aload_n 0, 1) := by decide +kernel
theorem dX0_isNode_13 : decode cX0_isNode 13 = .ok (.invokevirtual 103, 3) := by decide +kernel
theorem dX0_isNode_16 : decode cX0_isNode 16 = .ok (.ifCond .eq 7, 3) := by decide +kernel
theorem dX0_isNode_19 : decode cX0_isNode 19 = .ok (.iconst 1, 1) := by decide +kernel
theorem dX0_isNode_20 : decode cX0_isNode 20 = .ok (.goto 4, 3) := by decide +kernel
theorem dX0_isNode_23 : decode cX0_isNode 23 = .ok (.iconst 0, 1) := by decide +kernel
theorem dX0_isNode_24 : decode cX0_isNode 24 = .ok (.ireturn, 1) := by decide +kernel
theorem dX0_learn_0 : decode cX0_learn 0 = .ok (.aload_n 0, 1) := by decide +kernel
theorem dX0_learn_1 : decode cX0_learn 1 = .ok (.invokevirtual 64, 3) := by decide +kernel
theorem dX0_learn_4 : decode cX0_learn 4 = .ok (.ifCond .ne 5, 3) := by decide +kernel
theorem dX0_learn_7 : decode cX0_learn 7 = .ok (.iconst 0, 1) := by decide +kernel
theorem dX0_learn_8 : decode cX0_learn 8 = .ok (.ireturn, 1) := by decide +kernel
theorem dX0_learn_9 : decode cX0_learn 9 = .ok (.aload_n 0, 1) := by decide +kernel
theorem dX0_learn_10 : decode cX0_learn 10 = .ok (.getfield 56, 3) := by decide +kernel
theorem dX0_learn_13 : decode cX0_learn 13 = .ok (.ifCond .eq 5, 3) := by decide +kernel
theorem dX0_learn_16 : decode cX0_learn 16 = .ok (.iconst 1, 1) := by decide +kernel
theorem dX0_learn_17 : decode cX0_learn 17 = .ok (.ireturn, 1) := by decide +kernel
theorem dX0_learn_18 : decode cX0_learn 18 = .ok (.aload_n 0, 1) := by decide +kernel
theorem dX0_learn_19 : decode cX0_learn 19 = .ok (.iconst 1, 1) := by decide +kernel
theorem dX0_learn_20 : decode cX0_learn 20 = .ok (.putfield 56, 3) := by decide +kernel
theorem dX0_learn_23 : decode cX0_learn 23 = .ok (.iconst 0, 1) := by decide +kernel
theorem dX0_learn_24 : decode cX0_learn 24 = .ok (.istore_n 1, 1) := by decide +kernel
theorem dX0_learn_25 : decode cX0_learn 25 = .ok (.iload_n 1, 1) := by decide +kernel
theorem dX0_learn_26 : decode cX0_learn 26 = .ok (.iconst 4, 1) := by decide +kernel
theorem dX0_learn_27 : decode cX0_learn 27 = .ok (.if_icmp .ge 14, 3) := by decide +kernel
theorem dX0_learn_30 : decode cX0_learn 30 = .ok (.aload_n 0, 1) := by decide +kernel
theorem dX0_learn_31 : decode cX0_learn 31 = .ok (.iload_n 1, 1) := by decide +kernel
theorem dX0_learn_32 : decode cX0_learn 32 = .ok (.invokevirtual 68, 3) := by decide +kernel
theorem dX0_learn_35 : decode cX0_learn 35 = .ok (.iinc 1 1, 3) := by decide +kernel
theorem dX0_learn_38 : decode cX0_learn 38 = .ok (.goto (-13), 3) := by decide +kernel
theorem dX0_learn_41 : decode cX0_learn 41 = .ok (.aload_n 0, 1) := by decide +kernel
theorem dX0_learn_42 : decode cX0_learn 42 = .ok (.getfield 45, 3) := by decide +kernel
theorem dX0_learn_45 : decode cX0_learn 45 = .ok (.iconst 1, 1) := by decide +kernel
theorem dX0_learn_46 : decode cX0_learn 46 = .ok (.isub, 1) := by decide +kernel
theorem dX0_learn_47 : decode cX0_learn 47 = .ok (.istore_n 1, 1) := by decide +kernel
theorem dX0_learn_48 : decode cX0_learn 48 = .ok (.iload_n 1, 1) := by decide +kernel
theorem dX0_learn_49 : decode cX0_learn 49 = .ok (.ifCond .lt 66, 3) := by decide +kernel
theorem dX0_learn_52 : decode cX0_learn 52 = .ok (.aload_n 0, 1) := by decide +kernel
theorem dX0_learn_53 : decode cX0_learn 53 = .ok (.getfield 19, 3) := by decide +kernel
theorem dX0_learn_56 : decode cX0_learn 56 = .ok (.iload_n 1, 1) := by decide +kernel
theorem dX0_learn_57 : decode cX0_learn 57 = .ok (.baload, 1) := by decide +kernel
theorem dX0_learn_58 : decode cX0_learn 58 = .ok (.invokestatic 41, 3) := by decide +kernel
theorem dX0_learn_61 : decode cX0_learn 61 = .ok (.istore_n 2, 1) := by decide +kernel
theorem dX0_learn_62 : decode cX0_learn 62 = .ok (.iload_n 2, 1) := by decide +kernel
theorem dX0_learn_63 : decode cX0_learn 63 = .ok (.ifCond .le 14, 3) := by decide +kernel
theorem dX0_learn_66 : decode cX0_learn 66 = .ok (.aload_n 0, 1) := by decide +kernel
theorem dX0_learn_67 : decode cX0_learn 67 = .ok (.getfield 22, 3) := by decide +kernel
theorem dX0_learn_70 : decode cX0_learn 70 = .ok (.iload_n 1, 1) := by decide +kernel
theorem dX0_learn_71 : decode cX0_learn 71 = .ok (.iconst 1, 1) := by decide +kernel
theorem dX0_learn_72 : decode cX0_learn 72 = .ok (.iadd, 1) := by decide +kernel
theorem dX0_learn_73 : decode cX0_learn 73 = .ok (.baload, 1) := by decide +kernel
theorem dX0_learn_74 : decode cX0_learn 74 = .ok (.goto 4, 3) := by decide +kernel
theorem dX0_learn_77 : decode cX0_learn 77 = .ok (.iconst 0, 1) := by decide +kernel
theorem dX0_learn_78 : decode cX0_learn 78 = .ok (.istore_n 3, 1) := by decide +kernel
theorem dX0_learn_79 : decode cX0_learn 79 = .ok (.aload_n 0, 1) := by decide +kernel
theorem dX0_learn_80 : decode cX0_learn 80 = .ok (.getfield 22, 3) := by decide +kernel
theorem dX0_learn_83 : decode cX0_learn 83 = .ok (.iload_n 1, 1) := by decide +kernel
theorem dX0_learn_84 : decode cX0_learn 84 = .ok (.iconst 1, 1) := by decide +kernel
theorem dX0_learn_85 : decode cX0_learn 85 = .ok (.iload_n 3, 1) := by decide +kernel
theorem dX0_learn_86 : decode cX0_learn 86 = .ok (.iadd, 1) := by decide +kernel
theorem dX0_learn_87 : decode cX0_learn 87 = .ok (.iload_n 2, 1) := by decide +kernel
theorem dX0_learn_88 : decode cX0_learn 88 = .ok (.iconst 1, 1) := by decide +kernel
theorem dX0_learn_89 : decode cX0_learn 89 = .ok (.if_icmp .le 16, 3) := by decide +kernel
theorem dX0_learn_92 : decode cX0_learn 92 = .ok (.aload_n 0, 1) := by decide +kernel
theorem dX0_learn_93 : decode cX0_learn 93 = .ok (.getfield 22, 3) := by decide +kernel
theorem dX0_learn_96 : decode cX0_learn 96 = .ok (.iload_n 1, 1) := by decide +kernel
theorem dX0_learn_97 : decode cX0_learn 97 = .ok (.iconst 1, 1) := by decide +kernel
theorem dX0_learn_98 : decode cX0_learn 98 = .ok (.iadd, 1) := by decide +kernel
theorem dX0_learn_99 : decode cX0_learn 99 = .ok (.iload_n 3, 1) := by decide +kernel
theorem dX0_learn_100 : decode cX0_learn 100 = .ok (.iadd, 1) := by decide +kernel
theorem dX0_learn_101 : decode cX0_learn 101 = .ok (.baload, 1) := by decide +kernel
theorem dX0_learn_102 : decode cX0_learn 102 = .ok (.goto 4, 3) := by decide +kernel
theorem dX0_learn_105 : decode cX0_learn 105 = .ok (.iconst 0, 1) := by decide +kernel
theorem dX0_learn_106 : decode cX0_learn 106 = .ok (.iadd, 1) := by decide +kernel
theorem dX0_learn_107 : decode cX0_learn 107 = .ok (.i2b, 1) := by decide +kernel
theorem dX0_learn_108 : decode cX0_learn 108 = .ok (.bastore, 1) := by decide +kernel
theorem dX0_learn_109 : decode cX0_learn 109 = .ok (.iinc 1 (-1), 3) := by decide +kernel
theorem dX0_learn_112 : decode cX0_learn 112 = .ok (.goto (-64), 3) := by decide +kernel
theorem dX0_learn_115 : decode cX0_learn 115 = .ok (.aload_n 0, 1) := by decide +kernel
theorem dX0_learn_116 : decode cX0_learn 116 = .ok (.iconst 0, 1) := by decide +kernel
theorem dX0_learn_117 : decode cX0_learn 117 = .ok (.putfield 72, 3) := by decide +kernel
theorem dX0_learn_120 : decode cX0_learn 120 = .ok (.iconst 0, 1) := by decide +kernel
theorem dX0_learn_121 : decode cX0_learn 121 = .ok (.istore_n 1, 1) := by decide +kernel
theorem dX0_learn_122 : decode cX0_learn 122 = .ok (.iload_n 1, 1) := by decide +kernel
theorem dX0_learn_123 : decode cX0_learn 123 = .ok (.sipush 1408, 3) := by decide +kernel
theorem dX0_learn_126 : decode cX0_learn 126 = .ok (.if_icmp .ge 16, 3) := by decide +kernel
theorem dX0_learn_129 : decode cX0_learn 129 = .ok (.aload_n 0, 1) := by decide +kernel
theorem dX0_learn_130 : decode cX0_learn 130 = .ok (.getfield 29, 3) := by decide +kernel
theorem dX0_learn_133 : decode cX0_learn 133 = .ok (.iload_n 1, 1) := by decide +kernel
theorem dX0_learn_134 : decode cX0_learn 134 = .ok (.iconst (-1), 1) := by decide +kernel
theorem dX0_learn_135 : decode cX0_learn 135 = .ok (.bastore, 1) := by decide +kernel
theorem dX0_learn_136 : decode cX0_learn 136 = .ok (.iinc 1 1, 3) := by decide +kernel
theorem dX0_learn_139 : decode cX0_learn 139 = .ok (.goto (-17), 3) := by decide +kernel
theorem dX0_learn_142 : decode cX0_learn 142 = .ok (.aload_n 0, 1) := by decide +kernel
theorem dX0_learn_143 : decode cX0_learn 143 = .ok (.getfield 45, 3) := by decide +kernel
theorem dX0_learn_146 : decode cX0_learn 146 = .ok (.iconst 1, 1) := by decide +kernel
theorem dX0_learn_147 : decode cX0_learn 147 = .ok (.isub, 1) := by decide +kernel
theorem dX0_learn_148 : decode cX0_learn 148 = .ok (.istore_n 1, 1) := by decide +kernel
theorem dX0_learn_149 : decode cX0_learn 149 = .ok (.iload_n 1, 1) := by decide +kernel
theorem dX0_learn_150 : decode cX0_learn 150 = .ok (.ifCond .lt 42, 3) := by decide +kernel
theorem dX0_learn_153 : decode cX0_learn 153 = .ok (.aload_n 0, 1) := by decide +kernel
theorem dX0_learn_154 : decode cX0_learn 154 = .ok (.getfield 32, 3) := by decide +kernel
theorem dX0_learn_157 : decode cX0_learn 157 = .ok (.iload_n 1, 1) := by decide +kernel
theorem dX0_learn_158 : decode cX0_learn 158 = .ok (.aload_n 0, 1) := by decide +kernel
theorem dX0_learn_159 : decode cX0_learn 159 = .ok (.iload_n 1, 1) := by decide +kernel
theorem dX0_learn_160 : decode cX0_learn 160 = .ok (.invokevirtual 75, 3) := by decide +kernel
theorem dX0_learn_163 : decode cX0_learn 163 = .ok (.i2b, 1) := by decide +kernel
theorem dX0_learn_164 : decode cX0_learn 164 = .ok (.bastore, 1) := by decide +kernel
theorem dX0_learn_165 : decode cX0_learn 165 = .ok (.aload_n 0, 1) := by decide +kernel
theorem dX0_learn_166 : decode cX0_learn 166 = .ok (.getfield 35, 3) := by decide +kernel
theorem dX0_learn_169 : decode cX0_learn 169 = .ok (.iload_n 1, 1) := by decide +kernel
theorem dX0_learn_170 : decode cX0_learn 170 = .ok (.aload_n 0, 1) := by decide +kernel
theorem dX0_learn_171 : decode cX0_learn 171 = .ok (.getfield 25, 3) := by decide +kernel
theorem dX0_learn_174 : decode cX0_learn 174 = .ok (.aload_n 0, 1) := by decide +kernel
theorem dX0_learn_175 : decode cX0_learn 175 = .ok (.getfield 32, 3) := by decide +kernel
theorem dX0_learn_178 : decode cX0_learn 178 = .ok (.iload_n 1, 1) := by decide +kernel
theorem dX0_learn_179 : decode cX0_learn 179 = .ok (.baload, 1) := by decide +kernel
theorem dX0_learn_180 : decode cX0_learn 180 = .ok (.laload, 1) := by decide +kernel
theorem dX0_learn_181 : decode cX0_learn 181 = .ok (.invokestatic 78, 3) := by decide +kernel
theorem dX0_learn_184 : decode cX0_learn 184 = .ok (.i2b, 1) := by decide +kernel
theorem dX0_learn_185 : decode cX0_learn 185 = .ok (.bastore, 1) := by decide +kernel
theorem dX0_learn_186 : decode cX0_learn 186 = .ok (.iinc 1 (-1), 3) := by decide +kernel
theorem dX0_learn_189 : decode cX0_learn 189 = .ok (.goto (-40), 3) := by decide +kernel
theorem dX0_learn_192 : decode cX0_learn 192 = .ok (.aload_n 0, 1) := by decide +kernel
theorem dX0_learn_193 : decode cX0_learn 193 = .ok (.getfield 45, 3) := by decide +kernel
theorem dX0_learn_196 : decode cX0_learn 196 = .ok (.iconst 1, 1) := by decide +kernel
theorem dX0_learn_197 : decode cX0_learn 197 = .ok (.isub, 1) := by decide +kernel
theorem dX0_learn_198 : decode cX0_learn 198 = .ok (.istore_n 1, 1) := by decide +kernel
theorem dX0_learn_199 : decode cX0_learn 199 = .ok (.iload_n 1, 1) := by decide +kernel
theorem dX0_learn_200 : decode cX0_learn 200 = .ok (.ifCond .lt 65, 3) := by decide +kernel
theorem dX0_learn_203 : decode cX0_learn 203 = .ok (.aload_n 0, 1) := by decide +kernel
theorem dX0_learn_204 : decode cX0_learn 204 = .ok (.getfield 38, 3) := by decide +kernel
theorem dX0_learn_207 : decode cX0_learn 207 = .ok (.iload_n 1, 1) := by decide +kernel
theorem dX0_learn_208 : decode cX0_learn 208 = .ok (.iload_n 1, 1) := by decide +kernel
theorem dX0_learn_209 : decode cX0_learn 209 = .ok (.i2b, 1) := by decide +kernel
theorem dX0_learn_210 : decode cX0_learn 210 = .ok (.bastore, 1) := by decide +kernel
theorem dX0_learn_211 : decode cX0_learn 211 = .ok (.aload_n 0, 1) := by decide +kernel
theorem dX0_learn_212 : decode cX0_learn 212 = .ok (.getfield 45, 3) := by decide +kernel
theorem dX0_learn_215 : decode cX0_learn 215 = .ok (.iconst 1, 1) := by decide +kernel
theorem dX0_learn_216 : decode cX0_learn 216 = .ok (.isub, 1) := by decide +kernel
theorem dX0_learn_217 : decode cX0_learn 217 = .ok (.istore_n 2, 1) := by decide +kernel
theorem dX0_learn_218 : decode cX0_learn 218 = .ok (.iload_n 2, 1) := by decide +kernel
theorem dX0_learn_219 : decode cX0_learn 219 = .ok (.iload_n 1, 1) := by decide +kernel
theorem dX0_learn_220 : decode cX0_learn 220 = .ok (.if_icmp .le 39, 3) := by decide +kernel
theorem dX0_learn_223 : decode cX0_learn 223 = .ok (.aload_n 0, 1) := by decide +kernel
theorem dX0_learn_224 : decode cX0_learn 224 = .ok (.getfield 38, 3) := by decide +kernel
theorem dX0_learn_227 : decode cX0_learn 227 = .ok (.iload_n 1, 1) := by decide +kernel
theorem dX0_learn_228 : decode cX0_learn 228 = .ok (.aload_n 0, 1) := by decide +kernel
theorem dX0_learn_229 : decode cX0_learn 229 = .ok (.iload_n 1, 1) := by decide +kernel
theorem dX0_learn_230 : decode cX0_learn 230 = .ok (.iload_n 2, 1) := by decide +kernel
theorem dX0_learn_231 : decode cX0_learn 231 = .ok (.invokevirtual 82, 3) := by decide +kernel
theorem dX0_learn_234 : decode cX0_learn 234 = .ok (.ifCond .eq 12, 3) := by decide +kernel
theorem dX0_learn_237 : decode cX0_learn 237 = .ok (.aload_n 0, 1) := by decide +kernel
theorem dX0_learn_238 : decode cX0_learn 238 = .ok (.getfield 38, 3) := by decide +kernel
theorem dX0_learn_241 : decode cX0_learn 241 = .ok (.iload_n 2, 1) := by decide +kernel
theorem dX0_learn_242 : decode cX0_learn 242 = .ok (.baload, 1) := by decide +kernel
theorem dX0_learn_243 : decode cX0_learn 243 = .ok (.goto 9, 3) := by decide +kernel
theorem dX0_learn_246 : decode cX0_learn 246 = .ok (.aload_n 0, 1) := by decide +kernel
theorem dX0_learn_247 : decode cX0_learn 247 = .ok (.getfield 38, 3) := by decide +kernel
theorem dX0_learn_250 : decode cX0_learn 250 = .ok (.iload_n 1, 1) := by decide +kernel
theorem dX0_learn_251 : decode cX0_learn 251 = .ok (.baload, 1) := by decide +kernel
theorem dX0_learn_252 : decode cX0_learn 252 = .ok (.bastore, 1) := by decide +kernel
theorem dX0_learn_253 : decode cX0_learn 253 = .ok (.iinc 2 (-1), 3) := by decide +kernel
theorem dX0_learn_256 : decode cX0_learn 256 = .ok (.goto (-38), 3) := by decide +kernel
theorem dX0_learn_259 : decode cX0_learn 259 = .ok (.iinc 1 (-1), 3) := by decide +kernel
theorem dX0_learn_262 : decode cX0_learn 262 = .ok (.goto (-63), 3) := by decide +kernel
theorem dX0_learn_265 : decode cX0_learn 265 = .ok (.iconst 1, 1) := by decide +kernel
theorem dX0_learn_266 : decode cX0_learn 266 = .ok (.ireturn, 1) := by decide +kernel
theorem dX0_measure_0 : decode cX0_measure 0 = .ok (.aload_n 0, 1) := by decide +kernel
theorem dX0_measure_1 : decode cX0_measure 1 = .ok (.iload_n 1, 1) := by decide +kernel
theorem dX0_measure_2 : decode cX0_measure 2 = .ok (.invokevirtual 86, 3) := by decide +kernel
theorem dX0_measure_5 : decode cX0_measure 5 = .ok (.ifCond .ne 4, 3) := by decide +kernel
theorem dX0_measure_8 : decode cX0_measure 8 = .ok (.return_, 1) := by decide +kernel
theorem dX0_measure_9 : decode cX0_measure 9 = .ok (.aload_n 0, 1) := by decide +kernel
theorem dX0_measure_10 : decode cX0_measure 10 = .ok (.getfield 7, 3) := by decide +kernel
theorem dX0_measure_13 : decode cX0_measure 13 = .ok (.iload_n 1, 1) := by decide +kernel
theorem dX0_measure_14 : decode cX0_measure 14 = .ok (.baload, 1) := by decide +kernel
theorem dX0_measure_15 : decode cX0_measure 15 = .ok (.iconst 1, 1) := by decide +kernel
theorem dX0_measure_16 : decode cX0_measure 16 = .ok (.isub, 1) := by decide +kernel
theorem dX0_measure_17 : decode cX0_measure 17 = .ok (.istore_n 2, 1) := by decide +kernel
theorem dX0_measure_18 : decode cX0_measure 18 = .ok (.iload_n 2, 1) := by decide +kernel
theorem dX0_measure_19 : decode cX0_measure 19 = .ok (.ifCond .lt 79, 3) := by decide +kernel
theorem dX0_measure_22 : decode cX0_measure 22 = .ok (.iload_n 1, 1) := by decide +kernel
theorem dX0_measure_23 : decode cX0_measure 23 = .ok (.bipush 9, 2) := by decide +kernel
theorem dX0_measure_25 : decode cX0_measure 25 = .ok (.imul, 1) := by decide +kernel
theorem dX0_measure_26 : decode cX0_measure 26 = .ok (.iload_n 2, 1) := by decide +kernel
theorem dX0_measure_27 : decode cX0_measure 27 = .ok (.iadd, 1) := by decide +kernel
theorem dX0_measure_28 : decode cX0_measure 28 = .ok (.istore_n 3, 1) := by decide +kernel
theorem dX0_measure_29 : decode cX0_measure 29 = .ok (.aload_n 0, 1) := by decide +kernel
theorem dX0_measure_30 : decode cX0_measure 30 = .ok (.getfield 13, 3) := by decide +kernel
theorem dX0_measure_33 : decode cX0_measure 33 = .ok (.iload_n 3, 1) := by decide +kernel
theorem dX0_measure_34 : decode cX0_measure 34 = .ok (.baload, 1) := by decide +kernel
theorem dX0_measure_35 : decode cX0_measure 35 = .ok (.invokestatic 41, 3) := by decide +kernel
theorem dX0_measure_38 : decode cX0_measure 38 = .ok (.istore 4, 2) := by decide +kernel
theorem dX0_measure_40 : decode cX0_measure 40 = .ok (.iload 4, 2) := by decide +kernel
theorem dX0_measure_42 : decode cX0_measure 42 = .ok (.ifCond .le 14, 3) := by decide +kernel
theorem dX0_measure_45 : decode cX0_measure 45 = .ok (.aload_n 0, 1) := by decide +kernel
theorem dX0_measure_46 : decode cX0_measure 46 = .ok (.getfield 16, 3) := by decide +kernel
theorem dX0_measure_49 : decode cX0_measure 49 = .ok (.iload_n 3, 1) := by decide +kernel
theorem dX0_measure_50 : decode cX0_measure 50 = .ok (.iconst 1, 1) := by decide +kernel
theorem dX0_measure_51 : decode cX0_measure 51 = .ok (.iadd, 1) := by decide +kernel
theorem dX0_measure_52 : decode cX0_measure 52 = .ok (.baload, 1) := by decide +kernel
theorem dX0_measure_53 : decode cX0_measure 53 = .ok (.goto 4, 3) := by decide +kernel
theorem dX0_measure_56 : decode cX0_measure 56 = .ok (.iconst 0, 1) := by decide +kernel
theorem dX0_measure_57 : decode cX0_measure 57 = .ok (.istore 5, 2) := by decide +kernel
theorem dX0_measure_59 : decode cX0_measure 59 = .ok (.aload_n 0, 1) := by decide +kernel
theorem dX0_measure_60 : decode cX0_measure 60 = .ok (.getfield 16, 3) := by decide +kernel
theorem dX0_measure_63 : decode cX0_measure 63 = .ok (.iload_n 3, 1) := by decide +kernel
theorem dX0_measure_64 : decode cX0_measure 64 = .ok (.iconst 1, 1) := by decide +kernel
theorem dX0_measure_65 : decode cX0_measure 65 = .ok (.iload 5, 2) := by decide +kernel
theorem dX0_measure_67 : decode cX0_measure 67 = .ok (.iadd, 1) := by decide +kernel
theorem dX0_measure_68 : decode cX0_measure 68 = .ok (.iload 4, 2) := by decide +kernel
theorem dX0_measure_70 : decode cX0_measure 70 = .ok (.iconst 1, 1) := by decide +kernel
theorem dX0_measure_71 : decode cX0_measure 71 = .ok (.if_icmp .le 17, 3) := by decide +kernel
theorem dX0_measure_74 : decode cX0_measure 74 = .ok (.aload_n 0, 1) := by decide +kernel
theorem dX0_measure_75 : decode cX0_measure 75 = .ok (.getfield 16, 3) := by decide +kernel
theorem dX0_measure_78 : decode cX0_measure 78 = .ok (.iload_n 3, 1) := by decide +kernel
theorem dX0_measure_79 : decode cX0_measure 79 = .ok (.iconst 1, 1) := by decide +kernel
theorem dX0_measure_80 : decode cX0_measure 80 = .ok (.iadd, 1) := by decide +kernel
theorem dX0_measure_81 : decode cX0_measure 81 = .ok (.iload 5, 2) := by decide +kernel
theorem dX0_measure_83 : decode cX0_measure 83 = .ok (.iadd, 1) := by decide +kernel
theorem dX0_measure_84 : decode cX0_measure 84 = .ok (.baload, 1) := by decide +kernel
theorem dX0_measure_85 : decode cX0_measure 85 = .ok (.goto 4, 3) := by decide +kernel
theorem dX0_measure_88 : decode cX0_measure 88 = .ok (.iconst 0, 1) := by decide +kernel
theorem dX0_measure_89 : decode cX0_measure 89 = .ok (.iadd, 1) := by decide +kernel
theorem dX0_measure_90 : decode cX0_measure 90 = .ok (.i2b, 1) := by decide +kernel
theorem dX0_measure_91 : decode cX0_measure 91 = .ok (.bastore, 1) := by decide +kernel
theorem dX0_measure_92 : decode cX0_measure 92 = .ok (.iinc 2 (-1), 3) := by decide +kernel
theorem dX0_measure_95 : decode cX0_measure 95 = .ok (.goto (-77), 3) := by decide +kernel
theorem dX0_measure_98 : decode cX0_measure 98 = .ok (.return_, 1) := by decide +kernel
theorem dX0_lookUp_0 : decode cX0_lookUp 0 = .ok (.aload_n 0, 1) := by decide +kernel
theorem dX0_lookUp_1 : decode cX0_lookUp 1 = .ok (.getfield 19, 3) := by decide +kernel
theorem dX0_lookUp_4 : decode cX0_lookUp 4 = .ok (.iload_n 1, 1) := by decide +kernel
theorem dX0_lookUp_5 : decode cX0_lookUp 5 = .ok (.baload, 1) := by decide +kernel
theorem dX0_lookUp_6 : decode cX0_lookUp 6 = .ok (.istore_n 2, 1) := by decide +kernel
theorem dX0_lookUp_7 : decode cX0_lookUp 7 = .ok (.iload_n 2, 1) := by decide +kernel
theorem dX0_lookUp_8 : decode cX0_lookUp 8 = .ok (.invokestatic 41, 3) := by decide +kernel
theorem dX0_lookUp_11 : decode cX0_lookUp 11 = .ok (.istore_n 3, 1) := by decide +kernel
theorem dX0_lookUp_12 : decode cX0_lookUp 12 = .ok (.iload_n 3, 1) := by decide +kernel
theorem dX0_lookUp_13 : decode cX0_lookUp 13 = .ok (.ifCond .le 14, 3) := by decide +kernel
theorem dX0_lookUp_16 : decode cX0_lookUp 16 = .ok (.aload_n 0, 1) := by decide +kernel
theorem dX0_lookUp_17 : decode cX0_lookUp 17 = .ok (.getfield 32, 3) := by decide +kernel
theorem dX0_lookUp_20 : decode cX0_lookUp 20 = .ok (.iload_n 1, 1) := by decide +kernel
theorem dX0_lookUp_21 : decode cX0_lookUp 21 = .ok (.iconst 1, 1) := by decide +kernel
theorem dX0_lookUp_22 : decode cX0_lookUp 22 = .ok (.iadd, 1) := by decide +kernel
theorem dX0_lookUp_23 : decode cX0_lookUp 23 = .ok (.baload, 1) := by decide +kernel
theorem dX0_lookUp_24 : decode cX0_lookUp 24 = .ok (.goto 4, 3) := by decide +kernel
theorem dX0_lookUp_27 : decode cX0_lookUp 27 = .ok (.iconst 0, 1) := by decide +kernel
theorem dX0_lookUp_28 : decode cX0_lookUp 28 = .ok (.istore 4, 2) := by decide +kernel
theorem dX0_lookUp_30 : decode cX0_lookUp 30 = .ok (.iload_n 3, 1) := by decide +kernel
theorem dX0_lookUp_31 : decode cX0_lookUp 31 = .ok (.iconst 1, 1) := by decide +kernel
theorem dX0_lookUp_32 : decode cX0_lookUp 32 = .ok (.if_icmp .le 16, 3) := by decide +kernel
theorem dX0_lookUp_35 : decode cX0_lookUp 35 = .ok (.aload_n 0, 1) := by decide +kernel
theorem dX0_lookUp_36 : decode cX0_lookUp 36 = .ok (.getfield 32, 3) := by decide +kernel
theorem dX0_lookUp_39 : decode cX0_lookUp 39 = .ok (.aload_n 0, 1) := by decide +kernel
theorem dX0_lookUp_40 : decode cX0_lookUp 40 = .ok (.iload_n 1, 1) := by decide +kernel
theorem dX0_lookUp_41 : decode cX0_lookUp 41 = .ok (.invokevirtual 89, 3) := by decide +kernel
theorem dX0_lookUp_44 : decode cX0_lookUp 44 = .ok (.baload, 1) := by decide +kernel
theorem dX0_lookUp_45 : decode cX0_lookUp 45 = .ok (.goto 4, 3) := by decide +kernel
theorem dX0_lookUp_48 : decode cX0_lookUp 48 = .ok (.iconst 0, 1) := by decide +kernel
theorem dX0_lookUp_49 : decode cX0_lookUp 49 = .ok (.istore 5, 2) := by decide +kernel
theorem dX0_lookUp_51 : decode cX0_lookUp 51 = .ok (.sipush 1404, 3) := by decide +kernel
theorem dX0_lookUp_54 : decode cX0_lookUp 54 = .ok (.iload_n 2, 1) := by decide +kernel
theorem dX0_lookUp_55 : decode cX0_lookUp 55 = .ok (.iadd, 1) := by decide +kernel
theorem dX0_lookUp_56 : decode cX0_lookUp 56 = .ok (.iconst 4, 1) := by decide +kernel
theorem dX0_lookUp_57 : decode cX0_lookUp 57 = .ok (.isub, 1) := by decide +kernel
theorem dX0_lookUp_58 : decode cX0_lookUp 58 = .ok (.istore 6, 2) := by decide +kernel
theorem dX0_lookUp_60 : decode cX0_lookUp 60 = .ok (.iload_n 3, 1) := by decide +kernel
theorem dX0_lookUp_61 : decode cX0_lookUp 61 = .ok (.iconst 2, 1) := by decide +kernel
theorem dX0_lookUp_62 : decode cX0_lookUp 62 = .ok (.if_icmp .ne 21, 3) := by decide +kernel
theorem dX0_lookUp_65 : decode cX0_lookUp 65 = .ok (.iload_n 2, 1) := by decide +kernel
theorem dX0_lookUp_66 : decode cX0_lookUp 66 = .ok (.bipush 26, 2) := by decide +kernel
theorem dX0_lookUp_68 : decode cX0_lookUp 68 = .ok (.imul, 1) := by decide +kernel
theorem dX0_lookUp_69 : decode cX0_lookUp 69 = .ok (.iload 4, 2) := by decide +kernel
theorem dX0_lookUp_71 : decode cX0_lookUp 71 = .ok (.iadd, 1) := by decide +kernel
theorem dX0_lookUp_72 : decode cX0_lookUp 72 = .ok (.bipush 26, 2) := by decide +kernel
theorem dX0_lookUp_74 : decode cX0_lookUp 74 = .ok (.imul, 1) := by decide +kernel
theorem dX0_lookUp_75 : decode cX0_lookUp 75 = .ok (.iload 5, 2) := by decide +kernel
theorem dX0_lookUp_77 : decode cX0_lookUp 77 = .ok (.iadd, 1) := by decide +kernel
theorem dX0_lookUp_78 : decode cX0_lookUp 78 = .ok (.istore 6, 2) := by decide +kernel
theorem dX0_lookUp_80 : decode cX0_lookUp 80 = .ok (.goto 23, 3) := by decide +kernel
theorem dX0_lookUp_83 : decode cX0_lookUp 83 = .ok (.iload_n 3, 1) := by decide +kernel
theorem dX0_lookUp_84 : decode cX0_lookUp 84 = .ok (.iconst 1, 1) := by decide +kernel
theorem dX0_lookUp_85 : decode cX0_lookUp 85 = .ok (.if_icmp .ne 18, 3) := by decide +kernel
theorem dX0_lookUp_88 : decode cX0_lookUp 88 = .ok (.sipush 1352, 3) := by decide +kernel
theorem dX0_lookUp_91 : decode cX0_lookUp 91 = .ok (.iload_n 2, 1) := by decide +kernel
theorem dX0_lookUp_92 : decode cX0_lookUp 92 = .ok (.iconst 2, 1) := by decide +kernel
theorem dX0_lookUp_93 : decode cX0_lookUp 93 = .ok (.isub, 1) := by decide +kernel
theorem dX0_lookUp_94 : decode cX0_lookUp 94 = .ok (.bipush 26, 2) := by decide +kernel
theorem dX0_lookUp_96 : decode cX0_lookUp 96 = .ok (.imul, 1) := by decide +kernel
theorem dX0_lookUp_97 : decode cX0_lookUp 97 = .ok (.iadd, 1) := by decide +kernel
theorem dX0_lookUp_98 : decode cX0_lookUp 98 = .ok (.iload 4, 2) := by decide +kernel
theorem dX0_lookUp_100 : decode cX0_lookUp 100 = .ok (.iadd, 1) := by decide +kernel
theorem dX0_lookUp_101 : decode cX0_lookUp 101 = .ok (.istore 6, 2) := by decide +kernel
theorem dX0_lookUp_103 : decode cX0_lookUp 103 = .ok (.aload_n 0, 1) := by decide +kernel
theorem dX0_lookUp_104 : decode cX0_lookUp 104 = .ok (.getfield 29, 3) := by decide +kernel
theorem dX0_lookUp_107 : decode cX0_lookUp 107 = .ok (.iload 6, 2) := by decide +kernel
theorem dX0_lookUp_109 : decode cX0_lookUp 109 = .ok (.baload, 1) := by decide +kernel
theorem dX0_lookUp_110 : decode cX0_lookUp 110 = .ok (.ifCond .ge 38, 3) := by decide +kernel
theorem dX0_lookUp_113 : decode cX0_lookUp 113 = .ok (.aload_n 0, 1) := by decide +kernel
theorem dX0_lookUp_114 : decode cX0_lookUp 114 = .ok (.iload_n 2, 1) := by decide +kernel
theorem dX0_lookUp_115 : decode cX0_lookUp 115 = .ok (.aload_n 0, 1) := by decide +kernel
theorem dX0_lookUp_116 : decode cX0_lookUp 116 = .ok (.getfield 25, 3) := by decide +kernel
theorem dX0_lookUp_119 : decode cX0_lookUp 119 = .ok (.iload 4, 2) := by decide +kernel
theorem dX0_lookUp_121 : decode cX0_lookUp 121 = .ok (.laload, 1) := by decide +kernel
theorem dX0_lookUp_122 : decode cX0_lookUp 122 = .ok (.aload_n 0, 1) := by decide +kernel
theorem dX0_lookUp_123 : decode cX0_lookUp 123 = .ok (.getfield 25, 3) := by decide +kernel
theorem dX0_lookUp_126 : decode cX0_lookUp 126 = .ok (.iload 5, 2) := by decide +kernel
theorem dX0_lookUp_128 : decode cX0_lookUp 128 = .ok (.laload, 1) := by decide +kernel
theorem dX0_lookUp_129 : decode cX0_lookUp 129 = .ok (.invokevirtual 92, 3) := by decide +kernel
theorem dX0_lookUp_132 : decode cX0_lookUp 132 = .ok (.lstore 7, 2) := by decide +kernel
theorem dX0_lookUp_134 : decode cX0_lookUp 134 = .ok (.aload_n 0, 1) := by decide +kernel
theorem dX0_lookUp_135 : decode cX0_lookUp 135 = .ok (.getfield 29, 3) := by decide +kernel
theorem dX0_lookUp_138 : decode cX0_lookUp 138 = .ok (.iload 6, 2) := by decide +kernel
theorem dX0_lookUp_140 : decode cX0_lookUp 140 = .ok (.aload_n 0, 1) := by decide +kernel
theorem dX0_lookUp_141 : decode cX0_lookUp 141 = .ok (.lload 7, 2) := by decide +kernel
theorem dX0_lookUp_143 : decode cX0_lookUp 143 = .ok (.invokevirtual 96, 3) := by decide +kernel
theorem dX0_lookUp_146 : decode cX0_lookUp 146 = .ok (.i2b, 1) := by decide +kernel
theorem dX0_lookUp_147 : decode cX0_lookUp 147 = .ok (.bastore, 1) := by decide +kernel
theorem dX0_lookUp_148 : decode cX0_lookUp 148 = .ok (.aload_n 0, 1) := by decide +kernel
theorem dX0_lookUp_149 : decode cX0_lookUp 149 = .ok (.getfield 29, 3) := by decide +kernel
theorem dX0_lookUp_152 : decode cX0_lookUp 152 = .ok (.iload 6, 2) := by decide +kernel
theorem dX0_lookUp_154 : decode cX0_lookUp 154 = .ok (.baload, 1) := by decide +kernel
theorem dX0_lookUp_155 : decode cX0_lookUp 155 = .ok (.ireturn, 1) := by decide +kernel
end
section
set_option maxRecDepth 100000
theorem dX0_secondPart_0 : decode cX0_secondPart 0 = .ok (.iload_n 1, 1) := by decide +kernel
theorem dX0_secondPart_1 : decode cX0_secondPart 1 = .ok (.iconst 1, 1) := by decide +kernel
theorem dX0_secondPart_2 : decode cX0_secondPart 2 = .ok (.iadd, 1) := by decide +kernel
theorem dX0_secondPart_3 : decode cX0_secondPart 3 = .ok (.aload_n 0, 1) := by decide +kernel
theorem dX0_secondPart_4 : decode cX0_secondPart 4 = .ok (.getfield 22, 3) := by decide +kernel
theorem dX0_secondPart_7 : decode cX0_secondPart 7 = .ok (.iload_n 1, 1) := by decide +kernel
theorem dX0_secondPart_8 : decode cX0_secondPart 8 = .ok (.iconst 1, 1) := by decide +kernel
theorem dX0_secondPart_9 : decode cX0_secondPart 9 = .ok (.iadd, 1) := by decide +kernel
theorem dX0_secondPart_10 : decode cX0_secondPart 10 = .ok (.baload, 1) := by decide +kernel
theorem dX0_secondPart_11 : decode cX0_secondPart 11 = .ok (.iadd, 1) := by decide +kernel
theorem dX0_secondPart_12 : decode cX0_secondPart 12 = .ok (.ireturn, 1) := by decide +kernel
theorem dX0_combine_0 : decode cX0_combine 0 = .ok (.lconst 0, 1) := by decide +kernel
theorem dX0_combine_1 : decode cX0_combine 1 = .ok (.lstore 6, 2) := by decide +kernel
theorem dX0_combine_3 : decode cX0_combine 3 = .ok (.iconst 0, 1) := by decide +kernel
theorem dX0_combine_4 : decode cX0_combine 4 = .ok (.istore 8, 2) := by decide +kernel
theorem dX0_combine_6 : decode cX0_combine 6 = .ok (.iload 8, 2) := by decide +kernel
theorem dX0_combine_8 : decode cX0_combine 8 = .ok (.iconst 4, 1) := by decide +kernel
theorem dX0_combine_9 : decode cX0_combine 9 = .ok (.if_icmp .ge 102, 3) := by decide +kernel
theorem dX0_combine_12 : decode cX0_combine 12 = .ok (.aload_n 0, 1) := by decide +kernel
theorem dX0_combine_13 : decode cX0_combine 13 = .ok (.iload 8, 2) := by decide +kernel
theorem dX0_combine_15 : decode cX0_combine 15 = .ok (.invokevirtual 86, 3) := by decide +kernel
theorem dX0_combine_18 : decode cX0_combine 18 = .ok (.ifCond .eq 13, 3) := by decide +kernel
theorem dX0_combine_21 : decode cX0_combine 21 = .ok (.aload_n 0, 1) := by decide +kernel
theorem dX0_combine_22 : decode cX0_combine 22 = .ok (.getfield 7, 3) := by decide +kernel
theorem dX0_combine_25 : decode cX0_combine 25 = .ok (.iload 8, 2) := by decide +kernel
theorem dX0_combine_27 : decode cX0_combine 27 = .ok (.baload, 1) := by decide +kernel
theorem dX0_combine_28 : decode cX0_combine 28 = .ok (.goto 4, 3) := by decide +kernel
theorem dX0_combine_31 : decode cX0_combine 31 = .ok (.iconst 0, 1) := by decide +kernel
theorem dX0_combine_32 : decode cX0_combine 32 = .ok (.istore 9, 2) := by decide +kernel
theorem dX0_combine_34 : decode cX0_combine 34 = .ok (.iconst 0, 1) := by decide +kernel
theorem dX0_combine_35 : decode cX0_combine 35 = .ok (.istore 10, 2) := by decide +kernel
theorem dX0_combine_37 : decode cX0_combine 37 = .ok (.iload 10, 2) := by decide +kernel
theorem dX0_combine_39 : decode cX0_combine 39 = .ok (.iload 9, 2) := by decide +kernel
theorem dX0_combine_41 : decode cX0_combine 41 = .ok (.if_icmp .ge 64, 3) := by decide +kernel
theorem dX0_combine_44 : decode cX0_combine 44 = .ok (.iload 8, 2) := by decide +kernel
theorem dX0_combine_46 : decode cX0_combine 46 = .ok (.bipush 9, 2) := by decide +kernel
theorem dX0_combine_48 : decode cX0_combine 48 = .ok (.imul, 1) := by decide +kernel
theorem dX0_combine_49 : decode cX0_combine 49 = .ok (.iload 10, 2) := by decide +kernel
theorem dX0_combine_51 : decode cX0_combine 51 = .ok (.iadd, 1) := by decide +kernel
theorem dX0_combine_52 : decode cX0_combine 52 = .ok (.istore 11, 2) := by decide +kernel
theorem dX0_combine_54 : decode cX0_combine 54 = .ok (.aload_n 0, 1) := by decide +kernel
theorem dX0_combine_55 : decode cX0_combine 55 = .ok (.getfield 13, 3) := by decide +kernel
theorem dX0_combine_58 : decode cX0_combine 58 = .ok (.iload 11, 2) := by decide +kernel
theorem dX0_combine_60 : decode cX0_combine 60 = .ok (.baload, 1) := by decide +kernel
theorem dX0_combine_61 : decode cX0_combine 61 = .ok (.bipush 7, 2) := by decide +kernel
theorem dX0_combine_63 : decode cX0_combine 63 = .ok (.if_icmp .eq 27, 3) := by decide +kernel
theorem dX0_combine_66 : decode cX0_combine 66 = .ok (.aload_n 0, 1) := by decide +kernel
theorem dX0_combine_67 : decode cX0_combine 67 = .ok (.getfield 13, 3) := by decide +kernel
theorem dX0_combine_70 : decode cX0_combine 70 = .ok (.iload 11, 2) := by decide +kernel
theorem dX0_combine_72 : decode cX0_combine 72 = .ok (.baload, 1) := by decide +kernel
theorem dX0_combine_73 : decode cX0_combine 73 = .ok (.iload_n 1, 1) := by decide +kernel
theorem dX0_combine_74 : decode cX0_combine 74 = .ok (.if_icmp .ne 25, 3) := by decide +kernel
theorem dX0_combine_77 : decode cX0_combine 77 = .ok (.aload_n 0, 1) := by decide +kernel
theorem dX0_combine_78 : decode cX0_combine 78 = .ok (.iload 11, 2) := by decide +kernel
theorem dX0_combine_80 : decode cX0_combine 80 = .ok (.iload_n 1, 1) := by decide +kernel
theorem dX0_combine_81 : decode cX0_combine 81 = .ok (.lload_n 2, 1) := by decide +kernel
theorem dX0_combine_82 : decode cX0_combine 82 = .ok (.lload 4, 2) := by decide +kernel
theorem dX0_combine_84 : decode cX0_combine 84 = .ok (.invokevirtual 99, 3) := by decide +kernel
theorem dX0_combine_87 : decode cX0_combine 87 = .ok (.ifCond .eq 12, 3) := by decide +kernel
theorem dX0_combine_90 : decode cX0_combine 90 = .ok (.lload 6, 2) := by decide +kernel
theorem dX0_combine_92 : decode cX0_combine 92 = .ok (.lconst 1, 1) := by decide +kernel
theorem dX0_combine_93 : decode cX0_combine 93 = .ok (.iload 11, 2) := by decide +kernel
theorem dX0_combine_95 : decode cX0_combine 95 = .ok (.lshl, 1) := by decide +kernel
theorem dX0_combine_96 : decode cX0_combine 96 = .ok (.lor, 1) := by decide +kernel
theorem dX0_combine_97 : decode cX0_combine 97 = .ok (.lstore 6, 2) := by decide +kernel
theorem dX0_combine_99 : decode cX0_combine 99 = .ok (.iinc 10 1, 3) := by decide +kernel
theorem dX0_combine_102 : decode cX0_combine 102 = .ok (.goto (-65), 3) := by decide +kernel
theorem dX0_combine_105 : decode cX0_combine 105 = .ok (.iinc 8 1, 3) := by decide +kernel
theorem dX0_combine_108 : decode cX0_combine 108 = .ok (.goto (-102), 3) := by decide +kernel
theorem dX0_combine_111 : decode cX0_combine 111 = .ok (.lload 6, 2) := by decide +kernel
theorem dX0_combine_113 : decode cX0_combine 113 = .ok (.lreturn, 1) := by decide +kernel
theorem dX0_partsFit_0 : decode cX0_partsFit 0 = .ok (.iload_n 2, 1) := by decide +kernel
theorem dX0_partsFit_1 : decode cX0_partsFit 1 = .ok (.invokestatic 41, 3) := by decide +kernel
theorem dX0_partsFit_4 : decode cX0_partsFit 4 = .ok (.istore 7, 2) := by decide +kernel
theorem dX0_partsFit_6 : decode cX0_partsFit 6 = .ok (.iload 7, 2) := by decide +kernel
theorem dX0_partsFit_8 : decode cX0_partsFit 8 = .ok (.ifCond .le 17, 3) := by decide +kernel
theorem dX0_partsFit_11 : decode cX0_partsFit 11 = .ok (.lload_n 3, 1) := by decide +kernel
theorem dX0_partsFit_12 : decode cX0_partsFit 12 = .ok (.iload_n 1, 1) := by decide +kernel
theorem dX0_partsFit_13 : decode cX0_partsFit 13 = .ok (.iconst 1, 1) := by decide +kernel
theorem dX0_partsFit_14 : decode cX0_partsFit 14 = .ok (.iadd, 1) := by decide +kernel
theorem dX0_partsFit_15 : decode cX0_partsFit 15 = .ok (.lushr, 1) := by decide +kernel
theorem dX0_partsFit_16 : decode cX0_partsFit 16 = .ok (.lconst 1, 1) := by decide +kernel
theorem dX0_partsFit_17 : decode cX0_partsFit 17 = .ok (.land, 1) := by decide +kernel
theorem dX0_partsFit_18 : decode cX0_partsFit 18 = .ok (.lconst 0, 1) := by decide +kernel
theorem dX0_partsFit_19 : decode cX0_partsFit 19 = .ok (.lcmp, 1) := by decide +kernel
theorem dX0_partsFit_20 : decode cX0_partsFit 20 = .ok (.ifCond .ne 5, 3) := by decide +kernel
theorem dX0_partsFit_23 : decode cX0_partsFit 23 = .ok (.iconst 0, 1) := by decide +kernel
theorem dX0_partsFit_24 : decode cX0_partsFit 24 = .ok (.ireturn, 1) := by decide +kernel
theorem dX0_partsFit_25 : decode cX0_partsFit 25 = .ok (.iload 7, 2) := by decide +kernel
theorem dX0_partsFit_27 : decode cX0_partsFit 27 = .ok (.iconst 2, 1) := by decide +kernel
theorem dX0_partsFit_28 : decode cX0_partsFit 28 = .ok (.if_icmp .lt 25, 3) := by decide +kernel
theorem dX0_partsFit_31 : decode cX0_partsFit 31 = .ok (.lload 5, 2) := by decide +kernel
theorem dX0_partsFit_33 : decode cX0_partsFit 33 = .ok (.iload_n 1, 1) := by decide +kernel
theorem dX0_partsFit_34 : decode cX0_partsFit 34 = .ok (.iconst 1, 1) := by decide +kernel
theorem dX0_partsFit_35 : decode cX0_partsFit 35 = .ok (.iadd, 1) := by decide +kernel
theorem dX0_partsFit_36 : decode cX0_partsFit 36 = .ok (.aload_n 0, 1) := by decide +kernel
theorem dX0_partsFit_37 : decode cX0_partsFit 37 = .ok (.getfield 16, 3) := by decide +kernel
theorem dX0_partsFit_40 : decode cX0_partsFit 40 = .ok (.iload_n 1, 1) := by decide +kernel
theorem dX0_partsFit_41 : decode cX0_partsFit 41 = .ok (.iconst 1, 1) := by decide +kernel
theorem dX0_partsFit_42 : decode cX0_partsFit 42 = .ok (.iadd, 1) := by decide +kernel
theorem dX0_partsFit_43 : decode cX0_partsFit 43 = .ok (.baload, 1) := by decide +kernel
theorem dX0_partsFit_44 : decode cX0_partsFit 44 = .ok (.iadd, 1) := by decide +kernel
theorem dX0_partsFit_45 : decode cX0_partsFit 45 = .ok (.lushr, 1) := by decide +kernel
theorem dX0_partsFit_46 : decode cX0_partsFit 46 = .ok (.lconst 1, 1) := by decide +kernel
theorem dX0_partsFit_47 : decode cX0_partsFit 47 = .ok (.land, 1) := by decide +kernel
theorem dX0_partsFit_48 : decode cX0_partsFit 48 = .ok (.lconst 0, 1) := by decide +kernel
theorem dX0_partsFit_49 : decode cX0_partsFit 49 = .ok (.lcmp, 1) := by decide +kernel
theorem dX0_partsFit_50 : decode cX0_partsFit 50 = .ok (.ifCond .eq 7, 3) := by decide +kernel
theorem dX0_partsFit_53 : decode cX0_partsFit 53 = .ok (.iconst 1, 1) := by decide +kernel
theorem dX0_partsFit_54 : decode cX0_partsFit 54 = .ok (.goto 4, 3) := by decide +kernel
theorem dX0_partsFit_57 : decode cX0_partsFit 57 = .ok (.iconst 0, 1) := by decide +kernel
theorem dX0_partsFit_58 : decode cX0_partsFit 58 = .ok (.ireturn, 1) := by decide +kernel
theorem dX0_stateOf_0 : decode cX0_stateOf 0 = .ok (.iconst 0, 1) := by decide +kernel
theorem dX0_stateOf_1 : decode cX0_stateOf 1 = .ok (.istore_n 3, 1) := by decide +kernel
theorem dX0_stateOf_2 : decode cX0_stateOf 2 = .ok (.iload_n 3, 1) := by decide +kernel
theorem dX0_stateOf_3 : decode cX0_stateOf 3 = .ok (.aload_n 0, 1) := by decide +kernel
theorem dX0_stateOf_4 : decode cX0_stateOf 4 = .ok (.getfield 72, 3) := by decide +kernel
theorem dX0_stateOf_7 : decode cX0_stateOf 7 = .ok (.if_icmp .ge 22, 3) := by decide +kernel
theorem dX0_stateOf_10 : decode cX0_stateOf 10 = .ok (.aload_n 0, 1) := by decide +kernel
theorem dX0_stateOf_11 : decode cX0_stateOf 11 = .ok (.getfield 25, 3) := by decide +kernel
theorem dX0_stateOf_14 : decode cX0_stateOf 14 = .ok (.iload_n 3, 1) := by decide +kernel
theorem dX0_stateOf_15 : decode cX0_stateOf 15 = .ok (.laload, 1) := by decide +kernel
theorem dX0_stateOf_16 : decode cX0_stateOf 16 = .ok (.lload_n 1, 1) := by decide +kernel
theorem dX0_stateOf_17 : decode cX0_stateOf 17 = .ok (.lcmp, 1) := by decide +kernel
theorem dX0_stateOf_18 : decode cX0_stateOf 18 = .ok (.ifCond .ne 5, 3) := by decide +kernel
theorem dX0_stateOf_21 : decode cX0_stateOf 21 = .ok (.iload_n 3, 1) := by decide +kernel
theorem dX0_stateOf_22 : decode cX0_stateOf 22 = .ok (.ireturn, 1) := by decide +kernel
theorem dX0_stateOf_23 : decode cX0_stateOf 23 = .ok (.iinc 3 1, 3) := by decide +kernel
theorem dX0_stateOf_26 : decode cX0_stateOf 26 = .ok (.goto (-24), 3) := by decide +kernel
theorem dX0_stateOf_29 : decode cX0_stateOf 29 = .ok (.aload_n 0, 1) := by decide +kernel
theorem dX0_stateOf_30 : decode cX0_stateOf 30 = .ok (.getfield 25, 3) := by decide +kernel
theorem dX0_stateOf_33 : decode cX0_stateOf 33 = .ok (.aload_n 0, 1) := by decide +kernel
theorem dX0_stateOf_34 : decode cX0_stateOf 34 = .ok (.getfield 72, 3) := by decide +kernel
theorem dX0_stateOf_37 : decode cX0_stateOf 37 = .ok (.lload_n 1, 1) := by decide +kernel
theorem dX0_stateOf_38 : decode cX0_stateOf 38 = .ok (.lastore, 1) := by decide +kernel
theorem dX0_stateOf_39 : decode cX0_stateOf 39 = .ok (.aload_n 0, 1) := by decide +kernel
theorem dX0_stateOf_40 : decode cX0_stateOf 40 = .ok (.dup, 1) := by decide +kernel
theorem dX0_stateOf_41 : decode cX0_stateOf 41 = .ok (.getfield 72, 3) := by decide +kernel
theorem dX0_stateOf_44 : decode cX0_stateOf 44 = .ok (.iconst 1, 1) := by decide +kernel
theorem dX0_stateOf_45 : decode cX0_stateOf 45 = .ok (.iadd, 1) := by decide +kernel
theorem dX0_stateOf_46 : decode cX0_stateOf 46 = .ok (.putfield 72, 3) := by decide +kernel
theorem dX0_stateOf_49 : decode cX0_stateOf 49 = .ok (.aload_n 0, 1) := by decide +kernel
theorem dX0_stateOf_50 : decode cX0_stateOf 50 = .ok (.getfield 72, 3) := by decide +kernel
theorem dX0_stateOf_53 : decode cX0_stateOf 53 = .ok (.iconst 1, 1) := by decide +kernel
theorem dX0_stateOf_54 : decode cX0_stateOf 54 = .ok (.isub, 1) := by decide +kernel
theorem dX0_stateOf_55 : decode cX0_stateOf 55 = .ok (.ireturn, 1) := by decide +kernel
theorem dX0_wholePatterns_0 : decode cX0_wholePatterns 0 = .ok (.iconst 0, 1) := by decide +kernel
theorem dX0_wholePatterns_1 : decode cX0_wholePatterns 1 = .ok (.istore_n 2, 1) := by decide +kernel
theorem dX0_wholePatterns_2 : decode cX0_wholePatterns 2 = .ok (.iconst 0, 1) := by decide +kernel
theorem dX0_wholePatterns_3 : decode cX0_wholePatterns 3 = .ok (.istore_n 3, 1) := by decide +kernel
theorem dX0_wholePatterns_4 : decode cX0_wholePatterns 4 = .ok (.iload_n 3, 1) := by decide +kernel
theorem dX0_wholePatterns_5 : decode cX0_wholePatterns 5 = .ok (.iconst 4, 1) := by decide +kernel
theorem dX0_wholePatterns_6 : decode cX0_wholePatterns 6 = .ok (.if_icmp .ge 23, 3) := by decide +kernel
theorem dX0_wholePatterns_9 : decode cX0_wholePatterns 9 = .ok (.iload_n 2, 1) := by decide +kernel
theorem dX0_wholePatterns_10 : decode cX0_wholePatterns 10 = .ok (.lload_n 0, 1) := by decide +kernel
theorem dX0_wholePatterns_11 : decode cX0_wholePatterns 11 = .ok (.iload_n 3, 1) := by decide +kernel
theorem dX0_wholePatterns_12 : decode cX0_wholePatterns 12 = .ok (.bipush 9, 2) := by decide +kernel
theorem dX0_wholePatterns_14 : decode cX0_wholePatterns 14 = .ok (.imul, 1) := by decide +kernel
theorem dX0_wholePatterns_15 : decode cX0_wholePatterns 15 = .ok (.lushr, 1) := by decide +kernel
theorem dX0_wholePatterns_16 : decode cX0_wholePatterns 16 = .ok (.lconst 1, 1) := by decide +kernel
theorem dX0_wholePatterns_17 : decode cX0_wholePatterns 17 = .ok (.land, 1) := by decide +kernel
theorem dX0_wholePatterns_18 : decode cX0_wholePatterns 18 = .ok (.l2i, 1) := by decide +kernel
theorem dX0_wholePatterns_19 : decode cX0_wholePatterns 19 = .ok (.iload_n 3, 1) := by decide +kernel
theorem dX0_wholePatterns_20 : decode cX0_wholePatterns 20 = .ok (.ishl, 1) := by decide +kernel
theorem dX0_wholePatterns_21 : decode cX0_wholePatterns 21 = .ok (.ior, 1) := by decide +kernel
theorem dX0_wholePatterns_22 : decode cX0_wholePatterns 22 = .ok (.istore_n 2, 1) := by decide +kernel
theorem dX0_wholePatterns_23 : decode cX0_wholePatterns 23 = .ok (.iinc 3 1, 3) := by decide +kernel
theorem dX0_wholePatterns_26 : decode cX0_wholePatterns 26 = .ok (.goto (-22), 3) := by decide +kernel
theorem dX0_wholePatterns_29 : decode cX0_wholePatterns 29 = .ok (.iload_n 2, 1) := by decide +kernel
theorem dX0_wholePatterns_30 : decode cX0_wholePatterns 30 = .ok (.ireturn, 1) := by decide +kernel
theorem dX0_samePart_0 : decode cX0_samePart 0 = .ok (.aload_n 0, 1) := by decide +kernel
theorem dX0_samePart_1 : decode cX0_samePart 1 = .ok (.getfield 19, 3) := by decide +kernel
theorem dX0_samePart_4 : decode cX0_samePart 4 = .ok (.iload_n 1, 1) := by decide +kernel
theorem dX0_samePart_5 : decode cX0_samePart 5 = .ok (.baload, 1) := by decide +kernel
theorem dX0_samePart_6 : decode cX0_samePart 6 = .ok (.invokestatic 41, 3) := by decide +kernel
theorem dX0_samePart_9 : decode cX0_samePart 9 = .ok (.istore_n 3, 1) := by decide +kernel
theorem dX0_samePart_10 : decode cX0_samePart 10 = .ok (.aload_n 0, 1) := by decide +kernel
theorem dX0_samePart_11 : decode cX0_samePart 11 = .ok (.getfield 19, 3) := by decide +kernel
theorem dX0_samePart_14 : decode cX0_samePart 14 = .ok (.iload_n 1, 1) := by decide +kernel
theorem dX0_samePart_15 : decode cX0_samePart 15 = .ok (.baload, 1) := by decide +kernel
theorem dX0_samePart_16 : decode cX0_samePart 16 = .ok (.aload_n 0, 1) := by decide +kernel
theorem dX0_samePart_17 : decode cX0_samePart 17 = .ok (.getfield 19, 3) := by decide +kernel
theorem dX0_samePart_20 : decode cX0_samePart 20 = .ok (.iload_n 2, 1) := by decide +kernel
theorem dX0_samePart_21 : decode cX0_samePart 21 = .ok (.baload, 1) := by decide +kernel
theorem dX0_samePart_22 : decode cX0_samePart 22 = .ok (.if_icmp .ne 26, 3) := by decide +kernel
theorem dX0_samePart_25 : decode cX0_samePart 25 = .ok (.iload_n 3, 1) := by decide +kernel
theorem dX0_samePart_26 : decode cX0_samePart 26 = .ok (.ifCond .le 24, 3) := by decide +kernel
theorem dX0_samePart_29 : decode cX0_samePart 29 = .ok (.aload_n 0, 1) := by decide +kernel
theorem dX0_samePart_30 : decode cX0_samePart 30 = .ok (.getfield 38, 3) := by decide +kernel
theorem dX0_samePart_33 : decode cX0_samePart 33 = .ok (.iload_n 1, 1) := by decide +kernel
theorem dX0_samePart_34 : decode cX0_samePart 34 = .ok (.iconst 1, 1) := by decide +kernel
theorem dX0_samePart_35 : decode cX0_samePart 35 = .ok (.iadd, 1) := by decide +kernel
theorem dX0_samePart_36 : decode cX0_samePart 36 = .ok (.baload, 1) := by decide +kernel
theorem dX0_samePart_37 : decode cX0_samePart 37 = .ok (.aload_n 0, 1) := by decide +kernel
theorem dX0_samePart_38 : decode cX0_samePart 38 = .ok (.getfield 38, 3) := by decide +kernel
theorem dX0_samePart_41 : decode cX0_samePart 41 = .ok (.iload_n 2, 1) := by decide +kernel
theorem dX0_samePart_42 : decode cX0_samePart 42 = .ok (.iconst 1, 1) := by decide +kernel
theorem dX0_samePart_43 : decode cX0_samePart 43 = .ok (.iadd, 1) := by decide +kernel
theorem dX0_samePart_44 : decode cX0_samePart 44 = .ok (.baload, 1) := by decide +kernel
theorem dX0_samePart_45 : decode cX0_samePart 45 = .ok (.if_icmp .eq 5, 3) := by decide +kernel
theorem dX0_samePart_48 : decode cX0_samePart 48 = .ok (.iconst 0, 1) := by decide +kernel
theorem dX0_samePart_49 : decode cX0_samePart 49 = .ok (.ireturn, 1) := by decide +kernel
theorem dX0_samePart_50 : decode cX0_samePart 50 = .ok (.iload_n 3, 1) := by decide +kernel
theorem dX0_samePart_51 : decode cX0_samePart 51 = .ok (.iconst 2, 1) := by decide +kernel
theorem dX0_samePart_52 : decode cX0_samePart 52 = .ok (.if_icmp .lt 26, 3) := by decide +kernel
theorem dX0_samePart_55 : decode cX0_samePart 55 = .ok (.aload_n 0, 1) := by decide +kernel
theorem dX0_samePart_56 : decode cX0_samePart 56 = .ok (.getfield 38, 3) := by decide +kernel
theorem dX0_samePart_59 : decode cX0_samePart 59 = .ok (.aload_n 0, 1) := by decide +kernel
theorem dX0_samePart_60 : decode cX0_samePart 60 = .ok (.iload_n 1, 1) := by decide +kernel
theorem dX0_samePart_61 : decode cX0_samePart 61 = .ok (.invokevirtual 89, 3) := by decide +kernel
theorem dX0_samePart_64 : decode cX0_samePart 64 = .ok (.baload, 1) := by decide +kernel
theorem dX0_samePart_65 : decode cX0_samePart 65 = .ok (.aload_n 0, 1) := by decide +kernel
theorem dX0_samePart_66 : decode cX0_samePart 66 = .ok (.getfield 38, 3) := by decide +kernel
theorem dX0_samePart_69 : decode cX0_samePart 69 = .ok (.aload_n 0, 1) := by decide +kernel
theorem dX0_samePart_70 : decode cX0_samePart 70 = .ok (.iload_n 2, 1) := by decide +kernel
theorem dX0_samePart_71 : decode cX0_samePart 71 = .ok (.invokevirtual 89, 3) := by decide +kernel
theorem dX0_samePart_74 : decode cX0_samePart 74 = .ok (.baload, 1) := by decide +kernel
theorem dX0_samePart_75 : decode cX0_samePart 75 = .ok (.if_icmp .ne 7, 3) := by decide +kernel
theorem dX0_samePart_78 : decode cX0_samePart 78 = .ok (.iconst 1, 1) := by decide +kernel
theorem dX0_samePart_79 : decode cX0_samePart 79 = .ok (.goto 4, 3) := by decide +kernel
theorem dX0_samePart_82 : decode cX0_samePart 82 = .ok (.iconst 0, 1) := by decide +kernel
theorem dX0_samePart_83 : decode cX0_samePart 83 = .ok (.ireturn, 1) := by decide +kernel
theorem dX0_count_0 : decode cX0_count 0 = .ok (.iconst 0, 1) := by decide +kernel
theorem dX0_count_1 : decode cX0_count 1 = .ok (.istore_n 2, 1) := by decide +kernel
theorem dX0_count_2 : decode cX0_count 2 = .ok (.iconst 0, 1) := by decide +kernel
theorem dX0_count_3 : decode cX0_count 3 = .ok (.istore_n 3, 1) := by decide +kernel
theorem dX0_count_4 : decode cX0_count 4 = .ok (.iload_n 3, 1) := by decide +kernel
theorem dX0_count_5 : decode cX0_count 5 = .ok (.aload_n 0, 1) := by decide +kernel
theorem dX0_count_6 : decode cX0_count 6 = .ok (.getfield 45, 3) := by decide +kernel
theorem dX0_count_9 : decode cX0_count 9 = .ok (.if_icmp .ge 28, 3) := by decide +kernel
theorem dX0_count_12 : decode cX0_count 12 = .ok (.iload_n 1, 1) := by decide +kernel
theorem dX0_count_13 : decode cX0_count 13 = .ok (.invokestatic 49, 3) := by decide +kernel
theorem dX0_count_16 : decode cX0_count 16 = .ok (.ifCond .eq 21, 3) := by decide +kernel
theorem dX0_count_19 : decode cX0_count 19 = .ok (.iload_n 2, 1) := by decide +kernel
theorem dX0_count_20 : decode cX0_count 20 = .ok (.aload_n 0, 1) := by decide +kernel
theorem dX0_count_21 : decode cX0_count 21 = .ok (.iload_n 3, 1) := by decide +kernel
theorem dX0_count_22 : decode cX0_count 22 = .ok (.invokevirtual 109, 3) := by decide +kernel
theorem dX0_count_25 : decode cX0_count 25 = .ok (.iload_n 1, 1) := by decide +kernel
theorem dX0_count_26 : decode cX0_count 26 = .ok (.ishr, 1) := by decide +kernel
theorem dX0_count_27 : decode cX0_count 27 = .ok (.iconst 1, 1) := by decide +kernel
theorem dX0_count_28 : decode cX0_count 28 = .ok (.iand, 1) := by decide +kernel
theorem dX0_count_29 : decode cX0_count 29 = .ok (.iadd, 1) := by decide +kernel
theorem dX0_count_30 : decode cX0_count 30 = .ok (.istore_n 2, 1) := by decide +kernel
theorem dX0_count_31 : decode cX0_count 31 = .ok (.iinc 3 1, 3) := by decide +kernel
theorem dX0_count_34 : decode cX0_count 34 = .ok (.goto (-30), 3) := by decide +kernel
theorem dX0_count_37 : decode cX0_count 37 = .ok (.iload_n 2, 1) := by decide +kernel
theorem dX0_count_38 : decode cX0_count 38 = .ok (.ireturn, 1) := by decide +kernel
theorem dX0_next_0 : decode cX0_next 0 = .ok (.iload_n 2, 1) := by decide +kernel
theorem dX0_next_1 : decode cX0_next 1 = .ok (.ifCond .ge 7, 3) := by decide +kernel
theorem dX0_next_4 : decode cX0_next 4 = .ok (.iconst 0, 1) := by decide +kernel
theorem dX0_next_5 : decode cX0_next 5 = .ok (.goto 4, 3) := by decide +kernel
theorem dX0_next_8 : decode cX0_next 8 = .ok (.iload_n 2, 1) := by decide +kernel
theorem dX0_next_9 : decode cX0_next 9 = .ok (.istore_n 3, 1) := by decide +kernel
theorem dX0_next_10 : decode cX0_next 10 = .ok (.iload_n 3, 1) := by decide +kernel
theorem dX0_next_11 : decode cX0_next 11 = .ok (.aload_n 0, 1) := by decide +kernel
theorem dX0_next_12 : decode cX0_next 12 = .ok (.getfield 45, 3) := by decide +kernel
theorem dX0_next_15 : decode cX0_next 15 = .ok (.if_icmp .ge 30, 3) := by decide +kernel
theorem dX0_next_18 : decode cX0_next 18 = .ok (.iload_n 1, 1) := by decide +kernel
theorem dX0_next_19 : decode cX0_next 19 = .ok (.invokestatic 49, 3) := by decide +kernel
theorem dX0_next_22 : decode cX0_next 22 = .ok (.ifCond .eq 23, 3) := by decide +kernel
theorem dX0_next_25 : decode cX0_next 25 = .ok (.aload_n 0, 1) := by decide +kernel
theorem dX0_next_26 : decode cX0_next 26 = .ok (.iload_n 3, 1) := by decide +kernel
theorem dX0_next_27 : decode cX0_next 27 = .ok (.invokevirtual 109, 3) := by decide +kernel
theorem dX0_next_30 : decode cX0_next 30 = .ok (.iload_n 1, 1) := by decide +kernel
theorem dX0_next_31 : decode cX0_next 31 = .ok (.ishr, 1) := by decide +kernel
theorem dX0_next_32 : decode cX0_next 32 = .ok (.iconst 1, 1) := by decide +kernel
theorem dX0_next_33 : decode cX0_next 33 = .ok (.iand, 1) := by decide +kernel
theorem dX0_next_34 : decode cX0_next 34 = .ok (.ifCond .eq 5, 3) := by decide +kernel
theorem dX0_next_37 : decode cX0_next 37 = .ok (.iload_n 3, 1) := by decide +kernel
theorem dX0_next_38 : decode cX0_next 38 = .ok (.ireturn, 1) := by decide +kernel
theorem dX0_next_39 : decode cX0_next 39 = .ok (.iinc 3 1, 3) := by decide +kernel
theorem dX0_next_42 : decode cX0_next 42 = .ok (.goto (-32), 3) := by decide +kernel
theorem dX0_next_45 : decode cX0_next 45 = .ok (.iconst (-1), 1) := by decide +kernel
theorem dX0_next_46 : decode cX0_next 46 = .ok (.ireturn, 1) := by decide +kernel
theorem dX0_gapAt_0 : decode cX0_gapAt 0 = .ok (.iload_n 1, 1) := by decide +kernel
theorem dX0_gapAt_1 : decode cX0_gapAt 1 = .ok (.invokestatic 49, 3) := by decide +kernel
theorem dX0_gapAt_4 : decode cX0_gapAt 4 = .ok (.ifCond .eq 15, 3) := by decide +kernel
theorem dX0_gapAt_7 : decode cX0_gapAt 7 = .ok (.aload_n 0, 1) := by decide +kernel
theorem dX0_gapAt_8 : decode cX0_gapAt 8 = .ok (.iload_n 2, 1) := by decide +kernel
theorem dX0_gapAt_9 : decode cX0_gapAt 9 = .ok (.invokevirtual 109, 3) := by decide +kernel
theorem dX0_gapAt_12 : decode cX0_gapAt 12 = .ok (.iload_n 1, 1) := by decide +kernel
theorem dX0_gapAt_13 : decode cX0_gapAt 13 = .ok (.ishr, 1) := by decide +kernel
theorem dX0_gapAt_14 : decode cX0_gapAt 14 = .ok (.iconst 1, 1) := by decide +kernel
theorem dX0_gapAt_15 : decode cX0_gapAt 15 = .ok (.iand, 1) := by decide +kernel
theorem dX0_gapAt_16 : decode cX0_gapAt 16 = .ok (.ifCond .ne 5, 3) := by decide +kernel
theorem dX0_gapAt_19 : decode cX0_gapAt 19 = .ok (.iconst (-1), 1) := by decide +kernel
theorem dX0_gapAt_20 : decode cX0_gapAt 20 = .ok (.ireturn, 1) := by decide +kernel
theorem dX0_gapAt_21 : decode cX0_gapAt 21 = .ok (.iload_n 2, 1) := by decide +kernel
theorem dX0_gapAt_22 : decode cX0_gapAt 22 = .ok (.istore 4, 2) := by decide +kernel
theorem dX0_gapAt_24 : decode cX0_gapAt 24 = .ok (.iconst 0, 1) := by decide +kernel
theorem dX0_gapAt_25 : decode cX0_gapAt 25 = .ok (.istore 5, 2) := by decide +kernel
theorem dX0_gapAt_27 : decode cX0_gapAt 27 = .ok (.iconst 0, 1) := by decide +kernel
theorem dX0_gapAt_28 : decode cX0_gapAt 28 = .ok (.istore 6, 2) := by decide +kernel
theorem dX0_gapAt_30 : decode cX0_gapAt 30 = .ok (.iload 6, 2) := by decide +kernel
theorem dX0_gapAt_32 : decode cX0_gapAt 32 = .ok (.aload_n 0, 1) := by decide +kernel
theorem dX0_gapAt_33 : decode cX0_gapAt 33 = .ok (.getfield 7, 3) := by decide +kernel
theorem dX0_gapAt_36 : decode cX0_gapAt 36 = .ok (.iload_n 1, 1) := by decide +kernel
theorem dX0_gapAt_37 : decode cX0_gapAt 37 = .ok (.baload, 1) := by decide +kernel
theorem dX0_gapAt_38 : decode cX0_gapAt 38 = .ok (.if_icmp .ge 56, 3) := by decide +kernel
theorem dX0_gapAt_41 : decode cX0_gapAt 41 = .ok (.aload_n 0, 1) := by decide +kernel
theorem dX0_gapAt_42 : decode cX0_gapAt 42 = .ok (.getfield 13, 3) := by decide +kernel
theorem dX0_gapAt_45 : decode cX0_gapAt 45 = .ok (.iload_n 1, 1) := by decide +kernel
theorem dX0_gapAt_46 : decode cX0_gapAt 46 = .ok (.bipush 9, 2) := by decide +kernel
theorem dX0_gapAt_48 : decode cX0_gapAt 48 = .ok (.imul, 1) := by decide +kernel
theorem dX0_gapAt_49 : decode cX0_gapAt 49 = .ok (.iload 6, 2) := by decide +kernel
theorem dX0_gapAt_51 : decode cX0_gapAt 51 = .ok (.iadd, 1) := by decide +kernel
theorem dX0_gapAt_52 : decode cX0_gapAt 52 = .ok (.baload, 1) := by decide +kernel
theorem dX0_gapAt_53 : decode cX0_gapAt 53 = .ok (.bipush 7, 2) := by decide +kernel
theorem dX0_gapAt_55 : decode cX0_gapAt 55 = .ok (.if_icmp .ne 30, 3) := by decide +kernel
theorem dX0_gapAt_58 : decode cX0_gapAt 58 = .ok (.iload 5, 2) := by decide +kernel
theorem dX0_gapAt_60 : decode cX0_gapAt 60 = .ok (.iload_n 3, 1) := by decide +kernel
theorem dX0_gapAt_61 : decode cX0_gapAt 61 = .ok (.if_icmp .ne 6, 3) := by decide +kernel
theorem dX0_gapAt_64 : decode cX0_gapAt 64 = .ok (.iload 4, 2) := by decide +kernel
theorem dX0_gapAt_66 : decode cX0_gapAt 66 = .ok (.ireturn, 1) := by decide +kernel
theorem dX0_gapAt_67 : decode cX0_gapAt 67 = .ok (.iinc 5 1, 3) := by decide +kernel
theorem dX0_gapAt_70 : decode cX0_gapAt 70 = .ok (.iload 4, 2) := by decide +kernel
theorem dX0_gapAt_72 : decode cX0_gapAt 72 = .ok (.aload_n 0, 1) := by decide +kernel
theorem dX0_gapAt_73 : decode cX0_gapAt 73 = .ok (.getfield 22, 3) := by decide +kernel
theorem dX0_gapAt_76 : decode cX0_gapAt 76 = .ok (.iload 4, 2) := by decide +kernel
theorem dX0_gapAt_78 : decode cX0_gapAt 78 = .ok (.baload, 1) := by decide +kernel
theorem dX0_gapAt_79 : decode cX0_gapAt 79 = .ok (.iadd, 1) := by decide +kernel
theorem dX0_gapAt_80 : decode cX0_gapAt 80 = .ok (.istore 4, 2) := by decide +kernel
theorem dX0_gapAt_82 : decode cX0_gapAt 82 = .ok (.goto 6, 3) := by decide +kernel
theorem dX0_gapAt_85 : decode cX0_gapAt 85 = .ok (.iinc 4 1, 3) := by decide +kernel
theorem dX0_gapAt_88 : decode cX0_gapAt 88 = .ok (.iinc 6 1, 3) := by decide +kernel
theorem dX0_gapAt_91 : decode cX0_gapAt 91 = .ok (.goto (-61), 3) := by decide +kernel
theorem dX0_gapAt_94 : decode cX0_gapAt 94 = .ok (.iconst (-1), 1) := by decide +kernel
theorem dX0_gapAt_95 : decode cX0_gapAt 95 = .ok (.ireturn, 1) := by decide +kernel
theorem dX0_size_0 : decode cX0_size 0 = .ok (.aload_n 0, 1) := by decide +kernel
theorem dX0_size_1 : decode cX0_size 1 = .ok (.iload_n 1, 1) := by decide +kernel
theorem dX0_size_2 : decode cX0_size 2 = .ok (.invokevirtual 106, 3) := by decide +kernel
theorem dX0_size_5 : decode cX0_size 5 = .ok (.ifCond .eq 12, 3) := by decide +kernel
theorem dX0_size_8 : decode cX0_size 8 = .ok (.aload_n 0, 1) := by decide +kernel
theorem dX0_size_9 : decode cX0_size 9 = .ok (.getfield 22, 3) := by decide +kernel
theorem dX0_size_12 : decode cX0_size 12 = .ok (.iload_n 1, 1) := by decide +kernel
theorem dX0_size_13 : decode cX0_size 13 = .ok (.baload, 1) := by decide +kernel
theorem dX0_size_14 : decode cX0_size 14 = .ok (.goto 4, 3) := by decide +kernel
theorem dX0_size_17 : decode cX0_size 17 = .ok (.iconst (-1), 1) := by decide +kernel
theorem dX0_size_18 : decode cX0_size 18 = .ok (.ireturn, 1) := by decide +kernel
theorem dX0_equal_0 : decode cX0_equal 0 = .ok (.aload_n 0, 1) := by decide +kernel
theorem dX0_equal_1 : decode cX0_equal 1 = .ok (.iload_n 1, 1) := by decide +kernel
theorem dX0_equal_2 : decode cX0_equal 2 = .ok (.invokevirtual 106, 3) := by decide +kernel
theorem dX0_equal_5 : decode cX0_equal 5 = .ok (.ifCond .eq 30, 3) := by decide +kernel
theorem dX0_equal_8 : decode cX0_equal 8 = .ok (.aload_n 0, 1) := by decide +kernel
theorem dX0_equal_9 : decode cX0_equal 9 = .ok (.iload_n 2, 1) := by decide +kernel
theorem dX0_equal_10 : decode cX0_equal 10 = .ok (.invokevirtual 106, 3) := by decide +kernel
theorem dX0_equal_13 : decode cX0_equal 13 = .ok (.ifCond .eq 22, 3) := by decide +kernel
theorem dX0_equal_16 : decode cX0_equal 16 = .ok (.aload_n 0, 1) := by decide +kernel
theorem dX0_equal_17 : decode cX0_equal 17 = .ok (.getfield 38, 3) := by decide +kernel
theorem dX0_equal_20 : decode cX0_equal 20 = .ok (.iload_n 1, 1) := by decide +kernel
theorem dX0_equal_21 : decode cX0_equal 21 = .ok (.baload, 1) := by decide +kernel
theorem dX0_equal_22 : decode cX0_equal 22 = .ok (.aload_n 0, 1) := by decide +kernel
theorem dX0_equal_23 : decode cX0_equal 23 = .ok (.getfield 38, 3) := by decide +kernel
theorem dX0_equal_26 : decode cX0_equal 26 = .ok (.iload_n 2, 1) := by decide +kernel
theorem dX0_equal_27 : decode cX0_equal 27 = .ok (.baload, 1) := by decide +kernel
theorem dX0_equal_28 : decode cX0_equal 28 = .ok (.if_icmp .ne 7, 3) := by decide +kernel
theorem dX0_equal_31 : decode cX0_equal 31 = .ok (.iconst 1, 1) := by decide +kernel
theorem dX0_equal_32 : decode cX0_equal 32 = .ok (.goto 4, 3) := by decide +kernel
theorem dX0_equal_35 : decode cX0_equal 35 = .ok (.iconst 0, 1) := by decide +kernel
theorem dX0_equal_36 : decode cX0_equal 36 = .ok (.ireturn, 1) := by decide +kernel
theorem dX0_kinds_0 : decode cX0_kinds 0 = .ok (.aload_n 0, 1) := by decide +kernel
theorem dX0_kinds_1 : decode cX0_kinds 1 = .ok (.invokevirtual 103, 3) := by decide +kernel
theorem dX0_kinds_4 : decode cX0_kinds 4 = .ok (.ifCond .ne 5, 3) := by decide +kernel
theorem dX0_kinds_7 : decode cX0_kinds 7 = .ok (.iconst 0, 1) := by decide +kernel
theorem dX0_kinds_8 : decode cX0_kinds 8 = .ok (.ireturn, 1) := by decide +kernel
theorem dX0_kinds_9 : decode cX0_kinds 9 = .ok (.iconst 0, 1) := by decide +kernel
theorem dX0_kinds_10 : decode cX0_kinds 10 = .ok (.istore_n 1, 1) := by decide +kernel
theorem dX0_kinds_11 : decode cX0_kinds 11 = .ok (.iconst 0, 1) := by decide +kernel
theorem dX0_kinds_12 : decode cX0_kinds 12 = .ok (.istore_n 2, 1) := by decide +kernel
theorem dX0_kinds_13 : decode cX0_kinds 13 = .ok (.iload_n 2, 1) := by decide +kernel
theorem dX0_kinds_14 : decode cX0_kinds 14 = .ok (.aload_n 0, 1) := by decide +kernel
theorem dX0_kinds_15 : decode cX0_kinds 15 = .ok (.getfield 45, 3) := by decide +kernel
theorem dX0_kinds_18 : decode cX0_kinds 18 = .ok (.if_icmp .ge 20, 3) := by decide +kernel
theorem dX0_kinds_21 : decode cX0_kinds 21 = .ok (.iload_n 1, 1) := by decide +kernel
theorem dX0_kinds_22 : decode cX0_kinds 22 = .ok (.iconst 1, 1) := by decide +kernel
theorem dX0_kinds_23 : decode cX0_kinds 23 = .ok (.aload_n 0, 1) := by decide +kernel
theorem dX0_kinds_24 : decode cX0_kinds 24 = .ok (.getfield 35, 3) := by decide +kernel
theorem dX0_kinds_27 : decode cX0_kinds 27 = .ok (.iload_n 2, 1) := by decide +kernel
theorem dX0_kinds_28 : decode cX0_kinds 28 = .ok (.baload, 1) := by decide +kernel
theorem dX0_kinds_29 : decode cX0_kinds 29 = .ok (.ishl, 1) := by decide +kernel
theorem dX0_kinds_30 : decode cX0_kinds 30 = .ok (.ior, 1) := by decide +kernel
theorem dX0_kinds_31 : decode cX0_kinds 31 = .ok (.istore_n 1, 1) := by decide +kernel
theorem dX0_kinds_32 : decode cX0_kinds 32 = .ok (.iinc 2 1, 3) := by decide +kernel
theorem dX0_kinds_35 : decode cX0_kinds 35 = .ok (.goto (-22), 3) := by decide +kernel
theorem dX0_kinds_38 : decode cX0_kinds 38 = .ok (.iconst 0, 1) := by decide +kernel
theorem dX0_kinds_39 : decode cX0_kinds 39 = .ok (.istore_n 2, 1) := by decide +kernel
theorem dX0_kinds_40 : decode cX0_kinds 40 = .ok (.iconst 0, 1) := by decide +kernel
theorem dX0_kinds_41 : decode cX0_kinds 41 = .ok (.istore_n 3, 1) := by decide +kernel
theorem dX0_kinds_42 : decode cX0_kinds 42 = .ok (.iload_n 3, 1) := by decide +kernel
theorem dX0_kinds_43 : decode cX0_kinds 43 = .ok (.bipush 16, 2) := by decide +kernel
theorem dX0_kinds_45 : decode cX0_kinds 45 = .ok (.if_icmp .ge 17, 3) := by decide +kernel
theorem dX0_kinds_48 : decode cX0_kinds 48 = .ok (.iload_n 2, 1) := by decide +kernel
theorem dX0_kinds_49 : decode cX0_kinds 49 = .ok (.iload_n 1, 1) := by decide +kernel
theorem dX0_kinds_50 : decode cX0_kinds 50 = .ok (.iload_n 3, 1) := by decide +kernel
theorem dX0_kinds_51 : decode cX0_kinds 51 = .ok (.ishr, 1) := by decide +kernel
theorem dX0_kinds_52 : decode cX0_kinds 52 = .ok (.iconst 1, 1) := by decide +kernel
theorem dX0_kinds_53 : decode cX0_kinds 53 = .ok (.iand, 1) := by decide +kernel
theorem dX0_kinds_54 : decode cX0_kinds 54 = .ok (.iadd, 1) := by decide +kernel
theorem dX0_kinds_55 : decode cX0_kinds 55 = .ok (.istore_n 2, 1) := by decide +kernel
theorem dX0_kinds_56 : decode cX0_kinds 56 = .ok (.iinc 3 1, 3) := by decide +kernel
theorem dX0_kinds_59 : decode cX0_kinds 59 = .ok (.goto (-17), 3) := by decide +kernel
theorem dX0_kinds_62 : decode cX0_kinds 62 = .ok (.iload_n 2, 1) := by decide +kernel
theorem dX0_kinds_63 : decode cX0_kinds 63 = .ok (.ireturn, 1) := by decide +kernel
theorem dX0_covers_0 : decode cX0_covers 0 = .ok (.aload_n 0, 1) := by decide +kernel
theorem dX0_covers_1 : decode cX0_covers 1 = .ok (.iload_n 1, 1) := by decide +kernel
theorem dX0_covers_2 : decode cX0_covers 2 = .ok (.invokevirtual 86, 3) := by decide +kernel
theorem dX0_covers_5 : decode cX0_covers 5 = .ok (.ifCond .eq 11, 3) := by decide +kernel
theorem dX0_covers_8 : decode cX0_covers 8 = .ok (.aload_n 0, 1) := by decide +kernel
theorem dX0_covers_9 : decode cX0_covers 9 = .ok (.iload_n 2, 1) := by decide +kernel
theorem dX0_covers_10 : decode cX0_covers 10 = .ok (.invokevirtual 86, 3) := by decide +kernel
theorem dX0_covers_13 : decode cX0_covers 13 = .ok (.ifCond .ne 5, 3) := by decide +kernel
theorem dX0_covers_16 : decode cX0_covers 16 = .ok (.iconst 0, 1) := by decide +kernel
theorem dX0_covers_17 : decode cX0_covers 17 = .ok (.ireturn, 1) := by decide +kernel
theorem dX0_covers_18 : decode cX0_covers 18 = .ok (.aload_n 0, 1) := by decide +kernel
theorem dX0_covers_19 : decode cX0_covers 19 = .ok (.iload_n 2, 1) := by decide +kernel
theorem dX0_covers_20 : decode cX0_covers 20 = .ok (.invokevirtual 68, 3) := by decide +kernel
theorem dX0_covers_23 : decode cX0_covers 23 = .ok (.iconst 0, 1) := by decide +kernel
theorem dX0_covers_24 : decode cX0_covers 24 = .ok (.istore_n 3, 1) := by decide +kernel
theorem dX0_covers_25 : decode cX0_covers 25 = .ok (.iconst 0, 1) := by decide +kernel
theorem dX0_covers_26 : decode cX0_covers 26 = .ok (.istore 4, 2) := by decide +kernel
theorem dX0_covers_28 : decode cX0_covers 28 = .ok (.iload 4, 2) := by decide +kernel
theorem dX0_covers_30 : decode cX0_covers 30 = .ok (.aload_n 0, 1) := by decide +kernel
theorem dX0_covers_31 : decode cX0_covers 31 = .ok (.getfield 7, 3) := by decide +kernel
theorem dX0_covers_34 : decode cX0_covers 34 = .ok (.iload_n 1, 1) := by decide +kernel
theorem dX0_covers_35 : decode cX0_covers 35 = .ok (.baload, 1) := by decide +kernel
theorem dX0_covers_36 : decode cX0_covers 36 = .ok (.if_icmp .ge 71, 3) := by decide +kernel
theorem dX0_covers_39 : decode cX0_covers 39 = .ok (.aload_n 0, 1) := by decide +kernel
theorem dX0_covers_40 : decode cX0_covers 40 = .ok (.getfield 13, 3) := by decide +kernel
theorem dX0_covers_43 : decode cX0_covers 43 = .ok (.iload_n 1, 1) := by decide +kernel
theorem dX0_covers_44 : decode cX0_covers 44 = .ok (.bipush 9, 2) := by decide +kernel
theorem dX0_covers_46 : decode cX0_covers 46 = .ok (.imul, 1) := by decide +kernel
theorem dX0_covers_47 : decode cX0_covers 47 = .ok (.iload 4, 2) := by decide +kernel
theorem dX0_covers_49 : decode cX0_covers 49 = .ok (.iadd, 1) := by decide +kernel
theorem dX0_covers_50 : decode cX0_covers 50 = .ok (.baload, 1) := by decide +kernel
theorem dX0_covers_51 : decode cX0_covers 51 = .ok (.istore 5, 2) := by decide +kernel
theorem dX0_covers_53 : decode cX0_covers 53 = .ok (.iload 5, 2) := by decide +kernel
theorem dX0_covers_55 : decode cX0_covers 55 = .ok (.bipush 7, 2) := by decide +kernel
theorem dX0_covers_57 : decode cX0_covers 57 = .ok (.if_icmp .ne 20, 3) := by decide +kernel
theorem dX0_covers_60 : decode cX0_covers 60 = .ok (.iload_n 3, 1) := by decide +kernel
theorem dX0_covers_61 : decode cX0_covers 61 = .ok (.aload_n 0, 1) := by decide +kernel
theorem dX0_covers_62 : decode cX0_covers 62 = .ok (.getfield 16, 3) := by decide +kernel
theorem dX0_covers_65 : decode cX0_covers 65 = .ok (.iload_n 2, 1) := by decide +kernel
theorem dX0_covers_66 : decode cX0_covers 66 = .ok (.bipush 9, 2) := by decide +kernel
theorem dX0_covers_68 : decode cX0_covers 68 = .ok (.imul, 1) := by decide +kernel
theorem dX0_covers_69 : decode cX0_covers 69 = .ok (.iload_n 3, 1) := by decide +kernel
theorem dX0_covers_70 : decode cX0_covers 70 = .ok (.iadd, 1) := by decide +kernel
theorem dX0_covers_71 : decode cX0_covers 71 = .ok (.baload, 1) := by decide +kernel
theorem dX0_covers_72 : decode cX0_covers 72 = .ok (.iadd, 1) := by decide +kernel
theorem dX0_covers_73 : decode cX0_covers 73 = .ok (.istore_n 3, 1) := by decide +kernel
theorem dX0_covers_74 : decode cX0_covers 74 = .ok (.goto 27, 3) := by decide +kernel
theorem dX0_covers_77 : decode cX0_covers 77 = .ok (.iload 5, 2) := by decide +kernel
theorem dX0_covers_79 : decode cX0_covers 79 = .ok (.aload_n 0, 1) := by decide +kernel
theorem dX0_covers_80 : decode cX0_covers 80 = .ok (.getfield 13, 3) := by decide +kernel
theorem dX0_covers_83 : decode cX0_covers 83 = .ok (.iload_n 2, 1) := by decide +kernel
theorem dX0_covers_84 : decode cX0_covers 84 = .ok (.bipush 9, 2) := by decide +kernel
theorem dX0_covers_86 : decode cX0_covers 86 = .ok (.imul, 1) := by decide +kernel
theorem dX0_covers_87 : decode cX0_covers 87 = .ok (.iload_n 3, 1) := by decide +kernel
theorem dX0_covers_88 : decode cX0_covers 88 = .ok (.iadd, 1) := by decide +kernel
theorem dX0_covers_89 : decode cX0_covers 89 = .ok (.baload, 1) := by decide +kernel
theorem dX0_covers_90 : decode cX0_covers 90 = .ok (.if_icmp .ne 9, 3) := by decide +kernel
theorem dX0_covers_93 : decode cX0_covers 93 = .ok (.iinc 3 1, 3) := by decide +kernel
theorem dX0_covers_96 : decode cX0_covers 96 = .ok (.goto 5, 3) := by decide +kernel
theorem dX0_covers_99 : decode cX0_covers 99 = .ok (.iconst 0, 1) := by decide +kernel
theorem dX0_covers_100 : decode cX0_covers 100 = .ok (.ireturn, 1) := by decide +kernel
theorem dX0_covers_101 : decode cX0_covers 101 = .ok (.iinc 4 1, 3) := by decide +kernel
theorem dX0_covers_104 : decode cX0_covers 104 = .ok (.goto (-76), 3) := by decide +kernel
theorem dX0_covers_107 : decode cX0_covers 107 = .ok (.iconst 1, 1) := by decide +kernel
theorem dX0_covers_108 : decode cX0_covers 108 = .ok (.ireturn, 1) := by decide +kernel
theorem dX0_bare_0 : decode cX0_bare 0 = .ok (.aload_n 0, 1) := by decide +kernel
theorem dX0_bare_1 : decode cX0_bare 1 = .ok (.invokevirtual 103, 3) := by decide +kernel
theorem dX0_bare_4 : decode cX0_bare 4 = .ok (.ifCond .ne 5, 3) := by decide +kernel
theorem dX0_bare_7 : decode cX0_bare 7 = .ok (.iconst 0, 1) := by decide +kernel
theorem dX0_bare_8 : decode cX0_bare 8 = .ok (.ireturn, 1) := by decide +kernel
theorem dX0_bare_9 : decode cX0_bare 9 = .ok (.iconst 0, 1) := by decide +kernel
theorem dX0_bare_10 : decode cX0_bare 10 = .ok (.istore_n 1, 1) := by decide +kernel
theorem dX0_bare_11 : decode cX0_bare 11 = .ok (.iconst 0, 1) := by decide +kernel
theorem dX0_bare_12 : decode cX0_bare 12 = .ok (.istore_n 2, 1) := by decide +kernel
theorem dX0_bare_13 : decode cX0_bare 13 = .ok (.iload_n 2, 1) := by decide +kernel
theorem dX0_bare_14 : decode cX0_bare 14 = .ok (.aload_n 0, 1) := by decide +kernel
theorem dX0_bare_15 : decode cX0_bare 15 = .ok (.getfield 45, 3) := by decide +kernel
theorem dX0_bare_18 : decode cX0_bare 18 = .ok (.if_icmp .ge 26, 3) := by decide +kernel
theorem dX0_bare_21 : decode cX0_bare 21 = .ok (.iload_n 1, 1) := by decide +kernel
theorem dX0_bare_22 : decode cX0_bare 22 = .ok (.aload_n 0, 1) := by decide +kernel
theorem dX0_bare_23 : decode cX0_bare 23 = .ok (.getfield 35, 3) := by decide +kernel
theorem dX0_bare_26 : decode cX0_bare 26 = .ok (.iload_n 2, 1) := by decide +kernel
theorem dX0_bare_27 : decode cX0_bare 27 = .ok (.baload, 1) := by decide +kernel
theorem dX0_bare_28 : decode cX0_bare 28 = .ok (.ifCond .ne 7, 3) := by decide +kernel
theorem dX0_bare_31 : decode cX0_bare 31 = .ok (.iconst 1, 1) := by decide +kernel
theorem dX0_bare_32 : decode cX0_bare 32 = .ok (.goto 4, 3) := by decide +kernel
theorem dX0_bare_35 : decode cX0_bare 35 = .ok (.iconst 0, 1) := by decide +kernel
theorem dX0_bare_36 : decode cX0_bare 36 = .ok (.iadd, 1) := by decide +kernel
theorem dX0_bare_37 : decode cX0_bare 37 = .ok (.istore_n 1, 1) := by decide +kernel
theorem dX0_bare_38 : decode cX0_bare 38 = .ok (.iinc 2 1, 3) := by decide +kernel
theorem dX0_bare_41 : decode cX0_bare 41 = .ok (.goto (-28), 3) := by decide +kernel
theorem dX0_bare_44 : decode cX0_bare 44 = .ok (.iload_n 1, 1) := by decide +kernel
theorem dX0_bare_45 : decode cX0_bare 45 = .ok (.ireturn, 1) := by decide +kernel
end
section
/-! PatternTablesModel -/
set_option maxRecDepth 100000
def RX1 : String := "PatternTablesModel"
def TX1 : u_T := fun k => match k with
  | 0 => ("PatternTablesModel", "size", "[I", false)
  | _ => ("PatternTablesModel", "tokens", "[I", false)
def tyX1 : Nat → FieldType := fun k => match k with
  | 0 => .array .int
  | _ => .array .int
abbrev wsX10 : List Cond := u_ws RX1 TX1 2
theorem nmX1 : ∀ a, a < 2 → ∀ b, b < 2 → a ≠ b → (TX1 a).2.1 ≠ (TX1 b).2.1 := by decide +kernel
theorem tyX1_ok : ∀ k, k < 2 → parseFieldDescriptor (TX1 k).2.2.1 = some (tyX1 k) := by decide +kernel
abbrev cX1_init : ByteArray := prog_3_method_1_code
def yX1_init : MethodName := ⟨RX1, "<init>", "()V"⟩
abbrev cX1_extend : ByteArray := prog_3_method_7_code
def yX1_extend : MethodName := ⟨RX1, "extend", "(II)I"⟩
abbrev cX1_pattern : ByteArray := prog_3_method_2_code
def yX1_pattern : MethodName := ⟨RX1, "pattern", "(I)Z"⟩
abbrev cX1_append : ByteArray := prog_3_method_5_code
def yX1_append : MethodName := ⟨RX1, "append", "(III)I"⟩
abbrev cX1_done : ByteArray := prog_3_method_4_code
def yX1_done : MethodName := ⟨RX1, "done", "(I)Z"⟩
abbrev cX1_parts : ByteArray := prog_3_method_3_code
def yX1_parts : MethodName := ⟨RX1, "parts", "(I)I"⟩
abbrev cX1_shorten : ByteArray := prog_3_method_8_code
def yX1_shorten : MethodName := ⟨RX1, "shorten", "(I)I"⟩
abbrev cX1_take : ByteArray := prog_3_method_6_code
def yX1_take : MethodName := ⟨RX1, "take", "(I)I"⟩
abbrev cX1_grow : ByteArray := prog_3_method_9_code
def yX1_grow : MethodName := ⟨RX1, "grow", "(I)I"⟩
abbrev cX1_prune : ByteArray := prog_3_method_10_code
def yX1_prune : MethodName := ⟨RX1, "prune", "()I"⟩
abbrev cX1_complete : ByteArray := prog_3_method_11_code
def yX1_complete : MethodName := ⟨RX1, "complete", "(I)Z"⟩
abbrev cX1_whole : ByteArray := prog_3_method_12_code
def yX1_whole : MethodName := ⟨RX1, "whole", "()Z"⟩
abbrev cX1_fitsAt : ByteArray := prog_3_method_17_code
def yX1_fitsAt : MethodName := ⟨RX1, "fitsAt", "(I)I"⟩
abbrev cX1_fits : ByteArray := prog_3_method_16_code
def yX1_fits : MethodName := ⟨RX1, "fits", "(II)Z"⟩
abbrev cX1_node : ByteArray := prog_3_method_13_code
def yX1_node : MethodName := ⟨RX1, "node", "(I)Z"⟩
abbrev cX1_lies : ByteArray := prog_3_method_15_code
def yX1_lies : MethodName := ⟨RX1, "lies", "(IIII)I"⟩
abbrev cX1_behind : ByteArray := prog_3_method_14_code
def yX1_behind : MethodName := ⟨RX1, "behind", "(II)I"⟩
abbrev cX1_count : ByteArray := prog_3_method_18_code
def yX1_count : MethodName := ⟨RX1, "count", "(I)I"⟩
abbrev cX1_next : ByteArray := prog_3_method_19_code
def yX1_next : MethodName := ⟨RX1, "next", "(II)I"⟩
abbrev cX1_gapAt : ByteArray := prog_3_method_20_code
def yX1_gapAt : MethodName := ⟨RX1, "gapAt", "(III)I"⟩
abbrev cX1_size : ByteArray := prog_3_method_21_code
def yX1_size : MethodName := ⟨RX1, "size", "(I)I"⟩
abbrev cX1_equal : ByteArray := prog_3_method_22_code
def yX1_equal : MethodName := ⟨RX1, "equal", "(II)Z"⟩
abbrev cX1_kinds : ByteArray := prog_3_method_23_code
def yX1_kinds : MethodName := ⟨RX1, "kinds", "()I"⟩
abbrev cX1_covers : ByteArray := prog_3_method_24_code
def yX1_covers : MethodName := ⟨RX1, "covers", "(II)Z"⟩
abbrev cX1_bare : ByteArray := prog_3_method_25_code
def yX1_bare : MethodName := ⟨RX1, "bare", "()I"⟩
theorem q22 : (Jvm.Cond.initialized "PatternTablesModel") ∈ lw_all := lw_g (lw_at lw_m1 2 rfl) rfl
theorem q190 : (Jvm.Cond.instantiable "PatternTablesModel" (2 : Nat)) ∈ lw_all := lw_g (lw_at lw_m1 170 rfl) rfl
theorem q192 : (Jvm.Cond.instanceMethod ({ cls := "PatternTablesModel", name := "<init>", desc := "()V" } : Jvm.MethodName)) ∈ lw_all := lw_g (lw_at lw_m1 172 rfl) rfl
theorem q193 : (Jvm.Cond.code ({ cls := "PatternTablesModel", name := "<init>", desc := "()V" } : Jvm.MethodName) prog_3_method_1_code (1 : Nat) (Option.none : Option Jvm.ClassFile.FieldType)) ∈ lw_all := lw_g (lw_at lw_m1 173 rfl) rfl
theorem q194 : (Jvm.Cond.methodLink "PatternTablesModel" (1 : Nat) ({ cls := "java/lang/Object", name := "<init>", desc := "()V" } : Jvm.MethodName)) ∈ lw_all := lw_g (lw_at lw_m1 174 rfl) rfl
theorem q195 : (Jvm.Cond.fieldLink "PatternTablesModel" (7 : Nat) "PatternTablesModel" "size" "[I") ∈ lw_all := lw_g (lw_at lw_m1 175 rfl) rfl
theorem q196 : (Jvm.Cond.fieldLink "PatternTablesModel" (13 : Nat) "PatternTablesModel" "tokens" "[I") ∈ lw_all := lw_g (lw_at lw_m1 176 rfl) rfl
theorem q197 : (Jvm.Cond.lays "PatternTablesModel" "PatternTablesModel" "size" "[I") ∈ lw_all := lw_g (lw_at lw_m1 177 rfl) rfl
theorem q198 : (Jvm.Cond.soleField "PatternTablesModel" "size") ∈ lw_all := lw_g (lw_at lw_m1 178 rfl) rfl
theorem q199 : (Jvm.Cond.lays "PatternTablesModel" "PatternTablesModel" "tokens" "[I") ∈ lw_all := lw_g (lw_at lw_m1 179 rfl) rfl
theorem q200 : (Jvm.Cond.soleField "PatternTablesModel" "tokens") ∈ lw_all := lw_g (lw_at lw_m1 180 rfl) rfl
theorem q201 : (Jvm.Cond.superclass "PatternTablesModel" "java/lang/Object") ∈ lw_all := lw_g (lw_at lw_m1 181 rfl) rfl
theorem q204 : (Jvm.Cond.instanceMethod ({ cls := "PatternTablesModel", name := "extend", desc := "(II)I" } : Jvm.MethodName)) ∈ lw_all := lw_g (lw_at lw_m1 184 rfl) rfl
theorem q205 : (Jvm.Cond.selects "PatternTablesModel" ({ cls := "PatternTablesModel", name := "extend", desc := "(II)I" } : Jvm.MethodName) ({ cls := "PatternTablesModel", name := "extend", desc := "(II)I" } : Jvm.MethodName)) ∈ lw_all := lw_g (lw_at lw_m1 185 rfl) rfl
theorem q206 : (Jvm.Cond.code ({ cls := "PatternTablesModel", name := "extend", desc := "(II)I" } : Jvm.MethodName) prog_3_method_7_code (3 : Nat) (Option.some Jvm.ClassFile.FieldType.int)) ∈ lw_all := lw_g (lw_at lw_m1 186 rfl) rfl
theorem q207 : (Jvm.Cond.methodLink "PatternTablesModel" (24 : Nat) ({ cls := "PatternTablesModel", name := "pattern", desc := "(I)Z" } : Jvm.MethodName)) ∈ lw_all := lw_g (lw_at lw_m1 187 rfl) rfl
theorem q208 : (Jvm.Cond.privateMethod ({ cls := "PatternTablesModel", name := "pattern", desc := "(I)Z" } : Jvm.MethodName)) ∈ lw_tbl := lw_at lw_m1 188 rfl
theorem q209 : (Jvm.Cond.instanceMethod ({ cls := "PatternTablesModel", name := "pattern", desc := "(I)Z" } : Jvm.MethodName)) ∈ lw_all := lw_g (lw_at lw_m1 189 rfl) rfl
theorem q210 : (Jvm.Cond.code ({ cls := "PatternTablesModel", name := "pattern", desc := "(I)Z" } : Jvm.MethodName) prog_3_method_2_code (2 : Nat) (Option.some Jvm.ClassFile.FieldType.boolean)) ∈ lw_all := lw_g (lw_at lw_m1 190 rfl) rfl
theorem q211 : (Jvm.Cond.methodLink "PatternTablesModel" (27 : Nat) ({ cls := "PatternTablesModel", name := "append", desc := "(III)I" } : Jvm.MethodName)) ∈ lw_all := lw_g (lw_at lw_m1 191 rfl) rfl
theorem q212 : (Jvm.Cond.privateMethod ({ cls := "PatternTablesModel", name := "append", desc := "(III)I" } : Jvm.MethodName)) ∈ lw_tbl := lw_at lw_m1 192 rfl
theorem q213 : (Jvm.Cond.instanceMethod ({ cls := "PatternTablesModel", name := "append", desc := "(III)I" } : Jvm.MethodName)) ∈ lw_all := lw_g (lw_at lw_m1 193 rfl) rfl
theorem q214 : (Jvm.Cond.code ({ cls := "PatternTablesModel", name := "append", desc := "(III)I" } : Jvm.MethodName) prog_3_method_5_code (4 : Nat) (Option.some Jvm.ClassFile.FieldType.int)) ∈ lw_all := lw_g (lw_at lw_m1 194 rfl) rfl
theorem q215 : (Jvm.Cond.methodLink "PatternTablesModel" (20 : Nat) ({ cls := "PatternTablesModel", name := "done", desc := "(I)Z" } : Jvm.MethodName)) ∈ lw_all := lw_g (lw_at lw_m1 195 rfl) rfl
theorem q216 : (Jvm.Cond.privateMethod ({ cls := "PatternTablesModel", name := "done", desc := "(I)Z" } : Jvm.MethodName)) ∈ lw_tbl := lw_at lw_m1 196 rfl
theorem q217 : (Jvm.Cond.instanceMethod ({ cls := "PatternTablesModel", name := "done", desc := "(I)Z" } : Jvm.MethodName)) ∈ lw_all := lw_g (lw_at lw_m1 197 rfl) rfl
theorem q218 : (Jvm.Cond.code ({ cls := "PatternTablesModel", name := "done", desc := "(I)Z" } : Jvm.MethodName) prog_3_method_4_code (4 : Nat) (Option.some Jvm.ClassFile.FieldType.boolean)) ∈ lw_all := lw_g (lw_at lw_m1 198 rfl) rfl
theorem q219 : (Jvm.Cond.methodLink "PatternTablesModel" (16 : Nat) ({ cls := "PatternTablesModel", name := "parts", desc := "(I)I" } : Jvm.MethodName)) ∈ lw_all := lw_g (lw_at lw_m1 199 rfl) rfl
theorem q220 : (Jvm.Cond.privateMethod ({ cls := "PatternTablesModel", name := "parts", desc := "(I)I" } : Jvm.MethodName)) ∈ lw_tbl := lw_at lw_m1 200 rfl
theorem q221 : (Jvm.Cond.instanceMethod ({ cls := "PatternTablesModel", name := "parts", desc := "(I)I" } : Jvm.MethodName)) ∈ lw_all := lw_g (lw_at lw_m1 201 rfl) rfl
theorem q222 : (Jvm.Cond.code ({ cls := "PatternTablesModel", name := "parts", desc := "(I)I" } : Jvm.MethodName) prog_3_method_3_code (2 : Nat) (Option.some Jvm.ClassFile.FieldType.int)) ∈ lw_all := lw_g (lw_at lw_m1 202 rfl) rfl
theorem q224 : (Jvm.Cond.instanceMethod ({ cls := "PatternTablesModel", name := "shorten", desc := "(I)I" } : Jvm.MethodName)) ∈ lw_all := lw_g (lw_at lw_m1 204 rfl) rfl
theorem q225 : (Jvm.Cond.selects "PatternTablesModel" ({ cls := "PatternTablesModel", name := "shorten", desc := "(I)I" } : Jvm.MethodName) ({ cls := "PatternTablesModel", name := "shorten", desc := "(I)I" } : Jvm.MethodName)) ∈ lw_all := lw_g (lw_at lw_m1 205 rfl) rfl
theorem q226 : (Jvm.Cond.code ({ cls := "PatternTablesModel", name := "shorten", desc := "(I)I" } : Jvm.MethodName) prog_3_method_8_code (2 : Nat) (Option.some Jvm.ClassFile.FieldType.int)) ∈ lw_all := lw_g (lw_at lw_m1 206 rfl) rfl
theorem q227 : (Jvm.Cond.methodLink "PatternTablesModel" (31 : Nat) ({ cls := "PatternTablesModel", name := "take", desc := "(I)I" } : Jvm.MethodName)) ∈ lw_all := lw_g (lw_at lw_m1 207 rfl) rfl
theorem q228 : (Jvm.Cond.privateMethod ({ cls := "PatternTablesModel", name := "take", desc := "(I)I" } : Jvm.MethodName)) ∈ lw_tbl := lw_at lw_m1 208 rfl
theorem q229 : (Jvm.Cond.instanceMethod ({ cls := "PatternTablesModel", name := "take", desc := "(I)I" } : Jvm.MethodName)) ∈ lw_all := lw_g (lw_at lw_m1 209 rfl) rfl
theorem q230 : (Jvm.Cond.code ({ cls := "PatternTablesModel", name := "take", desc := "(I)I" } : Jvm.MethodName) prog_3_method_6_code (2 : Nat) (Option.some Jvm.ClassFile.FieldType.int)) ∈ lw_all := lw_g (lw_at lw_m1 210 rfl) rfl
theorem q232 : (Jvm.Cond.instanceMethod ({ cls := "PatternTablesModel", name := "grow", desc := "(I)I" } : Jvm.MethodName)) ∈ lw_all := lw_g (lw_at lw_m1 212 rfl) rfl
theorem q233 : (Jvm.Cond.selects "PatternTablesModel" ({ cls := "PatternTablesModel", name := "grow", desc := "(I)I" } : Jvm.MethodName) ({ cls := "PatternTablesModel", name := "grow", desc := "(I)I" } : Jvm.MethodName)) ∈ lw_all := lw_g (lw_at lw_m1 213 rfl) rfl
theorem q234 : (Jvm.Cond.code ({ cls := "PatternTablesModel", name := "grow", desc := "(I)I" } : Jvm.MethodName) prog_3_method_9_code (2 : Nat) (Option.some Jvm.ClassFile.FieldType.int)) ∈ lw_all := lw_g (lw_at lw_m1 214 rfl) rfl
theorem q236 : (Jvm.Cond.instanceMethod ({ cls := "PatternTablesModel", name := "prune", desc := "()I" } : Jvm.MethodName)) ∈ lw_all := lw_g (lw_at lw_m1 216 rfl) rfl
theorem q237 : (Jvm.Cond.selects "PatternTablesModel" ({ cls := "PatternTablesModel", name := "prune", desc := "()I" } : Jvm.MethodName) ({ cls := "PatternTablesModel", name := "prune", desc := "()I" } : Jvm.MethodName)) ∈ lw_all := lw_g (lw_at lw_m1 217 rfl) rfl
theorem q238 : (Jvm.Cond.code ({ cls := "PatternTablesModel", name := "prune", desc := "()I" } : Jvm.MethodName) prog_3_method_10_code (1 : Nat) (Option.some Jvm.ClassFile.FieldType.int)) ∈ lw_all := lw_g (lw_at lw_m1 218 rfl) rfl
theorem q240 : (Jvm.Cond.instanceMethod ({ cls := "PatternTablesModel", name := "complete", desc := "(I)Z" } : Jvm.MethodName)) ∈ lw_all := lw_g (lw_at lw_m1 220 rfl) rfl
theorem q241 : (Jvm.Cond.selects "PatternTablesModel" ({ cls := "PatternTablesModel", name := "complete", desc := "(I)Z" } : Jvm.MethodName) ({ cls := "PatternTablesModel", name := "complete", desc := "(I)Z" } : Jvm.MethodName)) ∈ lw_all := lw_g (lw_at lw_m1 221 rfl) rfl
theorem q242 : (Jvm.Cond.code ({ cls := "PatternTablesModel", name := "complete", desc := "(I)Z" } : Jvm.MethodName) prog_3_method_11_code (2 : Nat) (Option.some Jvm.ClassFile.FieldType.boolean)) ∈ lw_all := lw_g (lw_at lw_m1 222 rfl) rfl
theorem q244 : (Jvm.Cond.instanceMethod ({ cls := "PatternTablesModel", name := "whole", desc := "()Z" } : Jvm.MethodName)) ∈ lw_all := lw_g (lw_at lw_m1 224 rfl) rfl
theorem q245 : (Jvm.Cond.selects "PatternTablesModel" ({ cls := "PatternTablesModel", name := "whole", desc := "()Z" } : Jvm.MethodName) ({ cls := "PatternTablesModel", name := "whole", desc := "()Z" } : Jvm.MethodName)) ∈ lw_all := lw_g (lw_at lw_m1 225 rfl) rfl
theorem q246 : (Jvm.Cond.code ({ cls := "PatternTablesModel", name := "whole", desc := "()Z" } : Jvm.MethodName) prog_3_method_12_code (1 : Nat) (Option.some Jvm.ClassFile.FieldType.boolean)) ∈ lw_all := lw_g (lw_at lw_m1 226 rfl) rfl
theorem q248 : (Jvm.Cond.instanceMethod ({ cls := "PatternTablesModel", name := "fitsAt", desc := "(I)I" } : Jvm.MethodName)) ∈ lw_all := lw_g (lw_at lw_m1 228 rfl) rfl
theorem q249 : (Jvm.Cond.selects "PatternTablesModel" ({ cls := "PatternTablesModel", name := "fitsAt", desc := "(I)I" } : Jvm.MethodName) ({ cls := "PatternTablesModel", name := "fitsAt", desc := "(I)I" } : Jvm.MethodName)) ∈ lw_all := lw_g (lw_at lw_m1 229 rfl) rfl
theorem q250 : (Jvm.Cond.code ({ cls := "PatternTablesModel", name := "fitsAt", desc := "(I)I" } : Jvm.MethodName) prog_3_method_17_code (4 : Nat) (Option.some Jvm.ClassFile.FieldType.int)) ∈ lw_all := lw_g (lw_at lw_m1 230 rfl) rfl
theorem q251 : (Jvm.Cond.methodLink "PatternTablesModel" (45 : Nat) ({ cls := "PatternTablesModel", name := "fits", desc := "(II)Z" } : Jvm.MethodName)) ∈ lw_all := lw_g (lw_at lw_m1 231 rfl) rfl
theorem q252 : (Jvm.Cond.privateMethod ({ cls := "PatternTablesModel", name := "fits", desc := "(II)Z" } : Jvm.MethodName)) ∈ lw_tbl := lw_at lw_m1 232 rfl
theorem q253 : (Jvm.Cond.instanceMethod ({ cls := "PatternTablesModel", name := "fits", desc := "(II)Z" } : Jvm.MethodName)) ∈ lw_all := lw_g (lw_at lw_m1 233 rfl) rfl
theorem q254 : (Jvm.Cond.code ({ cls := "PatternTablesModel", name := "fits", desc := "(II)Z" } : Jvm.MethodName) prog_3_method_16_code (3 : Nat) (Option.some Jvm.ClassFile.FieldType.boolean)) ∈ lw_all := lw_g (lw_at lw_m1 234 rfl) rfl
theorem q255 : (Jvm.Cond.methodLink "PatternTablesModel" (38 : Nat) ({ cls := "PatternTablesModel", name := "node", desc := "(I)Z" } : Jvm.MethodName)) ∈ lw_all := lw_g (lw_at lw_m1 235 rfl) rfl
theorem q256 : (Jvm.Cond.privateMethod ({ cls := "PatternTablesModel", name := "node", desc := "(I)Z" } : Jvm.MethodName)) ∈ lw_tbl := lw_at lw_m1 236 rfl
theorem q257 : (Jvm.Cond.instanceMethod ({ cls := "PatternTablesModel", name := "node", desc := "(I)Z" } : Jvm.MethodName)) ∈ lw_all := lw_g (lw_at lw_m1 237 rfl) rfl
theorem q258 : (Jvm.Cond.code ({ cls := "PatternTablesModel", name := "node", desc := "(I)Z" } : Jvm.MethodName) prog_3_method_13_code (2 : Nat) (Option.some Jvm.ClassFile.FieldType.boolean)) ∈ lw_all := lw_g (lw_at lw_m1 238 rfl) rfl
theorem q259 : (Jvm.Cond.methodLink "PatternTablesModel" (41 : Nat) ({ cls := "PatternTablesModel", name := "lies", desc := "(IIII)I" } : Jvm.MethodName)) ∈ lw_all := lw_g (lw_at lw_m1 239 rfl) rfl
theorem q260 : (Jvm.Cond.privateMethod ({ cls := "PatternTablesModel", name := "lies", desc := "(IIII)I" } : Jvm.MethodName)) ∈ lw_tbl := lw_at lw_m2 0 rfl
theorem q261 : (Jvm.Cond.instanceMethod ({ cls := "PatternTablesModel", name := "lies", desc := "(IIII)I" } : Jvm.MethodName)) ∈ lw_all := lw_g (lw_at lw_m2 1 rfl) rfl
theorem q262 : (Jvm.Cond.code ({ cls := "PatternTablesModel", name := "lies", desc := "(IIII)I" } : Jvm.MethodName) prog_3_method_15_code (8 : Nat) (Option.some Jvm.ClassFile.FieldType.int)) ∈ lw_all := lw_g (lw_at lw_m2 2 rfl) rfl
theorem q263 : (Jvm.Cond.methodLink "PatternTablesModel" (34 : Nat) ({ cls := "PatternTablesModel", name := "behind", desc := "(II)I" } : Jvm.MethodName)) ∈ lw_all := lw_g (lw_at lw_m2 3 rfl) rfl
theorem q264 : (Jvm.Cond.privateMethod ({ cls := "PatternTablesModel", name := "behind", desc := "(II)I" } : Jvm.MethodName)) ∈ lw_tbl := lw_at lw_m2 4 rfl
theorem q265 : (Jvm.Cond.instanceMethod ({ cls := "PatternTablesModel", name := "behind", desc := "(II)I" } : Jvm.MethodName)) ∈ lw_all := lw_g (lw_at lw_m2 5 rfl) rfl
theorem q266 : (Jvm.Cond.code ({ cls := "PatternTablesModel", name := "behind", desc := "(II)I" } : Jvm.MethodName) prog_3_method_14_code (5 : Nat) (Option.some Jvm.ClassFile.FieldType.int)) ∈ lw_all := lw_g (lw_at lw_m2 6 rfl) rfl
theorem q268 : (Jvm.Cond.instanceMethod ({ cls := "PatternTablesModel", name := "count", desc := "(I)I" } : Jvm.MethodName)) ∈ lw_all := lw_g (lw_at lw_m2 8 rfl) rfl
theorem q269 : (Jvm.Cond.selects "PatternTablesModel" ({ cls := "PatternTablesModel", name := "count", desc := "(I)I" } : Jvm.MethodName) ({ cls := "PatternTablesModel", name := "count", desc := "(I)I" } : Jvm.MethodName)) ∈ lw_all := lw_g (lw_at lw_m2 9 rfl) rfl
theorem q270 : (Jvm.Cond.code ({ cls := "PatternTablesModel", name := "count", desc := "(I)I" } : Jvm.MethodName) prog_3_method_18_code (4 : Nat) (Option.some Jvm.ClassFile.FieldType.int)) ∈ lw_all := lw_g (lw_at lw_m2 10 rfl) rfl
theorem q272 : (Jvm.Cond.instanceMethod ({ cls := "PatternTablesModel", name := "next", desc := "(II)I" } : Jvm.MethodName)) ∈ lw_all := lw_g (lw_at lw_m2 12 rfl) rfl
theorem q273 : (Jvm.Cond.selects "PatternTablesModel" ({ cls := "PatternTablesModel", name := "next", desc := "(II)I" } : Jvm.MethodName) ({ cls := "PatternTablesModel", name := "next", desc := "(II)I" } : Jvm.MethodName)) ∈ lw_all := lw_g (lw_at lw_m2 13 rfl) rfl
theorem q274 : (Jvm.Cond.code ({ cls := "PatternTablesModel", name := "next", desc := "(II)I" } : Jvm.MethodName) prog_3_method_19_code (4 : Nat) (Option.some Jvm.ClassFile.FieldType.int)) ∈ lw_all := lw_g (lw_at lw_m2 14 rfl) rfl
theorem q276 : (Jvm.Cond.instanceMethod ({ cls := "PatternTablesModel", name := "gapAt", desc := "(III)I" } : Jvm.MethodName)) ∈ lw_all := lw_g (lw_at lw_m2 16 rfl) rfl
theorem q277 : (Jvm.Cond.selects "PatternTablesModel" ({ cls := "PatternTablesModel", name := "gapAt", desc := "(III)I" } : Jvm.MethodName) ({ cls := "PatternTablesModel", name := "gapAt", desc := "(III)I" } : Jvm.MethodName)) ∈ lw_all := lw_g (lw_at lw_m2 17 rfl) rfl
theorem q278 : (Jvm.Cond.code ({ cls := "PatternTablesModel", name := "gapAt", desc := "(III)I" } : Jvm.MethodName) prog_3_method_20_code (6 : Nat) (Option.some Jvm.ClassFile.FieldType.int)) ∈ lw_all := lw_g (lw_at lw_m2 18 rfl) rfl
theorem q280 : (Jvm.Cond.instanceMethod ({ cls := "PatternTablesModel", name := "size", desc := "(I)I" } : Jvm.MethodName)) ∈ lw_all := lw_g (lw_at lw_m2 20 rfl) rfl
theorem q281 : (Jvm.Cond.selects "PatternTablesModel" ({ cls := "PatternTablesModel", name := "size", desc := "(I)I" } : Jvm.MethodName) ({ cls := "PatternTablesModel", name := "size", desc := "(I)I" } : Jvm.MethodName)) ∈ lw_all := lw_g (lw_at lw_m2 21 rfl) rfl
theorem q282 : (Jvm.Cond.code ({ cls := "PatternTablesModel", name := "size", desc := "(I)I" } : Jvm.MethodName) prog_3_method_21_code (2 : Nat) (Option.some Jvm.ClassFile.FieldType.int)) ∈ lw_all := lw_g (lw_at lw_m2 22 rfl) rfl
theorem q284 : (Jvm.Cond.instanceMethod ({ cls := "PatternTablesModel", name := "equal", desc := "(II)Z" } : Jvm.MethodName)) ∈ lw_all := lw_g (lw_at lw_m2 24 rfl) rfl
theorem q285 : (Jvm.Cond.selects "PatternTablesModel" ({ cls := "PatternTablesModel", name := "equal", desc := "(II)Z" } : Jvm.MethodName) ({ cls := "PatternTablesModel", name := "equal", desc := "(II)Z" } : Jvm.MethodName)) ∈ lw_all := lw_g (lw_at lw_m2 25 rfl) rfl
theorem q286 : (Jvm.Cond.code ({ cls := "PatternTablesModel", name := "equal", desc := "(II)Z" } : Jvm.MethodName) prog_3_method_22_code (5 : Nat) (Option.some Jvm.ClassFile.FieldType.boolean)) ∈ lw_all := lw_g (lw_at lw_m2 26 rfl) rfl
theorem q287 : (Jvm.Cond.methodLink "PatternTablesModel" (49 : Nat) ({ cls := "PatternTablesModel", name := "size", desc := "(I)I" } : Jvm.MethodName)) ∈ lw_all := lw_g (lw_at lw_m2 27 rfl) rfl
theorem q289 : (Jvm.Cond.instanceMethod ({ cls := "PatternTablesModel", name := "kinds", desc := "()I" } : Jvm.MethodName)) ∈ lw_all := lw_g (lw_at lw_m2 29 rfl) rfl
theorem q290 : (Jvm.Cond.selects "PatternTablesModel" ({ cls := "PatternTablesModel", name := "kinds", desc := "()I" } : Jvm.MethodName) ({ cls := "PatternTablesModel", name := "kinds", desc := "()I" } : Jvm.MethodName)) ∈ lw_all := lw_g (lw_at lw_m2 30 rfl) rfl
theorem q291 : (Jvm.Cond.code ({ cls := "PatternTablesModel", name := "kinds", desc := "()I" } : Jvm.MethodName) prog_3_method_23_code (5 : Nat) (Option.some Jvm.ClassFile.FieldType.int)) ∈ lw_all := lw_g (lw_at lw_m2 31 rfl) rfl
theorem q292 : (Jvm.Cond.methodLink "PatternTablesModel" (51 : Nat) ({ cls := "PatternTablesModel", name := "fitsAt", desc := "(I)I" } : Jvm.MethodName)) ∈ lw_all := lw_g (lw_at lw_m2 32 rfl) rfl
theorem q294 : (Jvm.Cond.instanceMethod ({ cls := "PatternTablesModel", name := "covers", desc := "(II)Z" } : Jvm.MethodName)) ∈ lw_all := lw_g (lw_at lw_m2 34 rfl) rfl
theorem q295 : (Jvm.Cond.selects "PatternTablesModel" ({ cls := "PatternTablesModel", name := "covers", desc := "(II)Z" } : Jvm.MethodName) ({ cls := "PatternTablesModel", name := "covers", desc := "(II)Z" } : Jvm.MethodName)) ∈ lw_all := lw_g (lw_at lw_m2 35 rfl) rfl
theorem q296 : (Jvm.Cond.code ({ cls := "PatternTablesModel", name := "covers", desc := "(II)Z" } : Jvm.MethodName) prog_3_method_24_code (3 : Nat) (Option.some Jvm.ClassFile.FieldType.boolean)) ∈ lw_all := lw_g (lw_at lw_m2 36 rfl) rfl
theorem q297 : (Jvm.Cond.methodLink "PatternTablesModel" (54 : Nat) ({ cls := "PatternTablesModel", name := "complete", desc := "(I)Z" } : Jvm.MethodName)) ∈ lw_all := lw_g (lw_at lw_m2 37 rfl) rfl
theorem q299 : (Jvm.Cond.instanceMethod ({ cls := "PatternTablesModel", name := "bare", desc := "()I" } : Jvm.MethodName)) ∈ lw_all := lw_g (lw_at lw_m2 39 rfl) rfl
theorem q300 : (Jvm.Cond.selects "PatternTablesModel" ({ cls := "PatternTablesModel", name := "bare", desc := "()I" } : Jvm.MethodName) ({ cls := "PatternTablesModel", name := "bare", desc := "()I" } : Jvm.MethodName)) ∈ lw_all := lw_g (lw_at lw_m2 40 rfl) rfl
theorem q301 : (Jvm.Cond.code ({ cls := "PatternTablesModel", name := "bare", desc := "()I" } : Jvm.MethodName) prog_3_method_25_code (3 : Nat) (Option.some Jvm.ClassFile.FieldType.int)) ∈ lw_all := lw_g (lw_at lw_m2 41 rfl) rfl
theorem in_X1 : ∀ w ∈ wsX10, w ∈ lw_all := lw_in wsX10 [197, 199] (by decide +kernel) (by decide +kernel)
end
section
set_option maxRecDepth 100000
theorem dX1_init_0 : decode cX1_init 0 = .ok (.aload_n 0, 1) := by decide +kernel
theorem dX1_init_1 : decode cX1_init 1 = .ok (.invokespecial 1, 3) := by decide +kernel
theorem dX1_init_4 : decode cX1_init 4 = .ok (.aload_n 0, 1) := by decide +kernel
theorem dX1_init_5 : decode cX1_init 5 = .ok (.iconst 5, 1) := by decide +kernel
theorem dX1_init_6 : decode cX1_init 6 = .ok (.newarray .int, 2) := by decide +kernel
theorem dX1_init_8 : decode cX1_init 8 = .ok (.putfield 7, 3) := by decide +kernel
theorem dX1_init_11 : decode cX1_init 11 = .ok (.aload_n 0, 1) := by decide +kernel
theorem dX1_init_12 : decode cX1_init 12 = .ok (.bipush 125, 2) := by decide +kernel
theorem dX1_init_14 : decode cX1_init 14 = .ok (.newarray .int, 2) := by decide +kernel
theorem dX1_init_16 : decode cX1_init 16 = .ok (.putfield 13, 3) := by decide +kernel
theorem dX1_init_19 : decode cX1_init 19 = .ok (.return_, 1) := by decide +kernel
theorem dX1_extend_0 : decode cX1_extend 0 = .ok (.aload_n 0, 1) := by decide +kernel
theorem dX1_extend_1 : decode cX1_extend 1 = .ok (.iload_n 1, 1) := by decide +kernel
theorem dX1_extend_2 : decode cX1_extend 2 = .ok (.invokevirtual 24, 3) := by decide +kernel
theorem dX1_extend_5 : decode cX1_extend 5 = .ok (.ifCond .eq 24, 3) := by decide +kernel
theorem dX1_extend_8 : decode cX1_extend 8 = .ok (.iload_n 2, 1) := by decide +kernel
theorem dX1_extend_9 : decode cX1_extend 9 = .ok (.ifCond .lt 20, 3) := by decide +kernel
theorem dX1_extend_12 : decode cX1_extend 12 = .ok (.iload_n 2, 1) := by decide +kernel
theorem dX1_extend_13 : decode cX1_extend 13 = .ok (.bipush 7, 2) := by decide +kernel
theorem dX1_extend_15 : decode cX1_extend 15 = .ok (.if_icmp .gt 14, 3) := by decide +kernel
theorem dX1_extend_18 : decode cX1_extend 18 = .ok (.aload_n 0, 1) := by decide +kernel
theorem dX1_extend_19 : decode cX1_extend 19 = .ok (.iload_n 1, 1) := by decide +kernel
theorem dX1_extend_20 : decode cX1_extend 20 = .ok (.iload_n 2, 1) := by decide +kernel
theorem dX1_extend_21 : decode cX1_extend 21 = .ok (.bipush 9, 2) := by decide +kernel
theorem dX1_extend_23 : decode cX1_extend 23 = .ok (.invokevirtual 27, 3) := by decide +kernel
theorem dX1_extend_26 : decode cX1_extend 26 = .ok (.goto 4, 3) := by decide +kernel
theorem dX1_extend_29 : decode cX1_extend 29 = .ok (.iconst (-1), 1) := by decide +kernel
theorem dX1_extend_30 : decode cX1_extend 30 = .ok (.ireturn, 1) := by decide +kernel
theorem dX1_pattern_0 : decode cX1_pattern 0 = .ok (.iload_n 1, 1) := by decide +kernel
theorem dX1_pattern_1 : decode cX1_pattern 1 = .ok (.ifCond .lt 12, 3) := by decide +kernel
theorem dX1_pattern_4 : decode cX1_pattern 4 = .ok (.iload_n 1, 1) := by decide +kernel
theorem dX1_pattern_5 : decode cX1_pattern 5 = .ok (.iconst 3, 1) := by decide +kernel
theorem dX1_pattern_6 : decode cX1_pattern 6 = .ok (.if_icmp .gt 7, 3) := by decide +kernel
theorem dX1_pattern_9 : decode cX1_pattern 9 = .ok (.iconst 1, 1) := by decide +kernel
theorem dX1_pattern_10 : decode cX1_pattern 10 = .ok (.goto 4, 3) := by decide +kernel
theorem dX1_pattern_13 : decode cX1_pattern 13 = .ok (.iconst 0, 1) := by decide +kernel
theorem dX1_pattern_14 : decode cX1_pattern 14 = .ok (.ireturn, 1) := by decide +kernel
theorem dX1_append_0 : decode cX1_append 0 = .ok (.aload_n 0, 1) := by decide +kernel
theorem dX1_append_1 : decode cX1_append 1 = .ok (.iload_n 1, 1) := by decide +kernel
theorem dX1_append_2 : decode cX1_append 2 = .ok (.invokevirtual 20, 3) := by decide +kernel
theorem dX1_append_5 : decode cX1_append 5 = .ok (.ifCond .ne 13, 3) := by decide +kernel
theorem dX1_append_8 : decode cX1_append 8 = .ok (.aload_n 0, 1) := by decide +kernel
theorem dX1_append_9 : decode cX1_append 9 = .ok (.getfield 7, 3) := by decide +kernel
theorem dX1_append_12 : decode cX1_append 12 = .ok (.iload_n 1, 1) := by decide +kernel
theorem dX1_append_13 : decode cX1_append 13 = .ok (.iaload, 1) := by decide +kernel
theorem dX1_append_14 : decode cX1_append 14 = .ok (.iload_n 3, 1) := by decide +kernel
theorem dX1_append_15 : decode cX1_append 15 = .ok (.if_icmp .lt 6, 3) := by decide +kernel
theorem dX1_append_18 : decode cX1_append 18 = .ok (.bipush (-2), 2) := by decide +kernel
theorem dX1_append_20 : decode cX1_append 20 = .ok (.ireturn, 1) := by decide +kernel
theorem dX1_append_21 : decode cX1_append 21 = .ok (.aload_n 0, 1) := by decide +kernel
theorem dX1_append_22 : decode cX1_append 22 = .ok (.getfield 13, 3) := by decide +kernel
theorem dX1_append_25 : decode cX1_append 25 = .ok (.bipush 25, 2) := by decide +kernel
theorem dX1_append_27 : decode cX1_append 27 = .ok (.iload_n 1, 1) := by decide +kernel
theorem dX1_append_28 : decode cX1_append 28 = .ok (.imul, 1) := by decide +kernel
theorem dX1_append_29 : decode cX1_append 29 = .ok (.aload_n 0, 1) := by decide +kernel
theorem dX1_append_30 : decode cX1_append 30 = .ok (.getfield 7, 3) := by decide +kernel
theorem dX1_append_33 : decode cX1_append 33 = .ok (.iload_n 1, 1) := by decide +kernel
theorem dX1_append_34 : decode cX1_append 34 = .ok (.iaload, 1) := by decide +kernel
theorem dX1_append_35 : decode cX1_append 35 = .ok (.iadd, 1) := by decide +kernel
theorem dX1_append_36 : decode cX1_append 36 = .ok (.iload_n 2, 1) := by decide +kernel
theorem dX1_append_37 : decode cX1_append 37 = .ok (.iastore, 1) := by decide +kernel
theorem dX1_append_38 : decode cX1_append 38 = .ok (.aload_n 0, 1) := by decide +kernel
theorem dX1_append_39 : decode cX1_append 39 = .ok (.getfield 7, 3) := by decide +kernel
theorem dX1_append_42 : decode cX1_append 42 = .ok (.iload_n 1, 1) := by decide +kernel
theorem dX1_append_43 : decode cX1_append 43 = .ok (.dup2, 1) := by decide +kernel
theorem dX1_append_44 : decode cX1_append 44 = .ok (.iaload, 1) := by decide +kernel
theorem dX1_append_45 : decode cX1_append 45 = .ok (.iconst 1, 1) := by decide +kernel
theorem dX1_append_46 : decode cX1_append 46 = .ok (.iadd, 1) := by decide +kernel
theorem dX1_append_47 : decode cX1_append 47 = .ok (.iastore, 1) := by decide +kernel
theorem dX1_append_48 : decode cX1_append 48 = .ok (.aload_n 0, 1) := by decide +kernel
theorem dX1_append_49 : decode cX1_append 49 = .ok (.getfield 7, 3) := by decide +kernel
theorem dX1_append_52 : decode cX1_append 52 = .ok (.iload_n 1, 1) := by decide +kernel
theorem dX1_append_53 : decode cX1_append 53 = .ok (.iaload, 1) := by decide +kernel
theorem dX1_append_54 : decode cX1_append 54 = .ok (.ireturn, 1) := by decide +kernel
theorem dX1_done_0 : decode cX1_done 0 = .ok (.iconst 1, 1) := by decide +kernel
theorem dX1_done_1 : decode cX1_done 1 = .ok (.istore_n 2, 1) := by decide +kernel
theorem dX1_done_2 : decode cX1_done 2 = .ok (.iconst 0, 1) := by decide +kernel
theorem dX1_done_3 : decode cX1_done 3 = .ok (.istore_n 3, 1) := by decide +kernel
theorem dX1_done_4 : decode cX1_done 4 = .ok (.iload_n 3, 1) := by decide +kernel
theorem dX1_done_5 : decode cX1_done 5 = .ok (.aload_n 0, 1) := by decide +kernel
theorem dX1_done_6 : decode cX1_done 6 = .ok (.getfield 7, 3) := by decide +kernel
theorem dX1_done_9 : decode cX1_done 9 = .ok (.iload_n 1, 1) := by decide +kernel
theorem dX1_done_10 : decode cX1_done 10 = .ok (.iaload, 1) := by decide +kernel
theorem dX1_done_11 : decode cX1_done 11 = .ok (.if_icmp .ge 29, 3) := by decide +kernel
theorem dX1_done_14 : decode cX1_done 14 = .ok (.iload_n 2, 1) := by decide +kernel
theorem dX1_done_15 : decode cX1_done 15 = .ok (.iconst 1, 1) := by decide +kernel
theorem dX1_done_16 : decode cX1_done 16 = .ok (.isub, 1) := by decide +kernel
theorem dX1_done_17 : decode cX1_done 17 = .ok (.aload_n 0, 1) := by decide +kernel
theorem dX1_done_18 : decode cX1_done 18 = .ok (.aload_n 0, 1) := by decide +kernel
theorem dX1_done_19 : decode cX1_done 19 = .ok (.getfield 13, 3) := by decide +kernel
theorem dX1_done_22 : decode cX1_done 22 = .ok (.bipush 25, 2) := by decide +kernel
theorem dX1_done_24 : decode cX1_done 24 = .ok (.iload_n 1, 1) := by decide +kernel
theorem dX1_done_25 : decode cX1_done 25 = .ok (.imul, 1) := by decide +kernel
theorem dX1_done_26 : decode cX1_done 26 = .ok (.iload_n 3, 1) := by decide +kernel
theorem dX1_done_27 : decode cX1_done 27 = .ok (.iadd, 1) := by decide +kernel
theorem dX1_done_28 : decode cX1_done 28 = .ok (.iaload, 1) := by decide +kernel
theorem dX1_done_29 : decode cX1_done 29 = .ok (.invokevirtual 16, 3) := by decide +kernel
theorem dX1_done_32 : decode cX1_done 32 = .ok (.iadd, 1) := by decide +kernel
theorem dX1_done_33 : decode cX1_done 33 = .ok (.istore_n 2, 1) := by decide +kernel
theorem dX1_done_34 : decode cX1_done 34 = .ok (.iinc 3 1, 3) := by decide +kernel
theorem dX1_done_37 : decode cX1_done 37 = .ok (.goto (-33), 3) := by decide +kernel
theorem dX1_done_40 : decode cX1_done 40 = .ok (.iload_n 2, 1) := by decide +kernel
theorem dX1_done_41 : decode cX1_done 41 = .ok (.ifCond .ne 7, 3) := by decide +kernel
theorem dX1_done_44 : decode cX1_done 44 = .ok (.iconst 1, 1) := by decide +kernel
theorem dX1_done_45 : decode cX1_done 45 = .ok (.goto 4, 3) := by decide +kernel
theorem dX1_done_48 : decode cX1_done 48 = .ok (.iconst 0, 1) := by decide +kernel
theorem dX1_done_49 : decode cX1_done 49 = .ok (.ireturn, 1) := by decide +kernel
theorem dX1_parts_0 : decode cX1_parts 0 = .ok (.iload_n 1, 1) := by decide +kernel
theorem dX1_parts_1 : decode cX1_parts 1 = .ok (.iconst 1, 1) := by decide +kernel
theorem dX1_parts_2 : decode cX1_parts 2 = .ok (.if_icmp .gt 7, 3) := by decide +kernel
theorem dX1_parts_5 : decode cX1_parts 5 = .ok (.iconst 2, 1) := by decide +kernel
theorem dX1_parts_6 : decode cX1_parts 6 = .ok (.goto 13, 3) := by decide +kernel
theorem dX1_parts_9 : decode cX1_parts 9 = .ok (.iload_n 1, 1) := by decide +kernel
theorem dX1_parts_10 : decode cX1_parts 10 = .ok (.iconst 3, 1) := by decide +kernel
theorem dX1_parts_11 : decode cX1_parts 11 = .ok (.if_icmp .gt 7, 3) := by decide +kernel
theorem dX1_parts_14 : decode cX1_parts 14 = .ok (.iconst 1, 1) := by decide +kernel
theorem dX1_parts_15 : decode cX1_parts 15 = .ok (.goto 4, 3) := by decide +kernel
theorem dX1_parts_18 : decode cX1_parts 18 = .ok (.iconst 0, 1) := by decide +kernel
theorem dX1_parts_19 : decode cX1_parts 19 = .ok (.ireturn, 1) := by decide +kernel
theorem dX1_shorten_0 : decode cX1_shorten 0 = .ok (.aload_n 0, 1) := by decide +kernel
theorem dX1_shorten_1 : decode cX1_shorten 1 = .ok (.iload_n 1, 1) := by decide +kernel
theorem dX1_shorten_2 : decode cX1_shorten 2 = .ok (.invokevirtual 24, 3) := by decide +kernel
theorem dX1_shorten_5 : decode cX1_shorten 5 = .ok (.ifCond .eq 11, 3) := by decide +kernel
theorem dX1_shorten_8 : decode cX1_shorten 8 = .ok (.aload_n 0, 1) := by decide +kernel
theorem dX1_shorten_9 : decode cX1_shorten 9 = .ok (.iload_n 1, 1) := by decide +kernel
theorem dX1_shorten_10 : decode cX1_shorten 10 = .ok (.invokevirtual 31, 3) := by decide +kernel
theorem dX1_shorten_13 : decode cX1_shorten 13 = .ok (.goto 4, 3) := by decide +kernel
theorem dX1_shorten_16 : decode cX1_shorten 16 = .ok (.iconst (-1), 1) := by decide +kernel
theorem dX1_shorten_17 : decode cX1_shorten 17 = .ok (.ireturn, 1) := by decide +kernel
theorem dX1_take_0 : decode cX1_take 0 = .ok (.aload_n 0, 1) := by decide +kernel
theorem dX1_take_1 : decode cX1_take 1 = .ok (.getfield 7, 3) := by decide +kernel
theorem dX1_take_4 : decode cX1_take 4 = .ok (.iload_n 1, 1) := by decide +kernel
theorem dX1_take_5 : decode cX1_take 5 = .ok (.iaload, 1) := by decide +kernel
theorem dX1_take_6 : decode cX1_take 6 = .ok (.ifCond .ne 5, 3) := by decide +kernel
theorem dX1_take_9 : decode cX1_take 9 = .ok (.iconst (-1), 1) := by decide +kernel
theorem dX1_take_10 : decode cX1_take 10 = .ok (.ireturn, 1) := by decide +kernel
theorem dX1_take_11 : decode cX1_take 11 = .ok (.aload_n 0, 1) := by decide +kernel
theorem dX1_take_12 : decode cX1_take 12 = .ok (.getfield 7, 3) := by decide +kernel
theorem dX1_take_15 : decode cX1_take 15 = .ok (.iload_n 1, 1) := by decide +kernel
theorem dX1_take_16 : decode cX1_take 16 = .ok (.dup2, 1) := by decide +kernel
theorem dX1_take_17 : decode cX1_take 17 = .ok (.iaload, 1) := by decide +kernel
theorem dX1_take_18 : decode cX1_take 18 = .ok (.iconst 1, 1) := by decide +kernel
theorem dX1_take_19 : decode cX1_take 19 = .ok (.isub, 1) := by decide +kernel
theorem dX1_take_20 : decode cX1_take 20 = .ok (.iastore, 1) := by decide +kernel
theorem dX1_take_21 : decode cX1_take 21 = .ok (.aload_n 0, 1) := by decide +kernel
theorem dX1_take_22 : decode cX1_take 22 = .ok (.getfield 13, 3) := by decide +kernel
theorem dX1_take_25 : decode cX1_take 25 = .ok (.bipush 25, 2) := by decide +kernel
theorem dX1_take_27 : decode cX1_take 27 = .ok (.iload_n 1, 1) := by decide +kernel
theorem dX1_take_28 : decode cX1_take 28 = .ok (.imul, 1) := by decide +kernel
theorem dX1_take_29 : decode cX1_take 29 = .ok (.aload_n 0, 1) := by decide +kernel
theorem dX1_take_30 : decode cX1_take 30 = .ok (.getfield 7, 3) := by decide +kernel
theorem dX1_take_33 : decode cX1_take 33 = .ok (.iload_n 1, 1) := by decide +kernel
theorem dX1_take_34 : decode cX1_take 34 = .ok (.iaload, 1) := by decide +kernel
theorem dX1_take_35 : decode cX1_take 35 = .ok (.iadd, 1) := by decide +kernel
theorem dX1_take_36 : decode cX1_take 36 = .ok (.iaload, 1) := by decide +kernel
theorem dX1_take_37 : decode cX1_take 37 = .ok (.ireturn, 1) := by decide +kernel
theorem dX1_grow_0 : decode cX1_grow 0 = .ok (.iload_n 1, 1) := by decide +kernel
theorem dX1_grow_1 : decode cX1_grow 1 = .ok (.ifCond .lt 20, 3) := by decide +kernel
theorem dX1_grow_4 : decode cX1_grow 4 = .ok (.iload_n 1, 1) := by decide +kernel
theorem dX1_grow_5 : decode cX1_grow 5 = .ok (.bipush 6, 2) := by decide +kernel
theorem dX1_grow_7 : decode cX1_grow 7 = .ok (.if_icmp .gt 14, 3) := by decide +kernel
theorem dX1_grow_10 : decode cX1_grow 10 = .ok (.aload_n 0, 1) := by decide +kernel
theorem dX1_grow_11 : decode cX1_grow 11 = .ok (.iconst 4, 1) := by decide +kernel
theorem dX1_grow_12 : decode cX1_grow 12 = .ok (.iload_n 1, 1) := by decide +kernel
theorem dX1_grow_13 : decode cX1_grow 13 = .ok (.bipush 25, 2) := by decide +kernel
theorem dX1_grow_15 : decode cX1_grow 15 = .ok (.invokevirtual 27, 3) := by decide +kernel
theorem dX1_grow_18 : decode cX1_grow 18 = .ok (.goto 4, 3) := by decide +kernel
theorem dX1_grow_21 : decode cX1_grow 21 = .ok (.iconst (-1), 1) := by decide +kernel
theorem dX1_grow_22 : decode cX1_grow 22 = .ok (.ireturn, 1) := by decide +kernel
theorem dX1_prune_0 : decode cX1_prune 0 = .ok (.aload_n 0, 1) := by decide +kernel
theorem dX1_prune_1 : decode cX1_prune 1 = .ok (.iconst 4, 1) := by decide +kernel
theorem dX1_prune_2 : decode cX1_prune 2 = .ok (.invokevirtual 31, 3) := by decide +kernel
theorem dX1_prune_5 : decode cX1_prune 5 = .ok (.ireturn, 1) := by decide +kernel
theorem dX1_complete_0 : decode cX1_complete 0 = .ok (.aload_n 0, 1) := by decide +kernel
theorem dX1_complete_1 : decode cX1_complete 1 = .ok (.iload_n 1, 1) := by decide +kernel
theorem dX1_complete_2 : decode cX1_complete 2 = .ok (.invokevirtual 24, 3) := by decide +kernel
theorem dX1_complete_5 : decode cX1_complete 5 = .ok (.ifCond .eq 15, 3) := by decide +kernel
theorem dX1_complete_8 : decode cX1_complete 8 = .ok (.aload_n 0, 1) := by decide +kernel
theorem dX1_complete_9 : decode cX1_complete 9 = .ok (.iload_n 1, 1) := by decide +kernel
theorem dX1_complete_10 : decode cX1_complete 10 = .ok (.invokevirtual 20, 3) := by decide +kernel
theorem dX1_complete_13 : decode cX1_complete 13 = .ok (.ifCond .eq 7, 3) := by decide +kernel
theorem dX1_complete_16 : decode cX1_complete 16 = .ok (.iconst 1, 1) := by decide +kernel
theorem dX1_complete_17 : decode cX1_complete 17 = .ok (.goto 4, 3) := by decide +kernel
theorem dX1_complete_20 : decode cX1_complete 20 = .ok (.iconst 0, 1) := by decide +kernel
theorem dX1_complete_21 : decode cX1_complete 21 = .ok (.ireturn, 1) := by decide +kernel
theorem dX1_whole_0 : decode cX1_whole 0 = .ok (.aload_n 0, 1) := by decide +kernel
theorem dX1_whole_1 : decode cX1_whole 1 = .ok (.iconst 4, 1) := by decide +kernel
theorem dX1_whole_2 : decode cX1_whole 2 = .ok (.invokevirtual 20, 3) := by decide +kernel
theorem dX1_whole_5 : decode cX1_whole 5 = .ok (.ireturn, 1) := by decide +kernel
theorem dX1_fitsAt_0 : decode cX1_fitsAt 0 = .ok (.iconst 0, 1) := by decide +kernel
theorem dX1_fitsAt_1 : decode cX1_fitsAt 1 = .ok (.istore_n 2, 1) := by decide +kernel
theorem dX1_fitsAt_2 : decode cX1_fitsAt 2 = .ok (.iconst 0, 1) := by decide +kernel
theorem dX1_fitsAt_3 : decode cX1_fitsAt 3 = .ok (.istore_n 3, 1) := by decide +kernel
theorem dX1_fitsAt_4 : decode cX1_fitsAt 4 = .ok (.iload_n 3, 1) := by decide +kernel
theorem dX1_fitsAt_5 : decode cX1_fitsAt 5 = .ok (.iconst 4, 1) := by decide +kernel
theorem dX1_fitsAt_6 : decode cX1_fitsAt 6 = .ok (.if_icmp .ge 28, 3) := by decide +kernel
theorem dX1_fitsAt_9 : decode cX1_fitsAt 9 = .ok (.aload_n 0, 1) := by decide +kernel
theorem dX1_fitsAt_10 : decode cX1_fitsAt 10 = .ok (.iload_n 3, 1) := by decide +kernel
theorem dX1_fitsAt_11 : decode cX1_fitsAt 11 = .ok (.iload_n 1, 1) := by decide +kernel
theorem dX1_fitsAt_12 : decode cX1_fitsAt 12 = .ok (.invokevirtual 45, 3) := by decide +kernel
theorem dX1_fitsAt_15 : decode cX1_fitsAt 15 = .ok (.ifCond .eq 11, 3) := by decide +kernel
theorem dX1_fitsAt_18 : decode cX1_fitsAt 18 = .ok (.iload_n 2, 1) := by decide +kernel
theorem dX1_fitsAt_19 : decode cX1_fitsAt 19 = .ok (.iconst 1, 1) := by decide +kernel
theorem dX1_fitsAt_20 : decode cX1_fitsAt 20 = .ok (.iload_n 3, 1) := by decide +kernel
theorem dX1_fitsAt_21 : decode cX1_fitsAt 21 = .ok (.ishl, 1) := by decide +kernel
theorem dX1_fitsAt_22 : decode cX1_fitsAt 22 = .ok (.ior, 1) := by decide +kernel
theorem dX1_fitsAt_23 : decode cX1_fitsAt 23 = .ok (.goto 4, 3) := by decide +kernel
theorem dX1_fitsAt_26 : decode cX1_fitsAt 26 = .ok (.iload_n 2, 1) := by decide +kernel
theorem dX1_fitsAt_27 : decode cX1_fitsAt 27 = .ok (.istore_n 2, 1) := by decide +kernel
theorem dX1_fitsAt_28 : decode cX1_fitsAt 28 = .ok (.iinc 3 1, 3) := by decide +kernel
theorem dX1_fitsAt_31 : decode cX1_fitsAt 31 = .ok (.goto (-27), 3) := by decide +kernel
theorem dX1_fitsAt_34 : decode cX1_fitsAt 34 = .ok (.iload_n 2, 1) := by decide +kernel
theorem dX1_fitsAt_35 : decode cX1_fitsAt 35 = .ok (.ireturn, 1) := by decide +kernel
theorem dX1_fits_0 : decode cX1_fits 0 = .ok (.aload_n 0, 1) := by decide +kernel
theorem dX1_fits_1 : decode cX1_fits 1 = .ok (.iload_n 1, 1) := by decide +kernel
theorem dX1_fits_2 : decode cX1_fits 2 = .ok (.invokevirtual 20, 3) := by decide +kernel
theorem dX1_fits_5 : decode cX1_fits 5 = .ok (.ifCond .eq 31, 3) := by decide +kernel
theorem dX1_fits_8 : decode cX1_fits 8 = .ok (.aload_n 0, 1) := by decide +kernel
theorem dX1_fits_9 : decode cX1_fits 9 = .ok (.iload_n 2, 1) := by decide +kernel
theorem dX1_fits_10 : decode cX1_fits 10 = .ok (.invokevirtual 38, 3) := by decide +kernel
theorem dX1_fits_13 : decode cX1_fits 13 = .ok (.ifCond .eq 23, 3) := by decide +kernel
theorem dX1_fits_16 : decode cX1_fits 16 = .ok (.aload_n 0, 1) := by decide +kernel
theorem dX1_fits_17 : decode cX1_fits 17 = .ok (.iload_n 1, 1) := by decide +kernel
theorem dX1_fits_18 : decode cX1_fits 18 = .ok (.iconst 4, 1) := by decide +kernel
theorem dX1_fits_19 : decode cX1_fits 19 = .ok (.iload_n 2, 1) := by decide +kernel
theorem dX1_fits_20 : decode cX1_fits 20 = .ok (.aload_n 0, 1) := by decide +kernel
theorem dX1_fits_21 : decode cX1_fits 21 = .ok (.getfield 7, 3) := by decide +kernel
theorem dX1_fits_24 : decode cX1_fits 24 = .ok (.iload_n 1, 1) := by decide +kernel
theorem dX1_fits_25 : decode cX1_fits 25 = .ok (.iaload, 1) := by decide +kernel
theorem dX1_fits_26 : decode cX1_fits 26 = .ok (.invokevirtual 41, 3) := by decide +kernel
theorem dX1_fits_29 : decode cX1_fits 29 = .ok (.ifCond .lt 7, 3) := by decide +kernel
theorem dX1_fits_32 : decode cX1_fits 32 = .ok (.iconst 1, 1) := by decide +kernel
theorem dX1_fits_33 : decode cX1_fits 33 = .ok (.goto 4, 3) := by decide +kernel
theorem dX1_fits_36 : decode cX1_fits 36 = .ok (.iconst 0, 1) := by decide +kernel
theorem dX1_fits_37 : decode cX1_fits 37 = .ok (.ireturn, 1) := by decide +kernel
theorem dX1_node_0 : decode cX1_node 0 = .ok (.aload_n 0, 1) := by decide +kernel
theorem dX1_node_1 : decode cX1_node 1 = .ok (.iconst 4, 1) := by decide +kernel
theorem dX1_node_2 : decode cX1_node 2 = .ok (.invokevirtual 20, 3) := by decide +kernel
theorem dX1_node_5 : decode cX1_node 5 = .ok (.ifCond .eq 21, 3) := by decide +kernel
theorem dX1_node_8 : decode cX1_node 8 = .ok (.iload_n 1, 1) := by decide +kernel
theorem dX1_node_9 : decode cX1_node 9 = .ok (.ifCond .lt 17, 3) := by decide +kernel
theorem dX1_node_12 : decode cX1_node 12 = .ok (.iload_n 1, 1) := by decide +kernel
theorem dX1_node_13 : decode cX1_node 13 = .ok (.aload_n 0, 1) := by decide +kernel
theorem dX1_node_14 : decode cX1_node 14 = .ok (.getfield 7, 3) := by decide +kernel
theorem dX1_node_17 : decode cX1_node 17 = .ok (.iconst 4, 1) := by decide +kernel
theorem dX1_node_18 : decode cX1_node 18 = .ok (.iaload, 1) := by decide +kernel
theorem dX1_node_19 : decode cX1_node 19 = .ok (.if_icmp .ge 7, 3) := by decide +kernel
theorem dX1_node_22 : decode cX1_node 22 = .ok (.iconst 1, 1) := by decide +kernel
theorem dX1_node_23 : decode cX1_node 23 = .ok (.goto 4, 3) := by decide +kernel
theorem dX1_node_26 : decode cX1_node 26 = .ok (.iconst 0, 1) := by decide +kernel
theorem dX1_node_27 : decode cX1_node 27 = .ok (.ireturn, 1) := by decide +kernel
theorem dX1_lies_0 : decode cX1_lies 0 = .ok (.iload_n 3, 1) := by decide +kernel
theorem dX1_lies_1 : decode cX1_lies 1 = .ok (.istore 5, 2) := by decide +kernel
theorem dX1_lies_3 : decode cX1_lies 3 = .ok (.iconst 0, 1) := by decide +kernel
theorem dX1_lies_4 : decode cX1_lies 4 = .ok (.istore 6, 2) := by decide +kernel
theorem dX1_lies_6 : decode cX1_lies 6 = .ok (.iload 6, 2) := by decide +kernel
theorem dX1_lies_8 : decode cX1_lies 8 = .ok (.iload 4, 2) := by decide +kernel
theorem dX1_lies_10 : decode cX1_lies 10 = .ok (.if_icmp .ge 78, 3) := by decide +kernel
theorem dX1_lies_13 : decode cX1_lies 13 = .ok (.aload_n 0, 1) := by decide +kernel
theorem dX1_lies_14 : decode cX1_lies 14 = .ok (.getfield 13, 3) := by decide +kernel
theorem dX1_lies_17 : decode cX1_lies 17 = .ok (.bipush 25, 2) := by decide +kernel
theorem dX1_lies_19 : decode cX1_lies 19 = .ok (.iload_n 1, 1) := by decide +kernel
theorem dX1_lies_20 : decode cX1_lies 20 = .ok (.imul, 1) := by decide +kernel
theorem dX1_lies_21 : decode cX1_lies 21 = .ok (.iload 6, 2) := by decide +kernel
theorem dX1_lies_23 : decode cX1_lies 23 = .ok (.iadd, 1) := by decide +kernel
theorem dX1_lies_24 : decode cX1_lies 24 = .ok (.iaload, 1) := by decide +kernel
theorem dX1_lies_25 : decode cX1_lies 25 = .ok (.istore 7, 2) := by decide +kernel
theorem dX1_lies_27 : decode cX1_lies 27 = .ok (.iload 7, 2) := by decide +kernel
theorem dX1_lies_29 : decode cX1_lies 29 = .ok (.bipush 7, 2) := by decide +kernel
theorem dX1_lies_31 : decode cX1_lies 31 = .ok (.if_icmp .ne 15, 3) := by decide +kernel
theorem dX1_lies_34 : decode cX1_lies 34 = .ok (.aload_n 0, 1) := by decide +kernel
theorem dX1_lies_35 : decode cX1_lies 35 = .ok (.iload_n 2, 1) := by decide +kernel
theorem dX1_lies_36 : decode cX1_lies 36 = .ok (.iload 5, 2) := by decide +kernel
theorem dX1_lies_38 : decode cX1_lies 38 = .ok (.invokevirtual 34, 3) := by decide +kernel
theorem dX1_lies_41 : decode cX1_lies 41 = .ok (.istore 5, 2) := by decide +kernel
theorem dX1_lies_43 : decode cX1_lies 43 = .ok (.goto 39, 3) := by decide +kernel
theorem dX1_lies_46 : decode cX1_lies 46 = .ok (.iload 5, 2) := by decide +kernel
theorem dX1_lies_48 : decode cX1_lies 48 = .ok (.aload_n 0, 1) := by decide +kernel
theorem dX1_lies_49 : decode cX1_lies 49 = .ok (.getfield 7, 3) := by decide +kernel
theorem dX1_lies_52 : decode cX1_lies 52 = .ok (.iload_n 2, 1) := by decide +kernel
theorem dX1_lies_53 : decode cX1_lies 53 = .ok (.iaload, 1) := by decide +kernel
theorem dX1_lies_54 : decode cX1_lies 54 = .ok (.if_icmp .ge 26, 3) := by decide +kernel
theorem dX1_lies_57 : decode cX1_lies 57 = .ok (.aload_n 0, 1) := by decide +kernel
theorem dX1_lies_58 : decode cX1_lies 58 = .ok (.getfield 13, 3) := by decide +kernel
theorem dX1_lies_61 : decode cX1_lies 61 = .ok (.bipush 25, 2) := by decide +kernel
theorem dX1_lies_63 : decode cX1_lies 63 = .ok (.iload_n 2, 1) := by decide +kernel
theorem dX1_lies_64 : decode cX1_lies 64 = .ok (.imul, 1) := by decide +kernel
theorem dX1_lies_65 : decode cX1_lies 65 = .ok (.iload 5, 2) := by decide +kernel
theorem dX1_lies_67 : decode cX1_lies 67 = .ok (.iadd, 1) := by decide +kernel
theorem dX1_lies_68 : decode cX1_lies 68 = .ok (.iaload, 1) := by decide +kernel
theorem dX1_lies_69 : decode cX1_lies 69 = .ok (.iload 7, 2) := by decide +kernel
theorem dX1_lies_71 : decode cX1_lies 71 = .ok (.if_icmp .ne 9, 3) := by decide +kernel
theorem dX1_lies_74 : decode cX1_lies 74 = .ok (.iinc 5 1, 3) := by decide +kernel
theorem dX1_lies_77 : decode cX1_lies 77 = .ok (.goto 5, 3) := by decide +kernel
theorem dX1_lies_80 : decode cX1_lies 80 = .ok (.iconst (-1), 1) := by decide +kernel
theorem dX1_lies_81 : decode cX1_lies 81 = .ok (.ireturn, 1) := by decide +kernel
theorem dX1_lies_82 : decode cX1_lies 82 = .ok (.iinc 6 1, 3) := by decide +kernel
theorem dX1_lies_85 : decode cX1_lies 85 = .ok (.goto (-79), 3) := by decide +kernel
theorem dX1_lies_88 : decode cX1_lies 88 = .ok (.iload 5, 2) := by decide +kernel
theorem dX1_lies_90 : decode cX1_lies 90 = .ok (.ireturn, 1) := by decide +kernel
theorem dX1_behind_0 : decode cX1_behind 0 = .ok (.iconst 1, 1) := by decide +kernel
theorem dX1_behind_1 : decode cX1_behind 1 = .ok (.istore_n 3, 1) := by decide +kernel
theorem dX1_behind_2 : decode cX1_behind 2 = .ok (.iload_n 2, 1) := by decide +kernel
theorem dX1_behind_3 : decode cX1_behind 3 = .ok (.istore 4, 2) := by decide +kernel
theorem dX1_behind_5 : decode cX1_behind 5 = .ok (.iload_n 3, 1) := by decide +kernel
theorem dX1_behind_6 : decode cX1_behind 6 = .ok (.ifCond .le 41, 3) := by decide +kernel
theorem dX1_behind_9 : decode cX1_behind 9 = .ok (.iload 4, 2) := by decide +kernel
theorem dX1_behind_11 : decode cX1_behind 11 = .ok (.aload_n 0, 1) := by decide +kernel
theorem dX1_behind_12 : decode cX1_behind 12 = .ok (.getfield 7, 3) := by decide +kernel
theorem dX1_behind_15 : decode cX1_behind 15 = .ok (.iload_n 1, 1) := by decide +kernel
theorem dX1_behind_16 : decode cX1_behind 16 = .ok (.iaload, 1) := by decide +kernel
theorem dX1_behind_17 : decode cX1_behind 17 = .ok (.if_icmp .ge 30, 3) := by decide +kernel
theorem dX1_behind_20 : decode cX1_behind 20 = .ok (.iload_n 3, 1) := by decide +kernel
theorem dX1_behind_21 : decode cX1_behind 21 = .ok (.iconst 1, 1) := by decide +kernel
theorem dX1_behind_22 : decode cX1_behind 22 = .ok (.isub, 1) := by decide +kernel
theorem dX1_behind_23 : decode cX1_behind 23 = .ok (.aload_n 0, 1) := by decide +kernel
theorem dX1_behind_24 : decode cX1_behind 24 = .ok (.aload_n 0, 1) := by decide +kernel
theorem dX1_behind_25 : decode cX1_behind 25 = .ok (.getfield 13, 3) := by decide +kernel
theorem dX1_behind_28 : decode cX1_behind 28 = .ok (.bipush 25, 2) := by decide +kernel
theorem dX1_behind_30 : decode cX1_behind 30 = .ok (.iload_n 1, 1) := by decide +kernel
theorem dX1_behind_31 : decode cX1_behind 31 = .ok (.imul, 1) := by decide +kernel
theorem dX1_behind_32 : decode cX1_behind 32 = .ok (.iload 4, 2) := by decide +kernel
theorem dX1_behind_34 : decode cX1_behind 34 = .ok (.iadd, 1) := by decide +kernel
theorem dX1_behind_35 : decode cX1_behind 35 = .ok (.iaload, 1) := by decide +kernel
theorem dX1_behind_36 : decode cX1_behind 36 = .ok (.invokevirtual 16, 3) := by decide +kernel
theorem dX1_behind_39 : decode cX1_behind 39 = .ok (.iadd, 1) := by decide +kernel
theorem dX1_behind_40 : decode cX1_behind 40 = .ok (.istore_n 3, 1) := by decide +kernel
theorem dX1_behind_41 : decode cX1_behind 41 = .ok (.iinc 4 1, 3) := by decide +kernel
theorem dX1_behind_44 : decode cX1_behind 44 = .ok (.goto (-39), 3) := by decide +kernel
theorem dX1_behind_47 : decode cX1_behind 47 = .ok (.iload 4, 2) := by decide +kernel
theorem dX1_behind_49 : decode cX1_behind 49 = .ok (.ireturn, 1) := by decide +kernel
theorem dX1_count_0 : decode cX1_count 0 = .ok (.iconst 0, 1) := by decide +kernel
theorem dX1_count_1 : decode cX1_count 1 = .ok (.istore_n 2, 1) := by decide +kernel
theorem dX1_count_2 : decode cX1_count 2 = .ok (.iconst 0, 1) := by decide +kernel
theorem dX1_count_3 : decode cX1_count 3 = .ok (.istore_n 3, 1) := by decide +kernel
theorem dX1_count_4 : decode cX1_count 4 = .ok (.iload_n 3, 1) := by decide +kernel
theorem dX1_count_5 : decode cX1_count 5 = .ok (.bipush 25, 2) := by decide +kernel
theorem dX1_count_7 : decode cX1_count 7 = .ok (.if_icmp .ge 34, 3) := by decide +kernel
theorem dX1_count_10 : decode cX1_count 10 = .ok (.aload_n 0, 1) := by decide +kernel
theorem dX1_count_11 : decode cX1_count 11 = .ok (.iload_n 1, 1) := by decide +kernel
theorem dX1_count_12 : decode cX1_count 12 = .ok (.invokevirtual 24, 3) := by decide +kernel
theorem dX1_count_15 : decode cX1_count 15 = .ok (.ifCond .eq 26, 3) := by decide +kernel
theorem dX1_count_18 : decode cX1_count 18 = .ok (.aload_n 0, 1) := by decide +kernel
theorem dX1_count_19 : decode cX1_count 19 = .ok (.iload_n 1, 1) := by decide +kernel
theorem dX1_count_20 : decode cX1_count 20 = .ok (.iload_n 3, 1) := by decide +kernel
theorem dX1_count_21 : decode cX1_count 21 = .ok (.invokevirtual 45, 3) := by decide +kernel
theorem dX1_count_24 : decode cX1_count 24 = .ok (.ifCond .eq 9, 3) := by decide +kernel
theorem dX1_count_27 : decode cX1_count 27 = .ok (.iload_n 2, 1) := by decide +kernel
theorem dX1_count_28 : decode cX1_count 28 = .ok (.iconst 1, 1) := by decide +kernel
theorem dX1_count_29 : decode cX1_count 29 = .ok (.iadd, 1) := by decide +kernel
theorem dX1_count_30 : decode cX1_count 30 = .ok (.goto 4, 3) := by decide +kernel
theorem dX1_count_33 : decode cX1_count 33 = .ok (.iload_n 2, 1) := by decide +kernel
theorem dX1_count_34 : decode cX1_count 34 = .ok (.istore_n 2, 1) := by decide +kernel
theorem dX1_count_35 : decode cX1_count 35 = .ok (.iinc 3 1, 3) := by decide +kernel
theorem dX1_count_38 : decode cX1_count 38 = .ok (.goto (-34), 3) := by decide +kernel
theorem dX1_count_41 : decode cX1_count 41 = .ok (.iload_n 2, 1) := by decide +kernel
theorem dX1_count_42 : decode cX1_count 42 = .ok (.ireturn, 1) := by decide +kernel
theorem dX1_next_0 : decode cX1_next 0 = .ok (.iconst 0, 1) := by decide +kernel
theorem dX1_next_1 : decode cX1_next 1 = .ok (.istore_n 3, 1) := by decide +kernel
theorem dX1_next_2 : decode cX1_next 2 = .ok (.iload_n 3, 1) := by decide +kernel
theorem dX1_next_3 : decode cX1_next 3 = .ok (.bipush 25, 2) := by decide +kernel
theorem dX1_next_5 : decode cX1_next 5 = .ok (.if_icmp .ge 33, 3) := by decide +kernel
theorem dX1_next_8 : decode cX1_next 8 = .ok (.aload_n 0, 1) := by decide +kernel
theorem dX1_next_9 : decode cX1_next 9 = .ok (.iload_n 1, 1) := by decide +kernel
theorem dX1_next_10 : decode cX1_next 10 = .ok (.invokevirtual 24, 3) := by decide +kernel
theorem dX1_next_13 : decode cX1_next 13 = .ok (.ifCond .eq 25, 3) := by decide +kernel
theorem dX1_next_16 : decode cX1_next 16 = .ok (.iload_n 3, 1) := by decide +kernel
theorem dX1_next_17 : decode cX1_next 17 = .ok (.iload_n 2, 1) := by decide +kernel
theorem dX1_next_18 : decode cX1_next 18 = .ok (.if_icmp .lt 14, 3) := by decide +kernel
theorem dX1_next_21 : decode cX1_next 21 = .ok (.aload_n 0, 1) := by decide +kernel
theorem dX1_next_22 : decode cX1_next 22 = .ok (.iload_n 1, 1) := by decide +kernel
theorem dX1_next_23 : decode cX1_next 23 = .ok (.iload_n 3, 1) := by decide +kernel
theorem dX1_next_24 : decode cX1_next 24 = .ok (.invokevirtual 45, 3) := by decide +kernel
theorem dX1_next_27 : decode cX1_next 27 = .ok (.ifCond .eq 5, 3) := by decide +kernel
theorem dX1_next_30 : decode cX1_next 30 = .ok (.iload_n 3, 1) := by decide +kernel
theorem dX1_next_31 : decode cX1_next 31 = .ok (.ireturn, 1) := by decide +kernel
theorem dX1_next_32 : decode cX1_next 32 = .ok (.iinc 3 1, 3) := by decide +kernel
theorem dX1_next_35 : decode cX1_next 35 = .ok (.goto (-33), 3) := by decide +kernel
theorem dX1_next_38 : decode cX1_next 38 = .ok (.iconst (-1), 1) := by decide +kernel
theorem dX1_next_39 : decode cX1_next 39 = .ok (.ireturn, 1) := by decide +kernel
theorem dX1_gapAt_0 : decode cX1_gapAt 0 = .ok (.aload_n 0, 1) := by decide +kernel
theorem dX1_gapAt_1 : decode cX1_gapAt 1 = .ok (.iload_n 1, 1) := by decide +kernel
theorem dX1_gapAt_2 : decode cX1_gapAt 2 = .ok (.invokevirtual 24, 3) := by decide +kernel
theorem dX1_gapAt_5 : decode cX1_gapAt 5 = .ok (.ifCond .eq 12, 3) := by decide +kernel
theorem dX1_gapAt_8 : decode cX1_gapAt 8 = .ok (.aload_n 0, 1) := by decide +kernel
theorem dX1_gapAt_9 : decode cX1_gapAt 9 = .ok (.iload_n 1, 1) := by decide +kernel
theorem dX1_gapAt_10 : decode cX1_gapAt 10 = .ok (.iload_n 2, 1) := by decide +kernel
theorem dX1_gapAt_11 : decode cX1_gapAt 11 = .ok (.invokevirtual 45, 3) := by decide +kernel
theorem dX1_gapAt_14 : decode cX1_gapAt 14 = .ok (.ifCond .ne 5, 3) := by decide +kernel
theorem dX1_gapAt_17 : decode cX1_gapAt 17 = .ok (.iconst (-1), 1) := by decide +kernel
theorem dX1_gapAt_18 : decode cX1_gapAt 18 = .ok (.ireturn, 1) := by decide +kernel
theorem dX1_gapAt_19 : decode cX1_gapAt 19 = .ok (.iconst 0, 1) := by decide +kernel
theorem dX1_gapAt_20 : decode cX1_gapAt 20 = .ok (.istore 4, 2) := by decide +kernel
theorem dX1_gapAt_22 : decode cX1_gapAt 22 = .ok (.iconst 0, 1) := by decide +kernel
theorem dX1_gapAt_23 : decode cX1_gapAt 23 = .ok (.istore 5, 2) := by decide +kernel
theorem dX1_gapAt_25 : decode cX1_gapAt 25 = .ok (.iload 5, 2) := by decide +kernel
theorem dX1_gapAt_27 : decode cX1_gapAt 27 = .ok (.aload_n 0, 1) := by decide +kernel
theorem dX1_gapAt_28 : decode cX1_gapAt 28 = .ok (.getfield 7, 3) := by decide +kernel
theorem dX1_gapAt_31 : decode cX1_gapAt 31 = .ok (.iload_n 1, 1) := by decide +kernel
theorem dX1_gapAt_32 : decode cX1_gapAt 32 = .ok (.iaload, 1) := by decide +kernel
theorem dX1_gapAt_33 : decode cX1_gapAt 33 = .ok (.if_icmp .ge 45, 3) := by decide +kernel
theorem dX1_gapAt_36 : decode cX1_gapAt 36 = .ok (.aload_n 0, 1) := by decide +kernel
theorem dX1_gapAt_37 : decode cX1_gapAt 37 = .ok (.getfield 13, 3) := by decide +kernel
theorem dX1_gapAt_40 : decode cX1_gapAt 40 = .ok (.bipush 25, 2) := by decide +kernel
theorem dX1_gapAt_42 : decode cX1_gapAt 42 = .ok (.iload_n 1, 1) := by decide +kernel
theorem dX1_gapAt_43 : decode cX1_gapAt 43 = .ok (.imul, 1) := by decide +kernel
theorem dX1_gapAt_44 : decode cX1_gapAt 44 = .ok (.iload 5, 2) := by decide +kernel
theorem dX1_gapAt_46 : decode cX1_gapAt 46 = .ok (.iadd, 1) := by decide +kernel
theorem dX1_gapAt_47 : decode cX1_gapAt 47 = .ok (.iaload, 1) := by decide +kernel
theorem dX1_gapAt_48 : decode cX1_gapAt 48 = .ok (.bipush 7, 2) := by decide +kernel
theorem dX1_gapAt_50 : decode cX1_gapAt 50 = .ok (.if_icmp .ne 22, 3) := by decide +kernel
theorem dX1_gapAt_53 : decode cX1_gapAt 53 = .ok (.iload 4, 2) := by decide +kernel
theorem dX1_gapAt_55 : decode cX1_gapAt 55 = .ok (.iload_n 3, 1) := by decide +kernel
theorem dX1_gapAt_56 : decode cX1_gapAt 56 = .ok (.if_icmp .ne 13, 3) := by decide +kernel
theorem dX1_gapAt_59 : decode cX1_gapAt 59 = .ok (.aload_n 0, 1) := by decide +kernel
theorem dX1_gapAt_60 : decode cX1_gapAt 60 = .ok (.iload_n 1, 1) := by decide +kernel
theorem dX1_gapAt_61 : decode cX1_gapAt 61 = .ok (.iconst 4, 1) := by decide +kernel
theorem dX1_gapAt_62 : decode cX1_gapAt 62 = .ok (.iload_n 2, 1) := by decide +kernel
theorem dX1_gapAt_63 : decode cX1_gapAt 63 = .ok (.iload 5, 2) := by decide +kernel
theorem dX1_gapAt_65 : decode cX1_gapAt 65 = .ok (.invokevirtual 41, 3) := by decide +kernel
theorem dX1_gapAt_68 : decode cX1_gapAt 68 = .ok (.ireturn, 1) := by decide +kernel
theorem dX1_gapAt_69 : decode cX1_gapAt 69 = .ok (.iinc 4 1, 3) := by decide +kernel
theorem dX1_gapAt_72 : decode cX1_gapAt 72 = .ok (.iinc 5 1, 3) := by decide +kernel
theorem dX1_gapAt_75 : decode cX1_gapAt 75 = .ok (.goto (-50), 3) := by decide +kernel
theorem dX1_gapAt_78 : decode cX1_gapAt 78 = .ok (.iconst (-1), 1) := by decide +kernel
theorem dX1_gapAt_79 : decode cX1_gapAt 79 = .ok (.ireturn, 1) := by decide +kernel
theorem dX1_size_0 : decode cX1_size 0 = .ok (.aload_n 0, 1) := by decide +kernel
theorem dX1_size_1 : decode cX1_size 1 = .ok (.iload_n 1, 1) := by decide +kernel
theorem dX1_size_2 : decode cX1_size 2 = .ok (.invokevirtual 38, 3) := by decide +kernel
theorem dX1_size_5 : decode cX1_size 5 = .ok (.ifCond .eq 14, 3) := by decide +kernel
theorem dX1_size_8 : decode cX1_size 8 = .ok (.aload_n 0, 1) := by decide +kernel
theorem dX1_size_9 : decode cX1_size 9 = .ok (.iconst 4, 1) := by decide +kernel
theorem dX1_size_10 : decode cX1_size 10 = .ok (.iload_n 1, 1) := by decide +kernel
theorem dX1_size_11 : decode cX1_size 11 = .ok (.invokevirtual 34, 3) := by decide +kernel
theorem dX1_size_14 : decode cX1_size 14 = .ok (.iload_n 1, 1) := by decide +kernel
theorem dX1_size_15 : decode cX1_size 15 = .ok (.isub, 1) := by decide +kernel
theorem dX1_size_16 : decode cX1_size 16 = .ok (.goto 4, 3) := by decide +kernel
theorem dX1_size_19 : decode cX1_size 19 = .ok (.iconst (-1), 1) := by decide +kernel
theorem dX1_size_20 : decode cX1_size 20 = .ok (.ireturn, 1) := by decide +kernel
theorem dX1_equal_0 : decode cX1_equal 0 = .ok (.aload_n 0, 1) := by decide +kernel
theorem dX1_equal_1 : decode cX1_equal 1 = .ok (.iload_n 1, 1) := by decide +kernel
theorem dX1_equal_2 : decode cX1_equal 2 = .ok (.invokevirtual 38, 3) := by decide +kernel
theorem dX1_equal_5 : decode cX1_equal 5 = .ok (.ifCond .eq 28, 3) := by decide +kernel
theorem dX1_equal_8 : decode cX1_equal 8 = .ok (.aload_n 0, 1) := by decide +kernel
theorem dX1_equal_9 : decode cX1_equal 9 = .ok (.iload_n 2, 1) := by decide +kernel
theorem dX1_equal_10 : decode cX1_equal 10 = .ok (.invokevirtual 38, 3) := by decide +kernel
theorem dX1_equal_13 : decode cX1_equal 13 = .ok (.ifCond .eq 20, 3) := by decide +kernel
theorem dX1_equal_16 : decode cX1_equal 16 = .ok (.aload_n 0, 1) := by decide +kernel
theorem dX1_equal_17 : decode cX1_equal 17 = .ok (.iload_n 1, 1) := by decide +kernel
theorem dX1_equal_18 : decode cX1_equal 18 = .ok (.invokevirtual 49, 3) := by decide +kernel
theorem dX1_equal_21 : decode cX1_equal 21 = .ok (.aload_n 0, 1) := by decide +kernel
theorem dX1_equal_22 : decode cX1_equal 22 = .ok (.iload_n 2, 1) := by decide +kernel
theorem dX1_equal_23 : decode cX1_equal 23 = .ok (.invokevirtual 49, 3) := by decide +kernel
theorem dX1_equal_26 : decode cX1_equal 26 = .ok (.if_icmp .ne 7, 3) := by decide +kernel
theorem dX1_equal_29 : decode cX1_equal 29 = .ok (.iconst 1, 1) := by decide +kernel
theorem dX1_equal_30 : decode cX1_equal 30 = .ok (.goto 4, 3) := by decide +kernel
theorem dX1_equal_33 : decode cX1_equal 33 = .ok (.iconst 0, 1) := by decide +kernel
theorem dX1_equal_34 : decode cX1_equal 34 = .ok (.istore_n 3, 1) := by decide +kernel
theorem dX1_equal_35 : decode cX1_equal 35 = .ok (.iconst 0, 1) := by decide +kernel
theorem dX1_equal_36 : decode cX1_equal 36 = .ok (.istore 4, 2) := by decide +kernel
theorem dX1_equal_38 : decode cX1_equal 38 = .ok (.iload 4, 2) := by decide +kernel
theorem dX1_equal_40 : decode cX1_equal 40 = .ok (.bipush 25, 2) := by decide +kernel
theorem dX1_equal_42 : decode cX1_equal 42 = .ok (.if_icmp .ge 56, 3) := by decide +kernel
theorem dX1_equal_45 : decode cX1_equal 45 = .ok (.iload_n 3, 1) := by decide +kernel
theorem dX1_equal_46 : decode cX1_equal 46 = .ok (.ifCond .eq 52, 3) := by decide +kernel
theorem dX1_equal_49 : decode cX1_equal 49 = .ok (.iload 4, 2) := by decide +kernel
theorem dX1_equal_51 : decode cX1_equal 51 = .ok (.aload_n 0, 1) := by decide +kernel
theorem dX1_equal_52 : decode cX1_equal 52 = .ok (.iload_n 1, 1) := by decide +kernel
theorem dX1_equal_53 : decode cX1_equal 53 = .ok (.invokevirtual 49, 3) := by decide +kernel
theorem dX1_equal_56 : decode cX1_equal 56 = .ok (.if_icmp .ge 30, 3) := by decide +kernel
theorem dX1_equal_59 : decode cX1_equal 59 = .ok (.aload_n 0, 1) := by decide +kernel
theorem dX1_equal_60 : decode cX1_equal 60 = .ok (.getfield 13, 3) := by decide +kernel
theorem dX1_equal_63 : decode cX1_equal 63 = .ok (.bipush 100, 2) := by decide +kernel
theorem dX1_equal_65 : decode cX1_equal 65 = .ok (.iload_n 1, 1) := by decide +kernel
theorem dX1_equal_66 : decode cX1_equal 66 = .ok (.iadd, 1) := by decide +kernel
theorem dX1_equal_67 : decode cX1_equal 67 = .ok (.iload 4, 2) := by decide +kernel
theorem dX1_equal_69 : decode cX1_equal 69 = .ok (.iadd, 1) := by decide +kernel
theorem dX1_equal_70 : decode cX1_equal 70 = .ok (.iaload, 1) := by decide +kernel
theorem dX1_equal_71 : decode cX1_equal 71 = .ok (.aload_n 0, 1) := by decide +kernel
theorem dX1_equal_72 : decode cX1_equal 72 = .ok (.getfield 13, 3) := by decide +kernel
theorem dX1_equal_75 : decode cX1_equal 75 = .ok (.bipush 100, 2) := by decide +kernel
theorem dX1_equal_77 : decode cX1_equal 77 = .ok (.iload_n 2, 1) := by decide +kernel
theorem dX1_equal_78 : decode cX1_equal 78 = .ok (.iadd, 1) := by decide +kernel
theorem dX1_equal_79 : decode cX1_equal 79 = .ok (.iload 4, 2) := by decide +kernel
theorem dX1_equal_81 : decode cX1_equal 81 = .ok (.iadd, 1) := by decide +kernel
theorem dX1_equal_82 : decode cX1_equal 82 = .ok (.iaload, 1) := by decide +kernel
theorem dX1_equal_83 : decode cX1_equal 83 = .ok (.if_icmp .ne 7, 3) := by decide +kernel
theorem dX1_equal_86 : decode cX1_equal 86 = .ok (.iconst 1, 1) := by decide +kernel
theorem dX1_equal_87 : decode cX1_equal 87 = .ok (.goto 4, 3) := by decide +kernel
theorem dX1_equal_90 : decode cX1_equal 90 = .ok (.iconst 0, 1) := by decide +kernel
theorem dX1_equal_91 : decode cX1_equal 91 = .ok (.istore_n 3, 1) := by decide +kernel
theorem dX1_equal_92 : decode cX1_equal 92 = .ok (.iinc 4 1, 3) := by decide +kernel
theorem dX1_equal_95 : decode cX1_equal 95 = .ok (.goto (-57), 3) := by decide +kernel
theorem dX1_equal_98 : decode cX1_equal 98 = .ok (.iload_n 3, 1) := by decide +kernel
theorem dX1_equal_99 : decode cX1_equal 99 = .ok (.ireturn, 1) := by decide +kernel
theorem dX1_kinds_0 : decode cX1_kinds 0 = .ok (.iconst 0, 1) := by decide +kernel
theorem dX1_kinds_1 : decode cX1_kinds 1 = .ok (.istore_n 1, 1) := by decide +kernel
theorem dX1_kinds_2 : decode cX1_kinds 2 = .ok (.iconst 0, 1) := by decide +kernel
theorem dX1_kinds_3 : decode cX1_kinds 3 = .ok (.istore_n 2, 1) := by decide +kernel
theorem dX1_kinds_4 : decode cX1_kinds 4 = .ok (.iload_n 2, 1) := by decide +kernel
theorem dX1_kinds_5 : decode cX1_kinds 5 = .ok (.bipush 16, 2) := by decide +kernel
theorem dX1_kinds_7 : decode cX1_kinds 7 = .ok (.if_icmp .ge 68, 3) := by decide +kernel
theorem dX1_kinds_10 : decode cX1_kinds 10 = .ok (.iconst 0, 1) := by decide +kernel
theorem dX1_kinds_11 : decode cX1_kinds 11 = .ok (.istore_n 3, 1) := by decide +kernel
theorem dX1_kinds_12 : decode cX1_kinds 12 = .ok (.iconst 0, 1) := by decide +kernel
theorem dX1_kinds_13 : decode cX1_kinds 13 = .ok (.istore 4, 2) := by decide +kernel
theorem dX1_kinds_15 : decode cX1_kinds 15 = .ok (.iload 4, 2) := by decide +kernel
theorem dX1_kinds_17 : decode cX1_kinds 17 = .ok (.bipush 25, 2) := by decide +kernel
theorem dX1_kinds_19 : decode cX1_kinds 19 = .ok (.if_icmp .ge 38, 3) := by decide +kernel
theorem dX1_kinds_22 : decode cX1_kinds 22 = .ok (.iload_n 3, 1) := by decide +kernel
theorem dX1_kinds_23 : decode cX1_kinds 23 = .ok (.ifCond .ne 22, 3) := by decide +kernel
theorem dX1_kinds_26 : decode cX1_kinds 26 = .ok (.aload_n 0, 1) := by decide +kernel
theorem dX1_kinds_27 : decode cX1_kinds 27 = .ok (.iload 4, 2) := by decide +kernel
theorem dX1_kinds_29 : decode cX1_kinds 29 = .ok (.invokevirtual 38, 3) := by decide +kernel
theorem dX1_kinds_32 : decode cX1_kinds 32 = .ok (.ifCond .eq 17, 3) := by decide +kernel
theorem dX1_kinds_35 : decode cX1_kinds 35 = .ok (.aload_n 0, 1) := by decide +kernel
theorem dX1_kinds_36 : decode cX1_kinds 36 = .ok (.iload 4, 2) := by decide +kernel
theorem dX1_kinds_38 : decode cX1_kinds 38 = .ok (.invokevirtual 51, 3) := by decide +kernel
theorem dX1_kinds_41 : decode cX1_kinds 41 = .ok (.iload_n 2, 1) := by decide +kernel
theorem dX1_kinds_42 : decode cX1_kinds 42 = .ok (.if_icmp .ne 7, 3) := by decide +kernel
theorem dX1_kinds_45 : decode cX1_kinds 45 = .ok (.iconst 1, 1) := by decide +kernel
theorem dX1_kinds_46 : decode cX1_kinds 46 = .ok (.goto 4, 3) := by decide +kernel
theorem dX1_kinds_49 : decode cX1_kinds 49 = .ok (.iconst 0, 1) := by decide +kernel
theorem dX1_kinds_50 : decode cX1_kinds 50 = .ok (.istore_n 3, 1) := by decide +kernel
theorem dX1_kinds_51 : decode cX1_kinds 51 = .ok (.iinc 4 1, 3) := by decide +kernel
theorem dX1_kinds_54 : decode cX1_kinds 54 = .ok (.goto (-39), 3) := by decide +kernel
theorem dX1_kinds_57 : decode cX1_kinds 57 = .ok (.iload_n 3, 1) := by decide +kernel
theorem dX1_kinds_58 : decode cX1_kinds 58 = .ok (.ifCond .eq 9, 3) := by decide +kernel
theorem dX1_kinds_61 : decode cX1_kinds 61 = .ok (.iload_n 1, 1) := by decide +kernel
theorem dX1_kinds_62 : decode cX1_kinds 62 = .ok (.iconst 1, 1) := by decide +kernel
theorem dX1_kinds_63 : decode cX1_kinds 63 = .ok (.iadd, 1) := by decide +kernel
theorem dX1_kinds_64 : decode cX1_kinds 64 = .ok (.goto 4, 3) := by decide +kernel
theorem dX1_kinds_67 : decode cX1_kinds 67 = .ok (.iload_n 1, 1) := by decide +kernel
theorem dX1_kinds_68 : decode cX1_kinds 68 = .ok (.istore_n 1, 1) := by decide +kernel
theorem dX1_kinds_69 : decode cX1_kinds 69 = .ok (.iinc 2 1, 3) := by decide +kernel
theorem dX1_kinds_72 : decode cX1_kinds 72 = .ok (.goto (-68), 3) := by decide +kernel
theorem dX1_kinds_75 : decode cX1_kinds 75 = .ok (.iload_n 1, 1) := by decide +kernel
theorem dX1_kinds_76 : decode cX1_kinds 76 = .ok (.ireturn, 1) := by decide +kernel
theorem dX1_covers_0 : decode cX1_covers 0 = .ok (.aload_n 0, 1) := by decide +kernel
theorem dX1_covers_1 : decode cX1_covers 1 = .ok (.iload_n 1, 1) := by decide +kernel
theorem dX1_covers_2 : decode cX1_covers 2 = .ok (.invokevirtual 54, 3) := by decide +kernel
theorem dX1_covers_5 : decode cX1_covers 5 = .ok (.ifCond .eq 31, 3) := by decide +kernel
theorem dX1_covers_8 : decode cX1_covers 8 = .ok (.aload_n 0, 1) := by decide +kernel
theorem dX1_covers_9 : decode cX1_covers 9 = .ok (.iload_n 2, 1) := by decide +kernel
theorem dX1_covers_10 : decode cX1_covers 10 = .ok (.invokevirtual 54, 3) := by decide +kernel
theorem dX1_covers_13 : decode cX1_covers 13 = .ok (.ifCond .eq 23, 3) := by decide +kernel
theorem dX1_covers_16 : decode cX1_covers 16 = .ok (.aload_n 0, 1) := by decide +kernel
theorem dX1_covers_17 : decode cX1_covers 17 = .ok (.iload_n 1, 1) := by decide +kernel
theorem dX1_covers_18 : decode cX1_covers 18 = .ok (.iload_n 2, 1) := by decide +kernel
theorem dX1_covers_19 : decode cX1_covers 19 = .ok (.iconst 0, 1) := by decide +kernel
theorem dX1_covers_20 : decode cX1_covers 20 = .ok (.aload_n 0, 1) := by decide +kernel
theorem dX1_covers_21 : decode cX1_covers 21 = .ok (.getfield 7, 3) := by decide +kernel
theorem dX1_covers_24 : decode cX1_covers 24 = .ok (.iload_n 1, 1) := by decide +kernel
theorem dX1_covers_25 : decode cX1_covers 25 = .ok (.iaload, 1) := by decide +kernel
theorem dX1_covers_26 : decode cX1_covers 26 = .ok (.invokevirtual 41, 3) := by decide +kernel
theorem dX1_covers_29 : decode cX1_covers 29 = .ok (.ifCond .lt 7, 3) := by decide +kernel
theorem dX1_covers_32 : decode cX1_covers 32 = .ok (.iconst 1, 1) := by decide +kernel
theorem dX1_covers_33 : decode cX1_covers 33 = .ok (.goto 4, 3) := by decide +kernel
theorem dX1_covers_36 : decode cX1_covers 36 = .ok (.iconst 0, 1) := by decide +kernel
theorem dX1_covers_37 : decode cX1_covers 37 = .ok (.ireturn, 1) := by decide +kernel
theorem dX1_bare_0 : decode cX1_bare 0 = .ok (.iconst 0, 1) := by decide +kernel
theorem dX1_bare_1 : decode cX1_bare 1 = .ok (.istore_n 1, 1) := by decide +kernel
theorem dX1_bare_2 : decode cX1_bare 2 = .ok (.iconst 0, 1) := by decide +kernel
theorem dX1_bare_3 : decode cX1_bare 3 = .ok (.istore_n 2, 1) := by decide +kernel
theorem dX1_bare_4 : decode cX1_bare 4 = .ok (.iload_n 2, 1) := by decide +kernel
theorem dX1_bare_5 : decode cX1_bare 5 = .ok (.bipush 25, 2) := by decide +kernel
theorem dX1_bare_7 : decode cX1_bare 7 = .ok (.if_icmp .ge 33, 3) := by decide +kernel
theorem dX1_bare_10 : decode cX1_bare 10 = .ok (.aload_n 0, 1) := by decide +kernel
theorem dX1_bare_11 : decode cX1_bare 11 = .ok (.iload_n 2, 1) := by decide +kernel
theorem dX1_bare_12 : decode cX1_bare 12 = .ok (.invokevirtual 38, 3) := by decide +kernel
theorem dX1_bare_15 : decode cX1_bare 15 = .ok (.ifCond .eq 17, 3) := by decide +kernel
theorem dX1_bare_18 : decode cX1_bare 18 = .ok (.aload_n 0, 1) := by decide +kernel
theorem dX1_bare_19 : decode cX1_bare 19 = .ok (.iload_n 2, 1) := by decide +kernel
theorem dX1_bare_20 : decode cX1_bare 20 = .ok (.invokevirtual 51, 3) := by decide +kernel
theorem dX1_bare_23 : decode cX1_bare 23 = .ok (.ifCond .ne 9, 3) := by decide +kernel
theorem dX1_bare_26 : decode cX1_bare 26 = .ok (.iload_n 1, 1) := by decide +kernel
theorem dX1_bare_27 : decode cX1_bare 27 = .ok (.iconst 1, 1) := by decide +kernel
theorem dX1_bare_28 : decode cX1_bare 28 = .ok (.iadd, 1) := by decide +kernel
theorem dX1_bare_29 : decode cX1_bare 29 = .ok (.goto 4, 3) := by decide +kernel
theorem dX1_bare_32 : decode cX1_bare 32 = .ok (.iload_n 1, 1) := by decide +kernel
theorem dX1_bare_33 : decode cX1_bare 33 = .ok (.istore_n 1, 1) := by decide +kernel
theorem dX1_bare_34 : decode cX1_bare 34 = .ok (.iinc 2 1, 3) := by decide +kernel
theorem dX1_bare_37 : decode cX1_bare 37 = .ok (.goto (-33), 3) := by decide +kernel
theorem dX1_bare_40 : decode cX1_bare 40 = .ok (.iload_n 1, 1) := by decide +kernel
theorem dX1_bare_41 : decode cX1_bare 41 = .ok (.ireturn, 1) := by decide +kernel
end
section
/-! the law's own entry -/
set_option maxRecDepth 100000
abbrev cL_law : ByteArray := code
theorem dL_law_0 : decode cL_law 0 = .ok (.new 7, 3) := by decide +kernel
theorem dL_law_3 : decode cL_law 3 = .ok (.dup, 1) := by decide +kernel
theorem dL_law_4 : decode cL_law 4 = .ok (.invokespecial 9, 3) := by decide +kernel
theorem dL_law_7 : decode cL_law 7 = .ok (.astore_n 1, 1) := by decide +kernel
theorem dL_law_8 : decode cL_law 8 = .ok (.new 10, 3) := by decide +kernel
theorem dL_law_11 : decode cL_law 11 = .ok (.dup, 1) := by decide +kernel
theorem dL_law_12 : decode cL_law 12 = .ok (.invokespecial 12, 3) := by decide +kernel
theorem dL_law_15 : decode cL_law 15 = .ok (.astore_n 2, 1) := by decide +kernel
theorem dL_law_16 : decode cL_law 16 = .ok (.iconst 0, 1) := by decide +kernel
theorem dL_law_17 : decode cL_law 17 = .ok (.istore_n 3, 1) := by decide +kernel
theorem dL_law_18 : decode cL_law 18 = .ok (.iload_n 3, 1) := by decide +kernel
theorem dL_law_19 : decode cL_law 19 = .ok (.aload_n 0, 1) := by decide +kernel
theorem dL_law_20 : decode cL_law 20 = .ok (.arraylength, 1) := by decide +kernel
theorem dL_law_21 : decode cL_law 21 = .ok (.iconst 4, 1) := by decide +kernel
theorem dL_law_22 : decode cL_law 22 = .ok (.isub, 1) := by decide +kernel
theorem dL_law_23 : decode cL_law 23 = .ok (.if_icmp .gt 456, 3) := by decide +kernel
theorem dL_law_26 : decode cL_law 26 = .ok (.aload_n 0, 1) := by decide +kernel
theorem dL_law_27 : decode cL_law 27 = .ok (.iload_n 3, 1) := by decide +kernel
theorem dL_law_28 : decode cL_law 28 = .ok (.iaload, 1) := by decide +kernel
theorem dL_law_29 : decode cL_law 29 = .ok (.bipush 15, 2) := by decide +kernel
theorem dL_law_31 : decode cL_law 31 = .ok (.iand, 1) := by decide +kernel
theorem dL_law_32 : decode cL_law 32 = .ok (.tableswitch 441 0 14 #[76, 109, 132, 155, 168, 191, 204, 227, 250, 283, 326, 349, 382, 395, 428], 76) := by decide +kernel
theorem dL_law_108 : decode cL_law 108 = .ok (.aload_n 1, 1) := by decide +kernel
theorem dL_law_109 : decode cL_law 109 = .ok (.aload_n 0, 1) := by decide +kernel
theorem dL_law_110 : decode cL_law 110 = .ok (.iload_n 3, 1) := by decide +kernel
theorem dL_law_111 : decode cL_law 111 = .ok (.iconst 1, 1) := by decide +kernel
theorem dL_law_112 : decode cL_law 112 = .ok (.iadd, 1) := by decide +kernel
theorem dL_law_113 : decode cL_law 113 = .ok (.iaload, 1) := by decide +kernel
theorem dL_law_114 : decode cL_law 114 = .ok (.aload_n 0, 1) := by decide +kernel
theorem dL_law_115 : decode cL_law 115 = .ok (.iload_n 3, 1) := by decide +kernel
theorem dL_law_116 : decode cL_law 116 = .ok (.iconst 2, 1) := by decide +kernel
theorem dL_law_117 : decode cL_law 117 = .ok (.iadd, 1) := by decide +kernel
theorem dL_law_118 : decode cL_law 118 = .ok (.iaload, 1) := by decide +kernel
theorem dL_law_119 : decode cL_law 119 = .ok (.invokevirtual 13, 3) := by decide +kernel
theorem dL_law_122 : decode cL_law 122 = .ok (.aload_n 2, 1) := by decide +kernel
theorem dL_law_123 : decode cL_law 123 = .ok (.aload_n 0, 1) := by decide +kernel
theorem dL_law_124 : decode cL_law 124 = .ok (.iload_n 3, 1) := by decide +kernel
theorem dL_law_125 : decode cL_law 125 = .ok (.iconst 1, 1) := by decide +kernel
theorem dL_law_126 : decode cL_law 126 = .ok (.iadd, 1) := by decide +kernel
theorem dL_law_127 : decode cL_law 127 = .ok (.iaload, 1) := by decide +kernel
theorem dL_law_128 : decode cL_law 128 = .ok (.aload_n 0, 1) := by decide +kernel
theorem dL_law_129 : decode cL_law 129 = .ok (.iload_n 3, 1) := by decide +kernel
theorem dL_law_130 : decode cL_law 130 = .ok (.iconst 2, 1) := by decide +kernel
theorem dL_law_131 : decode cL_law 131 = .ok (.iadd, 1) := by decide +kernel
theorem dL_law_132 : decode cL_law 132 = .ok (.iaload, 1) := by decide +kernel
theorem dL_law_133 : decode cL_law 133 = .ok (.invokevirtual 17, 3) := by decide +kernel
theorem dL_law_136 : decode cL_law 136 = .ok (.if_icmp .eq 337, 3) := by decide +kernel
theorem dL_law_139 : decode cL_law 139 = .ok (.iconst 0, 1) := by decide +kernel
theorem dL_law_140 : decode cL_law 140 = .ok (.ireturn, 1) := by decide +kernel
theorem dL_law_141 : decode cL_law 141 = .ok (.aload_n 1, 1) := by decide +kernel
theorem dL_law_142 : decode cL_law 142 = .ok (.aload_n 0, 1) := by decide +kernel
theorem dL_law_143 : decode cL_law 143 = .ok (.iload_n 3, 1) := by decide +kernel
theorem dL_law_144 : decode cL_law 144 = .ok (.iconst 1, 1) := by decide +kernel
theorem dL_law_145 : decode cL_law 145 = .ok (.iadd, 1) := by decide +kernel
theorem dL_law_146 : decode cL_law 146 = .ok (.iaload, 1) := by decide +kernel
theorem dL_law_147 : decode cL_law 147 = .ok (.invokevirtual 18, 3) := by decide +kernel
theorem dL_law_150 : decode cL_law 150 = .ok (.aload_n 2, 1) := by decide +kernel
theorem dL_law_151 : decode cL_law 151 = .ok (.aload_n 0, 1) := by decide +kernel
theorem dL_law_152 : decode cL_law 152 = .ok (.iload_n 3, 1) := by decide +kernel
theorem dL_law_153 : decode cL_law 153 = .ok (.iconst 1, 1) := by decide +kernel
theorem dL_law_154 : decode cL_law 154 = .ok (.iadd, 1) := by decide +kernel
theorem dL_law_155 : decode cL_law 155 = .ok (.iaload, 1) := by decide +kernel
theorem dL_law_156 : decode cL_law 156 = .ok (.invokevirtual 22, 3) := by decide +kernel
theorem dL_law_159 : decode cL_law 159 = .ok (.if_icmp .eq 314, 3) := by decide +kernel
theorem dL_law_162 : decode cL_law 162 = .ok (.iconst 0, 1) := by decide +kernel
theorem dL_law_163 : decode cL_law 163 = .ok (.ireturn, 1) := by decide +kernel
theorem dL_law_164 : decode cL_law 164 = .ok (.aload_n 1, 1) := by decide +kernel
theorem dL_law_165 : decode cL_law 165 = .ok (.aload_n 0, 1) := by decide +kernel
theorem dL_law_166 : decode cL_law 166 = .ok (.iload_n 3, 1) := by decide +kernel
theorem dL_law_167 : decode cL_law 167 = .ok (.iconst 1, 1) := by decide +kernel
theorem dL_law_168 : decode cL_law 168 = .ok (.iadd, 1) := by decide +kernel
theorem dL_law_169 : decode cL_law 169 = .ok (.iaload, 1) := by decide +kernel
theorem dL_law_170 : decode cL_law 170 = .ok (.invokevirtual 23, 3) := by decide +kernel
theorem dL_law_173 : decode cL_law 173 = .ok (.aload_n 2, 1) := by decide +kernel
theorem dL_law_174 : decode cL_law 174 = .ok (.aload_n 0, 1) := by decide +kernel
theorem dL_law_175 : decode cL_law 175 = .ok (.iload_n 3, 1) := by decide +kernel
theorem dL_law_176 : decode cL_law 176 = .ok (.iconst 1, 1) := by decide +kernel
theorem dL_law_177 : decode cL_law 177 = .ok (.iadd, 1) := by decide +kernel
theorem dL_law_178 : decode cL_law 178 = .ok (.iaload, 1) := by decide +kernel
theorem dL_law_179 : decode cL_law 179 = .ok (.invokevirtual 26, 3) := by decide +kernel
theorem dL_law_182 : decode cL_law 182 = .ok (.if_icmp .eq 291, 3) := by decide +kernel
theorem dL_law_185 : decode cL_law 185 = .ok (.iconst 0, 1) := by decide +kernel
theorem dL_law_186 : decode cL_law 186 = .ok (.ireturn, 1) := by decide +kernel
theorem dL_law_187 : decode cL_law 187 = .ok (.aload_n 1, 1) := by decide +kernel
theorem dL_law_188 : decode cL_law 188 = .ok (.invokevirtual 27, 3) := by decide +kernel
theorem dL_law_191 : decode cL_law 191 = .ok (.aload_n 2, 1) := by decide +kernel
theorem dL_law_192 : decode cL_law 192 = .ok (.invokevirtual 31, 3) := by decide +kernel
theorem dL_law_195 : decode cL_law 195 = .ok (.if_icmp .eq 278, 3) := by decide +kernel
theorem dL_law_198 : decode cL_law 198 = .ok (.iconst 0, 1) := by decide +kernel
theorem dL_law_199 : decode cL_law 199 = .ok (.ireturn, 1) := by decide +kernel
theorem dL_law_200 : decode cL_law 200 = .ok (.aload_n 1, 1) := by decide +kernel
theorem dL_law_201 : decode cL_law 201 = .ok (.aload_n 0, 1) := by decide +kernel
theorem dL_law_202 : decode cL_law 202 = .ok (.iload_n 3, 1) := by decide +kernel
theorem dL_law_203 : decode cL_law 203 = .ok (.iconst 1, 1) := by decide +kernel
theorem dL_law_204 : decode cL_law 204 = .ok (.iadd, 1) := by decide +kernel
theorem dL_law_205 : decode cL_law 205 = .ok (.iaload, 1) := by decide +kernel
theorem dL_law_206 : decode cL_law 206 = .ok (.invokevirtual 32, 3) := by decide +kernel
theorem dL_law_209 : decode cL_law 209 = .ok (.aload_n 2, 1) := by decide +kernel
theorem dL_law_210 : decode cL_law 210 = .ok (.aload_n 0, 1) := by decide +kernel
theorem dL_law_211 : decode cL_law 211 = .ok (.iload_n 3, 1) := by decide +kernel
theorem dL_law_212 : decode cL_law 212 = .ok (.iconst 1, 1) := by decide +kernel
theorem dL_law_213 : decode cL_law 213 = .ok (.iadd, 1) := by decide +kernel
theorem dL_law_214 : decode cL_law 214 = .ok (.iaload, 1) := by decide +kernel
theorem dL_law_215 : decode cL_law 215 = .ok (.invokevirtual 36, 3) := by decide +kernel
theorem dL_law_218 : decode cL_law 218 = .ok (.if_icmp .eq 255, 3) := by decide +kernel
theorem dL_law_221 : decode cL_law 221 = .ok (.iconst 0, 1) := by decide +kernel
theorem dL_law_222 : decode cL_law 222 = .ok (.ireturn, 1) := by decide +kernel
theorem dL_law_223 : decode cL_law 223 = .ok (.aload_n 1, 1) := by decide +kernel
theorem dL_law_224 : decode cL_law 224 = .ok (.invokevirtual 37, 3) := by decide +kernel
theorem dL_law_227 : decode cL_law 227 = .ok (.aload_n 2, 1) := by decide +kernel
theorem dL_law_228 : decode cL_law 228 = .ok (.invokevirtual 41, 3) := by decide +kernel
theorem dL_law_231 : decode cL_law 231 = .ok (.if_icmp .eq 242, 3) := by decide +kernel
theorem dL_law_234 : decode cL_law 234 = .ok (.iconst 0, 1) := by decide +kernel
theorem dL_law_235 : decode cL_law 235 = .ok (.ireturn, 1) := by decide +kernel
theorem dL_law_236 : decode cL_law 236 = .ok (.aload_n 1, 1) := by decide +kernel
theorem dL_law_237 : decode cL_law 237 = .ok (.aload_n 0, 1) := by decide +kernel
theorem dL_law_238 : decode cL_law 238 = .ok (.iload_n 3, 1) := by decide +kernel
theorem dL_law_239 : decode cL_law 239 = .ok (.iconst 1, 1) := by decide +kernel
theorem dL_law_240 : decode cL_law 240 = .ok (.iadd, 1) := by decide +kernel
theorem dL_law_241 : decode cL_law 241 = .ok (.iaload, 1) := by decide +kernel
theorem dL_law_242 : decode cL_law 242 = .ok (.invokevirtual 42, 3) := by decide +kernel
theorem dL_law_245 : decode cL_law 245 = .ok (.aload_n 2, 1) := by decide +kernel
theorem dL_law_246 : decode cL_law 246 = .ok (.aload_n 0, 1) := by decide +kernel
theorem dL_law_247 : decode cL_law 247 = .ok (.iload_n 3, 1) := by decide +kernel
theorem dL_law_248 : decode cL_law 248 = .ok (.iconst 1, 1) := by decide +kernel
theorem dL_law_249 : decode cL_law 249 = .ok (.iadd, 1) := by decide +kernel
theorem dL_law_250 : decode cL_law 250 = .ok (.iaload, 1) := by decide +kernel
theorem dL_law_251 : decode cL_law 251 = .ok (.invokevirtual 45, 3) := by decide +kernel
theorem dL_law_254 : decode cL_law 254 = .ok (.if_icmp .eq 219, 3) := by decide +kernel
theorem dL_law_257 : decode cL_law 257 = .ok (.iconst 0, 1) := by decide +kernel
theorem dL_law_258 : decode cL_law 258 = .ok (.ireturn, 1) := by decide +kernel
theorem dL_law_259 : decode cL_law 259 = .ok (.aload_n 1, 1) := by decide +kernel
theorem dL_law_260 : decode cL_law 260 = .ok (.aload_n 0, 1) := by decide +kernel
theorem dL_law_261 : decode cL_law 261 = .ok (.iload_n 3, 1) := by decide +kernel
theorem dL_law_262 : decode cL_law 262 = .ok (.iconst 1, 1) := by decide +kernel
theorem dL_law_263 : decode cL_law 263 = .ok (.iadd, 1) := by decide +kernel
theorem dL_law_264 : decode cL_law 264 = .ok (.iaload, 1) := by decide +kernel
theorem dL_law_265 : decode cL_law 265 = .ok (.invokevirtual 46, 3) := by decide +kernel
theorem dL_law_268 : decode cL_law 268 = .ok (.aload_n 2, 1) := by decide +kernel
theorem dL_law_269 : decode cL_law 269 = .ok (.aload_n 0, 1) := by decide +kernel
theorem dL_law_270 : decode cL_law 270 = .ok (.iload_n 3, 1) := by decide +kernel
theorem dL_law_271 : decode cL_law 271 = .ok (.iconst 1, 1) := by decide +kernel
theorem dL_law_272 : decode cL_law 272 = .ok (.iadd, 1) := by decide +kernel
theorem dL_law_273 : decode cL_law 273 = .ok (.iaload, 1) := by decide +kernel
theorem dL_law_274 : decode cL_law 274 = .ok (.invokevirtual 49, 3) := by decide +kernel
theorem dL_law_277 : decode cL_law 277 = .ok (.if_icmp .eq 196, 3) := by decide +kernel
theorem dL_law_280 : decode cL_law 280 = .ok (.iconst 0, 1) := by decide +kernel
theorem dL_law_281 : decode cL_law 281 = .ok (.ireturn, 1) := by decide +kernel
theorem dL_law_282 : decode cL_law 282 = .ok (.aload_n 1, 1) := by decide +kernel
theorem dL_law_283 : decode cL_law 283 = .ok (.aload_n 0, 1) := by decide +kernel
theorem dL_law_284 : decode cL_law 284 = .ok (.iload_n 3, 1) := by decide +kernel
theorem dL_law_285 : decode cL_law 285 = .ok (.iconst 1, 1) := by decide +kernel
theorem dL_law_286 : decode cL_law 286 = .ok (.iadd, 1) := by decide +kernel
theorem dL_law_287 : decode cL_law 287 = .ok (.iaload, 1) := by decide +kernel
theorem dL_law_288 : decode cL_law 288 = .ok (.aload_n 0, 1) := by decide +kernel
theorem dL_law_289 : decode cL_law 289 = .ok (.iload_n 3, 1) := by decide +kernel
theorem dL_law_290 : decode cL_law 290 = .ok (.iconst 2, 1) := by decide +kernel
theorem dL_law_291 : decode cL_law 291 = .ok (.iadd, 1) := by decide +kernel
theorem dL_law_292 : decode cL_law 292 = .ok (.iaload, 1) := by decide +kernel
theorem dL_law_293 : decode cL_law 293 = .ok (.invokevirtual 50, 3) := by decide +kernel
theorem dL_law_296 : decode cL_law 296 = .ok (.aload_n 2, 1) := by decide +kernel
theorem dL_law_297 : decode cL_law 297 = .ok (.aload_n 0, 1) := by decide +kernel
theorem dL_law_298 : decode cL_law 298 = .ok (.iload_n 3, 1) := by decide +kernel
theorem dL_law_299 : decode cL_law 299 = .ok (.iconst 1, 1) := by decide +kernel
theorem dL_law_300 : decode cL_law 300 = .ok (.iadd, 1) := by decide +kernel
theorem dL_law_301 : decode cL_law 301 = .ok (.iaload, 1) := by decide +kernel
theorem dL_law_302 : decode cL_law 302 = .ok (.aload_n 0, 1) := by decide +kernel
theorem dL_law_303 : decode cL_law 303 = .ok (.iload_n 3, 1) := by decide +kernel
theorem dL_law_304 : decode cL_law 304 = .ok (.iconst 2, 1) := by decide +kernel
theorem dL_law_305 : decode cL_law 305 = .ok (.iadd, 1) := by decide +kernel
theorem dL_law_306 : decode cL_law 306 = .ok (.iaload, 1) := by decide +kernel
theorem dL_law_307 : decode cL_law 307 = .ok (.invokevirtual 53, 3) := by decide +kernel
theorem dL_law_310 : decode cL_law 310 = .ok (.if_icmp .eq 163, 3) := by decide +kernel
theorem dL_law_313 : decode cL_law 313 = .ok (.iconst 0, 1) := by decide +kernel
theorem dL_law_314 : decode cL_law 314 = .ok (.ireturn, 1) := by decide +kernel
theorem dL_law_315 : decode cL_law 315 = .ok (.aload_n 1, 1) := by decide +kernel
theorem dL_law_316 : decode cL_law 316 = .ok (.aload_n 0, 1) := by decide +kernel
theorem dL_law_317 : decode cL_law 317 = .ok (.iload_n 3, 1) := by decide +kernel
theorem dL_law_318 : decode cL_law 318 = .ok (.iconst 1, 1) := by decide +kernel
theorem dL_law_319 : decode cL_law 319 = .ok (.iadd, 1) := by decide +kernel
theorem dL_law_320 : decode cL_law 320 = .ok (.iaload, 1) := by decide +kernel
theorem dL_law_321 : decode cL_law 321 = .ok (.aload_n 0, 1) := by decide +kernel
theorem dL_law_322 : decode cL_law 322 = .ok (.iload_n 3, 1) := by decide +kernel
theorem dL_law_323 : decode cL_law 323 = .ok (.iconst 2, 1) := by decide +kernel
theorem dL_law_324 : decode cL_law 324 = .ok (.iadd, 1) := by decide +kernel
theorem dL_law_325 : decode cL_law 325 = .ok (.iaload, 1) := by decide +kernel
theorem dL_law_326 : decode cL_law 326 = .ok (.aload_n 0, 1) := by decide +kernel
theorem dL_law_327 : decode cL_law 327 = .ok (.iload_n 3, 1) := by decide +kernel
theorem dL_law_328 : decode cL_law 328 = .ok (.iconst 3, 1) := by decide +kernel
theorem dL_law_329 : decode cL_law 329 = .ok (.iadd, 1) := by decide +kernel
theorem dL_law_330 : decode cL_law 330 = .ok (.iaload, 1) := by decide +kernel
theorem dL_law_331 : decode cL_law 331 = .ok (.invokevirtual 54, 3) := by decide +kernel
theorem dL_law_334 : decode cL_law 334 = .ok (.aload_n 2, 1) := by decide +kernel
theorem dL_law_335 : decode cL_law 335 = .ok (.aload_n 0, 1) := by decide +kernel
theorem dL_law_336 : decode cL_law 336 = .ok (.iload_n 3, 1) := by decide +kernel
theorem dL_law_337 : decode cL_law 337 = .ok (.iconst 1, 1) := by decide +kernel
theorem dL_law_338 : decode cL_law 338 = .ok (.iadd, 1) := by decide +kernel
theorem dL_law_339 : decode cL_law 339 = .ok (.iaload, 1) := by decide +kernel
theorem dL_law_340 : decode cL_law 340 = .ok (.aload_n 0, 1) := by decide +kernel
theorem dL_law_341 : decode cL_law 341 = .ok (.iload_n 3, 1) := by decide +kernel
theorem dL_law_342 : decode cL_law 342 = .ok (.iconst 2, 1) := by decide +kernel
theorem dL_law_343 : decode cL_law 343 = .ok (.iadd, 1) := by decide +kernel
theorem dL_law_344 : decode cL_law 344 = .ok (.iaload, 1) := by decide +kernel
theorem dL_law_345 : decode cL_law 345 = .ok (.aload_n 0, 1) := by decide +kernel
theorem dL_law_346 : decode cL_law 346 = .ok (.iload_n 3, 1) := by decide +kernel
theorem dL_law_347 : decode cL_law 347 = .ok (.iconst 3, 1) := by decide +kernel
theorem dL_law_348 : decode cL_law 348 = .ok (.iadd, 1) := by decide +kernel
theorem dL_law_349 : decode cL_law 349 = .ok (.iaload, 1) := by decide +kernel
theorem dL_law_350 : decode cL_law 350 = .ok (.invokevirtual 58, 3) := by decide +kernel
theorem dL_law_353 : decode cL_law 353 = .ok (.if_icmp .eq 120, 3) := by decide +kernel
theorem dL_law_356 : decode cL_law 356 = .ok (.iconst 0, 1) := by decide +kernel
theorem dL_law_357 : decode cL_law 357 = .ok (.ireturn, 1) := by decide +kernel
theorem dL_law_358 : decode cL_law 358 = .ok (.aload_n 1, 1) := by decide +kernel
theorem dL_law_359 : decode cL_law 359 = .ok (.aload_n 0, 1) := by decide +kernel
theorem dL_law_360 : decode cL_law 360 = .ok (.iload_n 3, 1) := by decide +kernel
theorem dL_law_361 : decode cL_law 361 = .ok (.iconst 1, 1) := by decide +kernel
theorem dL_law_362 : decode cL_law 362 = .ok (.iadd, 1) := by decide +kernel
theorem dL_law_363 : decode cL_law 363 = .ok (.iaload, 1) := by decide +kernel
theorem dL_law_364 : decode cL_law 364 = .ok (.invokevirtual 59, 3) := by decide +kernel
theorem dL_law_367 : decode cL_law 367 = .ok (.aload_n 2, 1) := by decide +kernel
theorem dL_law_368 : decode cL_law 368 = .ok (.aload_n 0, 1) := by decide +kernel
theorem dL_law_369 : decode cL_law 369 = .ok (.iload_n 3, 1) := by decide +kernel
theorem dL_law_370 : decode cL_law 370 = .ok (.iconst 1, 1) := by decide +kernel
theorem dL_law_371 : decode cL_law 371 = .ok (.iadd, 1) := by decide +kernel
theorem dL_law_372 : decode cL_law 372 = .ok (.iaload, 1) := by decide +kernel
theorem dL_law_373 : decode cL_law 373 = .ok (.invokevirtual 62, 3) := by decide +kernel
theorem dL_law_376 : decode cL_law 376 = .ok (.if_icmp .eq 97, 3) := by decide +kernel
theorem dL_law_379 : decode cL_law 379 = .ok (.iconst 0, 1) := by decide +kernel
theorem dL_law_380 : decode cL_law 380 = .ok (.ireturn, 1) := by decide +kernel
theorem dL_law_381 : decode cL_law 381 = .ok (.aload_n 1, 1) := by decide +kernel
theorem dL_law_382 : decode cL_law 382 = .ok (.aload_n 0, 1) := by decide +kernel
theorem dL_law_383 : decode cL_law 383 = .ok (.iload_n 3, 1) := by decide +kernel
theorem dL_law_384 : decode cL_law 384 = .ok (.iconst 1, 1) := by decide +kernel
theorem dL_law_385 : decode cL_law 385 = .ok (.iadd, 1) := by decide +kernel
theorem dL_law_386 : decode cL_law 386 = .ok (.iaload, 1) := by decide +kernel
theorem dL_law_387 : decode cL_law 387 = .ok (.aload_n 0, 1) := by decide +kernel
theorem dL_law_388 : decode cL_law 388 = .ok (.iload_n 3, 1) := by decide +kernel
theorem dL_law_389 : decode cL_law 389 = .ok (.iconst 2, 1) := by decide +kernel
theorem dL_law_390 : decode cL_law 390 = .ok (.iadd, 1) := by decide +kernel
theorem dL_law_391 : decode cL_law 391 = .ok (.iaload, 1) := by decide +kernel
theorem dL_law_392 : decode cL_law 392 = .ok (.invokevirtual 63, 3) := by decide +kernel
theorem dL_law_395 : decode cL_law 395 = .ok (.aload_n 2, 1) := by decide +kernel
theorem dL_law_396 : decode cL_law 396 = .ok (.aload_n 0, 1) := by decide +kernel
theorem dL_law_397 : decode cL_law 397 = .ok (.iload_n 3, 1) := by decide +kernel
theorem dL_law_398 : decode cL_law 398 = .ok (.iconst 1, 1) := by decide +kernel
theorem dL_law_399 : decode cL_law 399 = .ok (.iadd, 1) := by decide +kernel
theorem dL_law_400 : decode cL_law 400 = .ok (.iaload, 1) := by decide +kernel
theorem dL_law_401 : decode cL_law 401 = .ok (.aload_n 0, 1) := by decide +kernel
theorem dL_law_402 : decode cL_law 402 = .ok (.iload_n 3, 1) := by decide +kernel
theorem dL_law_403 : decode cL_law 403 = .ok (.iconst 2, 1) := by decide +kernel
theorem dL_law_404 : decode cL_law 404 = .ok (.iadd, 1) := by decide +kernel
theorem dL_law_405 : decode cL_law 405 = .ok (.iaload, 1) := by decide +kernel
theorem dL_law_406 : decode cL_law 406 = .ok (.invokevirtual 67, 3) := by decide +kernel
theorem dL_law_409 : decode cL_law 409 = .ok (.if_icmp .eq 64, 3) := by decide +kernel
theorem dL_law_412 : decode cL_law 412 = .ok (.iconst 0, 1) := by decide +kernel
theorem dL_law_413 : decode cL_law 413 = .ok (.ireturn, 1) := by decide +kernel
theorem dL_law_414 : decode cL_law 414 = .ok (.aload_n 1, 1) := by decide +kernel
theorem dL_law_415 : decode cL_law 415 = .ok (.invokevirtual 68, 3) := by decide +kernel
theorem dL_law_418 : decode cL_law 418 = .ok (.aload_n 2, 1) := by decide +kernel
theorem dL_law_419 : decode cL_law 419 = .ok (.invokevirtual 71, 3) := by decide +kernel
theorem dL_law_422 : decode cL_law 422 = .ok (.if_icmp .eq 51, 3) := by decide +kernel
theorem dL_law_425 : decode cL_law 425 = .ok (.iconst 0, 1) := by decide +kernel
theorem dL_law_426 : decode cL_law 426 = .ok (.ireturn, 1) := by decide +kernel
theorem dL_law_427 : decode cL_law 427 = .ok (.aload_n 1, 1) := by decide +kernel
theorem dL_law_428 : decode cL_law 428 = .ok (.aload_n 0, 1) := by decide +kernel
theorem dL_law_429 : decode cL_law 429 = .ok (.iload_n 3, 1) := by decide +kernel
theorem dL_law_430 : decode cL_law 430 = .ok (.iconst 1, 1) := by decide +kernel
theorem dL_law_431 : decode cL_law 431 = .ok (.iadd, 1) := by decide +kernel
theorem dL_law_432 : decode cL_law 432 = .ok (.iaload, 1) := by decide +kernel
theorem dL_law_433 : decode cL_law 433 = .ok (.aload_n 0, 1) := by decide +kernel
theorem dL_law_434 : decode cL_law 434 = .ok (.iload_n 3, 1) := by decide +kernel
theorem dL_law_435 : decode cL_law 435 = .ok (.iconst 2, 1) := by decide +kernel
theorem dL_law_436 : decode cL_law 436 = .ok (.iadd, 1) := by decide +kernel
theorem dL_law_437 : decode cL_law 437 = .ok (.iaload, 1) := by decide +kernel
theorem dL_law_438 : decode cL_law 438 = .ok (.invokevirtual 72, 3) := by decide +kernel
theorem dL_law_441 : decode cL_law 441 = .ok (.aload_n 2, 1) := by decide +kernel
theorem dL_law_442 : decode cL_law 442 = .ok (.aload_n 0, 1) := by decide +kernel
theorem dL_law_443 : decode cL_law 443 = .ok (.iload_n 3, 1) := by decide +kernel
theorem dL_law_444 : decode cL_law 444 = .ok (.iconst 1, 1) := by decide +kernel
theorem dL_law_445 : decode cL_law 445 = .ok (.iadd, 1) := by decide +kernel
theorem dL_law_446 : decode cL_law 446 = .ok (.iaload, 1) := by decide +kernel
theorem dL_law_447 : decode cL_law 447 = .ok (.aload_n 0, 1) := by decide +kernel
theorem dL_law_448 : decode cL_law 448 = .ok (.iload_n 3, 1) := by decide +kernel
theorem dL_law_449 : decode cL_law 449 = .ok (.iconst 2, 1) := by decide +kernel
theorem dL_law_450 : decode cL_law 450 = .ok (.iadd, 1) := by decide +kernel
theorem dL_law_451 : decode cL_law 451 = .ok (.iaload, 1) := by decide +kernel
theorem dL_law_452 : decode cL_law 452 = .ok (.invokevirtual 75, 3) := by decide +kernel
theorem dL_law_455 : decode cL_law 455 = .ok (.if_icmp .eq 18, 3) := by decide +kernel
theorem dL_law_458 : decode cL_law 458 = .ok (.iconst 0, 1) := by decide +kernel
theorem dL_law_459 : decode cL_law 459 = .ok (.ireturn, 1) := by decide +kernel
theorem dL_law_460 : decode cL_law 460 = .ok (.aload_n 1, 1) := by decide +kernel
theorem dL_law_461 : decode cL_law 461 = .ok (.invokevirtual 76, 3) := by decide +kernel
theorem dL_law_464 : decode cL_law 464 = .ok (.aload_n 2, 1) := by decide +kernel
theorem dL_law_465 : decode cL_law 465 = .ok (.invokevirtual 79, 3) := by decide +kernel
theorem dL_law_468 : decode cL_law 468 = .ok (.if_icmp .eq 5, 3) := by decide +kernel
theorem dL_law_471 : decode cL_law 471 = .ok (.iconst 0, 1) := by decide +kernel
theorem dL_law_472 : decode cL_law 472 = .ok (.ireturn, 1) := by decide +kernel
theorem dL_law_473 : decode cL_law 473 = .ok (.iinc 3 4, 3) := by decide +kernel
theorem dL_law_476 : decode cL_law 476 = .ok (.goto (-458), 3) := by decide +kernel
theorem dL_law_479 : decode cL_law 479 = .ok (.iconst 1, 1) := by decide +kernel
theorem dL_law_480 : decode cL_law 480 = .ok (.ireturn, 1) := by decide +kernel
end
section
/-! ROWS AT THE LEVEL OF NATURAL NUMBERS over the kit's rows: an int is nI n, a counter that falls is pI n (n - 1), a byte array is fN g, the table is fP g -/
def pI (n : Nat) : Int32 := nI n - 1
theorem pI_s (n : Nat) : pI (n + 1) = nI n := nI_pred n
theorem pI_0 : pI 0 = -1 := by decide +kernel
theorem pI_neg0 : pI 0 < 0 := by decide +kernel
theorem xr_m1 : Int32.ofInt (-1) = -1 := by decide +kernel
theorem xr_dec (n : Nat) : nI n + Int32.ofInt (-1) = pI n := by
  rw [xr_m1]
  show nI n + -1 = nI n - 1
  rw [Int32.sub_eq_add_neg]
theorem xr_inc (n : Nat) : nI n + Int32.ofInt 1 = nI (n + 1) := nI_1 n
theorem xr_one : nI 1 = 1 := by decide +kernel
theorem xr_sub1 (n : Nat) : nI n - nI 1 = pI n := by rw [xr_one]; rfl
theorem xc_m1 : Int32.ofInt (-1) = -1 := by decide +kernel
theorem xc_m2 : (Int8.ofInt (-2)).toInt32 = -2 := by decide +kernel
theorem xc_0 : Int32.ofInt 0 = nI 0 := by decide +kernel
theorem xc_1 : Int32.ofInt 1 = nI 1 := by decide +kernel
theorem xc_2 : Int32.ofInt 2 = nI 2 := by decide +kernel
theorem xc_3 : Int32.ofInt 3 = nI 3 := by decide +kernel
theorem xc_4 : Int32.ofInt 4 = nI 4 := by decide +kernel
theorem xc_5 : Int32.ofInt 5 = nI 5 := by decide +kernel
theorem xb_6 : (Int8.ofInt 6).toInt32 = nI 6 := by decide +kernel
theorem xb_7 : (Int8.ofInt 7).toInt32 = nI 7 := by decide +kernel
theorem xb_9 : (Int8.ofInt 9).toInt32 = nI 9 := by decide +kernel
theorem xb_15 : (Int8.ofInt 15).toInt32 = nI 15 := by decide +kernel
theorem xb_16 : (Int8.ofInt 16).toInt32 = nI 16 := by decide +kernel
theorem xb_25 : (Int8.ofInt 25).toInt32 = nI 25 := by decide +kernel
theorem xb_26 : (Int8.ofInt 26).toInt32 = nI 26 := by decide +kernel
theorem xb_36 : (Int8.ofInt 36).toInt32 = nI 36 := by decide +kernel
theorem xb_100 : (Int8.ofInt 100).toInt32 = nI 100 := by decide +kernel
theorem xb_125 : (Int8.ofInt 125).toInt32 = nI 125 := by decide +kernel
theorem xs_1352 : (Int16.ofInt 1352).toInt32 = nI 1352 := by decide +kernel
theorem xs_1404 : (Int16.ofInt 1404).toInt32 = nI 1404 := by decide +kernel
theorem xs_1408 : (Int16.ofInt 1408).toInt32 = nI 1408 := by decide +kernel
theorem xr_byte : ∀ v, v < 128 → (nI v).toInt8.toInt32 = nI v := by decide +kernel
theorem xr_byteP : ∀ v, v < 128 → (pI v).toInt8.toInt32 = pI v := by decide +kernel
/-- an answer that says whether P holds -/
def xr_B (r : Int32) (P : Prop) : Prop := (r = nI 1 ∧ P) ∨ (r = nI 0 ∧ ¬ P)
theorem xr_B.eq {r r' : Int32} {P P' : Prop} (h : xr_B r P) (h' : xr_B r' P') (e : P ↔ P') : r = r' := by
  rcases h with ⟨a, b⟩ | ⟨a, b⟩ <;> rcases h' with ⟨a', b'⟩ | ⟨a', b'⟩
  · rw [a, a']
  · exact absurd (e.mp b) b'
  · exact absurd (e.mpr b') b
  · rw [a, a']
theorem xr_B1 {P : Prop} (h : P) : xr_B (nI 1) P := Or.inl ⟨rfl, h⟩
theorem xr_B0 {P : Prop} (h : ¬ P) : xr_B (nI 0) P := Or.inr ⟨rfl, h⟩
theorem xr_10 : ¬ nI 1 = 0 := by decide +kernel
theorem xr_00 : nI 0 = 0 := by decide +kernel
theorem xr_nz1 : narrow .boolean (.int (nI 1)) = .int (nI 1) := rfl
theorem xr_nz0 : narrow .boolean (.int (nI 0)) = .int (nI 0) := rfl
theorem xr_B.nz {r : Int32} {P : Prop} (h : xr_B r P) : narrow .boolean (.int r) = .int r := by
  rcases h with ⟨a, b⟩ | ⟨a, b⟩
  · rw [a]; exact xr_nz1
  · rw [a]; exact xr_nz0
def fN (g : Nat → Nat) : Nat → Int32 := fun j => nI (g j)
def fP (g : Nat → Nat) : Nat → Int32 := fun j => pI (g j)
theorem fN_upd (g : Nat → Nat) (k v : Nat) : upd (fN g) k (nI v) = fN (va_up g k v) := by
  funext j
  by_cases h : j = k <;> simp [upd, fN, va_up, h]
theorem fP_upd (g : Nat → Nat) (k v : Nat) : upd (fP g) k (pI v) = fP (va_up g k v) := by
  funext j
  by_cases h : j = k <;> simp [upd, fP, va_up, h]
section XR
variable {p : Program} {l : Launch} {e : Env} {R : Room} {s : State} {m : MethodId} {args : Array Value} {below : List Frame} {meth : Method} {c : Code} {H : Heap} {locs : List Loc} {cells slots : Nat} {Q : State → Prop}
variable {cc : ByteArray} {pc : Nat} {ls : Array Slot} {rest : List Value} {D : va_G} {cl : List vw_C} {A : Nat → Prop} {a : Nat} {tys : List (ClassId × FieldType)} {ws : va_W} {H0 : Heap}
theorem xr_conv {x y : Int32} (h : x = y) (k : W p l e R s m args below meth c H locs cells slots Q (F0 m pc ls (.int y :: rest))) : W p l e R s m args below meth c H locs cells slots Q (F0 m pc ls (.int x :: rest)) := by
  rw [h]
  exact k
theorem xr_convL {x y : Int64} (h : x = y) (k : W p l e R s m args below meth c H locs cells slots Q (F0 m pc ls (.long y :: rest))) : W p l e R s m args below meth c H locs cells slots Q (F0 m pc ls (.long x :: rest)) := by
  rw [h]
  exact k
theorem xr_iadd (hexec : p.tables.exec = Jvm.exec) (hb : c.code = cc) {x y : Nat} (hdg : decode cc pc = .ok (.iadd, 1))
    (k : W p l e R s m args below meth c H locs cells slots Q (F0 m (pc + 1) ls (.int (nI (x + y)) :: rest))) : W p l e R s m args below meth c H locs cells slots Q (F0 m pc ls (.int (nI y) :: .int (nI x) :: rest)) := by
  refine lv_iadd hexec hb hdg ?_
  rw [nI_add]
  exact k
theorem xr_isub (hexec : p.tables.exec = Jvm.exec) (hb : c.code = cc) {x y : Nat} (h : y ≤ x) (hdg : decode cc pc = .ok (.isub, 1))
    (k : W p l e R s m args below meth c H locs cells slots Q (F0 m (pc + 1) ls (.int (nI (x - y)) :: rest))) : W p l e R s m args below meth c H locs cells slots Q (F0 m pc ls (.int (nI y) :: .int (nI x) :: rest)) := by
  refine lv_isub hexec hb hdg ?_
  rw [pk_sub h]
  exact k
theorem xr_isubP (hexec : p.tables.exec = Jvm.exec) (hb : c.code = cc) {x : Nat} (hdg : decode cc pc = .ok (.isub, 1))
    (k : W p l e R s m args below meth c H locs cells slots Q (F0 m (pc + 1) ls (.int (pI x) :: rest))) : W p l e R s m args below meth c H locs cells slots Q (F0 m pc ls (.int (nI 1) :: .int (nI x) :: rest)) := by
  refine lv_isub hexec hb hdg ?_
  rw [xr_sub1]
  exact k
theorem xr_imul (hexec : p.tables.exec = Jvm.exec) (hb : c.code = cc) {x y : Nat} (hdg : decode cc pc = .ok (.imul, 1))
    (k : W p l e R s m args below meth c H locs cells slots Q (F0 m (pc + 1) ls (.int (nI (x * y)) :: rest))) : W p l e R s m args below meth c H locs cells slots Q (F0 m pc ls (.int (nI y) :: .int (nI x) :: rest)) := by
  refine lv_imul hexec hb hdg ?_
  rw [pk_mul]
  exact k
theorem xr_i2b (hexec : p.tables.exec = Jvm.exec) (hb : c.code = cc) {x : Nat} (h : x < 128) (hdg : decode cc pc = .ok (.i2b, 1))
    (k : W p l e R s m args below meth c H locs cells slots Q (F0 m (pc + 1) ls (.int (nI x) :: rest))) : W p l e R s m args below meth c H locs cells slots Q (F0 m pc ls (.int (nI x) :: rest)) :=
  lv_i2b (v := nI x) hexec hb hdg (xr_byte x h) k
theorem xr_icmp_eq (hexec : p.tables.exec = Jvm.exec) (hb : c.code = cc) {x y : Nat} {off : Int} {tgt : Nat} (hdg : decode cc pc = .ok (.if_icmp .eq off, 3)) (ht : (pc : Int) + off = (tgt : Int)) (hx : x < 2 ^ 31) (hy : y < 2 ^ 31)
    (kt : x = y → W p l e R s m args below meth c H locs cells slots Q (F0 m tgt ls rest)) (kf : ¬ x = y → W p l e R s m args below meth c H locs cells slots Q (F0 m (pc + 3) ls rest)) : W p l e R s m args below meth c H locs cells slots Q (F0 m pc ls (.int (nI y) :: .int (nI x) :: rest)) :=
  lv_icmp_eq hexec hb hdg ht (fun h => kt ((nI_eq hx hy).mp h)) (fun h => kf (fun q => h ((nI_eq hx hy).mpr q)))
theorem xr_icmp_ne (hexec : p.tables.exec = Jvm.exec) (hb : c.code = cc) {x y : Nat} {off : Int} {tgt : Nat} (hdg : decode cc pc = .ok (.if_icmp .ne off, 3)) (ht : (pc : Int) + off = (tgt : Int)) (hx : x < 2 ^ 31) (hy : y < 2 ^ 31)
    (kt : ¬ x = y → W p l e R s m args below meth c H locs cells slots Q (F0 m tgt ls rest)) (kf : x = y → W p l e R s m args below meth c H locs cells slots Q (F0 m (pc + 3) ls rest)) : W p l e R s m args below meth c H locs cells slots Q (F0 m pc ls (.int (nI y) :: .int (nI x) :: rest)) :=
  lv_icmp_ne hexec hb hdg ht (fun h => kt (fun q => h ((nI_eq hx hy).mpr q))) (fun h => kf ((nI_eq hx hy).mp h))
theorem xr_icmp_lt (hexec : p.tables.exec = Jvm.exec) (hb : c.code = cc) {x y : Nat} {off : Int} {tgt : Nat} (hdg : decode cc pc = .ok (.if_icmp .lt off, 3)) (ht : (pc : Int) + off = (tgt : Int)) (hx : x < 2 ^ 31) (hy : y < 2 ^ 31)
    (kt : x < y → W p l e R s m args below meth c H locs cells slots Q (F0 m tgt ls rest)) (kf : y ≤ x → W p l e R s m args below meth c H locs cells slots Q (F0 m (pc + 3) ls rest)) : W p l e R s m args below meth c H locs cells slots Q (F0 m pc ls (.int (nI y) :: .int (nI x) :: rest)) :=
  lv_icmp_lt hexec hb hdg ht (fun h => kt ((nI_ltI hx hy).mp h)) (fun h => kf (Nat.le_of_not_lt fun q => h ((nI_ltI hx hy).mpr q)))
theorem xr_icmp_ge (hexec : p.tables.exec = Jvm.exec) (hb : c.code = cc) {x y : Nat} {off : Int} {tgt : Nat} (hdg : decode cc pc = .ok (.if_icmp .ge off, 3)) (ht : (pc : Int) + off = (tgt : Int)) (hx : x < 2 ^ 31) (hy : y < 2 ^ 31)
    (kt : y ≤ x → W p l e R s m args below meth c H locs cells slots Q (F0 m tgt ls rest)) (kf : x < y → W p l e R s m args below meth c H locs cells slots Q (F0 m (pc + 3) ls rest)) : W p l e R s m args below meth c H locs cells slots Q (F0 m pc ls (.int (nI y) :: .int (nI x) :: rest)) :=
  lv_icmp_ge hexec hb hdg ht (fun h => kt ((nI_leI hy hx).mp h)) (fun h => kf (Nat.lt_of_not_le fun q => h ((nI_leI hy hx).mpr q)))
theorem xr_icmp_gt (hexec : p.tables.exec = Jvm.exec) (hb : c.code = cc) {x y : Nat} {off : Int} {tgt : Nat} (hdg : decode cc pc = .ok (.if_icmp .gt off, 3)) (ht : (pc : Int) + off = (tgt : Int)) (hx : x < 2 ^ 31) (hy : y < 2 ^ 31)
    (kt : y < x → W p l e R s m args below meth c H locs cells slots Q (F0 m tgt ls rest)) (kf : x ≤ y → W p l e R s m args below meth c H locs cells slots Q (F0 m (pc + 3) ls rest)) : W p l e R s m args below meth c H locs cells slots Q (F0 m pc ls (.int (nI y) :: .int (nI x) :: rest)) :=
  lv_icmp_gt hexec hb hdg ht (fun h => kt ((nI_ltI hy hx).mp h)) (fun h => kf (Nat.le_of_not_lt fun q => h ((nI_ltI hy hx).mpr q)))
theorem xr_icmp_le (hexec : p.tables.exec = Jvm.exec) (hb : c.code = cc) {x y : Nat} {off : Int} {tgt : Nat} (hdg : decode cc pc = .ok (.if_icmp .le off, 3)) (ht : (pc : Int) + off = (tgt : Int)) (hx : x < 2 ^ 31) (hy : y < 2 ^ 31)
    (kt : x ≤ y → W p l e R s m args below meth c H locs cells slots Q (F0 m tgt ls rest)) (kf : y < x → W p l e R s m args below meth c H locs cells slots Q (F0 m (pc + 3) ls rest)) : W p l e R s m args below meth c H locs cells slots Q (F0 m pc ls (.int (nI y) :: .int (nI x) :: rest)) :=
  lv_icmp_le hexec hb hdg ht (fun h => kt ((nI_leI hx hy).mp h)) (fun h => kf (Nat.lt_of_not_le fun q => h ((nI_leI hx hy).mpr q)))
theorem xr_if_eq (hexec : p.tables.exec = Jvm.exec) (hb : c.code = cc) {x : Nat} {off : Int} {tgt : Nat} (hdg : decode cc pc = .ok (.ifCond .eq off, 3)) (ht : (pc : Int) + off = (tgt : Int)) (hx : x < 2 ^ 31)
    (kt : x = 0 → W p l e R s m args below meth c H locs cells slots Q (F0 m tgt ls rest)) (kf : 0 < x → W p l e R s m args below meth c H locs cells slots Q (F0 m (pc + 3) ls rest)) : W p l e R s m args below meth c H locs cells slots Q (F0 m pc ls (.int (nI x) :: rest)) :=
  lv_if_eq hexec hb hdg ht (fun h => kt (by
    rcases Nat.eq_zero_or_pos x with q | q
    · exact q
    · exact absurd h (nI_ne0 q hx))) (fun h => kf (by
    rcases Nat.eq_zero_or_pos x with q | q
    · exact absurd (by rw [q]; exact nI_0) h
    · exact q))
theorem xr_if_ne (hexec : p.tables.exec = Jvm.exec) (hb : c.code = cc) {x : Nat} {off : Int} {tgt : Nat} (hdg : decode cc pc = .ok (.ifCond .ne off, 3)) (ht : (pc : Int) + off = (tgt : Int)) (hx : x < 2 ^ 31)
    (kt : 0 < x → W p l e R s m args below meth c H locs cells slots Q (F0 m tgt ls rest)) (kf : x = 0 → W p l e R s m args below meth c H locs cells slots Q (F0 m (pc + 3) ls rest)) : W p l e R s m args below meth c H locs cells slots Q (F0 m pc ls (.int (nI x) :: rest)) :=
  lv_if_ne hexec hb hdg ht (fun h => kt (by
    rcases Nat.eq_zero_or_pos x with q | q
    · exact absurd (by rw [q]; exact nI_0) h
    · exact q)) (fun h => kf (by
    rcases Nat.eq_zero_or_pos x with q | q
    · exact q
    · exact absurd h (nI_ne0 q hx)))
theorem xr_if_le (hexec : p.tables.exec = Jvm.exec) (hb : c.code = cc) {x : Nat} {off : Int} {tgt : Nat} (hdg : decode cc pc = .ok (.ifCond .le off, 3)) (ht : (pc : Int) + off = (tgt : Int)) (hx : x < 2 ^ 31)
    (kt : x = 0 → W p l e R s m args below meth c H locs cells slots Q (F0 m tgt ls rest)) (kf : 0 < x → W p l e R s m args below meth c H locs cells slots Q (F0 m (pc + 3) ls rest)) : W p l e R s m args below meth c H locs cells slots Q (F0 m pc ls (.int (nI x) :: rest)) :=
  lv_if_le hexec hb hdg ht (fun h => kt (by
    rcases Nat.eq_zero_or_pos x with q | q
    · exact q
    · exact absurd h (nI_nle q hx))) (fun h => kf (by
    rcases Nat.eq_zero_or_pos x with q | q
    · exact absurd (by rw [q, nI_0]; decide) h
    · exact q))
theorem xr_if_ge (hexec : p.tables.exec = Jvm.exec) (hb : c.code = cc) {x : Nat} {off : Int} {tgt : Nat} (hdg : decode cc pc = .ok (.ifCond .ge off, 3)) (ht : (pc : Int) + off = (tgt : Int)) (hx : x < 2 ^ 31)
    (kt : W p l e R s m args below meth c H locs cells slots Q (F0 m tgt ls rest)) : W p l e R s m args below meth c H locs cells slots Q (F0 m pc ls (.int (nI x) :: rest)) :=
  lv_if_ge hexec hb hdg ht (fun _ => kt) (fun h => absurd (nI_pos' hx) h)
theorem xr_if_lt (hexec : p.tables.exec = Jvm.exec) (hb : c.code = cc) {x : Nat} {off : Int} {tgt : Nat} (hdg : decode cc pc = .ok (.ifCond .lt off, 3)) (ht : (pc : Int) + off = (tgt : Int)) (hx : x < 2 ^ 31)
    (kf : W p l e R s m args below meth c H locs cells slots Q (F0 m (pc + 3) ls rest)) : W p l e R s m args below meth c H locs cells slots Q (F0 m pc ls (.int (nI x) :: rest)) :=
  lv_if_lt hexec hb hdg ht (fun h => absurd h (nI_pos hx)) (fun _ => kf)
/-- a falling counter: below 0 just when n is 0 -/
theorem xr_if_ltP (hexec : p.tables.exec = Jvm.exec) (hb : c.code = cc) {x : Nat} {off : Int} {tgt : Nat} (hdg : decode cc pc = .ok (.ifCond .lt off, 3)) (ht : (pc : Int) + off = (tgt : Int)) (hx : x < 2 ^ 31)
    (kt : x = 0 → W p l e R s m args below meth c H locs cells slots Q (F0 m tgt ls rest)) (kf : 0 < x → W p l e R s m args below meth c H locs cells slots Q (F0 m (pc + 3) ls rest)) : W p l e R s m args below meth c H locs cells slots Q (F0 m pc ls (.int (pI x) :: rest)) :=
  lv_if_lt hexec hb hdg ht (fun h => kt (by
    rcases Nat.eq_zero_or_pos x with q | q
    · exact q
    · obtain ⟨y, rfl⟩ : ∃ y, x = y + 1 := ⟨x - 1, by omega⟩
      rw [pI_s] at h
      exact absurd h (nI_pos (by omega)))) (fun h => kf (by
    rcases Nat.eq_zero_or_pos x with q | q
    · exact absurd (by rw [q]; exact pI_neg0) h
    · exact q))
theorem xr_if_geP (hexec : p.tables.exec = Jvm.exec) (hb : c.code = cc) {x : Nat} {off : Int} {tgt : Nat} (hdg : decode cc pc = .ok (.ifCond .ge off, 3)) (ht : (pc : Int) + off = (tgt : Int)) (hx : x < 2 ^ 31)
    (kt : 0 < x → W p l e R s m args below meth c H locs cells slots Q (F0 m tgt ls rest)) (kf : x = 0 → W p l e R s m args below meth c H locs cells slots Q (F0 m (pc + 3) ls rest)) : W p l e R s m args below meth c H locs cells slots Q (F0 m pc ls (.int (pI x) :: rest)) :=
  lv_if_ge hexec hb hdg ht (fun h => kt (by
    rcases Nat.eq_zero_or_pos x with q | q
    · rw [q] at h
      exact absurd h (by decide +kernel)
    · exact q)) (fun h => kf (by
    rcases Nat.eq_zero_or_pos x with q | q
    · exact q
    · obtain ⟨y, rfl⟩ : ∃ y, x = y + 1 := ⟨x - 1, by omega⟩
      rw [pI_s] at h
      exact absurd (nI_pos' (by omega)) h))
/-- an answer that says whether P holds, asked -/
theorem xr_ifeqB (hexec : p.tables.exec = Jvm.exec) (hb : c.code = cc) {x : Int32} {P : Prop} (hB : xr_B x P) {off : Int} {tgt : Nat} (hdg : decode cc pc = .ok (.ifCond .eq off, 3)) (ht : (pc : Int) + off = (tgt : Int))
    (kt : ¬ P → W p l e R s m args below meth c H locs cells slots Q (F0 m tgt ls rest)) (kf : P → W p l e R s m args below meth c H locs cells slots Q (F0 m (pc + 3) ls rest)) : W p l e R s m args below meth c H locs cells slots Q (F0 m pc ls (.int x :: rest)) :=
  lv_if_eq hexec hb hdg ht (fun h => kt (by
    rcases hB with ⟨q, _⟩ | ⟨_, q⟩
    · rw [q] at h; exact absurd h xr_10
    · exact q)) (fun h => kf (by
    rcases hB with ⟨_, q⟩ | ⟨q, _⟩
    · exact q
    · rw [q] at h; exact absurd xr_00 h))
theorem xr_ifneB (hexec : p.tables.exec = Jvm.exec) (hb : c.code = cc) {x : Int32} {P : Prop} (hB : xr_B x P) {off : Int} {tgt : Nat} (hdg : decode cc pc = .ok (.ifCond .ne off, 3)) (ht : (pc : Int) + off = (tgt : Int))
    (kt : P → W p l e R s m args below meth c H locs cells slots Q (F0 m tgt ls rest)) (kf : ¬ P → W p l e R s m args below meth c H locs cells slots Q (F0 m (pc + 3) ls rest)) : W p l e R s m args below meth c H locs cells slots Q (F0 m pc ls (.int x :: rest)) :=
  lv_if_ne hexec hb hdg ht (fun h => kt (by
    rcases hB with ⟨_, q⟩ | ⟨q, _⟩
    · exact q
    · rw [q] at h; exact absurd xr_00 h)) (fun h => kf (by
    rcases hB with ⟨q, _⟩ | ⟨_, q⟩
    · rw [q] at h; exact absurd h xr_10
    · exact q))
theorem xr_bald (hexec : p.tables.exec = Jvm.exec) (hb : c.code = cc) (hK : va_K D cl tys s) (hP : va_P D cl ws H) (q0 t0 : Nat) {cA : ClassId} {n : Nat} {g : Nat → Nat} (ha : ws[q0]? = some (a, .inl (cA, n, .inl (fN g)))) (ht : tys[t0]? = some (cA, .byte)) {k : Nat} (hk : k < n) (hn : n < 2 ^ 31) (hdg : decode cc pc = .ok (.baload, 1))
    (kk : W p l e R s m args below meth c H locs cells slots Q (F0 m (pc + 1) ls (.int (nI (g k)) :: rest))) : W p l e R s m args below meth c H locs cells slots Q (F0 m pc ls (.int (nI k) :: .ref a :: rest)) := by
  refine va_bald hexec hb hK hP q0 t0 ha ht (vp_in_nI hk hn) hdg ?_
  rw [nI_clamp (Nat.lt_trans hk hn)]
  exact kk
theorem xr_baldP (hexec : p.tables.exec = Jvm.exec) (hb : c.code = cc) (hK : va_K D cl tys s) (hP : va_P D cl ws H) (q0 t0 : Nat) {cA : ClassId} {n : Nat} {g : Nat → Nat} (ha : ws[q0]? = some (a, .inl (cA, n, .inl (fP g)))) (ht : tys[t0]? = some (cA, .byte)) {k : Nat} (hk : k < n) (hn : n < 2 ^ 31) (hdg : decode cc pc = .ok (.baload, 1))
    (kk : W p l e R s m args below meth c H locs cells slots Q (F0 m (pc + 1) ls (.int (pI (g k)) :: rest))) : W p l e R s m args below meth c H locs cells slots Q (F0 m pc ls (.int (nI k) :: .ref a :: rest)) := by
  refine va_bald hexec hb hK hP q0 t0 ha ht (vp_in_nI hk hn) hdg ?_
  rw [nI_clamp (Nat.lt_trans hk hn)]
  exact kk
theorem xr_iald (hexec : p.tables.exec = Jvm.exec) (hb : c.code = cc) (hK : va_K D cl tys s) (hP : va_P D cl ws H) (q0 t0 : Nat) {cA : ClassId} {n : Nat} {g : Nat → Nat} (ha : ws[q0]? = some (a, .inl (cA, n, .inl (fN g)))) (ht : tys[t0]? = some (cA, .int)) {k : Nat} (hk : k < n) (hn : n < 2 ^ 31) (hdg : decode cc pc = .ok (.iaload, 1))
    (kk : W p l e R s m args below meth c H locs cells slots Q (F0 m (pc + 1) ls (.int (nI (g k)) :: rest))) : W p l e R s m args below meth c H locs cells slots Q (F0 m pc ls (.int (nI k) :: .ref a :: rest)) := by
  refine va_iald hexec hb hK hP q0 t0 ha ht (vp_in_nI hk hn) hdg ?_
  rw [nI_clamp (Nat.lt_trans hk hn)]
  exact kk
theorem xr_lald (hexec : p.tables.exec = Jvm.exec) (hb : c.code = cc) (hK : va_K D cl tys s) (hP : va_P D cl ws H) (q0 t0 : Nat) {cA : ClassId} {n : Nat} {g : Nat → Int64} (ha : ws[q0]? = some (a, .inl (cA, n, .inr (.inl g)))) (ht : tys[t0]? = some (cA, .long)) {k : Nat} (hk : k < n) (hn : n < 2 ^ 31) (hdg : decode cc pc = .ok (.laload, 1))
    (kk : W p l e R s m args below meth c H locs cells slots Q (F0 m (pc + 1) ls (.long (g k) :: rest))) : W p l e R s m args below meth c H locs cells slots Q (F0 m pc ls (.int (nI k) :: .ref a :: rest)) := by
  refine va_lald hexec hb hK hP q0 t0 ha ht (vp_in_nI hk hn) hdg ?_
  rw [nI_clamp (Nat.lt_trans hk hn)]
  exact kk
theorem xr_bast (hexec : p.tables.exec = Jvm.exec) (hb : c.code = cc) (hK : va_K D cl tys s) (hP : va_P D cl ws H) (hD : va_D A ws) (hS : va_S A H0 H locs) (q0 t0 : Nat) {cA : ClassId} {n : Nat} {g : Nat → Nat} (ha : ws[q0]? = some (a, .inl (cA, n, .inl (fN g)))) (ht : tys[t0]? = some (cA, .byte)) {k v : Nat} (hk : k < n) (hn : n < 2 ^ 31) (hv : v < 128) (hdg : decode cc pc = .ok (.bastore, 1))
    (kk : ∀ (H1 : Heap) (locs1 : List Loc), va_P D cl (ws.set q0 (a, .inl (cA, n, .inl (fN (va_up g k v))))) H1 → va_D A (ws.set q0 (a, .inl (cA, n, .inl (fN (va_up g k v))))) → va_S A H0 H1 locs1 → W p l e R s m args below meth c H1 locs1 cells slots Q (F0 m (pc + 1) ls rest)) : W p l e R s m args below meth c H locs cells slots Q (F0 m pc ls (.int (nI v) :: .int (nI k) :: .ref a :: rest)) := by
  have e1 : upd (fN g) (nI k).toNatClampNeg (vp_nar .byte (nI v)) = fN (va_up g k v) := by
    rw [nI_clamp (Nat.lt_trans hk hn), vp_nar_byte, xr_byte v hv, fN_upd]
  refine va_bast hexec hb hK hP hD hS q0 t0 ha ht (vp_in_nI hk hn) hdg ?_
  rw [e1]
  exact kk
theorem xr_bastP (hexec : p.tables.exec = Jvm.exec) (hb : c.code = cc) (hK : va_K D cl tys s) (hP : va_P D cl ws H) (hD : va_D A ws) (hS : va_S A H0 H locs) (q0 t0 : Nat) {cA : ClassId} {n : Nat} {g : Nat → Nat} (ha : ws[q0]? = some (a, .inl (cA, n, .inl (fP g)))) (ht : tys[t0]? = some (cA, .byte)) {k v : Nat} (hk : k < n) (hn : n < 2 ^ 31) (hv : v < 128) (hdg : decode cc pc = .ok (.bastore, 1))
    (kk : ∀ (H1 : Heap) (locs1 : List Loc), va_P D cl (ws.set q0 (a, .inl (cA, n, .inl (fP (va_up g k v))))) H1 → va_D A (ws.set q0 (a, .inl (cA, n, .inl (fP (va_up g k v))))) → va_S A H0 H1 locs1 → W p l e R s m args below meth c H1 locs1 cells slots Q (F0 m (pc + 1) ls rest)) : W p l e R s m args below meth c H locs cells slots Q (F0 m pc ls (.int (pI v) :: .int (nI k) :: .ref a :: rest)) := by
  have e1 : upd (fP g) (nI k).toNatClampNeg (vp_nar .byte (pI v)) = fP (va_up g k v) := by
    rw [nI_clamp (Nat.lt_trans hk hn), vp_nar_byte, xr_byteP v hv, fP_upd]
  refine va_bast hexec hb hK hP hD hS q0 t0 ha ht (vp_in_nI hk hn) hdg ?_
  rw [e1]
  exact kk
theorem xr_iast (hexec : p.tables.exec = Jvm.exec) (hb : c.code = cc) (hK : va_K D cl tys s) (hP : va_P D cl ws H) (hD : va_D A ws) (hS : va_S A H0 H locs) (q0 t0 : Nat) {cA : ClassId} {n : Nat} {g : Nat → Nat} (ha : ws[q0]? = some (a, .inl (cA, n, .inl (fN g)))) (ht : tys[t0]? = some (cA, .int)) {k v : Nat} (hk : k < n) (hn : n < 2 ^ 31) (hdg : decode cc pc = .ok (.iastore, 1))
    (kk : ∀ (H1 : Heap) (locs1 : List Loc), va_P D cl (ws.set q0 (a, .inl (cA, n, .inl (fN (va_up g k v))))) H1 → va_D A (ws.set q0 (a, .inl (cA, n, .inl (fN (va_up g k v))))) → va_S A H0 H1 locs1 → W p l e R s m args below meth c H1 locs1 cells slots Q (F0 m (pc + 1) ls rest)) : W p l e R s m args below meth c H locs cells slots Q (F0 m pc ls (.int (nI v) :: .int (nI k) :: .ref a :: rest)) := by
  have e1 : upd (fN g) (nI k).toNatClampNeg (nI v) = fN (va_up g k v) := by
    rw [nI_clamp (Nat.lt_trans hk hn), fN_upd]
  refine va_iast hexec hb hK hP hD hS q0 t0 ha ht (vp_in_nI hk hn) hdg ?_
  rw [e1]
  exact kk
theorem xr_last (hexec : p.tables.exec = Jvm.exec) (hb : c.code = cc) (hK : va_K D cl tys s) (hP : va_P D cl ws H) (hD : va_D A ws) (hS : va_S A H0 H locs) (q0 t0 : Nat) {cA : ClassId} {n : Nat} {g : Nat → Int64} (ha : ws[q0]? = some (a, .inl (cA, n, .inr (.inl g)))) (ht : tys[t0]? = some (cA, .long)) {k : Nat} {v : Int64} (hk : k < n) (hn : n < 2 ^ 31) (hdg : decode cc pc = .ok (.lastore, 1))
    (kk : ∀ (H1 : Heap) (locs1 : List Loc), va_P D cl (ws.set q0 (a, .inl (cA, n, .inr (.inl (vp_updL g k v))))) H1 → va_D A (ws.set q0 (a, .inl (cA, n, .inr (.inl (vp_updL g k v))))) → va_S A H0 H1 locs1 → W p l e R s m args below meth c H1 locs1 cells slots Q (F0 m (pc + 1) ls rest)) : W p l e R s m args below meth c H locs cells slots Q (F0 m pc ls (.long v :: .int (nI k) :: .ref a :: rest)) := by
  refine va_last hexec hb hK hP hD hS q0 t0 ha ht (vp_in_nI hk hn) hdg ?_
  rw [nI_clamp (Nat.lt_trans hk hn)]
  exact kk
end XR
/-! contracts: read-only (the heap stays), and with a world that changes -/
abbrev xr_Pr (D : va_G) (cl : List vw_C) (ws : va_W) (tys : List (ClassId × FieldType)) : State → Prop := fun U => va_P D cl ws U.heap ∧ va_K D cl tys U
abbrev xr_Pw (D : va_G) (cl : List vw_C) (ws : va_W) (tys : List (ClassId × FieldType)) (sz : Nat) : State → Prop := fun U => U.heap.size = sz ∧ va_P D cl ws U.heap ∧ va_K D cl tys U ∧ va_D (fun _ => True) ws
abbrev xr_Bw {S : Type} (D : va_G) (cl : List vw_C) (tys : List (ClassId × FieldType)) (A : Nat → Prop) (w1 : S → va_W) : S → State → Prop := fun u t => va_P D cl (w1 u) t.heap ∧ va_K D cl tys t ∧ va_D A (w1 u)
abbrev xr_no : Addr → Prop := fun _ => False
theorem xr_blind0 {av : List Value} : FrameBlind (va_Pc av (fun _ => True)) := fun _ _ _ _ q => q
theorem xr_blindR {D : va_G} {cl : List vw_C} {ws : va_W} {tys : List (ClassId × FieldType)} {av : List Value} : FrameBlind (va_Pc av (xr_Pr D cl ws tys)) := by
  intro a U g mk q
  obtain ⟨q0, qP, qK⟩ := q
  exact ⟨q0, qP, va_K.moved (u := U) (U := U.calling g mk a) (Vm.Alike.refl U.vm) qK⟩
theorem xr_blindW {D : va_G} {cl : List vw_C} {ws : va_W} {tys : List (ClassId × FieldType)} {sz : Nat} {av : List Value} : FrameBlind (va_Pc av (xr_Pw D cl ws tys sz)) := by
  intro a U g mk q
  obtain ⟨q0, q1, qP, qK, qD⟩ := q
  exact ⟨q0, q1, qP, va_K.moved (u := U) (U := U.calling g mk a) (Vm.Alike.refl U.vm) qK, qD⟩
section XC
variable {p : Program} {l : Launch} {e : Env} {R : Room} {s : State} {m : MethodId} {args : Array Value} {below : List Frame} {meth : Method} {c : Code} {H : Heap} {locs : List Loc} {cells slots : Nat} {Q : State → Prop}
variable {cc bytes : ByteArray} {pc nL maxL index n : Nat} {ls : Array Slot} {rest As st0 : List Value} {D : va_G} {cl : List vw_C} {A : Nat → Prop} {b : Nat} {tys tysc : List (ClassId × FieldType)} {ws wc : va_W} {H0 : Heap} {Ts wsm : List Cond} {own C : String} {y : MethodName} {ret : Option FieldType} {rm : Room} {fs : List Value} {T : u_T} {N : Nat}
theorem xr_preV (hK : va_K D cl tys s) (hP : va_P D cl ws H) (q0 ci : Nat) (hc : cl[ci]? = some (C, T, N)) (he : ws[q0]? = some (b, .inr (ci, fs))) : PreV s H C b (va_Pc (.ref b :: As) (xr_Pr D cl ws tys)) As :=
  ⟨xr_blindR, va_recv hK hP hc he, fun U hU hW => ⟨rfl, by rw [hU]; exact hP, va_K.moved hW.alike hK⟩⟩
/-- a call on an object that answers an int and writes nothing -/
theorem xr_cVi {post : Int32 → Prop} (S : CallFix p m c cc nL s args Ts own) (hM : Met l y wsm rm (va_Pc (.ref b :: As) (xr_Pr D cl wc tysc)) (vp_Si post) 0 0 xr_no) (cw : CallW R s args own C index y bytes maxL ret wsm rm 0 0 n) (hK : va_K D cl tysc s) (hP : va_P D cl wc H) (q0 ci : Nat) (hc : cl[ci]? = some (C, T, N)) (he : wc[q0]? = some (b, .inr (ci, fs)))
    (hn : As.length = n) (hsize : ls.size = nL) (hstack : st0 = As.reverse ++ .ref b :: rest) (hW : (rest.map fun v => v.category).sum ≤ 8) (hdg : decode cc pc = .ok (.invokevirtual index, 3)) (hf : cells + 0 ≤ R.cells ∧ slots + 0 ≤ R.slots)
    (kk : ∀ r : Int32, post r → W p l e R s m args below meth c H locs cells slots Q (F0 m (pc + 3) ls (.int r :: rest))) : W p l e R s m args below meth c H locs cells slots Q (F0 m pc ls st0) :=
  vp_callSi (va_Run.run (va_runV (g := F0 m pc ls st0) S hM cw (xr_preV hK hP q0 ci hc he) rfl hn hsize hstack (lv_room hW) hdg hf)) kk
theorem xr_cVl {post : Int64 → Prop} (S : CallFix p m c cc nL s args Ts own) (hM : Met l y wsm rm (va_Pc (.ref b :: As) (xr_Pr D cl wc tysc)) (vp_Sl post) 0 0 xr_no) (cw : CallW R s args own C index y bytes maxL ret wsm rm 0 0 n) (hK : va_K D cl tysc s) (hP : va_P D cl wc H) (q0 ci : Nat) (hc : cl[ci]? = some (C, T, N)) (he : wc[q0]? = some (b, .inr (ci, fs)))
    (hn : As.length = n) (hsize : ls.size = nL) (hstack : st0 = As.reverse ++ .ref b :: rest) (hW : (rest.map fun v => v.category).sum ≤ 8) (hdg : decode cc pc = .ok (.invokevirtual index, 3)) (hf : cells + 0 ≤ R.cells ∧ slots + 0 ≤ R.slots)
    (kk : ∀ r : Int64, post r → W p l e R s m args below meth c H locs cells slots Q (F0 m (pc + 3) ls (.long r :: rest))) : W p l e R s m args below meth c H locs cells slots Q (F0 m pc ls st0) :=
  vp_callSl (va_Run.run (va_runV (g := F0 m pc ls st0) S hM cw (xr_preV hK hP q0 ci hc he) rfl hn hsize hstack (lv_room hW) hdg hf)) kk
/-- a static call that answers an int and writes nothing -/
theorem xr_cSi {post : Int32 → Prop} (S : CallFix p m c cc nL s args Ts own) (hM : Met l y wsm rm (va_Pc As (fun _ => True)) (vp_Si post) 0 0 xr_no) (cw : CallB R s args own index y bytes maxL ret wsm rm 0 0 n ∧ (Cond.static y).before args s = true)
    (hn : As.length = n) (hsize : ls.size = nL) (hstack : st0 = As.reverse ++ rest) (hW : (rest.map fun v => v.category).sum ≤ 8) (hdg : decode cc pc = .ok (.invokestatic index, 3)) (hf : cells + 0 ≤ R.cells ∧ slots + 0 ≤ R.slots)
    (kk : ∀ r : Int32, post r → W p l e R s m args below meth c H locs cells slots Q (F0 m (pc + 3) ls (.int r :: rest))) : W p l e R s m args below meth c H locs cells slots Q (F0 m pc ls st0) :=
  vp_callSi (va_Run.run (va_runS (g := F0 m pc ls st0) S hM cw ⟨xr_blind0, fun _ _ _ => ⟨rfl, trivial⟩⟩ rfl hn hsize hstack (lv_room hW) hdg hf)) kk
theorem xr_preW (hK : va_K D cl tysc s) (hP : va_P D cl wc H) (hD : va_D A wc) (q0 ci : Nat) (hc : cl[ci]? = some (C, T, N)) (he : wc[q0]? = some (b, .inr (ci, fs))) : PreV s H C b (va_Pc (.ref b :: As) (xr_Pw D cl wc tysc H.size)) As :=
  ⟨xr_blindW, va_recv hK hP hc he, fun U hU hW => ⟨rfl, by rw [hU], by rw [hU]; exact hP, va_K.moved hW.alike hK, hD.weaken (fun _ _ _ _ => trivial)⟩⟩
/-- a call on an object that answers an int and changes the world wc to w1 u; the rest wr stays -/
theorem xr_cVwi {S0 : Type} {post : Int32 → S0 → Prop} {w1 : S0 → va_W} {wr : va_W} (S : CallFix p m c cc nL s args Ts own) (hM : Met l y wsm rm (va_Pc (.ref b :: As) (xr_Pw D cl wc tysc H.size)) (va_Qi post (xr_Bw D cl tysc (va_A wc H.size) w1) (va_A wc H.size)) 0 0 (va_A wc H.size)) (cw : CallW R s args own C index y bytes maxL ret wsm rm 0 0 n)
    (hK : va_K D cl tysc s) (hP : va_P D cl ws H) (hD : va_D A ws) (hS : va_S A H0 H locs) (hA : ∀ q, H0.size ≤ q → A q) (isC isR : List Nat) (hCm : isC.filterMap (fun i => ws[i]?) = wc) (hC : isC.map (fun i => ws[i]?) = wc.map some) (hR : isR.map (fun i => ws[i]?) = wr.map some) (hnC : va_nd isC = true) (hnR : va_nd isR = true) (hdis : ∀ i ∈ isR, i ∉ isC) (q0 ci : Nat) (hc : cl[ci]? = some (C, T, N)) (he : wc[q0]? = some (b, .inr (ci, fs)))
    (hn : As.length = n) (hsize : ls.size = nL) (hstack : st0 = As.reverse ++ .ref b :: rest) (hW : (rest.map fun v => v.category).sum ≤ 8) (hdg : decode cc pc = .ok (.invokevirtual index, 3)) (hf : cells + 0 ≤ R.cells ∧ slots + 0 ≤ R.slots)
    (kk : ∀ (r : Int32) (u : S0) (H1 : Heap) (locs1 : List Loc), post r u → va_P D cl (wr ++ w1 u) H1 → va_D A (wr ++ w1 u) → va_S A H0 H1 locs1 → W p l e R s m args below meth c H1 locs1 cells slots Q (F0 m (pc + 3) ls (.int r :: rest))) : W p l e R s m args below meth c H locs cells slots Q (F0 m pc ls st0) := by
  have hFc := va_free (wc := wc) hD hS hA isC hC
  have hPc := hP.sub isC hCm
  have hDc := hD.sub isC hnC hC
  refine va_calli (va_runV (g := F0 m pc ls st0) S hM cw (xr_preW hK hPc hDc q0 ci hc he) rfl hn hsize hstack (lv_room hW) hdg hf) hS (fun q _ h => hFc q h) hFc (fun r u t H1 locs1 ht hvm hw hB hz1 hk1 hS1 => ?_)
  obtain ⟨hP1, hK1, hD1⟩ := hB
  rw [ht] at hP1
  obtain ⟨hP2, hD2⟩ := va_join (wr := wr) (w1 := w1 u) hP hD isC isR hC hR hnR hdis hk1 hFc hP1 hD1
  exact kk r u H1 locs1 hw hP2 hD2 hS1
theorem xr_cVwv {S0 : Type} {post : S0 → Prop} {w1 : S0 → va_W} {wr : va_W} (S : CallFix p m c cc nL s args Ts own) (hM : Met l y wsm rm (va_Pc (.ref b :: As) (xr_Pw D cl wc tysc H.size)) (va_Qv post (xr_Bw D cl tysc (va_A wc H.size) w1) (va_A wc H.size)) 0 0 (va_A wc H.size)) (cw : CallW R s args own C index y bytes maxL ret wsm rm 0 0 n)
    (hK : va_K D cl tysc s) (hP : va_P D cl ws H) (hD : va_D A ws) (hS : va_S A H0 H locs) (hA : ∀ q, H0.size ≤ q → A q) (isC isR : List Nat) (hCm : isC.filterMap (fun i => ws[i]?) = wc) (hC : isC.map (fun i => ws[i]?) = wc.map some) (hR : isR.map (fun i => ws[i]?) = wr.map some) (hnC : va_nd isC = true) (hnR : va_nd isR = true) (hdis : ∀ i ∈ isR, i ∉ isC) (q0 ci : Nat) (hc : cl[ci]? = some (C, T, N)) (he : wc[q0]? = some (b, .inr (ci, fs)))
    (hn : As.length = n) (hsize : ls.size = nL) (hstack : st0 = As.reverse ++ .ref b :: rest) (hW : (rest.map fun v => v.category).sum ≤ 8) (hdg : decode cc pc = .ok (.invokevirtual index, 3)) (hf : cells + 0 ≤ R.cells ∧ slots + 0 ≤ R.slots)
    (kk : ∀ (u : S0) (H1 : Heap) (locs1 : List Loc), post u → va_P D cl (wr ++ w1 u) H1 → va_D A (wr ++ w1 u) → va_S A H0 H1 locs1 → W p l e R s m args below meth c H1 locs1 cells slots Q (F0 m (pc + 3) ls rest)) : W p l e R s m args below meth c H locs cells slots Q (F0 m pc ls st0) := by
  have hFc := va_free (wc := wc) hD hS hA isC hC
  have hPc := hP.sub isC hCm
  have hDc := hD.sub isC hnC hC
  refine va_callv (va_runV (g := F0 m pc ls st0) S hM cw (xr_preW hK hPc hDc q0 ci hc he) rfl hn hsize hstack (lv_room hW) hdg hf) hS (fun q _ h => hFc q h) hFc (fun u t H1 locs1 ht hvm hw hB hz1 hk1 hS1 => ?_)
  obtain ⟨hP1, hK1, hD1⟩ := hB
  rw [ht] at hP1
  obtain ⟨hP2, hD2⟩ := va_join (wr := wr) (w1 := w1 u) hP hD isC isR hC hR hnR hdis hk1 hFc hP1 hD1
  exact kk u H1 locs1 hw hP2 hD2 hS1
/-- the end of a read-only method -/
theorem xr_retSi {post : Int32 → Prop} {v : Int32} (hexec : p.tables.exec = Jvm.exec) (hb : c.code = cc) (hr : meth.sig.returnType = some .int) (hlocks : meth.locks = false) (hH : H = s.heap) (hp : post v) (hdg : decode cc pc = .ok (.ireturn, 1)) : W p l e R s m args below meth c H [] cells slots (MQ below (vp_Si post) args s cells slots xr_no) (F0 m pc ls [.int v]) :=
  W.iret hexec hb hr (fun t ht _ => ⟨v, rfl, hp, by rw [ht, hH]⟩) (fun _ h => by cases h) hdg
theorem xr_retSz {post : Int32 → Prop} {v : Int32} (hexec : p.tables.exec = Jvm.exec) (hb : c.code = cc) (hr : meth.sig.returnType = some .boolean) (hlocks : meth.locks = false) (hn : narrow .boolean (.int v) = .int v) (hH : H = s.heap) (hp : post v) (hdg : decode cc pc = .ok (.ireturn, 1)) : W p l e R s m args below meth c H [] cells slots (MQ below (vp_Si post) args s cells slots xr_no) (F0 m pc ls [.int v]) :=
  W.zret hexec hb hr hn (fun t ht _ => ⟨v, rfl, hp, by rw [ht, hH]⟩) (fun _ h => by cases h) hdg
theorem xr_retSl {post : Int64 → Prop} {v : Int64} (hexec : p.tables.exec = Jvm.exec) (hb : c.code = cc) (hr : meth.sig.returnType = some .long) (hlocks : meth.locks = false) (hH : H = s.heap) (hp : post v) (hdg : decode cc pc = .ok (.lreturn, 1)) : W p l e R s m args below meth c H [] cells slots (MQ below (vp_Sl post) args s cells slots xr_no) (F0 m pc ls [.long v]) :=
  W.lret hexec hb hr (fun t ht _ => ⟨v, rfl, hp, by rw [ht, hH]⟩) (fun _ h => by cases h) hdg
/-- the end of a method that changed its world -/
theorem xr_retWi {S0 : Type} {post : Int32 → S0 → Prop} {w1 : S0 → va_W} {v : Int32} (u : S0) (hexec : p.tables.exec = Jvm.exec) (hb : c.code = cc) (hr : meth.sig.returnType = some .int) (hlocks : meth.locks = false) (hp : post v u) (hP : va_P D cl (w1 u) H) (hK : va_K D cl tys s) (hD : va_D A (w1 u)) (hS : va_S A s.heap H locs) (hdg : decode cc pc = .ok (.ireturn, 1)) : W p l e R s m args below meth c H locs cells slots (MQ below (va_Qi post (xr_Bw D cl tys A w1) A) args s cells slots A) (F0 m pc ls [.int v]) :=
  W.iret hexec hb hr (fun t ht hW => ⟨⟨v, u, rfl, hp, by rw [ht]; exact hP, va_K.moved hW.alike hK, hD⟩, hS.F ht⟩) hS.2.2 hdg
theorem xr_retWz {S0 : Type} {post : Int32 → S0 → Prop} {w1 : S0 → va_W} {v : Int32} (u : S0) (hexec : p.tables.exec = Jvm.exec) (hb : c.code = cc) (hr : meth.sig.returnType = some .boolean) (hlocks : meth.locks = false) (hn : narrow .boolean (.int v) = .int v) (hp : post v u) (hP : va_P D cl (w1 u) H) (hK : va_K D cl tys s) (hD : va_D A (w1 u)) (hS : va_S A s.heap H locs) (hdg : decode cc pc = .ok (.ireturn, 1)) : W p l e R s m args below meth c H locs cells slots (MQ below (va_Qi post (xr_Bw D cl tys A w1) A) args s cells slots A) (F0 m pc ls [.int v]) :=
  W.zret hexec hb hr hn (fun t ht hW => ⟨⟨v, u, rfl, hp, by rw [ht]; exact hP, va_K.moved hW.alike hK, hD⟩, hS.F ht⟩) hS.2.2 hdg
theorem xr_retWv {S0 : Type} {post : S0 → Prop} {w1 : S0 → va_W} (u : S0) (hexec : p.tables.exec = Jvm.exec) (hb : c.code = cc) (hr : meth.sig.returnType = none) (hlocks : meth.locks = false) (hp : post u) (hP : va_P D cl (w1 u) H) (hK : va_K D cl tys s) (hD : va_D A (w1 u)) (hS : va_S A s.heap H locs) (hdg : decode cc pc = .ok (.return_, 1)) : W p l e R s m args below meth c H locs cells slots (MQ below (va_Qv post (xr_Bw D cl tys A w1) A) args s cells slots A) (F0 m pc ls []) :=
  W.vret hexec hb hr (fun t ht hW => ⟨⟨u, rfl, hp, by rw [ht]; exact hP, va_K.moved hW.alike hK, hD⟩, hS.F ht⟩) hS.2.2 hdg
end XC
end
section
/-! THE PLAIN LAW: lists of tokens, parts, laying a pattern over a list; no program in sight -/
def pt_ar (t : Nat) : Nat := if t ≤ 1 then 2 else if t ≤ 3 then 1 else 0
theorem pt_ar_le (t : Nat) : pt_ar t ≤ 2 := by unfold pt_ar; split <;> (try split) <;> omega
theorem pt_ar_7 : pt_ar 7 = 0 := rfl
/-- parts that are still missing behind the first n tokens -/
def pt_need (f : Nat → Nat) : Nat → Nat
  | 0 => 1
  | n + 1 => pt_need f n + pt_ar (f n) - 1
/-- no proper prefix is complete -/
def pt_ok (f : Nat → Nat) (n : Nat) : Prop := ∀ k, k < n → 1 ≤ pt_need f k
theorem pt_need_s (f : Nat → Nat) (n : Nat) : pt_need f (n + 1) = pt_need f n + pt_ar (f n) - 1 := rfl
theorem pt_need_le (f : Nat → Nat) (n : Nat) : pt_need f n ≤ 1 + n := by
  induction n with
  | zero => exact Nat.le_refl 1
  | succ n ih =>
    have h := pt_ar_le (f n)
    rw [pt_need_s]
    omega
theorem pt_need_congr {f g : Nat → Nat} {n : Nat} (h : ∀ k, k < n → f k = g k) : pt_need f n = pt_need g n := by
  induction n with
  | zero => rfl
  | succ n ih =>
    rw [pt_need_s, pt_need_s, ih (fun k hk => h k (by omega)), h n (by omega)]
theorem pt_ok_congr {f g : Nat → Nat} {n : Nat} (h : ∀ k, k < n → f k = g k) (ho : pt_ok f n) : pt_ok g n := by
  intro k hk
  rw [← pt_need_congr (fun i hi => h i (by omega))]
  exact ho k hk
theorem pt_ok_mono {f : Nat → Nat} {n m : Nat} (h : pt_ok f n) (hm : m ≤ n) : pt_ok f m := fun k hk => h k (by omega)
/-- the place behind o parts from i on; d: the tokens left -/
def pt_sk (f : Nat → Nat) : Nat → Nat → Nat → Nat
  | 0, i, _ => i
  | _ + 1, i, 0 => i
  | d + 1, i, o + 1 => pt_sk f d (i + 1) (o + pt_ar (f i))
def pt_skip (f : Nat → Nat) (n i o : Nat) : Nat := pt_sk f (n - i) i o
theorem pt_skip_0 (f : Nat → Nat) (n i : Nat) : pt_skip f n i 0 = i := by
  unfold pt_skip
  cases n - i <;> rfl
theorem pt_skip_end (f : Nat → Nat) {n i : Nat} (o : Nat) (h : n ≤ i) : pt_skip f n i o = i := by
  unfold pt_skip
  rw [show n - i = 0 by omega]
  rfl
theorem pt_skip_s (f : Nat → Nat) {n i : Nat} (o : Nat) (h : i < n) : pt_skip f n i (o + 1) = pt_skip f n (i + 1) (o + pt_ar (f i)) := by
  unfold pt_skip
  rw [show n - i = (n - (i + 1)) + 1 by omega]
  rfl
theorem pt_skip_ge (f : Nat → Nat) (n : Nat) : ∀ (d i o : Nat), n - i = d → i ≤ pt_skip f n i o := by
  intro d
  induction d with
  | zero => intro i o h; rw [pt_skip_end f o (by omega)]; exact Nat.le_refl i
  | succ d ih =>
    intro i o h
    cases o with
    | zero => rw [pt_skip_0]; exact Nat.le_refl i
    | succ o =>
      rw [pt_skip_s f o (by omega)]
      have := ih (i + 1) (o + pt_ar (f i)) (by omega)
      omega
theorem pt_skip_le (f : Nat → Nat) (n : Nat) : ∀ (d i o : Nat), n - i = d → i ≤ n → pt_skip f n i o ≤ n := by
  intro d
  induction d with
  | zero => intro i o h hi; rw [pt_skip_end f o (by omega)]; exact hi
  | succ d ih =>
    intro i o h hi
    cases o with
    | zero => rw [pt_skip_0]; exact hi
    | succ o =>
      rw [pt_skip_s f o (by omega)]
      exact ih (i + 1) (o + pt_ar (f i)) (by omega) (by omega)
theorem pt_skip_in (f : Nat → Nat) {n i : Nat} (o : Nat) (h : i ≤ n) : i ≤ pt_skip f n i o ∧ pt_skip f n i o ≤ n := ⟨pt_skip_ge f n _ i o rfl, pt_skip_le f n _ i o rfl h⟩
theorem pt_skip_gt (f : Nat → Nat) {n i : Nat} (o : Nat) (h : i < n) : i < pt_skip f n i (o + 1) := by
  rw [pt_skip_s f o h]
  have := (pt_skip_in f (n := n) (i := i + 1) (o + pt_ar (f i)) (by omega)).1
  omega
theorem pt_skip_add (f : Nat → Nat) (n : Nat) : ∀ (d i a b : Nat), n - i = d → pt_skip f n i (a + b) = pt_skip f n (pt_skip f n i a) b := by
  intro d
  induction d with
  | zero =>
    intro i a b h
    rw [pt_skip_end f a (by omega), pt_skip_end f (a + b) (by omega), pt_skip_end f b (by omega)]
  | succ d ih =>
    intro i a b h
    cases a with
    | zero => rw [pt_skip_0, Nat.zero_add]
    | succ a =>
      rw [show a + 1 + b = (a + b) + 1 by omega, pt_skip_s f (a + b) (by omega), pt_skip_s f a (by omega), show a + b + pt_ar (f i) = (a + pt_ar (f i)) + b by omega]
      exact ih (i + 1) (a + pt_ar (f i)) b (by omega)
theorem pt_need_skip {f : Nat → Nat} {n : Nat} (ho : pt_ok f n) (h0 : pt_need f n = 0) : ∀ (d i o : Nat), n - i = d → i ≤ n → o ≤ pt_need f i → pt_need f (pt_skip f n i o) = pt_need f i - o := by
  intro d
  induction d with
  | zero =>
    intro i o h hi hn
    have e : i = n := by omega
    subst e
    rw [pt_skip_end f o (Nat.le_refl _), h0]
    omega
  | succ d ih =>
    intro i o h hi hn
    cases o with
    | zero => rw [pt_skip_0]; omega
    | succ o =>
      have h1 := ho i (by omega)
      rw [pt_skip_s f o (by omega), ih (i + 1) (o + pt_ar (f i)) (by omega) (by omega) (by rw [pt_need_s]; omega), pt_need_s]
      omega
theorem pt_need_skip' {f : Nat → Nat} {n i o : Nat} (ho : pt_ok f n) (h0 : pt_need f n = 0) (hi : i ≤ n) (h : o ≤ pt_need f i) : pt_need f (pt_skip f n i o) = pt_need f i - o := pt_need_skip ho h0 _ i o rfl hi h
theorem pt_lt_of_need {f : Nat → Nat} {n i : Nat} (h0 : pt_need f n = 0) (hi : i ≤ n) (h : 1 ≤ pt_need f i) : i < n := by
  rcases Nat.lt_or_ge i n with q | q
  · exact q
  · have e : i = n := by omega
    rw [e, h0] at h
    omega
/-- the whole of a complete list is one part -/
theorem pt_skip_all {f : Nat → Nat} {n : Nat} (ho : pt_ok f n) (h0 : pt_need f n = 0) : pt_skip f n 0 1 = n := by
  have h1 := pt_need_skip' (i := 0) (o := 1) ho h0 (Nat.zero_le _) (Nat.le_refl 1)
  have h2 := (pt_skip_in f (n := n) (i := 0) 1 (Nat.zero_le _)).2
  rcases Nat.lt_or_ge (pt_skip f n 0 1) n with q | q
  · have h3 := ho _ q
    rw [h1] at h3
    exact absurd h3 (by simp [pt_need])
  · omega
theorem pt_skip_congr {f g : Nat → Nat} {n : Nat} (hfg : ∀ k, k < n → f k = g k) : ∀ (d i o : Nat), n - i = d → pt_skip f n i o = pt_skip g n i o := by
  intro d
  induction d with
  | zero => intro i o h; rw [pt_skip_end f o (by omega), pt_skip_end g o (by omega)]
  | succ d ih =>
    intro i o h
    cases o with
    | zero => rw [pt_skip_0, pt_skip_0]
    | succ o =>
      rw [pt_skip_s f o (by omega), pt_skip_s g o (by omega), hfg i (by omega)]
      exact ih (i + 1) _ (by omega)
/-- the part at i, by the arity of its token -/
theorem pt_skip_a0 {f : Nat → Nat} {n i : Nat} (h : i < n) (ha : pt_ar (f i) = 0) : pt_skip f n i 1 = i + 1 := by
  rw [pt_skip_s f 0 h, ha, pt_skip_0]
theorem pt_skip_a1 {f : Nat → Nat} {n i : Nat} (h : i < n) (ha : pt_ar (f i) = 1) : pt_skip f n i 1 = pt_skip f n (i + 1) 1 := by
  rw [pt_skip_s f 0 h, ha]
theorem pt_skip_a2 {f : Nat → Nat} {n i : Nat} (h : i < n) (ha : pt_ar (f i) = 2) : pt_skip f n i 1 = pt_skip f n (pt_skip f n (i + 1) 1) 1 := by
  rw [pt_skip_s f 0 h, ha]
  exact pt_skip_add f n _ (i + 1) 1 1 rfl
/-- pattern f laid over the list g of n tokens: j tokens from k on, at place i -/
def pt_lay (f g : Nat → Nat) (n : Nat) : Nat → Nat → Nat → Option Nat
  | 0, _, i => some i
  | j + 1, k, i => if f k = 7 then pt_lay f g n j (k + 1) (pt_skip g n i 1) else if i < n ∧ g i = f k then pt_lay f g n j (k + 1) (i + 1) else none
theorem pt_lay_0 (f g : Nat → Nat) (n k i : Nat) : pt_lay f g n 0 k i = some i := rfl
theorem pt_lay_s (f g : Nat → Nat) (n j k i : Nat) : pt_lay f g n (j + 1) k i = if f k = 7 then pt_lay f g n j (k + 1) (pt_skip g n i 1) else if i < n ∧ g i = f k then pt_lay f g n j (k + 1) (i + 1) else none := rfl
theorem pt_lay_g {f g : Nat → Nat} {n j k i : Nat} (h : f k = 7) : pt_lay f g n (j + 1) k i = pt_lay f g n j (k + 1) (pt_skip g n i 1) := by rw [pt_lay_s, if_pos h]
theorem pt_lay_t {f g : Nat → Nat} {n j k i : Nat} (h : ¬ f k = 7) (h2 : i < n) (h3 : g i = f k) : pt_lay f g n (j + 1) k i = pt_lay f g n j (k + 1) (i + 1) := by rw [pt_lay_s, if_neg h, if_pos ⟨h2, h3⟩]
theorem pt_lay_n {f g : Nat → Nat} {n j k i : Nat} (h : ¬ f k = 7) (h2 : ¬ (i < n ∧ g i = f k)) : pt_lay f g n (j + 1) k i = none := by rw [pt_lay_s, if_neg h, if_neg h2]
theorem pt_lay_add (f g : Nat → Nat) (n : Nat) : ∀ (a b k i : Nat), pt_lay f g n (a + b) k i = (pt_lay f g n a k i).bind (fun x => pt_lay f g n b (k + a) x) := by
  intro a
  induction a with
  | zero => intro b k i; rw [Nat.zero_add]; rfl
  | succ a ih =>
    intro b k i
    rw [show a + 1 + b = (a + b) + 1 by omega, pt_lay_s, pt_lay_s]
    split
    · rw [ih, show k + 1 + a = k + (a + 1) by omega]
    · split
      · rw [ih, show k + 1 + a = k + (a + 1) by omega]
      · rfl
/-- where a part of the pattern ends on the list -/
theorem pt_lay_skip {f g : Nat → Nat} {nf n : Nat} (hof : pt_ok f nf) (h0f : pt_need f nf = 0) (hog : pt_ok g n) (h0g : pt_need g n = 0) : ∀ (d k i o i' : Nat), nf - k = d → k ≤ nf → i ≤ n → o ≤ pt_need f k → o ≤ pt_need g i → pt_lay f g n (pt_skip f nf k o - k) k i = some i' → i' = pt_skip g n i o := by
  intro d
  induction d with
  | zero =>
    intro k i o i' h hk hi hof1 hog1 hl
    have e : k = nf := by omega
    rw [e, h0f] at hof1
    have e2 : o = 0 := by omega
    subst e2
    rw [pt_skip_0, Nat.sub_self, pt_lay_0] at hl
    rw [pt_skip_0]
    exact (Option.some.inj hl).symm
  | succ d ih =>
    intro k i o i' h hk hi hof1 hog1 hl
    cases o with
    | zero =>
      rw [pt_skip_0, Nat.sub_self, pt_lay_0] at hl
      rw [pt_skip_0]
      exact (Option.some.inj hl).symm
    | succ o =>
      have hkf := hof k (by omega)
      have hin : i < n := pt_lt_of_need h0g hi (by omega)
      have hgt := (pt_skip_in f (n := nf) (i := k + 1) (o + pt_ar (f k)) (by omega)).1
      rw [pt_skip_s f o (by omega), show pt_skip f nf (k + 1) (o + pt_ar (f k)) - k = (pt_skip f nf (k + 1) (o + pt_ar (f k)) - (k + 1)) + 1 by omega, pt_lay_s] at hl
      split at hl
      · rename_i h7
        have ha : pt_ar (f k) = 0 := by rw [h7]; rfl
        have hin2 := pt_skip_in g (n := n) (i := i) 1 (by omega)
        have hn2 := pt_need_skip' (i := i) (o := 1) hog h0g (by omega) (by omega)
        rw [ha] at hl
        have r := ih (k + 1) (pt_skip g n i 1) (o + 0) i' (by omega) (by omega) hin2.2 (by rw [pt_need_s, ha]; omega) (by omega) hl
        rw [r, Nat.add_zero, show o + 1 = 1 + o by omega]
        exact (pt_skip_add g n _ i 1 o rfl).symm
      · split at hl
        · rename_i h7 hg
          have r := ih (k + 1) (i + 1) (o + pt_ar (f k)) i' (by omega) (by omega) (by omega) (by rw [pt_need_s]; omega) (by rw [pt_need_s, hg.2]; omega) hl
          rw [r, pt_skip_s g o hin, hg.2]
        · cases hl
/-- the parts missing in the pattern and in the list go together -/
theorem pt_lay_need {f g : Nat → Nat} {nf n : Nat} (hof : pt_ok f nf) (hog : pt_ok g n) (h0g : pt_need g n = 0) : ∀ (j k i i' : Nat), k + j ≤ nf → i ≤ n → pt_need f k ≤ pt_need g i → pt_lay f g n j k i = some i' → i' ≤ n ∧ pt_need g i' + pt_need f k = pt_need g i + pt_need f (k + j) := by
  intro j
  induction j with
  | zero =>
    intro k i i' hk hi hn hl
    rw [pt_lay_0] at hl
    have e := Option.some.inj hl
    subst e
    exact ⟨hi, rfl⟩
  | succ j ih =>
    intro k i i' hk hi hn hl
    have hkf := hof k (by omega)
    have hin : i < n := pt_lt_of_need h0g hi (by omega)
    rw [pt_lay_s] at hl
    split at hl
    · rename_i h7
      have ha : pt_ar (f k) = 0 := by rw [h7]; rfl
      have hin2 := pt_skip_in g (n := n) (i := i) 1 (by omega)
      have hn2 := pt_need_skip' (i := i) (o := 1) hog h0g (by omega) (by omega)
      have hs := pt_need_s f k
      have r := ih (k + 1) (pt_skip g n i 1) i' (by omega) hin2.2 (by rw [hs, ha]; omega) hl
      rw [show k + (j + 1) = k + 1 + j by omega]
      exact ⟨r.1, by have := r.2; omega⟩
    · split at hl
      · rename_i h7 hg
        have hs := pt_need_s f k
        have hs2 := pt_need_s g i
        rw [hg.2] at hs2
        have r := ih (k + 1) (i + 1) i' (by omega) (by omega) (by omega) hl
        rw [show k + (j + 1) = k + 1 + j by omega]
        exact ⟨r.1, by have := r.2; omega⟩
      · cases hl
/-- does the part of the pattern at k fit at i -/
def pt_fit (f : Nat → Nat) (nf : Nat) (g : Nat → Nat) (n k i : Nat) : Bool := (pt_lay f g n (pt_skip f nf k 1 - k) k i).isSome
theorem pt_fit_gap {f g : Nat → Nat} {nf n k i : Nat} (hk : k < nf) (h : f k = 7) : pt_fit f nf g n k i = true := by
  unfold pt_fit
  rw [pt_skip_a0 hk (by rw [h]; rfl), show k + 1 - k = 0 + 1 by omega, pt_lay_g h]
  rfl
theorem pt_fit_no {f g : Nat → Nat} {nf n k i : Nat} (hk : k < nf) (h : ¬ f k = 7) (h2 : ¬ (i < n ∧ g i = f k)) : pt_fit f nf g n k i = false := by
  unfold pt_fit
  have := pt_skip_gt f 0 hk
  rw [show pt_skip f nf k (0 + 1) - k = (pt_skip f nf k (0 + 1) - k - 1) + 1 by omega, pt_lay_n h h2]
  rfl
theorem pt_fit_a0 {f g : Nat → Nat} {nf n k i : Nat} (hk : k < nf) (h : ¬ f k = 7) (h2 : i < n) (h3 : g i = f k) (ha : pt_ar (f k) = 0) : pt_fit f nf g n k i = true := by
  unfold pt_fit
  rw [pt_skip_a0 hk ha, show k + 1 - k = 0 + 1 by omega, pt_lay_t h h2 h3]
  rfl
theorem pt_fit_a1 {f g : Nat → Nat} {nf n k i : Nat} (hk : k < nf) (h : ¬ f k = 7) (h2 : i < n) (h3 : g i = f k) (ha : pt_ar (f k) = 1) : pt_fit f nf g n k i = pt_fit f nf g n (k + 1) (i + 1) := by
  unfold pt_fit
  have := (pt_skip_in f (n := nf) (i := k + 1) 1 (by omega)).1
  rw [pt_skip_a1 hk ha, show pt_skip f nf (k + 1) 1 - k = (pt_skip f nf (k + 1) 1 - (k + 1)) + 1 by omega, pt_lay_t h h2 h3]
theorem pt_fit_a2 {f g : Nat → Nat} {nf n k i : Nat} (hof : pt_ok f nf) (h0f : pt_need f nf = 0) (hog : pt_ok g n) (h0g : pt_need g n = 0) (hk : k < nf) (h : ¬ f k = 7) (h2 : i < n) (h3 : g i = f k) (ha : pt_ar (f k) = 2) : pt_fit f nf g n k i = (pt_fit f nf g n (k + 1) (i + 1) && pt_fit f nf g n (pt_skip f nf (k + 1) 1) (pt_skip g n (i + 1) 1)) := by
  unfold pt_fit
  have h4 := pt_skip_in f (n := nf) (i := k + 1) 1 (by omega)
  have h5 := pt_skip_in f (n := nf) (i := pt_skip f nf (k + 1) 1) 1 h4.2
  have hf1 := hof k hk
  have hg1 := hog i h2
  have hs := pt_need_s f k
  have hs2 := pt_need_s g i
  rw [h3] at hs2
  rw [pt_skip_a2 hk ha, show pt_skip f nf (pt_skip f nf (k + 1) 1) 1 - k = ((pt_skip f nf (k + 1) 1 - (k + 1)) + (pt_skip f nf (pt_skip f nf (k + 1) 1) 1 - pt_skip f nf (k + 1) 1)) + 1 by omega, pt_lay_t h h2 h3, pt_lay_add]
  cases hl : pt_lay f g n (pt_skip f nf (k + 1) 1 - (k + 1)) (k + 1) (i + 1) with
  | none => rfl
  | some i' =>
    have e := pt_lay_skip hof h0f hog h0g _ (k + 1) (i + 1) 1 i' rfl (by omega) (by omega) (by omega) (by omega) hl
    rw [Option.bind_some, e, show k + 1 + (pt_skip f nf (k + 1) 1 - (k + 1)) = pt_skip f nf (k + 1) 1 by omega]
    rfl
theorem pt_fit_all {f g : Nat → Nat} {nf n i : Nat} (hof : pt_ok f nf) (h0f : pt_need f nf = 0) : pt_fit f nf g n 0 i = (pt_lay f g n nf 0 i).isSome := by
  unfold pt_fit
  rw [pt_skip_all hof h0f, Nat.sub_zero]
/-- the parts at i and at j have the same tokens -/
def pt_same (g : Nat → Nat) (n i j : Nat) : Prop := ∀ x, x < pt_skip g n i 1 - i → g (i + x) = g (j + x)
def pt_sameO (g : Nat → Nat) (n i j o : Nat) : Prop := ∀ x, x < pt_skip g n i o - i → g (i + x) = g (j + x)
theorem pt_sameO_len {g : Nat → Nat} {n : Nat} (hog : pt_ok g n) (h0g : pt_need g n = 0) : ∀ (d i j o : Nat), n - i = d → i ≤ n → j ≤ n → o ≤ pt_need g i → o ≤ pt_need g j → pt_sameO g n i j o → pt_skip g n j o - j = pt_skip g n i o - i := by
  intro d
  induction d with
  | zero =>
    intro i j o h hi hj h1 h2 hs
    have e : i = n := by omega
    rw [e, h0g] at h1
    have e2 : o = 0 := by omega
    rw [e2, pt_skip_0, pt_skip_0]
    omega
  | succ d ih =>
    intro i j o h hi hj h1 h2 hs
    cases o with
    | zero => rw [pt_skip_0, pt_skip_0]; omega
    | succ o =>
      have hin : i < n := by omega
      have hjn : j < n := pt_lt_of_need h0g hj (by omega)
      have hgt := pt_skip_gt g o hin
      have e0 : g i = g j := hs 0 (by omega)
      have hsi := pt_need_s g i
      have hsj := pt_need_s g j
      have hoi := hog i hin
      have hoj := hog j hjn
      have p1 := (pt_skip_in g (n := n) (i := i + 1) (o + pt_ar (g i)) (by omega)).1
      have p2 := (pt_skip_in g (n := n) (i := j + 1) (o + pt_ar (g j)) (by omega)).1
      rw [pt_skip_s g o hin, pt_skip_s g o hjn]
      have r := ih (i + 1) (j + 1) (o + pt_ar (g i)) (by omega) (by omega) (by omega) (by omega) (by rw [hsj, ← e0]; rw [← e0] at hsj; omega) (fun x hx => by
        have q := hs (x + 1) (by rw [pt_skip_s g o hin]; omega)
        rw [show i + 1 + x = i + (x + 1) by omega, show j + 1 + x = j + (x + 1) by omega]
        exact q)
      rw [← e0]
      rw [← e0] at p2
      omega
theorem pt_same_len {g : Nat → Nat} {n i j : Nat} (hog : pt_ok g n) (h0g : pt_need g n = 0) (hi : i < n) (hj : j < n) (h : pt_same g n i j) : pt_skip g n j 1 - j = pt_skip g n i 1 - i :=
  pt_sameO_len hog h0g _ i j 1 rfl (by omega) (by omega) (hog i hi) (hog j hj) h
theorem pt_same_rfl (g : Nat → Nat) (n i : Nat) : pt_same g n i i := fun _ _ => rfl
theorem pt_same_symm {g : Nat → Nat} {n i j : Nat} (hog : pt_ok g n) (h0g : pt_need g n = 0) (hi : i < n) (hj : j < n) (h : pt_same g n i j) : pt_same g n j i := by
  intro x hx
  rw [pt_same_len hog h0g hi hj h] at hx
  exact (h x hx).symm
theorem pt_same_trans {g : Nat → Nat} {n i j k : Nat} (hog : pt_ok g n) (h0g : pt_need g n = 0) (hi : i < n) (hj : j < n) (h : pt_same g n i j) (h2 : pt_same g n j k) : pt_same g n i k := by
  intro x hx
  rw [h x hx]
  exact h2 x (by rw [pt_same_len hog h0g hi hj h]; exact hx)
/-- equal parts, by the token and the parts below it -/
theorem pt_same_rec {g : Nat → Nat} {n i j : Nat} (hog : pt_ok g n) (h0g : pt_need g n = 0) (hi : i < n) (hj : j < n) :
    pt_same g n i j ↔ g i = g j ∧ (0 < pt_ar (g i) → pt_same g n (i + 1) (j + 1)) ∧ (1 < pt_ar (g i) → pt_same g n (pt_skip g n (i + 1) 1) (pt_skip g n (j + 1) 1)) := by
  have hgt := pt_skip_gt g 0 hi
  have hsi := pt_need_s g i
  have hsj := pt_need_s g j
  have hoi := hog i hi
  have hoj := hog j hj
  have hle := pt_ar_le (g i)
  have hin1 := pt_skip_in g (n := n) (i := i + 1) 1 (by omega)
  have hjn1 := pt_skip_in g (n := n) (i := j + 1) 1 (by omega)
  have hin2 := pt_skip_in g (n := n) (i := pt_skip g n (i + 1) 1) 1 hin1.2
  rcases (show pt_ar (g i) = 0 ∨ pt_ar (g i) = 1 ∨ pt_ar (g i) = 2 by omega) with ha | ha | ha
  · have e := pt_skip_a0 hi ha
    constructor
    · intro h
      exact ⟨h 0 (by omega), fun q => absurd q (by omega), fun q => absurd q (by omega)⟩
    · rintro ⟨h, -, -⟩ x hx
      have : x = 0 := by omega
      subst this
      exact h
  · have e := pt_skip_a1 hi ha
    constructor
    · intro h
      refine ⟨h 0 (by omega), fun _ x hx => ?_, fun q => absurd q (by omega)⟩
      have q := h (x + 1) (by omega)
      rw [show i + 1 + x = i + (x + 1) by omega, show j + 1 + x = j + (x + 1) by omega]
      exact q
    · rintro ⟨h, h1, -⟩ x hx
      cases x with
      | zero => exact h
      | succ x =>
        have q := h1 (by omega) x (by omega)
        rw [show i + 1 + x = i + (x + 1) by omega, show j + 1 + x = j + (x + 1) by omega] at q
        exact q
  · have e := pt_skip_a2 hi ha
    have h1i : i + 1 < n := pt_lt_of_need h0g (by omega) (by omega)
    constructor
    · intro h
      have e0 : g i = g j := h 0 (by omega)
      have haj : pt_ar (g j) = 2 := by rw [← e0]; exact ha
      have h1j : j + 1 < n := pt_lt_of_need h0g (by omega) (by omega)
      have hs1 : pt_same g n (i + 1) (j + 1) := fun x hx => by
        have q := h (x + 1) (by omega)
        rw [show i + 1 + x = i + (x + 1) by omega, show j + 1 + x = j + (x + 1) by omega]
        exact q
      have hl := pt_same_len hog h0g h1i h1j hs1
      refine ⟨e0, fun _ => hs1, fun _ x hx => ?_⟩
      have q := h (pt_skip g n (i + 1) 1 - i + x) (by omega)
      rw [show i + (pt_skip g n (i + 1) 1 - i + x) = pt_skip g n (i + 1) 1 + x by omega, show j + (pt_skip g n (i + 1) 1 - i + x) = pt_skip g n (j + 1) 1 + x by omega] at q
      exact q
    · rintro ⟨h, h1, h2⟩ x hx
      have haj : pt_ar (g j) = 2 := by rw [← h]; exact ha
      have h1j : j + 1 < n := pt_lt_of_need h0g (by omega) (by omega)
      have hs1 := h1 (by omega)
      have hl := pt_same_len hog h0g h1i h1j hs1
      rcases Nat.lt_or_ge x (pt_skip g n (i + 1) 1 - i) with hx1 | hx1
      · cases x with
        | zero => exact h
        | succ x =>
          have q := hs1 x (by omega)
          rw [show i + 1 + x = i + (x + 1) by omega, show j + 1 + x = j + (x + 1) by omega] at q
          exact q
      · have q := h2 (by omega) (x - (pt_skip g n (i + 1) 1 - i)) (by omega)
        rw [show pt_skip g n (i + 1) 1 + (x - (pt_skip g n (i + 1) 1 - i)) = i + x by omega, show pt_skip g n (j + 1) 1 + (x - (pt_skip g n (i + 1) 1 - i)) = j + x by omega] at q
        exact q
/-- sets as numbers, counts -/
def pt_fs (b : Nat → Bool) : Nat → Nat
  | 0 => 0
  | p + 1 => pt_fs b p + if b p then 2 ^ p else 0
def pt_cn (b : Nat → Bool) : Nat → Nat
  | 0 => 0
  | n + 1 => pt_cn b n + if b n then 1 else 0
def pt_ex (b : Nat → Bool) : Nat → Bool
  | 0 => false
  | n + 1 => pt_ex b n || b n
def pt_first (b : Nat → Bool) : Nat → Nat → Int32
  | 0, _ => -1
  | d + 1, m => if b m then nI m else pt_first b d (m + 1)
theorem pt_fs_lt (b : Nat → Bool) (n : Nat) : pt_fs b n < 2 ^ n := by
  induction n with
  | zero => simp [pt_fs]
  | succ n ih =>
    have : pt_fs b (n + 1) = pt_fs b n + if b n then 2 ^ n else 0 := rfl
    rw [this, Nat.pow_succ]
    split <;> omega
theorem pt_fs_bit (b : Nat → Bool) {p : Nat} : ∀ n, p < n → pt_fs b n / 2 ^ p % 2 = if b p then 1 else 0 := by
  intro n
  induction n with
  | zero => intro h; omega
  | succ n ih =>
    intro h
    have e : pt_fs b (n + 1) = pt_fs b n + if b n then 2 ^ n else 0 := rfl
    have hp : 0 < 2 ^ p := Nat.pow_pos (by decide)
    rcases Nat.lt_or_ge p n with q | q
    · rw [e, ← ih q]
      split
      · have e2 : 2 ^ n = 2 ^ p * (2 * 2 ^ (n - p - 1)) := by
          rw [← Nat.mul_assoc, Nat.mul_comm (2 ^ p) 2, ← Nat.pow_succ', ← Nat.pow_add]
          congr 1
          omega
        rw [e2, Nat.add_mul_div_left _ _ hp, Nat.add_mul_mod_self_left]
      · rfl
    · have e3 : p = n := by omega
      subst e3
      have hl := pt_fs_lt b p
      rw [e]
      split
      · rw [Nat.add_div_right _ hp, Nat.div_eq_of_lt hl]
      · rw [Nat.add_zero, Nat.div_eq_of_lt hl]
theorem pt_fs_congr {b b' : Nat → Bool} {n : Nat} (h : ∀ p, p < n → b p = b' p) : pt_fs b n = pt_fs b' n := by
  induction n with
  | zero => rfl
  | succ n ih =>
    show pt_fs b n + _ = pt_fs b' n + _
    rw [ih (fun p hp => h p (by omega)), h n (by omega)]
theorem pt_cn_le (b : Nat → Bool) (n : Nat) : pt_cn b n ≤ n := by
  induction n with
  | zero => exact Nat.le_refl 0
  | succ n ih =>
    show pt_cn b n + _ ≤ n + 1
    split <;> omega
theorem pt_cn_congr {b b' : Nat → Bool} {n : Nat} (h : ∀ p, p < n → b p = b' p) : pt_cn b n = pt_cn b' n := by
  induction n with
  | zero => rfl
  | succ n ih =>
    show pt_cn b n + _ = pt_cn b' n + _
    rw [ih (fun p hp => h p (by omega)), h n (by omega)]
theorem pt_cn_cut {b : Nat → Bool} {n : Nat} : ∀ d, (∀ p, n ≤ p → p < n + d → b p = false) → pt_cn b (n + d) = pt_cn b n := by
  intro d
  induction d with
  | zero => intro _; rfl
  | succ d ih =>
    intro h
    show pt_cn b (n + d) + (if b (n + d) then 1 else 0) = _
    rw [ih (fun p h1 h2 => h p h1 (by omega)), h (n + d) (by omega) (by omega)]
    rfl
theorem pt_cn_mono (b : Nat → Bool) {i j : Nat} (h : i ≤ j) : pt_cn b i ≤ pt_cn b j := by
  induction j with
  | zero => rw [show i = 0 by omega]; exact Nat.le_refl _
  | succ j ih =>
    rcases Nat.lt_or_ge i (j + 1) with q | q
    · have := ih (by omega)
      show _ ≤ pt_cn b j + _
      omega
    · rw [show i = j + 1 by omega]; exact Nat.le_refl _
/-- two places with b and the same count before them are one -/
theorem pt_cn_inj (b : Nat → Bool) {i j : Nat} (hi : b i = true) (hj : b j = true) (h : pt_cn b i = pt_cn b j) : i = j := by
  rcases Nat.lt_trichotomy i j with q | q | q
  · have h1 := pt_cn_mono b (show i + 1 ≤ j by omega)
    have h2 : pt_cn b (i + 1) = pt_cn b i + 1 := by show pt_cn b i + _ = _; rw [hi]; rfl
    omega
  · exact q
  · have h1 := pt_cn_mono b (show j + 1 ≤ i by omega)
    have h2 : pt_cn b (j + 1) = pt_cn b j + 1 := by show pt_cn b j + _ = _; rw [hj]; rfl
    omega
theorem pt_ex_congr {b b' : Nat → Bool} {n : Nat} (h : ∀ p, p < n → b p = b' p) : pt_ex b n = pt_ex b' n := by
  induction n with
  | zero => rfl
  | succ n ih =>
    show (pt_ex b n || _) = (pt_ex b' n || _)
    rw [ih (fun p hp => h p (by omega)), h n (by omega)]
theorem pt_ex_cut {b : Nat → Bool} {n : Nat} : ∀ d, (∀ p, n ≤ p → p < n + d → b p = false) → pt_ex b (n + d) = pt_ex b n := by
  intro d
  induction d with
  | zero => intro _; rfl
  | succ d ih =>
    intro h
    show (pt_ex b (n + d) || b (n + d)) = _
    rw [ih (fun p h1 h2 => h p h1 (by omega)), h (n + d) (by omega) (by omega), Bool.or_false]
theorem pt_first_cut {b : Nat → Bool} {n : Nat} (h : ∀ p, n ≤ p → b p = false) : ∀ d m, n ≤ m → pt_first b d m = -1 := by
  intro d
  induction d with
  | zero => intro m _; rfl
  | succ d ih =>
    intro m hm
    show (if b m then nI m else pt_first b d (m + 1)) = -1
    rw [h m hm]
    exact ih (m + 1) (by omega)
theorem pt_first_more {b : Nat → Bool} {n : Nat} (h : ∀ p, n ≤ p → b p = false) : ∀ d m e, m + d = n → pt_first b (d + e) m = pt_first b d m := by
  intro d
  induction d with
  | zero => intro m e hm; rw [Nat.zero_add, pt_first_cut h e m (by omega)]; rfl
  | succ d ih =>
    intro m e hm
    rw [show d + 1 + e = (d + e) + 1 by omega]
    show (if b m then nI m else pt_first b (d + e) (m + 1)) = (if b m then nI m else pt_first b d (m + 1))
    rw [ih (m + 1) e (by omega)]
/-- an int as a place among N -/
def pt_ix (N : Nat) (x : Int32) : Option Nat := if 0 ≤ x.toInt ∧ x.toInt < N then some x.toInt.toNat else none
theorem pt_ix_in {N j : Nat} (h : j < N) (hN : N < 2 ^ 31) : pt_ix N (nI j) = some j := by
  unfold pt_ix
  rw [nI_toInt (by omega), if_pos (by omega)]
  simp
theorem pt_ix_cases (N : Nat) (hN : N < 2 ^ 31) (x : Int32) : (pt_ix N x = none ∧ (x < 0 ∨ nI N ≤ x)) ∨ ∃ j : Nat, j < N ∧ x = nI j ∧ pt_ix N x = some j := by
  rcases pk_ix x hN with h | h | ⟨j, hj, rfl⟩
  · refine Or.inl ⟨?_, Or.inl h⟩
    unfold pt_ix
    rw [if_neg]
    intro q
    have h1 := Int32.lt_iff_toInt_lt.mp h
    have h2 : (0 : Int32).toInt = 0 := by decide
    omega
  · refine Or.inl ⟨?_, Or.inr h⟩
    unfold pt_ix
    rw [if_neg]
    intro q
    have h1 := Int32.le_iff_toInt_le.mp h
    rw [nI_toInt hN] at h1
    omega
  · exact Or.inr ⟨j, hj, rfl, pt_ix_in hj hN⟩
end
section
/-! WORLDS AND ANSWERS: the cells of both objects, what they hold of the five lists (sz, tk: 0..3 the patterns, 4 the subject), and what each public method answers, as ONE pure value for both classes -/
abbrev vwCl : List vw_C := [(RX0, TX0, 13), (RX1, TX1, 2)]
def XW (ad : Nat → Nat) (cB cJ : ClassId) (sizes tokens spans subject parts : Nat → Nat) (states : Nat → Int64) (table stateAt fits sameAs : Nat → Nat) (cnt kn sc : Nat) : va_W :=
  [(ad 0, .inr (0, [.ref (ad 1), .ref (ad 2), .ref (ad 3), .int (nI cnt), .ref (ad 4), .ref (ad 5), .int (nI kn), .int (nI sc), .ref (ad 6), .ref (ad 7), .ref (ad 8), .ref (ad 9), .ref (ad 10)])),
   (ad 1, .inl (cB, 4, .inl (fN sizes))), (ad 2, .inl (cB, 36, .inl (fN tokens))), (ad 3, .inl (cB, 36, .inl (fN spans))), (ad 4, .inl (cB, 25, .inl (fN subject))), (ad 5, .inl (cB, 25, .inl (fN parts))),
   (ad 6, .inl (cJ, 26, .inr (.inl states))), (ad 7, .inl (cB, 1408, .inl (fP table))), (ad 8, .inl (cB, 25, .inl (fN stateAt))), (ad 9, .inl (cB, 25, .inl (fN fits))), (ad 10, .inl (cB, 25, .inl (fN sameAs)))]
def MW (bd : Nat → Nat) (cI : ClassId) (size tokens : Nat → Nat) : va_W :=
  [(bd 0, .inr (1, [.ref (bd 1), .ref (bd 2)])), (bd 1, .inl (cI, 5, .inl (fN size))), (bd 2, .inl (cI, 125, .inl (fN tokens)))]
abbrev tyX (cB cJ : ClassId) : List (ClassId × FieldType) := [(cB, .byte), (cJ, .long)]
abbrev tyM (cI : ClassId) : List (ClassId × FieldType) := [(cI, .int)]
/-- what the cells of a PatternTables hold -/
abbrev XS : Type := (Nat → Nat) × (Nat → Nat) × (Nat → Nat) × (Nat → Nat) × (Nat → Nat) × (Nat → Int64) × (Nat → Nat) × (Nat → Nat) × (Nat → Nat) × (Nat → Nat) × Nat × Nat × Nat
abbrev XWs (ad : Nat → Nat) (cB cJ : ClassId) (u : XS) : va_W := match u with
  | (sizes, tokens, spans, subject, parts, states, table, stateAt, fits, sameAs, cnt, kn, sc) => XW ad cB cJ sizes tokens spans subject parts states table stateAt fits sameAs cnt kn sc
abbrev MWs (bd : Nat → Nat) (cI : ClassId) (u : (Nat → Nat) × (Nat → Nat)) : va_W := match u with
  | (size, tokens) => MW bd cI size tokens
/-- lists that the classes can hold -/
def pt_wf (sz : Nat → Nat) (tk : Nat → Nat → Nat) : Prop := (∀ l, l < 4 → sz l ≤ 9) ∧ sz 4 ≤ 25 ∧ (∀ l, l < 5 → pt_ok (tk l) (sz l)) ∧ (∀ l, l < 4 → ∀ k, k < sz l → tk l k ≤ 7) ∧ (∀ k, k < sz 4 → tk 4 k ≤ 6)
def pt_ft (sz : Nat → Nat) (tk : Nat → Nat → Nat) (p n : Nat) : Bool := decide (pt_need (tk p) (sz p) = 0) && (decide (pt_need (tk 4) (sz 4) = 0) && (decide (n < sz 4) && (pt_lay (tk p) (tk 4) (sz 4) (sz p) 0 n).isSome))
def pt_F (sz : Nat → Nat) (tk : Nat → Nat → Nat) (n : Nat) : Nat := pt_fs (fun p => pt_ft sz tk p n) 4
def pt_app (sz : Nat → Nat) (tk : Nat → Nat → Nat) (l t most : Nat) : Int32 × (Nat → Nat) × (Nat → Nat → Nat) := if sz l < most ∧ ¬ pt_need (tk l) (sz l) = 0 then (nI (sz l + 1), va_up sz l (sz l + 1), va_up tk l (va_up (tk l) (sz l) t)) else (-2, sz, tk)
def pt_tak (sz : Nat → Nat) (tk : Nat → Nat → Nat) (l : Nat) : Int32 × (Nat → Nat) := if sz l = 0 then (-1, sz) else (nI (tk l (sz l - 1)), va_up sz l (sz l - 1))
def pt_extend (sz : Nat → Nat) (tk : Nat → Nat → Nat) (p t : Int32) : Int32 × (Nat → Nat) × (Nat → Nat → Nat) := match pt_ix 4 p, pt_ix 8 t with
  | some j, some k => pt_app sz tk j k 9
  | _, _ => (-1, sz, tk)
def pt_shorten (sz : Nat → Nat) (tk : Nat → Nat → Nat) (p : Int32) : Int32 × (Nat → Nat) := match pt_ix 4 p with
  | some j => pt_tak sz tk j
  | none => (-1, sz)
def pt_grow (sz : Nat → Nat) (tk : Nat → Nat → Nat) (o : Int32) : Int32 × (Nat → Nat) × (Nat → Nat → Nat) := match pt_ix 7 o with
  | some k => pt_app sz tk 4 k 25
  | none => (-1, sz, tk)
def pt_complete (sz : Nat → Nat) (tk : Nat → Nat → Nat) (p : Int32) : Prop := ∃ j : Nat, j < 4 ∧ p = nI j ∧ pt_need (tk j) (sz j) = 0
def pt_node (sz : Nat → Nat) (tk : Nat → Nat → Nat) (n : Int32) : Prop := pt_need (tk 4) (sz 4) = 0 ∧ ∃ j : Nat, j < sz 4 ∧ n = nI j
def pt_fitsAt (sz : Nat → Nat) (tk : Nat → Nat → Nat) (n : Int32) : Nat := match pt_ix (sz 4) n with
  | some j => pt_F sz tk j
  | none => 0
def pt_count (sz : Nat → Nat) (tk : Nat → Nat → Nat) (p : Int32) : Int32 := match pt_ix 4 p with
  | some j => nI (pt_cn (fun n => pt_ft sz tk j n) (sz 4))
  | none => nI 0
def pt_next (sz : Nat → Nat) (tk : Nat → Nat → Nat) (p n : Int32) : Int32 := match pt_ix 4 p with
  | some j => pt_first (fun m => pt_ft sz tk j m) (sz 4 - n.toInt.toNat) n.toInt.toNat
  | none => -1
/-- the gaps of a pattern before its token x -/
def pt_gaps (f : Nat → Nat) (x : Nat) : Nat := pt_cn (fun z => decide (f z = 7)) x
def pt_gp (f g : Nat → Nat) (n i0 : Nat) (kk : Int32) : Nat → Nat → Int32
  | 0, _ => -1
  | d + 1, x => if f x = 7 ∧ nI (pt_gaps f x) = kk then (match pt_lay f g n x 0 i0 with
    | some a => nI a
    | none => -1) else pt_gp f g n i0 kk d (x + 1)
def pt_gapAt (sz : Nat → Nat) (tk : Nat → Nat → Nat) (p n k : Int32) : Int32 := match pt_ix 4 p, pt_ix (sz 4) n with
  | some j, some i => if pt_ft sz tk j i then pt_gp (tk j) (tk 4) (sz 4) i k (sz j) 0 else -1
  | _, _ => -1
def pt_size (sz : Nat → Nat) (tk : Nat → Nat → Nat) (n : Int32) : Int32 := match pt_ix (sz 4) n with
  | some j => if pt_need (tk 4) (sz 4) = 0 then nI (pt_skip (tk 4) (sz 4) j 1 - j) else -1
  | none => -1
def pt_equal (sz : Nat → Nat) (tk : Nat → Nat → Nat) (m n : Int32) : Prop := pt_need (tk 4) (sz 4) = 0 ∧ ∃ a b : Nat, a < sz 4 ∧ m = nI a ∧ b < sz 4 ∧ n = nI b ∧ pt_same (tk 4) (sz 4) a b
def pt_kinds (sz : Nat → Nat) (tk : Nat → Nat → Nat) : Int32 := if pt_need (tk 4) (sz 4) = 0 then nI (pt_cn (fun v => pt_ex (fun n => decide (pt_F sz tk n = v)) (sz 4)) 16) else nI 0
def pt_covers (sz : Nat → Nat) (tk : Nat → Nat → Nat) (p q : Int32) : Prop := ∃ a b : Nat, a < 4 ∧ p = nI a ∧ b < 4 ∧ q = nI b ∧ pt_need (tk a) (sz a) = 0 ∧ pt_need (tk b) (sz b) = 0 ∧ (pt_lay (tk a) (tk b) (sz b) (sz a) 0 0).isSome = true
def pt_bare (sz : Nat → Nat) (tk : Nat → Nat → Nat) : Int32 := if pt_need (tk 4) (sz 4) = 0 then nI (pt_cn (fun n => decide (pt_F sz tk n = 0)) (sz 4)) else nI 0
/-- what a PatternTables holds of the lists -/
def XL (sizes tokens subject : Nat → Nat) (cnt : Nat) (sz : Nat → Nat) (tk : Nat → Nat → Nat) : Prop := pt_wf sz tk ∧ (∀ j, j < 4 → sizes j = sz j) ∧ (∀ j, j < 4 → ∀ k, k < sz j → tokens (j * 9 + k) = tk j k) ∧ cnt = sz 4 ∧ ∀ k, k < sz 4 → subject k = tk 4 k
/-- its tables, when they are known -/
def XK (parts fits sameAs : Nat → Nat) (sz : Nat → Nat) (tk : Nat → Nat → Nat) : Prop := pt_need (tk 4) (sz 4) = 0 ∧ (∀ n, n < sz 4 → parts n = pt_skip (tk 4) (sz 4) n 1 - n) ∧ (∀ n, n < sz 4 → fits n = pt_F sz tk n) ∧ (∀ n, n < sz 4 → sameAs n < 25) ∧ ∀ n, n < sz 4 → ∀ m, m < sz 4 → (sameAs n = sameAs m ↔ pt_same (tk 4) (sz 4) n m)
def XI (u : XS) (sz : Nat → Nat) (tk : Nat → Nat → Nat) : Prop := match u with
  | (sizes, tokens, _, subject, parts, _, _, _, fits, sameAs, cnt, kn, _) => XL sizes tokens subject cnt sz tk ∧ kn ≤ 1 ∧ (kn = 1 → XK parts fits sameAs sz tk)
/-- what a PatternTablesModel holds of the lists -/
def MI (size tokens : Nat → Nat) (sz : Nat → Nat) (tk : Nat → Nat → Nat) : Prop := pt_wf sz tk ∧ (∀ l, l < 5 → size l = sz l) ∧ ∀ l, l < 5 → ∀ k, k < sz l → tokens (25 * l + k) = tk l k
theorem pt_wf_25 {sz : Nat → Nat} {tk : Nat → Nat → Nat} (h : pt_wf sz tk) {l : Nat} (hl : l < 5) : sz l ≤ 25 := by
  rcases Nat.lt_or_ge l 4 with q | q
  · have := h.1 l q; omega
  · rw [show l = 4 by omega]; exact h.2.1
theorem pt_wf_ok {sz : Nat → Nat} {tk : Nat → Nat → Nat} (h : pt_wf sz tk) {l : Nat} (hl : l < 5) : pt_ok (tk l) (sz l) := h.2.2.1 l hl
theorem pt_wf_7 {sz : Nat → Nat} {tk : Nat → Nat → Nat} (h : pt_wf sz tk) {l k : Nat} (hl : l < 5) (hk : k < sz l) : tk l k ≤ 7 := by
  rcases Nat.lt_or_ge l 4 with q | q
  · exact h.2.2.2.1 l q k hk
  · have e : l = 4 := by omega
    subst e
    have := h.2.2.2.2 k hk
    omega
theorem pt_F_lt (sz : Nat → Nat) (tk : Nat → Nat → Nat) (n : Nat) : pt_F sz tk n < 16 := pt_fs_lt _ 4
theorem pt_ft_out {sz : Nat → Nat} {tk : Nat → Nat → Nat} {p n : Nat} (h : ¬ n < sz 4) : pt_ft sz tk p n = false := by simp [pt_ft, h]
theorem pt_ft_nw {sz : Nat → Nat} {tk : Nat → Nat → Nat} {p n : Nat} (h : ¬ pt_need (tk 4) (sz 4) = 0) : pt_ft sz tk p n = false := by simp [pt_ft, h]
theorem pt_ft_iff {sz : Nat → Nat} {tk : Nat → Nat → Nat} {p n : Nat} : pt_ft sz tk p n = true ↔ pt_need (tk p) (sz p) = 0 ∧ pt_need (tk 4) (sz 4) = 0 ∧ n < sz 4 ∧ (pt_lay (tk p) (tk 4) (sz 4) (sz p) 0 n).isSome = true := by simp [pt_ft]
theorem pt_fs_0 {b : Nat → Bool} (n : Nat) (h : ∀ p, b p = false) : pt_fs b n = 0 := by
  induction n with
  | zero => rfl
  | succ n ih => show pt_fs b n + _ = 0; rw [ih, h n]; rfl
theorem pt_F_out {sz : Nat → Nat} {tk : Nat → Nat → Nat} {n : Nat} (h : ¬ n < sz 4) : pt_F sz tk n = 0 := pt_fs_0 4 (fun _ => pt_ft_out h)
theorem pt_F_nw {sz : Nat → Nat} {tk : Nat → Nat → Nat} {n : Nat} (h : ¬ pt_need (tk 4) (sz 4) = 0) : pt_F sz tk n = 0 := pt_fs_0 4 (fun _ => pt_ft_nw h)
end
section
set_option maxRecDepth 100000
theorem hd_X0_init : yX0_init.cls ≠ "java/lang/invoke/MethodHandle" ∧ yX0_init.cls ≠ "java/lang/invoke/VarHandle" ∧ (parseMethodDescriptor yX0_init.desc).map (fun d => d.parameters.length) = some 0 := by decide +kernel
theorem hd_X0_extend : yX0_extend.cls = RX0 ∧ yX0_extend.cls ≠ "java/lang/invoke/MethodHandle" ∧ yX0_extend.cls ≠ "java/lang/invoke/VarHandle" ∧ (parseMethodDescriptor yX0_extend.desc).map (fun d => d.parameters.length) = some 2 := by decide +kernel
theorem hd_X0_isPattern : yX0_isPattern.cls ≠ "java/lang/invoke/MethodHandle" ∧ yX0_isPattern.cls ≠ "java/lang/invoke/VarHandle" ∧ (parseMethodDescriptor yX0_isPattern.desc).map (fun d => d.parameters.length) = some 1 := by decide +kernel
theorem hd_X0_missing : yX0_missing.cls = RX0 ∧ yX0_missing.cls ≠ "java/lang/invoke/MethodHandle" ∧ yX0_missing.cls ≠ "java/lang/invoke/VarHandle" ∧ (parseMethodDescriptor yX0_missing.desc).map (fun d => d.parameters.length) = some 1 := by decide +kernel
theorem hd_X0_arity : yX0_arity.cls ≠ "java/lang/invoke/MethodHandle" ∧ yX0_arity.cls ≠ "java/lang/invoke/VarHandle" ∧ (parseMethodDescriptor yX0_arity.desc).map (fun d => d.parameters.length) = some 1 := by decide +kernel
theorem hd_X0_shorten : yX0_shorten.cls = RX0 ∧ yX0_shorten.cls ≠ "java/lang/invoke/MethodHandle" ∧ yX0_shorten.cls ≠ "java/lang/invoke/VarHandle" ∧ (parseMethodDescriptor yX0_shorten.desc).map (fun d => d.parameters.length) = some 1 := by decide +kernel
theorem hd_X0_grow : yX0_grow.cls = RX0 ∧ yX0_grow.cls ≠ "java/lang/invoke/MethodHandle" ∧ yX0_grow.cls ≠ "java/lang/invoke/VarHandle" ∧ (parseMethodDescriptor yX0_grow.desc).map (fun d => d.parameters.length) = some 1 := by decide +kernel
theorem hd_X0_missingInSubject : yX0_missingInSubject.cls = RX0 ∧ yX0_missingInSubject.cls ≠ "java/lang/invoke/MethodHandle" ∧ yX0_missingInSubject.cls ≠ "java/lang/invoke/VarHandle" ∧ (parseMethodDescriptor yX0_missingInSubject.desc).map (fun d => d.parameters.length) = some 0 := by decide +kernel
theorem hd_X0_prune : yX0_prune.cls = RX0 ∧ yX0_prune.cls ≠ "java/lang/invoke/MethodHandle" ∧ yX0_prune.cls ≠ "java/lang/invoke/VarHandle" ∧ (parseMethodDescriptor yX0_prune.desc).map (fun d => d.parameters.length) = some 0 := by decide +kernel
theorem hd_X0_complete : yX0_complete.cls = RX0 ∧ yX0_complete.cls ≠ "java/lang/invoke/MethodHandle" ∧ yX0_complete.cls ≠ "java/lang/invoke/VarHandle" ∧ (parseMethodDescriptor yX0_complete.desc).map (fun d => d.parameters.length) = some 1 := by decide +kernel
theorem hd_X0_whole : yX0_whole.cls = RX0 ∧ yX0_whole.cls ≠ "java/lang/invoke/MethodHandle" ∧ yX0_whole.cls ≠ "java/lang/invoke/VarHandle" ∧ (parseMethodDescriptor yX0_whole.desc).map (fun d => d.parameters.length) = some 0 := by decide +kernel
theorem hd_X0_fitsAt : yX0_fitsAt.cls = RX0 ∧ yX0_fitsAt.cls ≠ "java/lang/invoke/MethodHandle" ∧ yX0_fitsAt.cls ≠ "java/lang/invoke/VarHandle" ∧ (parseMethodDescriptor yX0_fitsAt.desc).map (fun d => d.parameters.length) = some 1 := by decide +kernel
theorem hd_X0_isNode : yX0_isNode.cls = RX0 ∧ yX0_isNode.cls ≠ "java/lang/invoke/MethodHandle" ∧ yX0_isNode.cls ≠ "java/lang/invoke/VarHandle" ∧ (parseMethodDescriptor yX0_isNode.desc).map (fun d => d.parameters.length) = some 1 := by decide +kernel
theorem hd_X0_learn : yX0_learn.cls = RX0 ∧ yX0_learn.cls ≠ "java/lang/invoke/MethodHandle" ∧ yX0_learn.cls ≠ "java/lang/invoke/VarHandle" ∧ (parseMethodDescriptor yX0_learn.desc).map (fun d => d.parameters.length) = some 0 := by decide +kernel
theorem hd_X0_measure : yX0_measure.cls = RX0 ∧ yX0_measure.cls ≠ "java/lang/invoke/MethodHandle" ∧ yX0_measure.cls ≠ "java/lang/invoke/VarHandle" ∧ (parseMethodDescriptor yX0_measure.desc).map (fun d => d.parameters.length) = some 1 := by decide +kernel
theorem hd_X0_lookUp : yX0_lookUp.cls = RX0 ∧ yX0_lookUp.cls ≠ "java/lang/invoke/MethodHandle" ∧ yX0_lookUp.cls ≠ "java/lang/invoke/VarHandle" ∧ (parseMethodDescriptor yX0_lookUp.desc).map (fun d => d.parameters.length) = some 1 := by decide +kernel
theorem hd_X0_secondPart : yX0_secondPart.cls = RX0 ∧ yX0_secondPart.cls ≠ "java/lang/invoke/MethodHandle" ∧ yX0_secondPart.cls ≠ "java/lang/invoke/VarHandle" ∧ (parseMethodDescriptor yX0_secondPart.desc).map (fun d => d.parameters.length) = some 1 := by decide +kernel
theorem hd_X0_combine : yX0_combine.cls = RX0 ∧ yX0_combine.cls ≠ "java/lang/invoke/MethodHandle" ∧ yX0_combine.cls ≠ "java/lang/invoke/VarHandle" ∧ (parseMethodDescriptor yX0_combine.desc).map (fun d => d.parameters.length) = some 3 := by decide +kernel
theorem hd_X0_partsFit : yX0_partsFit.cls = RX0 ∧ yX0_partsFit.cls ≠ "java/lang/invoke/MethodHandle" ∧ yX0_partsFit.cls ≠ "java/lang/invoke/VarHandle" ∧ (parseMethodDescriptor yX0_partsFit.desc).map (fun d => d.parameters.length) = some 4 := by decide +kernel
theorem hd_X0_stateOf : yX0_stateOf.cls = RX0 ∧ yX0_stateOf.cls ≠ "java/lang/invoke/MethodHandle" ∧ yX0_stateOf.cls ≠ "java/lang/invoke/VarHandle" ∧ (parseMethodDescriptor yX0_stateOf.desc).map (fun d => d.parameters.length) = some 1 := by decide +kernel
theorem hd_X0_wholePatterns : yX0_wholePatterns.cls ≠ "java/lang/invoke/MethodHandle" ∧ yX0_wholePatterns.cls ≠ "java/lang/invoke/VarHandle" ∧ (parseMethodDescriptor yX0_wholePatterns.desc).map (fun d => d.parameters.length) = some 1 := by decide +kernel
theorem hd_X0_samePart : yX0_samePart.cls = RX0 ∧ yX0_samePart.cls ≠ "java/lang/invoke/MethodHandle" ∧ yX0_samePart.cls ≠ "java/lang/invoke/VarHandle" ∧ (parseMethodDescriptor yX0_samePart.desc).map (fun d => d.parameters.length) = some 2 := by decide +kernel
theorem hd_X0_count : yX0_count.cls = RX0 ∧ yX0_count.cls ≠ "java/lang/invoke/MethodHandle" ∧ yX0_count.cls ≠ "java/lang/invoke/VarHandle" ∧ (parseMethodDescriptor yX0_count.desc).map (fun d => d.parameters.length) = some 1 := by decide +kernel
theorem hd_X0_next : yX0_next.cls = RX0 ∧ yX0_next.cls ≠ "java/lang/invoke/MethodHandle" ∧ yX0_next.cls ≠ "java/lang/invoke/VarHandle" ∧ (parseMethodDescriptor yX0_next.desc).map (fun d => d.parameters.length) = some 2 := by decide +kernel
theorem hd_X0_gapAt : yX0_gapAt.cls = RX0 ∧ yX0_gapAt.cls ≠ "java/lang/invoke/MethodHandle" ∧ yX0_gapAt.cls ≠ "java/lang/invoke/VarHandle" ∧ (parseMethodDescriptor yX0_gapAt.desc).map (fun d => d.parameters.length) = some 3 := by decide +kernel
theorem hd_X0_size : yX0_size.cls = RX0 ∧ yX0_size.cls ≠ "java/lang/invoke/MethodHandle" ∧ yX0_size.cls ≠ "java/lang/invoke/VarHandle" ∧ (parseMethodDescriptor yX0_size.desc).map (fun d => d.parameters.length) = some 1 := by decide +kernel
theorem hd_X0_equal : yX0_equal.cls = RX0 ∧ yX0_equal.cls ≠ "java/lang/invoke/MethodHandle" ∧ yX0_equal.cls ≠ "java/lang/invoke/VarHandle" ∧ (parseMethodDescriptor yX0_equal.desc).map (fun d => d.parameters.length) = some 2 := by decide +kernel
theorem hd_X0_kinds : yX0_kinds.cls = RX0 ∧ yX0_kinds.cls ≠ "java/lang/invoke/MethodHandle" ∧ yX0_kinds.cls ≠ "java/lang/invoke/VarHandle" ∧ (parseMethodDescriptor yX0_kinds.desc).map (fun d => d.parameters.length) = some 0 := by decide +kernel
theorem hd_X0_covers : yX0_covers.cls = RX0 ∧ yX0_covers.cls ≠ "java/lang/invoke/MethodHandle" ∧ yX0_covers.cls ≠ "java/lang/invoke/VarHandle" ∧ (parseMethodDescriptor yX0_covers.desc).map (fun d => d.parameters.length) = some 2 := by decide +kernel
theorem hd_X0_bare : yX0_bare.cls = RX0 ∧ yX0_bare.cls ≠ "java/lang/invoke/MethodHandle" ∧ yX0_bare.cls ≠ "java/lang/invoke/VarHandle" ∧ (parseMethodDescriptor yX0_bare.desc).map (fun d => d.parameters.length) = some 0 := by decide +kernel
theorem hd_X1_init : yX1_init.cls ≠ "java/lang/invoke/MethodHandle" ∧ yX1_init.cls ≠ "java/lang/invoke/VarHandle" ∧ (parseMethodDescriptor yX1_init.desc).map (fun d => d.parameters.length) = some 0 := by decide +kernel
theorem hd_X1_extend : yX1_extend.cls = RX1 ∧ yX1_extend.cls ≠ "java/lang/invoke/MethodHandle" ∧ yX1_extend.cls ≠ "java/lang/invoke/VarHandle" ∧ (parseMethodDescriptor yX1_extend.desc).map (fun d => d.parameters.length) = some 2 := by decide +kernel
theorem hd_X1_pattern : yX1_pattern.cls = RX1 ∧ yX1_pattern.cls ≠ "java/lang/invoke/MethodHandle" ∧ yX1_pattern.cls ≠ "java/lang/invoke/VarHandle" ∧ (parseMethodDescriptor yX1_pattern.desc).map (fun d => d.parameters.length) = some 1 := by decide +kernel
theorem hd_X1_append : yX1_append.cls = RX1 ∧ yX1_append.cls ≠ "java/lang/invoke/MethodHandle" ∧ yX1_append.cls ≠ "java/lang/invoke/VarHandle" ∧ (parseMethodDescriptor yX1_append.desc).map (fun d => d.parameters.length) = some 3 := by decide +kernel
theorem hd_X1_done : yX1_done.cls = RX1 ∧ yX1_done.cls ≠ "java/lang/invoke/MethodHandle" ∧ yX1_done.cls ≠ "java/lang/invoke/VarHandle" ∧ (parseMethodDescriptor yX1_done.desc).map (fun d => d.parameters.length) = some 1 := by decide +kernel
theorem hd_X1_parts : yX1_parts.cls = RX1 ∧ yX1_parts.cls ≠ "java/lang/invoke/MethodHandle" ∧ yX1_parts.cls ≠ "java/lang/invoke/VarHandle" ∧ (parseMethodDescriptor yX1_parts.desc).map (fun d => d.parameters.length) = some 1 := by decide +kernel
theorem hd_X1_shorten : yX1_shorten.cls = RX1 ∧ yX1_shorten.cls ≠ "java/lang/invoke/MethodHandle" ∧ yX1_shorten.cls ≠ "java/lang/invoke/VarHandle" ∧ (parseMethodDescriptor yX1_shorten.desc).map (fun d => d.parameters.length) = some 1 := by decide +kernel
theorem hd_X1_take : yX1_take.cls = RX1 ∧ yX1_take.cls ≠ "java/lang/invoke/MethodHandle" ∧ yX1_take.cls ≠ "java/lang/invoke/VarHandle" ∧ (parseMethodDescriptor yX1_take.desc).map (fun d => d.parameters.length) = some 1 := by decide +kernel
theorem hd_X1_grow : yX1_grow.cls = RX1 ∧ yX1_grow.cls ≠ "java/lang/invoke/MethodHandle" ∧ yX1_grow.cls ≠ "java/lang/invoke/VarHandle" ∧ (parseMethodDescriptor yX1_grow.desc).map (fun d => d.parameters.length) = some 1 := by decide +kernel
theorem hd_X1_prune : yX1_prune.cls = RX1 ∧ yX1_prune.cls ≠ "java/lang/invoke/MethodHandle" ∧ yX1_prune.cls ≠ "java/lang/invoke/VarHandle" ∧ (parseMethodDescriptor yX1_prune.desc).map (fun d => d.parameters.length) = some 0 := by decide +kernel
theorem hd_X1_complete : yX1_complete.cls = RX1 ∧ yX1_complete.cls ≠ "java/lang/invoke/MethodHandle" ∧ yX1_complete.cls ≠ "java/lang/invoke/VarHandle" ∧ (parseMethodDescriptor yX1_complete.desc).map (fun d => d.parameters.length) = some 1 := by decide +kernel
theorem hd_X1_whole : yX1_whole.cls = RX1 ∧ yX1_whole.cls ≠ "java/lang/invoke/MethodHandle" ∧ yX1_whole.cls ≠ "java/lang/invoke/VarHandle" ∧ (parseMethodDescriptor yX1_whole.desc).map (fun d => d.parameters.length) = some 0 := by decide +kernel
theorem hd_X1_fitsAt : yX1_fitsAt.cls = RX1 ∧ yX1_fitsAt.cls ≠ "java/lang/invoke/MethodHandle" ∧ yX1_fitsAt.cls ≠ "java/lang/invoke/VarHandle" ∧ (parseMethodDescriptor yX1_fitsAt.desc).map (fun d => d.parameters.length) = some 1 := by decide +kernel
theorem hd_X1_fits : yX1_fits.cls = RX1 ∧ yX1_fits.cls ≠ "java/lang/invoke/MethodHandle" ∧ yX1_fits.cls ≠ "java/lang/invoke/VarHandle" ∧ (parseMethodDescriptor yX1_fits.desc).map (fun d => d.parameters.length) = some 2 := by decide +kernel
theorem hd_X1_node : yX1_node.cls = RX1 ∧ yX1_node.cls ≠ "java/lang/invoke/MethodHandle" ∧ yX1_node.cls ≠ "java/lang/invoke/VarHandle" ∧ (parseMethodDescriptor yX1_node.desc).map (fun d => d.parameters.length) = some 1 := by decide +kernel
theorem hd_X1_lies : yX1_lies.cls = RX1 ∧ yX1_lies.cls ≠ "java/lang/invoke/MethodHandle" ∧ yX1_lies.cls ≠ "java/lang/invoke/VarHandle" ∧ (parseMethodDescriptor yX1_lies.desc).map (fun d => d.parameters.length) = some 4 := by decide +kernel
theorem hd_X1_behind : yX1_behind.cls = RX1 ∧ yX1_behind.cls ≠ "java/lang/invoke/MethodHandle" ∧ yX1_behind.cls ≠ "java/lang/invoke/VarHandle" ∧ (parseMethodDescriptor yX1_behind.desc).map (fun d => d.parameters.length) = some 2 := by decide +kernel
theorem hd_X1_count : yX1_count.cls = RX1 ∧ yX1_count.cls ≠ "java/lang/invoke/MethodHandle" ∧ yX1_count.cls ≠ "java/lang/invoke/VarHandle" ∧ (parseMethodDescriptor yX1_count.desc).map (fun d => d.parameters.length) = some 1 := by decide +kernel
theorem hd_X1_next : yX1_next.cls = RX1 ∧ yX1_next.cls ≠ "java/lang/invoke/MethodHandle" ∧ yX1_next.cls ≠ "java/lang/invoke/VarHandle" ∧ (parseMethodDescriptor yX1_next.desc).map (fun d => d.parameters.length) = some 2 := by decide +kernel
theorem hd_X1_gapAt : yX1_gapAt.cls = RX1 ∧ yX1_gapAt.cls ≠ "java/lang/invoke/MethodHandle" ∧ yX1_gapAt.cls ≠ "java/lang/invoke/VarHandle" ∧ (parseMethodDescriptor yX1_gapAt.desc).map (fun d => d.parameters.length) = some 3 := by decide +kernel
theorem hd_X1_size : yX1_size.cls = RX1 ∧ yX1_size.cls ≠ "java/lang/invoke/MethodHandle" ∧ yX1_size.cls ≠ "java/lang/invoke/VarHandle" ∧ (parseMethodDescriptor yX1_size.desc).map (fun d => d.parameters.length) = some 1 := by decide +kernel
theorem hd_X1_equal : yX1_equal.cls = RX1 ∧ yX1_equal.cls ≠ "java/lang/invoke/MethodHandle" ∧ yX1_equal.cls ≠ "java/lang/invoke/VarHandle" ∧ (parseMethodDescriptor yX1_equal.desc).map (fun d => d.parameters.length) = some 2 := by decide +kernel
theorem hd_X1_kinds : yX1_kinds.cls = RX1 ∧ yX1_kinds.cls ≠ "java/lang/invoke/MethodHandle" ∧ yX1_kinds.cls ≠ "java/lang/invoke/VarHandle" ∧ (parseMethodDescriptor yX1_kinds.desc).map (fun d => d.parameters.length) = some 0 := by decide +kernel
theorem hd_X1_covers : yX1_covers.cls = RX1 ∧ yX1_covers.cls ≠ "java/lang/invoke/MethodHandle" ∧ yX1_covers.cls ≠ "java/lang/invoke/VarHandle" ∧ (parseMethodDescriptor yX1_covers.desc).map (fun d => d.parameters.length) = some 2 := by decide +kernel
theorem hd_X1_bare : yX1_bare.cls = RX1 ∧ yX1_bare.cls ≠ "java/lang/invoke/MethodHandle" ∧ yX1_bare.cls ≠ "java/lang/invoke/VarHandle" ∧ (parseMethodDescriptor yX1_bare.desc).map (fun d => d.parameters.length) = some 0 := by decide +kernel
theorem gS_X0_49 : GoodIn lw_all (va_wsS RX0 49 yX0_isPattern (ws_ yX0_isPattern cX0_isPattern 1 (some .boolean))) := lw_S q77 q78 q21 q79
theorem gV_X0_53 : GoodIn lw_all (wsV RX0 53 RX0 yX0_missing (ws_ yX0_missing cX0_missing 4 (some .int))) := lw_V q80 q82 qs0 q21 q83
theorem gS_X0_41 : GoodIn lw_all (va_wsS RX0 41 yX0_arity (ws_ yX0_arity cX0_arity 1 (some .int))) := lw_S q84 q85 q21 q86
theorem gV_X0_60 : GoodIn lw_all (wsV RX0 60 RX0 yX0_missingInSubject (ws_ yX0_missingInSubject cX0_missingInSubject 3 (some .int))) := lw_V q95 q97 qs1 q21 q98
theorem gV_X0_106 : GoodIn lw_all (wsV RX0 106 RX0 yX0_isNode (ws_ yX0_isNode cX0_isNode 2 (some .boolean))) := lw_V q115 q117 qs2 q21 q118
theorem gV_X0_103 : GoodIn lw_all (wsV RX0 103 RX0 yX0_learn (ws_ yX0_learn cX0_learn 4 (some .boolean))) := lw_V q119 q121 qs3 q21 q122
theorem gV_X0_64 : GoodIn lw_all (wsV RX0 64 RX0 yX0_whole (ws_ yX0_whole cX0_whole 1 (some .boolean))) := lw_V q123 q108 q109 q21 q110
theorem gV_X0_68 : GoodIn lw_all (wsV RX0 68 RX0 yX0_measure (ws_ yX0_measure cX0_measure 6 none)) := lw_V q124 q126 qs4 q21 q127
theorem gV_X0_86 : GoodIn lw_all (wsV RX0 86 RX0 yX0_complete (ws_ yX0_complete cX0_complete 2 (some .boolean))) := lw_V q128 q104 q105 q21 q106
theorem gV_X0_75 : GoodIn lw_all (wsV RX0 75 RX0 yX0_lookUp (ws_ yX0_lookUp cX0_lookUp 9 (some .int))) := lw_V q129 q131 qs5 q21 q132
theorem gV_X0_89 : GoodIn lw_all (wsV RX0 89 RX0 yX0_secondPart (ws_ yX0_secondPart cX0_secondPart 2 (some .int))) := lw_V q133 q135 qs6 q21 q136
theorem gV_X0_92 : GoodIn lw_all (wsV RX0 92 RX0 yX0_combine (ws_ yX0_combine cX0_combine 12 (some .long))) := lw_V q137 q139 qs7 q21 q140
theorem gV_X0_99 : GoodIn lw_all (wsV RX0 99 RX0 yX0_partsFit (ws_ yX0_partsFit cX0_partsFit 8 (some .boolean))) := lw_V q141 q143 qs8 q21 q144
theorem gV_X0_96 : GoodIn lw_all (wsV RX0 96 RX0 yX0_stateOf (ws_ yX0_stateOf cX0_stateOf 4 (some .int))) := lw_V q145 q147 qs9 q21 q148
theorem gS_X0_78 : GoodIn lw_all (va_wsS RX0 78 yX0_wholePatterns (ws_ yX0_wholePatterns cX0_wholePatterns 4 (some .int))) := lw_S q149 q150 q21 q151
theorem gV_X0_82 : GoodIn lw_all (wsV RX0 82 RX0 yX0_samePart (ws_ yX0_samePart cX0_samePart 4 (some .boolean))) := lw_V q152 q154 qs10 q21 q155
theorem gV_X0_109 : GoodIn lw_all (wsV RX0 109 RX0 yX0_fitsAt (ws_ yX0_fitsAt cX0_fitsAt 2 (some .int))) := lw_V q160 q112 q113 q21 q114
theorem gV_X1_24 : GoodIn lw_all (wsV RX1 24 RX1 yX1_pattern (ws_ yX1_pattern cX1_pattern 2 (some .boolean))) := lw_V q207 q209 qs11 q22 q210
theorem gV_X1_27 : GoodIn lw_all (wsV RX1 27 RX1 yX1_append (ws_ yX1_append cX1_append 4 (some .int))) := lw_V q211 q213 qs12 q22 q214
theorem gV_X1_20 : GoodIn lw_all (wsV RX1 20 RX1 yX1_done (ws_ yX1_done cX1_done 4 (some .boolean))) := lw_V q215 q217 qs13 q22 q218
theorem gV_X1_16 : GoodIn lw_all (wsV RX1 16 RX1 yX1_parts (ws_ yX1_parts cX1_parts 2 (some .int))) := lw_V q219 q221 qs14 q22 q222
theorem gV_X1_31 : GoodIn lw_all (wsV RX1 31 RX1 yX1_take (ws_ yX1_take cX1_take 2 (some .int))) := lw_V q227 q229 qs15 q22 q230
theorem gV_X1_45 : GoodIn lw_all (wsV RX1 45 RX1 yX1_fits (ws_ yX1_fits cX1_fits 3 (some .boolean))) := lw_V q251 q253 qs16 q22 q254
theorem gV_X1_38 : GoodIn lw_all (wsV RX1 38 RX1 yX1_node (ws_ yX1_node cX1_node 2 (some .boolean))) := lw_V q255 q257 qs17 q22 q258
theorem gV_X1_41 : GoodIn lw_all (wsV RX1 41 RX1 yX1_lies (ws_ yX1_lies cX1_lies 8 (some .int))) := lw_V q259 q261 qs18 q22 q262
theorem gV_X1_34 : GoodIn lw_all (wsV RX1 34 RX1 yX1_behind (ws_ yX1_behind cX1_behind 5 (some .int))) := lw_V q263 q265 qs19 q22 q266
theorem gV_X1_49 : GoodIn lw_all (wsV RX1 49 RX1 yX1_size (ws_ yX1_size cX1_size 2 (some .int))) := lw_V q287 q280 q281 q22 q282
theorem gV_X1_51 : GoodIn lw_all (wsV RX1 51 RX1 yX1_fitsAt (ws_ yX1_fitsAt cX1_fitsAt 4 (some .int))) := lw_V q292 q248 q249 q22 q250
theorem gV_X1_54 : GoodIn lw_all (wsV RX1 54 RX1 yX1_complete (ws_ yX1_complete cX1_complete 2 (some .boolean))) := lw_V q297 q240 q241 q22 q242
theorem gV_L_13 : GoodIn lw_all (wsV "PatternTablesLaw" 13 RX0 yX0_extend (ws_ yX0_extend cX0_extend 3 (some .int))) := lw_V q73 q74 q75 q21 q76
theorem gV_L_18 : GoodIn lw_all (wsV "PatternTablesLaw" 18 RX0 yX0_shorten (ws_ yX0_shorten cX0_shorten 2 (some .int))) := lw_V q87 q88 q89 q21 q90
theorem gV_L_23 : GoodIn lw_all (wsV "PatternTablesLaw" 23 RX0 yX0_grow (ws_ yX0_grow cX0_grow 2 (some .int))) := lw_V q91 q92 q93 q21 q94
theorem gV_L_27 : GoodIn lw_all (wsV "PatternTablesLaw" 27 RX0 yX0_prune (ws_ yX0_prune cX0_prune 1 (some .int))) := lw_V q99 q100 q101 q21 q102
theorem gV_L_32 : GoodIn lw_all (wsV "PatternTablesLaw" 32 RX0 yX0_complete (ws_ yX0_complete cX0_complete 2 (some .boolean))) := lw_V q103 q104 q105 q21 q106
theorem gV_L_37 : GoodIn lw_all (wsV "PatternTablesLaw" 37 RX0 yX0_whole (ws_ yX0_whole cX0_whole 1 (some .boolean))) := lw_V q107 q108 q109 q21 q110
theorem gV_L_42 : GoodIn lw_all (wsV "PatternTablesLaw" 42 RX0 yX0_fitsAt (ws_ yX0_fitsAt cX0_fitsAt 2 (some .int))) := lw_V q111 q112 q113 q21 q114
theorem gV_L_46 : GoodIn lw_all (wsV "PatternTablesLaw" 46 RX0 yX0_count (ws_ yX0_count cX0_count 4 (some .int))) := lw_V q156 q157 q158 q21 q159
theorem gV_L_50 : GoodIn lw_all (wsV "PatternTablesLaw" 50 RX0 yX0_next (ws_ yX0_next cX0_next 4 (some .int))) := lw_V q161 q162 q163 q21 q164
theorem gV_L_54 : GoodIn lw_all (wsV "PatternTablesLaw" 54 RX0 yX0_gapAt (ws_ yX0_gapAt cX0_gapAt 7 (some .int))) := lw_V q165 q166 q167 q21 q168
theorem gV_L_59 : GoodIn lw_all (wsV "PatternTablesLaw" 59 RX0 yX0_size (ws_ yX0_size cX0_size 2 (some .int))) := lw_V q169 q170 q171 q21 q172
theorem gV_L_63 : GoodIn lw_all (wsV "PatternTablesLaw" 63 RX0 yX0_equal (ws_ yX0_equal cX0_equal 3 (some .boolean))) := lw_V q173 q174 q175 q21 q176
theorem gV_L_68 : GoodIn lw_all (wsV "PatternTablesLaw" 68 RX0 yX0_kinds (ws_ yX0_kinds cX0_kinds 4 (some .int))) := lw_V q177 q178 q179 q21 q180
theorem gV_L_72 : GoodIn lw_all (wsV "PatternTablesLaw" 72 RX0 yX0_covers (ws_ yX0_covers cX0_covers 6 (some .boolean))) := lw_V q181 q182 q183 q21 q184
theorem gV_L_76 : GoodIn lw_all (wsV "PatternTablesLaw" 76 RX0 yX0_bare (ws_ yX0_bare cX0_bare 3 (some .int))) := lw_V q185 q186 q187 q21 q188
theorem gV_L_17 : GoodIn lw_all (wsV "PatternTablesLaw" 17 RX1 yX1_extend (ws_ yX1_extend cX1_extend 3 (some .int))) := lw_V q203 q204 q205 q22 q206
theorem gV_L_22 : GoodIn lw_all (wsV "PatternTablesLaw" 22 RX1 yX1_shorten (ws_ yX1_shorten cX1_shorten 2 (some .int))) := lw_V q223 q224 q225 q22 q226
theorem gV_L_26 : GoodIn lw_all (wsV "PatternTablesLaw" 26 RX1 yX1_grow (ws_ yX1_grow cX1_grow 2 (some .int))) := lw_V q231 q232 q233 q22 q234
theorem gV_L_31 : GoodIn lw_all (wsV "PatternTablesLaw" 31 RX1 yX1_prune (ws_ yX1_prune cX1_prune 1 (some .int))) := lw_V q235 q236 q237 q22 q238
theorem gV_L_36 : GoodIn lw_all (wsV "PatternTablesLaw" 36 RX1 yX1_complete (ws_ yX1_complete cX1_complete 2 (some .boolean))) := lw_V q239 q240 q241 q22 q242
theorem gV_L_41 : GoodIn lw_all (wsV "PatternTablesLaw" 41 RX1 yX1_whole (ws_ yX1_whole cX1_whole 1 (some .boolean))) := lw_V q243 q244 q245 q22 q246
theorem gV_L_45 : GoodIn lw_all (wsV "PatternTablesLaw" 45 RX1 yX1_fitsAt (ws_ yX1_fitsAt cX1_fitsAt 4 (some .int))) := lw_V q247 q248 q249 q22 q250
theorem gV_L_49 : GoodIn lw_all (wsV "PatternTablesLaw" 49 RX1 yX1_count (ws_ yX1_count cX1_count 4 (some .int))) := lw_V q267 q268 q269 q22 q270
theorem gV_L_53 : GoodIn lw_all (wsV "PatternTablesLaw" 53 RX1 yX1_next (ws_ yX1_next cX1_next 4 (some .int))) := lw_V q271 q272 q273 q22 q274
theorem gV_L_58 : GoodIn lw_all (wsV "PatternTablesLaw" 58 RX1 yX1_gapAt (ws_ yX1_gapAt cX1_gapAt 6 (some .int))) := lw_V q275 q276 q277 q22 q278
theorem gV_L_62 : GoodIn lw_all (wsV "PatternTablesLaw" 62 RX1 yX1_size (ws_ yX1_size cX1_size 2 (some .int))) := lw_V q279 q280 q281 q22 q282
theorem gV_L_67 : GoodIn lw_all (wsV "PatternTablesLaw" 67 RX1 yX1_equal (ws_ yX1_equal cX1_equal 5 (some .boolean))) := lw_V q283 q284 q285 q22 q286
theorem gV_L_71 : GoodIn lw_all (wsV "PatternTablesLaw" 71 RX1 yX1_kinds (ws_ yX1_kinds cX1_kinds 5 (some .int))) := lw_V q288 q289 q290 q22 q291
theorem gV_L_75 : GoodIn lw_all (wsV "PatternTablesLaw" 75 RX1 yX1_covers (ws_ yX1_covers cX1_covers 3 (some .boolean))) := lw_V q293 q294 q295 q22 q296
theorem gV_L_79 : GoodIn lw_all (wsV "PatternTablesLaw" 79 RX1 yX1_bare (ws_ yX1_bare cX1_bare 3 (some .int))) := lw_V q298 q299 q300 q22 q301
end
section
/-! more of the plain law: ints in ranges, arity by cases, lists that grow and shrink -/
theorem pt_rng {x : Int32} (n : Nat) (hn : n < 2147483647) (h0 : ¬ x < 0) (h : ¬ nI n < x) : ∃ j : Nat, j < n + 1 ∧ x = nI j := by
  have e := nI_toInt (n := n) (by omega)
  obtain ⟨j, hj, rfl⟩ := nI_of h0
  refine ⟨j, ?_, rfl⟩
  rcases Nat.lt_or_ge j (n + 1) with q | q
  · exact q
  · exact absurd (nI_lt (by omega) (by omega)) h
theorem pt_rngN {x : Int32} (n : Nat) (hn : n < 2147483647) (h : x < 0 ∨ nI n < x) : ¬ ∃ j : Nat, j < n + 1 ∧ x = nI j := by
  rintro ⟨j, hj, rfl⟩
  rcases h with h | h
  · exact nI_pos (by omega) h
  · exact nI_nlt (b := j) (a := n) (by omega) (by omega) h
theorem pt_rng' {x : Int32} (n : Nat) (hn : n < 2147483647) (h0 : ¬ x < 0) (h : ¬ nI n ≤ x) : ∃ j : Nat, j < n ∧ x = nI j := by
  obtain ⟨j, hj, rfl⟩ := nI_of h0
  refine ⟨j, ?_, rfl⟩
  rcases Nat.lt_or_ge j n with q | q
  · exact q
  · exact absurd (nI_le q (by omega)) h
theorem pt_rngN' {x : Int32} (n : Nat) (hn : n < 2147483647) (h : x < 0 ∨ nI n ≤ x) : ¬ ∃ j : Nat, j < n ∧ x = nI j := by
  rintro ⟨j, hj, rfl⟩
  rcases h with h | h
  · exact nI_pos (by omega) h
  · exact nI_ge hj (by omega) h
theorem pt_ix_no {N : Nat} {x : Int32} (hN : N < 2147483647) (h : ¬ ∃ j : Nat, j < N ∧ x = nI j) : pt_ix N x = none := by
  rcases pt_ix_cases N (by omega) x with ⟨q, -⟩ | ⟨j, hj, e, -⟩
  · exact q
  · exact absurd ⟨j, hj, e⟩ h
theorem pt_ar2 {t : Nat} (h : t ≤ 1) : pt_ar t = 2 := by simp [pt_ar, h]
theorem pt_ar1 {t : Nat} (h : 1 < t) (h2 : t ≤ 3) : pt_ar t = 1 := by
  unfold pt_ar
  rw [if_neg (by omega), if_pos h2]
theorem pt_ar0 {t : Nat} (h : 3 < t) : pt_ar t = 0 := by
  unfold pt_ar
  rw [if_neg (by omega), if_neg (by omega)]
theorem va_up_s {α : Type} (f : Nat → α) (k : Nat) (v : α) : va_up f k v k = v := by simp [va_up]
theorem va_up_n {α : Type} (f : Nat → α) {k j : Nat} (v : α) (h : ¬ j = k) : va_up f k v j = f j := by simp [va_up, h]
theorem pt_app_yes {sz : Nat → Nat} {tk : Nat → Nat → Nat} {l t mo : Nat} (h : sz l < mo) (h2 : ¬ pt_need (tk l) (sz l) = 0) : pt_app sz tk l t mo = (nI (sz l + 1), va_up sz l (sz l + 1), va_up tk l (va_up (tk l) (sz l) t)) := by
  unfold pt_app
  rw [if_pos ⟨h, h2⟩]
theorem pt_app_no {sz : Nat → Nat} {tk : Nat → Nat → Nat} {l t mo : Nat} (h : ¬ (sz l < mo ∧ ¬ pt_need (tk l) (sz l) = 0)) : pt_app sz tk l t mo = (-2, sz, tk) := by
  unfold pt_app
  rw [if_neg h]
theorem pt_tak_no {sz : Nat → Nat} {tk : Nat → Nat → Nat} {l : Nat} (h : sz l = 0) : pt_tak sz tk l = (-1, sz) := by
  unfold pt_tak
  rw [if_pos h]
theorem pt_tak_yes {sz : Nat → Nat} {tk : Nat → Nat → Nat} {l : Nat} (h : ¬ sz l = 0) : pt_tak sz tk l = (nI (tk l (sz l - 1)), va_up sz l (sz l - 1)) := by
  unfold pt_tak
  rw [if_neg h]
theorem pt_wf_app {sz : Nat → Nat} {tk : Nat → Nat → Nat} (hw : pt_wf sz tk) {l t mo : Nat} (hl : l < 5) (h4 : l < 4 → mo ≤ 9 ∧ t ≤ 7) (h5 : l = 4 → mo ≤ 25 ∧ t ≤ 6) (h : sz l < mo) (h2 : ¬ pt_need (tk l) (sz l) = 0) : pt_wf (va_up sz l (sz l + 1)) (va_up tk l (va_up (tk l) (sz l) t)) := by
  obtain ⟨w1, w2, w3, w4, w5⟩ := hw
  refine ⟨fun i hi => ?_, ?_, fun i hi => ?_, fun i hi k hk => ?_, fun k hk => ?_⟩
  · by_cases e : i = l
    · subst e; rw [va_up_s]; have := (h4 hi).1; omega
    · rw [va_up_n _ _ e]; exact w1 i hi
  · by_cases e : 4 = l
    · subst e; rw [va_up_s]; have := (h5 rfl).1; omega
    · rw [va_up_n _ _ e]; exact w2
  · by_cases e : i = l
    · subst e
      rw [va_up_s, va_up_s]
      intro k hk
      rw [pt_need_congr (g := tk i) (fun z hz => va_up_n _ _ (by omega))]
      rcases Nat.lt_or_ge k (sz i) with q | q
      · exact w3 i hi k q
      · rw [show k = sz i by omega]; omega
    · rw [va_up_n _ _ e, va_up_n _ _ e]; exact w3 i hi
  · by_cases e : i = l
    · subst e
      rw [va_up_s] at hk
      rw [va_up_s]
      by_cases q : k = sz i
      · rw [q, va_up_s]; exact (h4 hi).2
      · rw [va_up_n _ _ q]; exact w4 i hi k (by omega)
    · rw [va_up_n _ _ e] at hk
      rw [va_up_n _ _ e]; exact w4 i hi k hk
  · by_cases e : 4 = l
    · subst e
      rw [va_up_s] at hk
      rw [va_up_s]
      by_cases q : k = sz 4
      · rw [q, va_up_s]; exact (h5 rfl).2
      · rw [va_up_n _ _ q]; exact w5 k (by omega)
    · rw [va_up_n _ _ e] at hk
      rw [va_up_n _ _ e]; exact w5 k hk
theorem pt_wf_tak {sz : Nat → Nat} {tk : Nat → Nat → Nat} (hw : pt_wf sz tk) (l : Nat) : pt_wf (va_up sz l (sz l - 1)) tk := by
  have le : ∀ i, va_up sz l (sz l - 1) i ≤ sz i := by
    intro i
    by_cases e : i = l
    · rw [e, va_up_s]; omega
    · rw [va_up_n _ _ e]; exact Nat.le_refl _
  obtain ⟨w1, w2, w3, w4, w5⟩ := hw
  exact ⟨fun i hi => Nat.le_trans (le i) (w1 i hi), Nat.le_trans (le 4) w2, fun i hi => pt_ok_mono (w3 i hi) (le i), fun i hi k hk => w4 i hi k (Nat.lt_of_lt_of_le hk (le i)), fun k hk => w5 k (Nat.lt_of_lt_of_le hk (le 4))⟩
theorem MI_app {size tokens sz : Nat → Nat} {tk : Nat → Nat → Nat} (hI : MI size tokens sz tk) {l t mo : Nat} (hl : l < 5) (h4 : l < 4 → mo ≤ 9 ∧ t ≤ 7) (h5 : l = 4 → mo ≤ 25 ∧ t ≤ 6) (h : sz l < mo) (h2 : ¬ pt_need (tk l) (sz l) = 0) : MI (va_up size l (sz l + 1)) (va_up tokens (25 * l + sz l) t) (va_up sz l (sz l + 1)) (va_up tk l (va_up (tk l) (sz l) t)) := by
  have hw := hI.1
  refine ⟨pt_wf_app hw hl h4 h5 h h2, fun i hi => ?_, fun i hi k hk => ?_⟩
  · by_cases e : i = l
    · rw [e, va_up_s, va_up_s]
    · rw [va_up_n _ _ e, va_up_n _ _ e]; exact hI.2.1 i hi
  · have hl25 : sz l < 25 := by
      rcases Nat.lt_or_ge l 4 with q | q
      · have := (h4 q).1; omega
      · have := (h5 (by omega)).1; omega
    by_cases e : i = l
    · subst e
      rw [va_up_s] at hk
      rw [va_up_s]
      by_cases q : k = sz i
      · rw [q, va_up_s, va_up_s]
      · rw [va_up_n _ _ q, va_up_n _ _ (by omega)]; exact hI.2.2 i hi k (by omega)
    · rw [va_up_n _ _ e] at hk
      rw [va_up_n _ _ e]
      have := pt_wf_25 hw hi
      rw [va_up_n _ _ (by omega)]
      exact hI.2.2 i hi k hk
theorem MI_tak {size tokens sz : Nat → Nat} {tk : Nat → Nat → Nat} (hI : MI size tokens sz tk) (l : Nat) : MI (va_up size l (sz l - 1)) tokens (va_up sz l (sz l - 1)) tk := by
  refine ⟨pt_wf_tak hI.1 l, fun i hi => ?_, fun i hi k hk => ?_⟩
  · by_cases e : i = l
    · rw [e, va_up_s, va_up_s]
    · rw [va_up_n _ _ e, va_up_n _ _ e]; exact hI.2.1 i hi
  · refine hI.2.2 i hi k ?_
    by_cases e : i = l
    · rw [e, va_up_s] at hk
      rw [e]
      omega
    · rw [va_up_n _ _ e] at hk; exact hk
end
section
/-! more of the plain law: what the model's methods compute -/
theorem pt_ix_none {N : Nat} {x : Int32} (hN : N < 2147483647) (h : pt_ix N x = none) : ¬ ∃ j : Nat, j < N ∧ x = nI j := by
  rintro ⟨j, hj, rfl⟩
  rw [pt_ix_in hj (by omega)] at h
  cases h
theorem pt_skip_s' {f : Nat → Nat} {n i o : Nat} (h : i < n) (ho : 0 < o) : pt_skip f n (i + 1) (o - 1 + pt_ar (f i)) = pt_skip f n i o := by
  obtain ⟨o', rfl⟩ : ∃ o', o = o' + 1 := ⟨o - 1, by omega⟩
  rw [pt_skip_s f o' h]
  rfl
theorem pt_skip_25 (f : Nat → Nat) {n x : Nat} (o : Nat) (hn : n ≤ 25) (hx : x ≤ 25) : pt_skip f n x o ≤ 25 := by
  rcases Nat.lt_or_ge n x with q | q
  · rw [pt_skip_end f o (by omega)]; exact hx
  · have := (pt_skip_in f (n := n) (i := x) o q).2
    omega
/-- does pattern p fit at the node that an int names -/
def pt_fb (sz : Nat → Nat) (tk : Nat → Nat → Nat) (xn : Int32) (p : Nat) : Bool := match pt_ix (sz 4) xn with
  | some j => pt_ft sz tk p j
  | none => false
theorem pt_fb_iff {sz : Nat → Nat} {tk : Nat → Nat → Nat} {xn : Int32} {p : Nat} (h25 : sz 4 ≤ 25) : pt_fb sz tk xn p = true ↔ ∃ j : Nat, j < sz 4 ∧ xn = nI j ∧ pt_ft sz tk p j = true := by
  unfold pt_fb
  rcases pt_ix_cases (sz 4) (by omega) xn with ⟨h, -⟩ | ⟨j, hj, rfl, h⟩
  · rw [h]
    constructor
    · intro q; cases q
    · rintro ⟨j, hj, e, -⟩
      exact absurd ⟨j, hj, e⟩ (pt_ix_none (by omega) h)
  · rw [h]
    constructor
    · intro q; exact ⟨j, hj, rfl, q⟩
    · rintro ⟨i, hi, e, q⟩
      have e2 := (nI_eq (by omega) (by omega)).mp e
      subst e2
      exact q
theorem pt_fb_nI {sz : Nat → Nat} {tk : Nat → Nat → Nat} {k p : Nat} (h25 : sz 4 ≤ 25) (hk : k < 2147483647) : pt_fb sz tk (nI k) p = pt_ft sz tk p k := by
  unfold pt_fb
  rcases Nat.lt_or_ge k (sz 4) with q | q
  · rw [pt_ix_in q (by omega)]
  · rw [pt_ix_no (by omega) (by rintro ⟨j, hj, e⟩; have := (nI_eq (by omega) (by omega)).mp e; omega), pt_ft_out (by omega)]
theorem pt_fitsAt_fs {sz : Nat → Nat} {tk : Nat → Nat → Nat} {xn : Int32} : pt_fitsAt sz tk xn = pt_fs (pt_fb sz tk xn) 4 := by
  unfold pt_fitsAt
  cases h : pt_ix (sz 4) xn with
  | none => exact (pt_fs_0 4 (fun p => by unfold pt_fb; rw [h])).symm
  | some j => exact pt_fs_congr (fun p _ => by unfold pt_fb; rw [h])
theorem pt_fitsAt_nI {sz : Nat → Nat} {tk : Nat → Nat → Nat} {k : Nat} (h25 : sz 4 ≤ 25) (hk : k < 2147483647) : pt_fitsAt sz tk (nI k) = pt_F sz tk k := by
  rw [pt_fitsAt_fs]
  exact pt_fs_congr (fun p _ => pt_fb_nI h25 hk)
theorem pt_fitsAt_lt {sz : Nat → Nat} {tk : Nat → Nat → Nat} {xn : Int32} : pt_fitsAt sz tk xn < 16 := by
  rw [pt_fitsAt_fs]
  exact pt_fs_lt _ 4
theorem pt_orpow : ∀ k, k < 4 → ∀ s, s < 16 → s < 2 ^ k → nI s ||| (nI 1 <<< (nI k &&& 31)) = nI (s + 2 ^ k) := by decide +kernel
theorem pt_fs_s (b : Nat → Bool) (k : Nat) : pt_fs b (k + 1) = pt_fs b k + if b k then 2 ^ k else 0 := rfl
theorem pt_fs_s1 {b : Nat → Bool} {k : Nat} (h : b k = true) : pt_fs b (k + 1) = pt_fs b k + 2 ^ k := by rw [pt_fs_s, h]; rfl
theorem pt_fs_s0 {b : Nat → Bool} {k : Nat} (h : ¬ b k = true) : pt_fs b (k + 1) = pt_fs b k := by rw [pt_fs_s, if_neg h]; rfl
theorem pt_cn_s1 {b : Nat → Bool} {k : Nat} (h : b k = true) : pt_cn b (k + 1) = pt_cn b k + 1 := by show pt_cn b k + _ = _; rw [if_pos h]
theorem pt_cn_s0 {b : Nat → Bool} {k : Nat} (h : ¬ b k = true) : pt_cn b (k + 1) = pt_cn b k := by show pt_cn b k + _ = _; rw [if_neg h]; rfl
theorem pt_ex_s (b : Nat → Bool) (k : Nat) : pt_ex b (k + 1) = (pt_ex b k || b k) := rfl
theorem pt_fsor {b : Nat → Bool} {k : Nat} (hk : k < 4) (h : b k = true) : nI (pt_fs b k) ||| (nI 1 <<< (nI k &&& 31)) = nI (pt_fs b (k + 1)) := by
  have h1 := pt_fs_lt b k
  have h2 : 2 ^ k ≤ 2 ^ 4 := Nat.pow_le_pow_right (by decide) (by omega)
  rw [pt_fs_s1 h]
  exact pt_orpow k hk _ (by omega) h1
theorem pt_first_is {b : Nat → Bool} {k : Nat} (hb : b k = true) : ∀ d lo, lo ≤ k → k < lo + d → (∀ m, lo ≤ m → m < k → b m = false) → pt_first b d lo = nI k := by
  intro d
  induction d with
  | zero => intro lo h1 h2; omega
  | succ d ih =>
    intro lo h1 h2 h3
    show (if b lo then nI lo else pt_first b d (lo + 1)) = nI k
    by_cases e : lo = k
    · rw [e, if_pos hb]
    · rw [h3 lo (Nat.le_refl _) (by omega)]
      exact ih (lo + 1) (by omega) (by omega) (fun m q1 q2 => h3 m (by omega) q2)
theorem pt_first_none {b : Nat → Bool} : ∀ d lo, (∀ m, lo ≤ m → m < lo + d → b m = false) → pt_first b d lo = -1 := by
  intro d
  induction d with
  | zero => intro lo _; rfl
  | succ d ih =>
    intro lo h3
    show (if b lo then nI lo else pt_first b d (lo + 1)) = -1
    rw [h3 lo (Nat.le_refl _) (by omega)]
    exact ih (lo + 1) (fun m q1 q2 => h3 m (by omega) (by omega))
theorem pt_ltlo {k : Nat} {x : Int32} (hk : k < 2147483648) : nI k < x ↔ k < x.toInt.toNat := by
  rw [Int32.lt_iff_toInt_lt, nI_toInt hk]
  omega
theorem pt_gaps_s (f : Nat → Nat) (x : Nat) : pt_gaps f (x + 1) = pt_gaps f x + if f x = 7 then 1 else 0 := by
  unfold pt_gaps
  show pt_cn _ x + _ = _
  by_cases h : f x = 7 <;> simp [h]
theorem pt_gaps_le (f : Nat → Nat) (x : Nat) : pt_gaps f x ≤ x := pt_cn_le _ x
theorem pt_gp_s (f g : Nat → Nat) (n i0 : Nat) (kk : Int32) (d x : Nat) (h : ¬ (f x = 7 ∧ nI (pt_gaps f x) = kk)) : pt_gp f g n i0 kk (d + 1) x = pt_gp f g n i0 kk d (x + 1) := by
  show (if _ then _ else _) = _
  rw [if_neg h]
theorem pt_gp_is {f g : Nat → Nat} {n i0 : Nat} {kk : Int32} {d x a : Nat} (h : f x = 7) (h2 : nI (pt_gaps f x) = kk) (h3 : pt_lay f g n x 0 i0 = some a) : pt_gp f g n i0 kk (d + 1) x = nI a := by
  show (if _ then _ else _) = _
  rw [if_pos ⟨h, h2⟩, h3]
theorem pt_gp_is0 {f g : Nat → Nat} {n i0 : Nat} {kk : Int32} {d x : Nat} (h : f x = 7) (h2 : nI (pt_gaps f x) = kk) (h3 : pt_lay f g n x 0 i0 = none) : pt_gp f g n i0 kk (d + 1) x = -1 := by
  show (if _ then _ else _) = _
  rw [if_pos ⟨h, h2⟩, h3]
theorem xr_m1neg : (-1 : Int32) < 0 := by decide +kernel
/-- the model's kinds: nodes of a whole subject with the set v -/
def pt_kb (sz : Nat → Nat) (tk : Nat → Nat → Nat) (v n : Nat) : Bool := decide (pt_need (tk 4) (sz 4) = 0) && (decide (n < sz 4) && decide (pt_F sz tk n = v))
theorem pt_kb_iff {sz : Nat → Nat} {tk : Nat → Nat → Nat} {v n : Nat} : pt_kb sz tk v n = true ↔ pt_need (tk 4) (sz 4) = 0 ∧ n < sz 4 ∧ pt_F sz tk n = v := by simp [pt_kb]
theorem pt_kb_ex {sz : Nat → Nat} {tk : Nat → Nat → Nat} {v : Nat} (h25 : sz 4 ≤ 25) (hw : pt_need (tk 4) (sz 4) = 0) : pt_ex (pt_kb sz tk v) 25 = pt_ex (fun n => decide (pt_F sz tk n = v)) (sz 4) := by
  have e := pt_ex_cut (b := pt_kb sz tk v) (n := sz 4) (25 - sz 4) (fun p h1 _ => by simp [pt_kb, show ¬ p < sz 4 by omega])
  rw [show sz 4 + (25 - sz 4) = 25 by omega] at e
  rw [e]
  exact pt_ex_congr (fun p hp => by simp [pt_kb, hw, hp])
theorem pt_ex_0 {b : Nat → Bool} (n : Nat) (h : ∀ p, b p = false) : pt_ex b n = false := by
  induction n with
  | zero => rfl
  | succ n ih => rw [pt_ex_s, ih, h n]; rfl
theorem pt_cn_0 {b : Nat → Bool} (n : Nat) (h : ∀ p, b p = false) : pt_cn b n = 0 := by
  induction n with
  | zero => rfl
  | succ n ih => rw [pt_cn_s0 (by rw [h n]; decide), ih]
theorem pt_kinds_m {sz : Nat → Nat} {tk : Nat → Nat → Nat} (h25 : sz 4 ≤ 25) : nI (pt_cn (fun v => pt_ex (pt_kb sz tk v) 25) 16) = pt_kinds sz tk := by
  unfold pt_kinds
  by_cases hw : pt_need (tk 4) (sz 4) = 0
  · rw [if_pos hw]
    exact congrArg nI (pt_cn_congr (fun v _ => pt_kb_ex h25 hw))
  · rw [if_neg hw]
    exact congrArg nI (pt_cn_0 16 (fun v => pt_ex_0 25 (fun n => by simp [pt_kb, hw])))
theorem pt_bare_m {sz : Nat → Nat} {tk : Nat → Nat → Nat} (h25 : sz 4 ≤ 25) : nI (pt_cn (pt_kb sz tk 0) 25) = pt_bare sz tk := by
  unfold pt_bare
  by_cases hw : pt_need (tk 4) (sz 4) = 0
  · rw [if_pos hw]
    have e := pt_cn_cut (b := pt_kb sz tk 0) (n := sz 4) (25 - sz 4) (fun p h1 _ => by simp [pt_kb, show ¬ p < sz 4 by omega])
    rw [show sz 4 + (25 - sz 4) = 25 by omega] at e
    rw [e]
    exact congrArg nI (pt_cn_congr (fun p hp => by simp [pt_kb, hw, hp]))
  · rw [if_neg hw]
    exact congrArg nI (pt_cn_0 25 (fun n => by simp [pt_kb, hw]))
theorem pt_count_m {sz : Nat → Nat} {tk : Nat → Nat → Nat} {j : Nat} (hj : j < 4) (h25 : sz 4 ≤ 25) : nI (pt_cn (fun n => pt_ft sz tk j n) 25) = pt_count sz tk (nI j) := by
  unfold pt_count
  rw [pt_ix_in hj (by decide)]
  have e := pt_cn_cut (b := fun n => pt_ft sz tk j n) (n := sz 4) (25 - sz 4) (fun p h1 _ => pt_ft_out (by omega))
  rw [show sz 4 + (25 - sz 4) = 25 by omega] at e
  rw [e]
theorem pt_size_in {sz : Nat → Nat} {tk : Nat → Nat → Nat} {j : Nat} (hw : pt_need (tk 4) (sz 4) = 0) (hj : j < sz 4) (h25 : sz 4 < 2 ^ 31) : pt_size sz tk (nI j) = nI (pt_skip (tk 4) (sz 4) j 1 - j) := by
  unfold pt_size
  rw [pt_ix_in hj h25]
  show (if _ then _ else _) = _
  rw [if_pos hw]
end
section
/-! bits: the wb family and s_l of kit/laws/BITS.to-paste (a starting text), then bits of a state's number -/
theorem s_l : ∀ n, n < 32 → ((nI n &&& 31).toBitVec.smod 32).toNat = n := by decide +kernel
theorem wb_tb (n : Nat) : (lN n).toBitVec = BitVec.ofNat 64 n := rfl
theorem wb_inj {a b : Int64} (h : a.toBitVec = b.toBitVec) : a = b := Int64.toBitVec_inj.mp h
theorem wb_tn {n : Nat} (h : n < 2 ^ 64) : (lN n).toBitVec.toNat = n := by rw [wb_tb, BitVec.toNat_ofNat, Nat.mod_eq_of_lt h]
theorem wb_of (x : Int64) : ∃ n, n < 2 ^ 64 ∧ x = lN n := ⟨x.toBitVec.toNat, x.toBitVec.isLt, wb_inj (by rw [wb_tb]; simp)⟩
theorem wb_of32 (x : Int32) : ∃ n, n < 2 ^ 32 ∧ x = nI n := ⟨x.toBitVec.toNat, x.toBitVec.isLt, Int32.toBitVec_inj.mp (by show _ = BitVec.ofNat 32 _; simp)⟩
theorem wb_c : ∀ k, k < 64 → ((nI k).toInt64 &&& 63) = lN k := by decide +kernel
theorem wb_cu : ∀ k, k < 64 → ((nI k).toInt64.toUInt64 &&& Int64.toUInt64 63) = UInt64.ofNat k := by decide +kernel
theorem wb_sm : ∀ k, k < 64 → (BitVec.ofNat 64 k).smod 64 = BitVec.ofNat 64 k := by decide +kernel
theorem wb_pw {a b : Nat} (h : a ≤ b) : 2 ^ b = 2 ^ a * 2 ^ (b - a) := by rw [← Nat.pow_add]; congr 1; omega
theorem wb_lt2 {a b : Nat} (h : a < b) : 2 ^ a < 2 ^ b := Nat.pow_lt_pow_right (by decide) h
theorem wb_mod (n : Nat) : lN n = lN (n % 2 ^ 64) := wb_inj (by rw [wb_tb, wb_tb]; apply BitVec.eq_of_toNat_eq; rw [BitVec.toNat_ofNat, BitVec.toNat_ofNat, Nat.mod_mod])
theorem wb_shr {n k : Nat} (hn : n < 2 ^ 64) (hk : k < 64) : ((lN n).toUInt64 >>> ((nI k).toInt64.toUInt64 &&& Int64.toUInt64 63)).toInt64 = lN (n / 2 ^ k) := by
  rw [wb_cu k hk]
  apply wb_inj
  apply BitVec.eq_of_toNat_eq
  show ((lN n).toUInt64 >>> UInt64.ofNat k).toNat = (BitVec.ofNat 64 _).toNat
  have h1 : (UInt64.ofNat k).toNat = k := by
    show (BitVec.ofNat 64 k).toNat = k
    rw [BitVec.toNat_ofNat, Nat.mod_eq_of_lt (by omega)]
  have h2 : (lN n).toUInt64.toNat = n := wb_tn hn
  rw [UInt64.toNat_shiftRight, h1, h2, Nat.mod_eq_of_lt hk, Nat.shiftRight_eq_div_pow, BitVec.toNat_ofNat, Nat.mod_eq_of_lt (Nat.lt_of_le_of_lt (Nat.div_le_self _ _) hn)]
theorem wb_shl (n : Nat) {k : Nat} (hk : k < 64) : lN n <<< ((nI k).toInt64 &&& 63) = lN (n * 2 ^ k) := by
  rw [wb_c k hk]
  apply wb_inj
  rw [Int64.toBitVec_shiftLeft, wb_tb, wb_tb, wb_tb, wb_sm k hk]
  apply BitVec.eq_of_toNat_eq
  rw [BitVec.shiftLeft_eq', BitVec.toNat_shiftLeft, BitVec.toNat_ofNat, BitVec.toNat_ofNat, BitVec.toNat_ofNat, Nat.mod_eq_of_lt (show k < 2 ^ 64 by omega), Nat.shiftLeft_eq, Nat.mul_mod, Nat.mod_mod, ← Nat.mul_mod]
theorem wb_and {a b : Nat} (ha : a < 2 ^ 64) (hb : b < 2 ^ 64) : lN a &&& lN b = lN (a &&& b) := by
  apply wb_inj
  rw [Int64.toBitVec_and, wb_tb, wb_tb, wb_tb]
  apply BitVec.eq_of_toNat_eq
  rw [BitVec.toNat_and, BitVec.toNat_ofNat, BitVec.toNat_ofNat, BitVec.toNat_ofNat, Nat.mod_eq_of_lt ha, Nat.mod_eq_of_lt hb, Nat.mod_eq_of_lt (Nat.and_lt_two_pow _ hb)]
theorem wb_or {a b : Nat} (ha : a < 2 ^ 64) (hb : b < 2 ^ 64) : lN a ||| lN b = lN (a ||| b) := by
  apply wb_inj
  rw [Int64.toBitVec_or, wb_tb, wb_tb, wb_tb]
  apply BitVec.eq_of_toNat_eq
  rw [BitVec.toNat_or, BitVec.toNat_ofNat, BitVec.toNat_ofNat, BitVec.toNat_ofNat, Nat.mod_eq_of_lt ha, Nat.mod_eq_of_lt hb, Nat.mod_eq_of_lt (Nat.or_lt_two_pow ha hb)]
theorem wb_mask {n k : Nat} (hn : n < 2 ^ 64) (hk : k < 64) : lN n &&& lN (2 ^ k - 1) = lN (n % 2 ^ k) := by
  rw [wb_and hn (by have := wb_lt2 hk; omega), Nat.and_two_pow_sub_one_eq_mod]
theorem wb_a1 {n : Nat} (hn : n < 2 ^ 64) : lN n &&& 1 = lN (n % 2) := wb_mask (k := 1) hn (by decide)
theorem wb_bit {n k : Nat} (hn : n < 2 ^ 64) (hk : k < 64) : ((lN n).toUInt64 >>> ((nI k).toInt64.toUInt64 &&& Int64.toUInt64 63)).toInt64 &&& 1 = lN (n / 2 ^ k % 2) := by
  rw [wb_shr hn hk, wb_a1 (Nat.lt_of_le_of_lt (Nat.div_le_self _ _) hn)]
def tb (x : Int64) (k : Nat) : Bool := x.toBitVec.getLsbD k
theorem tb_lN {n k : Nat} (hk : k < 64) : tb (lN n) k = n.testBit k := by
  unfold tb
  rw [wb_tb, BitVec.getLsbD_ofNat]
  simp [hk]
theorem tb_0 (k : Nat) : tb 0 k = false := by
  show (0#64).getLsbD k = false
  simp
theorem tb_or (x : Int64) {c i : Nat} (hc : c < 64) : tb (x ||| ((1 : Int64) <<< ((nI c).toInt64 &&& 63))) i = (tb x i || decide (i = c)) := by
  have e : (1 : Int64) <<< ((nI c).toInt64 &&& 63) = lN (2 ^ c) := by
    rw [show (1 : Int64) = lN 1 from rfl, wb_shl 1 hc, Nat.one_mul]
  rw [e]
  unfold tb
  rw [Int64.toBitVec_or, BitVec.getLsbD_or, wb_tb, BitVec.getLsbD_ofNat, Nat.testBit_two_pow]
  by_cases h : i = c
  · subst h; simp [hc]
  · have h2 : ¬ c = i := fun q => h q.symm
    simp [h, h2]
/-- the bit k of x, as the code takes it -/
theorem tb_bit (x : Int64) {k : Nat} (hk : k < 64) : (x.toUInt64 >>> ((nI k).toInt64.toUInt64 &&& Int64.toUInt64 63)).toInt64 &&& 1 = lN (if tb x k then 1 else 0) := by
  obtain ⟨n, hn, rfl⟩ := wb_of x
  rw [wb_bit hn hk, tb_lN hk, Nat.testBit_eq_decide_div_mod_eq]
  rcases Nat.mod_two_eq_zero_or_one (n / 2 ^ k) with h | h <;> simp [h]
theorem lN_10 : ¬ lN 1 = 0 := by decide +kernel
theorem lN_00 : lN 0 = 0 := by decide +kernel
theorem tb_bit0 (x : Int64) {k : Nat} (hk : k < 64) : ((x.toUInt64 >>> ((nI k).toInt64.toUInt64 &&& Int64.toUInt64 63)).toInt64 &&& 1) = 0 ↔ tb x k = false := by
  rw [tb_bit x hk]
  cases h : tb x k with
  | false => simp [lN_00]
  | true => simp [lN_10]
theorem nx_or (a b : Nat) : nI a ||| nI b = nI (a ||| b) := by
  apply Int32.toBitVec_inj.mp
  rw [Int32.toBitVec_or]
  show BitVec.ofNat 32 a ||| BitVec.ofNat 32 b = BitVec.ofNat 32 (a ||| b)
  apply BitVec.eq_of_getLsbD_eq
  intro i hi
  simp [BitVec.getLsbD_ofNat, hi]
theorem nI_shl1 {v : Nat} (hv : v < 31) : nI 1 <<< (nI v &&& 31) = nI (2 ^ v) := by
  have h : 2 ^ v < 2 ^ 31 := Nat.pow_lt_pow_right (by decide) hv
  rw [pk_shlN (nI v &&& 31) v (s_l v (by omega)) (by omega), Nat.one_mul]
/-- a bit of a small set -/
theorem nI_bit {n v : Nat} (hn : n < 2 ^ 31) (hv : v < 31) : (nI n >>> (nI v &&& 31)) &&& nI 1 = nI (n / 2 ^ v % 2) := by
  have h := Nat.div_le_self n (2 ^ v)
  rw [pk_shrN hn (nI v &&& 31) v (s_l v (by omega)), pk_andN (by omega) 1 (by decide)]
theorem pt_or0 : ∀ k, k < 4 → ∀ s, s < 16 → nI s ||| (nI 0 <<< (nI k &&& 31)) = nI s := by decide +kernel
theorem pt_fsor2 {b : Nat → Bool} {k : Nat} (hk : k < 4) : nI (pt_fs b k) ||| (nI (if b k then 1 else 0) <<< (nI k &&& 31)) = nI (pt_fs b (k + 1)) := by
  have h1 := pt_fs_lt b k
  have h2 : 2 ^ k ≤ 2 ^ 4 := Nat.pow_le_pow_right (by decide) (by omega)
  by_cases h : b k = true
  · rw [if_pos h]; exact pt_fsor hk h
  · rw [if_neg h, pt_fs_s0 h]; exact pt_or0 k hk _ (by omega)
theorem xr_needI {a b : Nat} (h : 1 ≤ a) : nI a + (nI b - nI 1) = nI (a + b - 1) := by
  rw [Int32.sub_eq_add_neg, ← Int32.add_assoc, nI_add, ← Int32.sub_eq_add_neg, xr_sub1, show a + b = (a + b - 1) + 1 by omega, pI_s]
  congr 1
theorem xr_dec1 (n : Nat) : nI (n + 1) + Int32.ofInt (-1) = nI n := by rw [xr_dec, pI_s]
end
section
/-! the plain law of PatternTables: states, the table, equal parts -/
/-- what the cells of a PatternTables hold besides the lists -/
abbrev XD : Type := (Nat → Nat) × (Nat → Nat) × (Nat → Int64) × (Nat → Nat) × (Nat → Nat) × (Nat → Nat) × (Nat → Nat) × Nat × Nat
abbrev XWd (ad : Nat → Nat) (cB cJ : ClassId) (sizes tokens subject : Nat → Nat) (cnt : Nat) (u : XD) : va_W := match u with
  | (spans, parts, states, table, stateAt, fits, sameAs, kn, sc) => XW ad cB cJ sizes tokens spans subject parts states table stateAt fits sameAs cnt kn sc
def XJ (u : XD) (sz : Nat → Nat) (tk : Nat → Nat → Nat) : Prop := match u with
  | (_, parts, _, _, _, fits, sameAs, kn, _) => kn ≤ 1 ∧ (kn = 1 → XK parts fits sameAs sz tk)
def XJk (u : XD) : Prop := match u with
  | (_, _, _, _, _, _, _, kn, _) => kn = 1
theorem XI_J {sizes tokens spans subject parts : Nat → Nat} {states : Nat → Int64} {table stateAt fits sameAs : Nat → Nat} {cnt kn sc : Nat} {sz : Nat → Nat} {tk : Nat → Nat → Nat} : XI (sizes, tokens, spans, subject, parts, states, table, stateAt, fits, sameAs, cnt, kn, sc) sz tk ↔ XL sizes tokens subject cnt sz tk ∧ XJ (spans, parts, states, table, stateAt, fits, sameAs, kn, sc) sz tk := Iff.rfl
theorem XL_app {sizes tokens subject : Nat → Nat} {cnt : Nat} {sz : Nat → Nat} {tk : Nat → Nat → Nat} (hL : XL sizes tokens subject cnt sz tk) {l t : Nat} (hl : l < 4) (ht : t ≤ 7) (h : sz l < 9) (h2 : ¬ pt_need (tk l) (sz l) = 0) : XL (va_up sizes l (sz l + 1)) (va_up tokens (l * 9 + sz l) t) subject cnt (va_up sz l (sz l + 1)) (va_up tk l (va_up (tk l) (sz l) t)) := by
  obtain ⟨hw, h1, h3, h4, h5⟩ := hL
  refine ⟨pt_wf_app hw (mo := 9) (by omega) (fun _ => ⟨Nat.le_refl _, ht⟩) (fun q => absurd q (by omega)) h h2, fun i hi => ?_, fun i hi k hk => ?_, ?_, fun k hk => ?_⟩
  · by_cases e : i = l
    · rw [e, va_up_s, va_up_s]
    · rw [va_up_n _ _ e, va_up_n _ _ e]; exact h1 i hi
  · by_cases e : i = l
    · subst e
      rw [va_up_s] at hk
      rw [va_up_s]
      by_cases q : k = sz i
      · rw [q, va_up_s, va_up_s]
      · rw [va_up_n _ _ q, va_up_n _ _ (by omega)]; exact h3 i hi k (by omega)
    · rw [va_up_n _ _ e] at hk
      rw [va_up_n _ _ e]
      have := hw.1 i hi
      rw [va_up_n _ _ (by omega)]
      exact h3 i hi k hk
  · rw [va_up_n _ _ (by omega)]; exact h4
  · rw [va_up_n _ _ (by omega)] at hk
    rw [va_up_n _ _ (by omega)]
    exact h5 k hk
theorem XL_tak {sizes tokens subject : Nat → Nat} {cnt : Nat} {sz : Nat → Nat} {tk : Nat → Nat → Nat} (hL : XL sizes tokens subject cnt sz tk) {l : Nat} (hl : l < 4) : XL (va_up sizes l (sz l - 1)) tokens subject cnt (va_up sz l (sz l - 1)) tk := by
  obtain ⟨hw, h1, h3, h4, h5⟩ := hL
  refine ⟨pt_wf_tak hw l, fun i hi => ?_, fun i hi k hk => ?_, ?_, fun k hk => ?_⟩
  · by_cases e : i = l
    · rw [e, va_up_s, va_up_s]
    · rw [va_up_n _ _ e, va_up_n _ _ e]; exact h1 i hi
  · refine h3 i hi k ?_
    by_cases e : i = l
    · rw [e, va_up_s] at hk
      rw [e]
      omega
    · rw [va_up_n _ _ e] at hk; exact hk
  · rw [va_up_n _ _ (by omega)]; exact h4
  · rw [va_up_n _ _ (by omega)] at hk
    exact h5 k hk
theorem XL_grow {sizes tokens subject : Nat → Nat} {cnt : Nat} {sz : Nat → Nat} {tk : Nat → Nat → Nat} (hL : XL sizes tokens subject cnt sz tk) {t : Nat} (ht : t ≤ 6) (h : sz 4 < 25) (h2 : ¬ pt_need (tk 4) (sz 4) = 0) : XL sizes tokens (va_up subject (sz 4) t) (sz 4 + 1) (va_up sz 4 (sz 4 + 1)) (va_up tk 4 (va_up (tk 4) (sz 4) t)) := by
  obtain ⟨hw, h1, h3, h4, h5⟩ := hL
  refine ⟨pt_wf_app hw (mo := 25) (by omega) (fun q => absurd q (by omega)) (fun _ => ⟨Nat.le_refl _, ht⟩) h h2, fun i hi => ?_, fun i hi k hk => ?_, ?_, fun k hk => ?_⟩
  · rw [va_up_n _ _ (by omega)]; exact h1 i hi
  · rw [va_up_n _ _ (by omega)] at hk
    rw [va_up_n _ _ (by omega)]
    exact h3 i hi k hk
  · rw [va_up_s]
  · rw [va_up_s] at hk
    rw [va_up_s]
    by_cases q : k = sz 4
    · rw [q, va_up_s, va_up_s]
    · rw [va_up_n _ _ q, va_up_n _ _ q]; exact h5 k (by omega)
theorem XL_prune {sizes tokens subject : Nat → Nat} {cnt : Nat} {sz : Nat → Nat} {tk : Nat → Nat → Nat} (hL : XL sizes tokens subject cnt sz tk) : XL sizes tokens subject (sz 4 - 1) (va_up sz 4 (sz 4 - 1)) tk := by
  obtain ⟨hw, h1, h3, h4, h5⟩ := hL
  refine ⟨pt_wf_tak hw 4, fun i hi => ?_, fun i hi k hk => ?_, ?_, fun k hk => ?_⟩
  · rw [va_up_n _ _ (by omega)]; exact h1 i hi
  · rw [va_up_n _ _ (by omega)] at hk
    exact h3 i hi k hk
  · rw [va_up_s]
  · rw [va_up_s] at hk
    exact h5 k (by omega)
/-- the spans of the complete patterns below v are right -/
def XSp (spans : Nat → Nat) (sz : Nat → Nat) (tk : Nat → Nat → Nat) (v : Nat) : Prop := ∀ q, q < v → pt_need (tk q) (sz q) = 0 → ∀ k, k < sz q → spans (q * 9 + k) = pt_skip (tk q) (sz q) k 1 - k
/-- which tokens of patterns begin parts that fit a tree with operator op and parts with the sets F, S -/
def cbP (sz : Nat → Nat) (tk : Nat → Nat → Nat) (op : Nat) (F S : Nat → Bool) (p k : Nat) : Prop := pt_need (tk p) (sz p) = 0 ∧ k < sz p ∧ (tk p k = 7 ∨ (tk p k = op ∧ (0 < pt_ar op → F (p * 9 + (k + 1)) = true) ∧ (1 < pt_ar op → S (p * 9 + pt_skip (tk p) (sz p) (k + 1) 1) = true)))
/-- .. and that fit the node n -/
def FT (sz : Nat → Nat) (tk : Nat → Nat → Nat) (n p k : Nat) : Prop := pt_need (tk p) (sz p) = 0 ∧ k < sz p ∧ pt_fit (tk p) (sz p) (tk 4) (sz 4) k n = true
/-- the set x says just which tokens begin parts that fit n -/
def FTs (sz : Nat → Nat) (tk : Nat → Nat → Nat) (n : Nat) (x : Int64) : Prop := ∀ p, p < 4 → ∀ k, k < 9 → (tb x (p * 9 + k) = true ↔ FT sz tk n p k)
def pt_place (op f s : Nat) : Nat := if pt_ar op = 2 then (op * 26 + f) * 26 + s else if pt_ar op = 1 then 1352 + (op - 2) * 26 + f else 1404 + op - 4
theorem pt_ar_op2 {op : Nat} (h : pt_ar op = 2) : op ≤ 1 := by
  unfold pt_ar at h
  split at h
  · assumption
  · split at h <;> cases h
theorem pt_ar_op1 {op : Nat} (h : pt_ar op = 1) : 2 ≤ op ∧ op ≤ 3 := by
  unfold pt_ar at h
  split at h
  · cases h
  · split at h
    · omega
    · cases h
theorem pt_ar_op0 {op : Nat} (h : pt_ar op = 0) : 4 ≤ op := by
  unfold pt_ar at h
  split at h
  · cases h
  · split at h
    · cases h
    · omega
theorem pt_ar_3 (op : Nat) : pt_ar op = 0 ∨ pt_ar op = 1 ∨ pt_ar op = 2 := by have := pt_ar_le op; omega
theorem pt_place_2 {op f s : Nat} (h : pt_ar op = 2) : pt_place op f s = (op * 26 + f) * 26 + s := by unfold pt_place; rw [if_pos h]
theorem pt_place_1 {op f s : Nat} (h : pt_ar op = 1) : pt_place op f s = 1352 + (op - 2) * 26 + f := by unfold pt_place; rw [if_neg (by omega), if_pos h]
theorem pt_place_0 {op f s : Nat} (h : pt_ar op = 0) : pt_place op f s = 1404 + op - 4 := by unfold pt_place; rw [if_neg (by omega), if_neg (by omega)]
theorem pt_place_lt {op f s : Nat} (ho : op ≤ 6) (hf : f < 26) (hs : s < 26) : pt_place op f s < 1408 := by
  rcases pt_ar_3 op with h | h | h
  · rw [pt_place_0 h]; omega
  · rw [pt_place_1 h]; have := pt_ar_op1 h; omega
  · rw [pt_place_2 h]; have := pt_ar_op2 h; omega
/-- a place of the table names the operator and the states of its parts -/
theorem pt_place_inj {op f s op' f' s' : Nat} (ho : op ≤ 6) (ho' : op' ≤ 6) (hf : f < 26) (hs : s < 26) (hf' : f' < 26) (hs' : s' < 26) (h : pt_place op f s = pt_place op' f' s') : op = op' ∧ (0 < pt_ar op → f = f') ∧ (1 < pt_ar op → s = s') := by
  rcases pt_ar_3 op with a | a | a <;> rcases pt_ar_3 op' with b | b | b
  · rw [pt_place_0 a, pt_place_0 b] at h
    have := pt_ar_op0 a; have := pt_ar_op0 b
    exact ⟨by omega, fun q => absurd q (by omega), fun q => absurd q (by omega)⟩
  · rw [pt_place_0 a, pt_place_1 b] at h
    have := pt_ar_op0 a; have := pt_ar_op1 b
    omega
  · rw [pt_place_0 a, pt_place_2 b] at h
    have := pt_ar_op0 a; have := pt_ar_op2 b
    omega
  · rw [pt_place_1 a, pt_place_0 b] at h
    have := pt_ar_op1 a; have := pt_ar_op0 b
    omega
  · rw [pt_place_1 a, pt_place_1 b] at h
    have := pt_ar_op1 a; have := pt_ar_op1 b
    exact ⟨by omega, fun _ => by omega, fun q => absurd q (by omega)⟩
  · rw [pt_place_1 a, pt_place_2 b] at h
    have := pt_ar_op1 a; have := pt_ar_op2 b
    omega
  · rw [pt_place_2 a, pt_place_0 b] at h
    have := pt_ar_op2 a; have := pt_ar_op0 b
    omega
  · rw [pt_place_2 a, pt_place_1 b] at h
    have := pt_ar_op2 a; have := pt_ar_op1 b
    omega
  · rw [pt_place_2 a, pt_place_2 b] at h
    have := pt_ar_op2 a; have := pt_ar_op2 b
    exact ⟨by omega, fun _ => by omega, fun _ => by omega⟩
/-- the table: an entry that is there (v: its number and 1) names the state of that operator and those parts -/
def XTb (sz : Nat → Nat) (tk : Nat → Nat → Nat) (states : Nat → Int64) (table : Nat → Nat) (sc : Nat) : Prop := ∀ op, op ≤ 6 → ∀ f, f < 26 → ∀ s, s < 26 → table (pt_place op f s) = 0 ∨ (table (pt_place op f s) ≤ sc ∧ (0 < pt_ar op → f < sc) ∧ (1 < pt_ar op → s < sc) ∧ ∀ p, p < 4 → ∀ k, k < 9 → (tb (states (table (pt_place op f s) - 1)) (p * 9 + k) = true ↔ cbP sz tk op (tb (states f)) (tb (states s)) p k))
theorem cbP_congr {sz : Nat → Nat} {tk : Nat → Nat → Nat} {op : Nat} {F S F' S' : Nat → Bool} {p k : Nat} (hF : 0 < pt_ar op → F = F') (hS : 1 < pt_ar op → S = S') : cbP sz tk op F S p k ↔ cbP sz tk op F' S' p k := by
  unfold cbP
  constructor
  · rintro ⟨h1, h2, h | ⟨h3, h4, h5⟩⟩
    · exact ⟨h1, h2, Or.inl h⟩
    · exact ⟨h1, h2, Or.inr ⟨h3, fun q => by rw [← hF q]; exact h4 q, fun q => by rw [← hS q]; exact h5 q⟩⟩
  · rintro ⟨h1, h2, h | ⟨h3, h4, h5⟩⟩
    · exact ⟨h1, h2, Or.inl h⟩
    · exact ⟨h1, h2, Or.inr ⟨h3, fun q => by rw [hF q]; exact h4 q, fun q => by rw [hS q]; exact h5 q⟩⟩
/-- more states: the table stays right -/
theorem XTb_more {sz : Nat → Nat} {tk : Nat → Nat → Nat} {states states' : Nat → Int64} {table : Nat → Nat} {sc sc' : Nat} (h : XTb sz tk states table sc) (hsc : sc ≤ sc') (he : ∀ i, i < sc → states' i = states i) : XTb sz tk states' table sc' := by
  intro op ho f hf s hs
  rcases h op ho f hf s hs with q | ⟨q1, q2, q3, q4⟩
  · exact Or.inl q
  · by_cases q0 : table (pt_place op f s) = 0
    · exact Or.inl q0
    · refine Or.inr ⟨by omega, fun z => Nat.lt_of_lt_of_le (q2 z) hsc, fun z => Nat.lt_of_lt_of_le (q3 z) hsc, fun p hp k hk => ?_⟩
      rw [he _ (by omega), q4 p hp k hk]
      exact cbP_congr (fun z => by rw [he f (q2 z)]) (fun z => by rw [he s (q3 z)])
/-- one more entry -/
theorem XTb_put {sz : Nat → Nat} {tk : Nat → Nat → Nat} {states : Nat → Int64} {table : Nat → Nat} {sc op f s i : Nat} (h : XTb sz tk states table sc) (ho : op ≤ 6) (hf : f < 26) (hs : s < 26) (hi : i < sc) (h1 : 0 < pt_ar op → f < sc) (h2 : 1 < pt_ar op → s < sc) (hb : ∀ p, p < 4 → ∀ k, k < 9 → (tb (states i) (p * 9 + k) = true ↔ cbP sz tk op (tb (states f)) (tb (states s)) p k)) : XTb sz tk states (va_up table (pt_place op f s) (i + 1)) sc := by
  intro op' ho' f' hf' s' hs'
  by_cases e : pt_place op' f' s' = pt_place op f s
  · obtain ⟨e1, e2, e3⟩ := pt_place_inj ho' ho hf' hs' hf hs e
    subst e1
    rw [e, va_up_s]
    refine Or.inr ⟨by omega, fun q => by rw [e2 q]; exact h1 q, fun q => by rw [e3 q]; exact h2 q, fun p hp k hk => ?_⟩
    rw [Nat.add_sub_cancel, hb p hp k hk]
    exact cbP_congr (fun q => by rw [e2 q]) (fun q => by rw [e3 q])
  · rw [va_up_n _ _ e]
    exact h op' ho' f' hf' s' hs'
theorem XTb_0 {sz : Nat → Nat} {tk : Nat → Nat → Nat} {states : Nat → Int64} {table : Nat → Nat} (h : ∀ x, x < 1408 → table x = 0) : XTb sz tk states table 0 := fun _ ho _ hf _ hs => Or.inl (h _ (pt_place_lt ho hf hs))
/-- the step: the sets of the parts give the set of the node -/
theorem cbP_FT {sz : Nat → Nat} {tk : Nat → Nat → Nat} (hw : pt_wf sz tk) (h0 : pt_need (tk 4) (sz 4) = 0) {n : Nat} (hn : n < sz 4) {F S : Nat → Bool} (hF : 0 < pt_ar (tk 4 n) → ∀ p, p < 4 → ∀ k, k < 9 → (F (p * 9 + k) = true ↔ FT sz tk (n + 1) p k)) (hS : 1 < pt_ar (tk 4 n) → ∀ p, p < 4 → ∀ k, k < 9 → (S (p * 9 + k) = true ↔ FT sz tk (pt_skip (tk 4) (sz 4) (n + 1) 1) p k)) {p : Nat} (hp : p < 4) (k : Nat) : cbP sz tk (tk 4 n) F S p k ↔ FT sz tk n p k := by
  unfold cbP FT
  have h6 := hw.2.2.2.2 n hn
  have hog := pt_wf_ok hw (l := 4) (by decide)
  have hof := pt_wf_ok hw (l := p) (by omega)
  have h9 := hw.1 p hp
  constructor
  · rintro ⟨h1, h2, h⟩
    refine ⟨h1, h2, ?_⟩
    rcases h with h | ⟨h3, h4, h5⟩
    · exact pt_fit_gap h2 h
    · have h7 : ¬ tk p k = 7 := by omega
      have hs := pt_need_s (tk p) k
      have hk1 := hof k h2
      have e := h3.symm
      rcases pt_ar_3 (tk 4 n) with a | a | a
      · exact pt_fit_a0 h2 h7 hn e (by rw [h3]; exact a)
      · rw [pt_fit_a1 h2 h7 hn e (by rw [h3]; exact a)]
        rw [h3] at hs
        have hlt : k + 1 < sz p := pt_lt_of_need h1 (by omega) (by omega)
        exact ((hF (by omega) p hp (k + 1) (by omega)).mp (h4 (by omega))).2.2
      · rw [h3] at hs
        have hlt : k + 1 < sz p := pt_lt_of_need h1 (by omega) (by omega)
        have hsk := pt_skip_in (tk p) (n := sz p) (i := k + 1) 1 (by omega)
        have hns := pt_need_skip' (i := k + 1) (o := 1) hof h1 (by omega) (by omega)
        have hlt2 : pt_skip (tk p) (sz p) (k + 1) 1 < sz p := pt_lt_of_need h1 hsk.2 (by omega)
        rw [pt_fit_a2 hof h1 hog h0 h2 h7 hn e (by rw [h3]; exact a)]
        rw [((hF (by omega) p hp (k + 1) (by omega)).mp (h4 (by omega))).2.2, ((hS (by omega) p hp _ (by omega)).mp (h5 (by omega))).2.2]
        rfl
  · rintro ⟨h1, h2, h⟩
    refine ⟨h1, h2, ?_⟩
    by_cases h7 : tk p k = 7
    · exact Or.inl h7
    · right
      by_cases h3 : tk 4 n = tk p k
      · have hs := pt_need_s (tk p) k
        have hk1 := hof k h2
        rw [← h3] at hs
        refine ⟨h3.symm, fun q => ?_, fun q => ?_⟩
        · have hlt : k + 1 < sz p := pt_lt_of_need h1 (by omega) (by omega)
          refine (hF q p hp (k + 1) (by omega)).mpr ⟨h1, hlt, ?_⟩
          rcases pt_ar_3 (tk 4 n) with a | a | a
          · omega
          · rw [pt_fit_a1 h2 h7 hn h3 (by rw [← h3]; exact a)] at h
            exact h
          · rw [pt_fit_a2 hof h1 hog h0 h2 h7 hn h3 (by rw [← h3]; exact a), Bool.and_eq_true] at h
            exact h.1
        · have a : pt_ar (tk 4 n) = 2 := by have := pt_ar_le (tk 4 n); omega
          have hlt : k + 1 < sz p := pt_lt_of_need h1 (by omega) (by omega)
          have hsk := pt_skip_in (tk p) (n := sz p) (i := k + 1) 1 (by omega)
          have hns := pt_need_skip' (i := k + 1) (o := 1) hof h1 (by omega) (by omega)
          have hlt2 : pt_skip (tk p) (sz p) (k + 1) 1 < sz p := pt_lt_of_need h1 hsk.2 (by omega)
          rw [pt_fit_a2 hof h1 hog h0 h2 h7 hn h3 (by rw [← h3]; exact a), Bool.and_eq_true] at h
          exact (hS q p hp _ (by omega)).mpr ⟨h1, hlt2, h.2⟩
      · exfalso
        rw [pt_fit_no h2 h7 (fun q => h3 q.2)] at h
        cases h
/-- a state of a node says which patterns fit there -/
theorem FTs_F {sz : Nat → Nat} {tk : Nat → Nat → Nat} (hw : pt_wf sz tk) (h0 : pt_need (tk 4) (sz 4) = 0) {n : Nat} (hn : n < sz 4) {x : Int64} (h : FTs sz tk n x) : pt_fs (fun p => tb x (p * 9)) 4 = pt_F sz tk n := by
  refine pt_fs_congr (fun p hp => ?_)
  have hof := pt_wf_ok hw (l := p) (by omega)
  have e := h p hp 0 (by decide)
  rw [Nat.add_zero] at e
  by_cases q : pt_ft sz tk p n = true
  · obtain ⟨q1, q2, q3, q4⟩ := pt_ft_iff.mp q
    have hz : 0 < sz p := by
      rcases Nat.eq_zero_or_pos (sz p) with z | z
      · rw [z] at q1; cases q1
      · exact z
    show tb x (p * 9) = pt_ft sz tk p n
    rw [q]
    exact e.mpr ⟨q1, hz, by rw [pt_fit_all hof q1]; exact q4⟩
  · show tb x (p * 9) = pt_ft sz tk p n
    rw [Bool.eq_false_iff.mpr q]
    refine Bool.eq_false_iff.mpr (fun z => q ?_)
    obtain ⟨z1, z2, z3⟩ := e.mp z
    exact pt_ft_iff.mpr ⟨z1, h0, hn, by rw [← pt_fit_all hof z1]; exact z3⟩
/-- the equal parts from k on -/
def XSa (sameAs : Nat → Nat) (sz : Nat → Nat) (tk : Nat → Nat → Nat) (k : Nat) : Prop := (∀ a, k ≤ a → a < sz 4 → a ≤ sameAs a ∧ sameAs a < sz 4) ∧ ∀ a, k ≤ a → a < sz 4 → ∀ b, k ≤ b → b < sz 4 → (sameAs a = sameAs b ↔ pt_same (tk 4) (sz 4) a b)
/-- the inner loop: nodes above m have been asked -/
def XSi (S0 sameAs : Nat → Nat) (sz : Nat → Nat) (tk : Nat → Nat → Nat) (n m : Nat) : Prop := (∀ x, ¬ x = n → sameAs x = S0 x) ∧ ((∃ j, m < j ∧ j < sz 4 ∧ pt_same (tk 4) (sz 4) n j ∧ sameAs n = S0 j) ∨ (sameAs n = n ∧ ∀ j, m < j → j < sz 4 → ¬ pt_same (tk 4) (sz 4) n j))
theorem XSi_end {S0 sameAs sz : Nat → Nat} {tk : Nat → Nat → Nat} (hw : pt_wf sz tk) (h0 : pt_need (tk 4) (sz 4) = 0) {n : Nat} (hn : n < sz 4) (h : XSa S0 sz tk (n + 1)) (hi : XSi S0 sameAs sz tk n n) : XSa sameAs sz tk n := by
  have hog := pt_wf_ok hw (l := 4) (by decide)
  obtain ⟨i1, i2⟩ := hi
  obtain ⟨a1, a2⟩ := h
  have key : ∀ b, n + 1 ≤ b → b < sz 4 → (sameAs n = sameAs b ↔ pt_same (tk 4) (sz 4) n b) := by
    intro b hb hb4
    rw [i1 b (by omega)]
    rcases i2 with ⟨j, hj, hj4, hs, e⟩ | ⟨e, hno⟩
    · rw [e, a2 j (by omega) hj4 b hb hb4]
      exact ⟨fun q => pt_same_trans hog h0 hn hj4 hs q, fun q => pt_same_trans hog h0 hj4 hn (pt_same_symm hog h0 hn hj4 hs) q⟩
    · rw [e]
      have := (a1 b hb hb4).1
      exact ⟨fun q => by omega, fun q => absurd q (hno b (by omega) hb4)⟩
  refine ⟨fun a ha ha4 => ?_, fun a ha ha4 b hb hb4 => ?_⟩
  · by_cases e : a = n
    · subst e
      rcases i2 with ⟨j, hj, hj4, hs, e⟩ | ⟨e, hno⟩
      · rw [e]; have := a1 j (by omega) hj4; omega
      · rw [e]; omega
    · rw [i1 a e]; exact a1 a (by omega) ha4
  · by_cases e : a = n
    · subst e
      by_cases e2 : b = a
      · subst e2; exact ⟨fun _ => pt_same_rfl _ _ _, fun _ => rfl⟩
      · exact key b (by omega) hb4
    · by_cases e2 : b = n
      · subst e2
        have q := key a (by omega) ha4
        exact ⟨fun z => pt_same_symm hog h0 hb4 ha4 (q.mp z.symm), fun z => (q.mpr (pt_same_symm hog h0 ha4 hb4 z)).symm⟩
      · rw [i1 a e, i1 b e2]; exact a2 a (by omega) ha4 b (by omega) hb4
end
section
theorem pt_rngL {x : Int32} (n : Nat) (hn : n < 2147483647) (h0 : ¬ x < 0) (h : x ≤ nI n) : ∃ j : Nat, j < n + 1 ∧ x = nI j := by
  obtain ⟨j, hj, rfl⟩ := nI_of h0
  refine ⟨j, ?_, rfl⟩
  have := (nI_leI (by omega) (by omega)).mp h
  omega
theorem pt_rngNL {x : Int32} (n : Nat) (hn : n < 2147483647) (h : x < 0 ∨ ¬ x ≤ nI n) : ¬ ∃ j : Nat, j < n + 1 ∧ x = nI j := by
  rintro ⟨j, hj, rfl⟩
  rcases h with h | h
  · exact nI_pos (by omega) h
  · exact h (nI_le (by omega) (by omega))
theorem XI_0 {sizes tokens spans subject parts : Nat → Nat} {states : Nat → Int64} {table stateAt fits sameAs : Nat → Nat} {cnt sc : Nat} {sz : Nat → Nat} {tk : Nat → Nat → Nat} (hL : XL sizes tokens subject cnt sz tk) : XI (sizes, tokens, spans, subject, parts, states, table, stateAt, fits, sameAs, cnt, 0, sc) sz tk := And.intro hL (And.intro (Nat.zero_le 1) (fun q => absurd q (by decide)))
/-- bits of a set of combined tokens -/
def cbT (sz : Nat → Nat) (tk : Nat → Nat → Nat) (op : Nat) (F S : Nat → Bool) (v x : Nat) (set : Int64) : Prop := ∀ q, q < 4 → ∀ k, k < 9 → (tb set (q * 9 + k) = true ↔ (q < v ∨ (q = v ∧ k < x)) ∧ cbP sz tk op F S q k)
theorem cbT_0 {sz : Nat → Nat} {tk : Nat → Nat → Nat} {op : Nat} {F S : Nat → Bool} : cbT sz tk op F S 0 0 0 := by
  intro q hq k hk
  rw [tb_0]
  constructor
  · intro h; cases h
  · rintro ⟨h, -⟩; omega
theorem cbT_next {sz : Nat → Nat} {tk : Nat → Nat → Nat} {op : Nat} {F S : Nat → Bool} {v x : Nat} {set : Int64} (h : cbT sz tk op F S v x set) (hx : pt_need (tk v) (sz v) = 0 → sz v ≤ x) : cbT sz tk op F S (v + 1) 0 set := by
  intro q hq k hk
  rw [h q hq k hk]
  constructor
  · rintro ⟨h1, h2⟩; exact ⟨by omega, h2⟩
  · rintro ⟨h1, h2⟩
    refine ⟨?_, h2⟩
    by_cases e : q = v
    · subst e
      have := hx h2.1
      have := h2.2.1
      omega
    · omega
theorem cbT_skip {sz : Nat → Nat} {tk : Nat → Nat → Nat} {op : Nat} {F S : Nat → Bool} {v x : Nat} {set : Int64} (h : cbT sz tk op F S v x set) (hx : ¬ cbP sz tk op F S v x) : cbT sz tk op F S v (x + 1) set := by
  intro q hq k hk
  rw [h q hq k hk]
  constructor
  · rintro ⟨h1, h2⟩; exact ⟨by omega, h2⟩
  · rintro ⟨h1, h2⟩
    refine ⟨?_, h2⟩
    by_cases e : q = v ∧ k = x
    · obtain ⟨rfl, rfl⟩ := e
      exact absurd h2 hx
    · omega
theorem cbT_put {sz : Nat → Nat} {tk : Nat → Nat → Nat} {op : Nat} {F S : Nat → Bool} {v x : Nat} {set : Int64} (h : cbT sz tk op F S v x set) (hv : v < 4) (hx9 : x < 9) (hx : cbP sz tk op F S v x) : cbT sz tk op F S v (x + 1) (set ||| ((1 : Int64) <<< ((nI (v * 9 + x)).toInt64 &&& 63))) := by
  intro q hq k hk
  rw [tb_or set (by omega), Bool.or_eq_true, h q hq k hk, decide_eq_true_eq]
  constructor
  · rintro (⟨h1, h2⟩ | e)
    · exact ⟨by omega, h2⟩
    · have e1 : q = v := by omega
      have e2 : k = x := by omega
      subst e1; subst e2
      exact ⟨by omega, hx⟩
  · rintro ⟨h1, h2⟩
    by_cases e : q = v ∧ k = x
    · right; obtain ⟨rfl, rfl⟩ := e; rfl
    · left; exact ⟨by omega, h2⟩
end
section
theorem pI_pos {t : Nat} (h : 0 < t) : pI t = nI (t - 1) := by
  obtain ⟨y, rfl⟩ : ∃ y, t = y + 1 := ⟨t - 1, by omega⟩
  rw [pI_s]
  rfl
theorem xr_decp {n : Nat} (h : 0 < n) : nI n + Int32.ofInt (-1) = nI (n - 1) := by rw [xr_dec, pI_pos h]
theorem XJ_1 {spans parts : Nat → Nat} {states : Nat → Int64} {table stateAt fits sameAs : Nat → Nat} {sc : Nat} {sz : Nat → Nat} {tk : Nat → Nat → Nat} (h : XK parts fits sameAs sz tk) : XJ (spans, parts, states, table, stateAt, fits, sameAs, 1, sc) sz tk := And.intro (Nat.le_refl 1) (fun _ => h)
theorem XK_mk {parts fits sameAs sz : Nat → Nat} {tk : Nat → Nat → Nat} (hw : pt_wf sz tk) (h0 : pt_need (tk 4) (sz 4) = 0) (hpa : ∀ n, n < sz 4 → parts n = pt_skip (tk 4) (sz 4) n 1 - n) (hft : ∀ n, n < sz 4 → fits n = pt_F sz tk n) (hsa : XSa sameAs sz tk 0) : XK parts fits sameAs sz tk :=
  And.intro h0 (And.intro hpa (And.intro hft (And.intro (fun n hn => by have := (hsa.1 n (Nat.zero_le _) hn).2; have := hw.2.1; omega) (fun n hn m hm => hsa.2 n (Nat.zero_le _) hn m (Nat.zero_le _) hm))))
theorem XSi_no {S0 sameAs sz : Nat → Nat} {tk : Nat → Nat → Nat} {n m : Nat} (h : XSi S0 sameAs sz tk n m) (hm : n < m) (hno : ¬ pt_same (tk 4) (sz 4) n m) : XSi S0 (va_up sameAs n (sameAs n)) sz tk n (m - 1) := by
  obtain ⟨h1, h2⟩ := h
  have e : va_up sameAs n (sameAs n) = sameAs := by
    funext x
    by_cases q : x = n
    · rw [q, va_up_s]
    · rw [va_up_n _ _ q]
  rw [e]
  refine ⟨h1, ?_⟩
  rcases h2 with ⟨j, q1, q2, q3, q4⟩ | ⟨q1, q2⟩
  · exact Or.inl ⟨j, by omega, q2, q3, q4⟩
  · refine Or.inr ⟨q1, fun j z1 z2 => ?_⟩
    by_cases e2 : j = m
    · rw [e2]; exact hno
    · exact q2 j (by omega) z2
theorem XSi_yes {S0 sameAs sz : Nat → Nat} {tk : Nat → Nat → Nat} {n m : Nat} (h : XSi S0 sameAs sz tk n m) (hm : n < m) (hm4 : m < sz 4) (hs : pt_same (tk 4) (sz 4) n m) : XSi S0 (va_up sameAs n (sameAs m)) sz tk n (m - 1) := by
  obtain ⟨h1, -⟩ := h
  refine ⟨fun x hx => by rw [va_up_n _ _ hx]; exact h1 x hx, Or.inl ⟨m, by omega, hm4, hs, ?_⟩⟩
  rw [va_up_s]
  exact h1 m (by omega)
theorem XSi_lt {S0 sameAs sz : Nat → Nat} {tk : Nat → Nat → Nat} {n m : Nat} (h : XSi S0 sameAs sz tk n m) (hn : n < sz 4) (hmn : n ≤ m) (hsa : XSa S0 sz tk (n + 1)) : ∀ i, n ≤ i → i < sz 4 → sameAs i < sz 4 := by
  intro i hi hi4
  by_cases e : i = n
  · subst e
    rcases h.2 with ⟨j, q1, q2, q3, q4⟩ | ⟨q1, q2⟩
    · rw [q4]; exact (hsa.1 j (by omega) q2).2
    · omega
  · rw [h.1 i e]; exact (hsa.1 i (by omega) hi4).2
/-- what samePart asks is whether the parts are equal -/
theorem XSi_same {S0 sameAs sz : Nat → Nat} {tk : Nat → Nat → Nat} (hw : pt_wf sz tk) (h0 : pt_need (tk 4) (sz 4) = 0) {n m k : Nat} (h : XSi S0 sameAs sz tk n k) (hm : n < m) (hm4 : m < sz 4) (hsa : XSa S0 sz tk (n + 1)) :
    (tk 4 n = tk 4 m ∧ (0 < pt_ar (tk 4 n) → sameAs (n + 1) = sameAs (m + 1)) ∧ (1 < pt_ar (tk 4 n) → sameAs (pt_skip (tk 4) (sz 4) (n + 1) 1) = sameAs (pt_skip (tk 4) (sz 4) (m + 1) 1))) ↔ pt_same (tk 4) (sz 4) n m := by
  have hok := pt_wf_ok hw (l := 4) (by decide)
  have hsn := pt_need_s (tk 4) n
  have hsm := pt_need_s (tk 4) m
  have hn1 := hok n (by omega)
  have hm1 := hok m hm4
  have hkn := pt_skip_in (tk 4) (n := sz 4) (i := n + 1) 1 (by omega)
  have hkm := pt_skip_in (tk 4) (n := sz 4) (i := m + 1) 1 (by omega)
  rw [pt_same_rec hok h0 (by omega) hm4]
  have A1 : tk 4 n = tk 4 m → 0 < pt_ar (tk 4 n) → (sameAs (n + 1) = sameAs (m + 1) ↔ pt_same (tk 4) (sz 4) (n + 1) (m + 1)) := by
    intro e q
    rw [← e] at hsm
    have l1 : n + 1 < sz 4 := pt_lt_of_need h0 (by omega) (by omega)
    have l2 : m + 1 < sz 4 := pt_lt_of_need h0 (by omega) (by omega)
    rw [h.1 (n + 1) (by omega), h.1 (m + 1) (by omega)]
    exact hsa.2 _ (by omega) l1 _ (by omega) l2
  have A2 : tk 4 n = tk 4 m → 1 < pt_ar (tk 4 n) → (sameAs (pt_skip (tk 4) (sz 4) (n + 1) 1) = sameAs (pt_skip (tk 4) (sz 4) (m + 1) 1) ↔ pt_same (tk 4) (sz 4) (pt_skip (tk 4) (sz 4) (n + 1) 1) (pt_skip (tk 4) (sz 4) (m + 1) 1)) := by
    intro e q
    rw [← e] at hsm
    have l1 : n + 1 < sz 4 := pt_lt_of_need h0 (by omega) (by omega)
    have l2 : m + 1 < sz 4 := pt_lt_of_need h0 (by omega) (by omega)
    have n1 := pt_need_skip' (i := n + 1) (o := 1) hok h0 (by omega) (by omega)
    have n2 := pt_need_skip' (i := m + 1) (o := 1) hok h0 (by omega) (by omega)
    have g1 : pt_skip (tk 4) (sz 4) (n + 1) 1 < sz 4 := pt_lt_of_need h0 hkn.2 (by omega)
    have g2 : pt_skip (tk 4) (sz 4) (m + 1) 1 < sz 4 := pt_lt_of_need h0 hkm.2 (by omega)
    rw [h.1 _ (by omega), h.1 _ (by omega)]
    exact hsa.2 _ (by omega) g1 _ (by omega) g2
  constructor
  · rintro ⟨e, q1, q2⟩
    exact ⟨e, fun z => (A1 e z).mp (q1 z), fun z => (A2 e z).mp (q2 z)⟩
  · rintro ⟨e, q1, q2⟩
    exact ⟨e, fun z => (A1 e z).mpr (q1 z), fun z => (A2 e z).mpr (q2 z)⟩
end
section
set_option maxHeartbeats 4000000 in
set_option maxRecDepth 100000 in
/-- pattern(p): is p one of 0 .. 3 -/
theorem mt_X1_pattern (l : Launch) (dC : Nat → ClassId) (dI : Nat → Nat → Nat) {bd : Nat → Nat} {cI : ClassId} {size tokens : Nat → Nat} (xp : Int32) : Met l yX1_pattern (ws_ yX1_pattern cX1_pattern 2 (some .boolean)) ({ frames := 0, cells := 0, slots := 0, locals := 0 } : Room) (va_Pc [.ref (bd 0), .int xp] (xr_Pr (dC, dI) vwCl (MW bd cI size tokens) (tyM cI))) (vp_Si (fun r : Int32 => xr_B r (∃ j : Nat, j < 4 ∧ xp = nI j))) 0 0 xr_no := by
  refine Met.ofW (cc := cX1_pattern) (maxL := 2) (ret := (some .boolean)) (by decide) rfl ?_
  intro p e s m args below meth c s₁ B hml hv
  obtain ⟨rfl, hP, hK⟩ := hv
  have hx := B.exec
  have hb := B.bytes
  have hr := B.returns
  have hlk := B.notSynchronized
  have hts := atoms_spec (ws := (ws_ yX1_pattern cX1_pattern 2 (some .boolean))) B.pre
  have hts : ∀ w ∈ lw_all, w.before _ s = true := fun w h => hts w (List.mem_cons_of_mem _ h)
  have hown : s.vm.findClass RX1 = some m.cls := findClass_of_methodNamed B.named
  have hl := lv_entry ([.ref (bd 0), .int xp]) (n := 2) (Nat.le_of_ble_eq_true rfl)
  rw [lg_entry_eq]
  generalize (lg_sl ([.ref (bd 0), .int xp]) ++ List.replicate (2 - (lg_sl ([.ref (bd 0), .int xp])).length) Slot.unset).toArray = ls at hl ⊢
  have hl : lv_has ls 2 [(0, .ref (bd 0)), (1, .int xp)] := hl
  refine lv_iload_n hx hb dX1_pattern_0 rfl (lv_at hl 1 rfl) ?_
  refine lv_if_lt (tgt := 13) hx hb dX1_pattern_1 (by decide) (fun c_1 => ?_) (fun c_1 => ?_)
  · skip
    refine lv_iconst (v := nI 0) hx hb dX1_pattern_13 xc_0 ?_
    exact xr_retSz hx hb hr hlk xr_nz0 rfl (xr_B0 (pt_rngN 3 (by decide) (by first | exact Or.inl c_1 | exact Or.inr c_6))) dX1_pattern_14
  · skip
    refine lv_iload_n hx hb dX1_pattern_4 rfl (lv_at hl 1 rfl) ?_
    refine lv_iconst (v := nI 3) hx hb dX1_pattern_5 xc_3 ?_
    refine lv_icmp_gt (tgt := 13) hx hb dX1_pattern_6 (by decide) (fun c_6 => ?_) (fun c_6 => ?_)
    · skip
      refine lv_iconst (v := nI 0) hx hb dX1_pattern_13 xc_0 ?_
      exact xr_retSz hx hb hr hlk xr_nz0 rfl (xr_B0 (pt_rngN 3 (by decide) (by first | exact Or.inl c_1 | exact Or.inr c_6))) dX1_pattern_14
    · skip
      refine lv_iconst (v := nI 1) hx hb dX1_pattern_9 xc_1 ?_
      refine lv_goto (tgt := 14) hx hb dX1_pattern_10 (by decide) ?_
      exact xr_retSz hx hb hr hlk xr_nz1 rfl (xr_B1 (pt_rng 3 (by decide) c_1 c_6)) dX1_pattern_14

set_option maxHeartbeats 4000000 in
set_option maxRecDepth 100000 in
/-- parts(token): its arity -/
theorem mt_X1_parts (l : Launch) (dC : Nat → ClassId) (dI : Nat → Nat → Nat) {bd : Nat → Nat} {cI : ClassId} {size tokens : Nat → Nat} (t : Nat) (ht : t ≤ 7) : Met l yX1_parts (ws_ yX1_parts cX1_parts 2 (some .int)) ({ frames := 0, cells := 0, slots := 0, locals := 0 } : Room) (va_Pc [.ref (bd 0), .int (nI t)] (xr_Pr (dC, dI) vwCl (MW bd cI size tokens) (tyM cI))) (vp_Si (fun r : Int32 => r = nI (pt_ar t))) 0 0 xr_no := by
  refine Met.ofW (cc := cX1_parts) (maxL := 2) (ret := (some .int)) (by decide) rfl ?_
  intro p e s m args below meth c s₁ B hml hv
  obtain ⟨rfl, hP, hK⟩ := hv
  have hx := B.exec
  have hb := B.bytes
  have hr := B.returns
  have hlk := B.notSynchronized
  have hts := atoms_spec (ws := (ws_ yX1_parts cX1_parts 2 (some .int))) B.pre
  have hts : ∀ w ∈ lw_all, w.before _ s = true := fun w h => hts w (List.mem_cons_of_mem _ h)
  have hown : s.vm.findClass RX1 = some m.cls := findClass_of_methodNamed B.named
  have hl := lv_entry ([.ref (bd 0), .int (nI t)]) (n := 2) (Nat.le_of_ble_eq_true rfl)
  rw [lg_entry_eq]
  generalize (lg_sl ([.ref (bd 0), .int (nI t)]) ++ List.replicate (2 - (lg_sl ([.ref (bd 0), .int (nI t)])).length) Slot.unset).toArray = ls at hl ⊢
  have hl : lv_has ls 2 [(0, .ref (bd 0)), (1, .int (nI t))] := hl
  refine lv_iload_n hx hb dX1_parts_0 rfl (lv_at hl 1 rfl) ?_
  refine lv_iconst (v := nI 1) hx hb dX1_parts_1 xc_1 ?_
  refine xr_icmp_gt (tgt := 9) hx hb dX1_parts_2 (by decide) (by omega) (by omega) (fun c_2 => ?_) (fun c_2 => ?_)
  · skip
    refine lv_iload_n hx hb dX1_parts_9 rfl (lv_at hl 1 rfl) ?_
    refine lv_iconst (v := nI 3) hx hb dX1_parts_10 xc_3 ?_
    refine xr_icmp_gt (tgt := 18) hx hb dX1_parts_11 (by decide) (by omega) (by omega) (fun c_11 => ?_) (fun c_11 => ?_)
    · skip
      refine lv_iconst (v := nI 0) hx hb dX1_parts_18 xc_0 ?_
      exact xr_retSi hx hb hr hlk rfl (by rw [pt_ar0 c_11]) dX1_parts_19
    · skip
      refine lv_iconst (v := nI 1) hx hb dX1_parts_14 xc_1 ?_
      refine lv_goto (tgt := 19) hx hb dX1_parts_15 (by decide) ?_
      exact xr_retSi hx hb hr hlk rfl (by rw [pt_ar1 c_2 c_11]) dX1_parts_19
  · skip
    refine lv_iconst (v := nI 2) hx hb dX1_parts_5 xc_2 ?_
    refine lv_goto (tgt := 19) hx hb dX1_parts_6 (by decide) ?_
    exact xr_retSi hx hb hr hlk rfl (by rw [pt_ar2 c_2]) dX1_parts_19

set_option maxHeartbeats 4000000 in
set_option maxRecDepth 100000 in
/-- done(list): nothing is missing -/
theorem mt_X1_done (l : Launch) (dC : Nat → ClassId) (dI : Nat → Nat → Nat) {bd : Nat → Nat} {cI : ClassId} {size tokens : Nat → Nat} {sz : Nat → Nat} {tk : Nat → Nat → Nat} (hI : MI size tokens sz tk) (i : Nat) (hi : i < 5) : Met l yX1_done (ws_ yX1_done cX1_done 4 (some .boolean)) ({ frames := 1, cells := 0, slots := 0, locals := 21 } : Room) (va_Pc [.ref (bd 0), .int (nI i)] (xr_Pr (dC, dI) vwCl (MW bd cI size tokens) (tyM cI))) (vp_Si (fun r : Int32 => xr_B r (pt_need (tk i) (sz i) = 0))) 0 0 xr_no := by
  refine Met.ofW (cc := cX1_done) (maxL := 4) (ret := (some .boolean)) (by decide) rfl ?_
  intro p e s m args below meth c s₁ B hml hv
  obtain ⟨rfl, hP, hK⟩ := hv
  have hx := B.exec
  have hb := B.bytes
  have hr := B.returns
  have hlk := B.notSynchronized
  have hts := atoms_spec (ws := (ws_ yX1_done cX1_done 4 (some .boolean))) B.pre
  have hts : ∀ w ∈ lw_all, w.before _ s = true := fun w h => hts w (List.mem_cons_of_mem _ h)
  have hown : s.vm.findClass RX1 = some m.cls := findClass_of_methodNamed B.named
  have hl := lv_entry ([.ref (bd 0), .int (nI i)]) (n := 4) (Nat.le_of_ble_eq_true rfl)
  rw [lg_entry_eq]
  generalize (lg_sl ([.ref (bd 0), .int (nI i)]) ++ List.replicate (4 - (lg_sl ([.ref (bd 0), .int (nI i)])).length) Slot.unset).toArray = ls at hl ⊢
  have hl : lv_has ls 4 [(0, .ref (bd 0)), (1, .int (nI i))] := hl
  have hz := pt_wf_25 hI.1 hi
  refine lv_iconst (v := nI 1) hx hb dX1_done_0 xc_1 ?_
  refine lv_istore_n (lv' := [(2, .int (nI 1)), (0, .ref (bd 0)), (1, .int (nI i))]) hx hb dX1_done_1 rfl hl (by decide) rfl (fun ls hl => ?_)
  refine lv_iconst (v := nI 0) hx hb dX1_done_2 xc_0 ?_
  refine lv_istore_n (lv' := [(3, .int (nI 0)), (2, .int (nI 1)), (0, .ref (bd 0)), (1, .int (nI i))]) hx hb dX1_done_3 rfl hl (by decide) rfl (fun ls hl => ?_)
  have key4 : ∀ (d_4 : Nat) (k : Nat) (ls : Array Slot), (k ≤ sz i) → (sz i - k) < d_4 → lv_has ls 4 [(0, .ref (bd 0)), (1, .int (nI i)), (2, .int (nI (pt_need (tk i) k))), (3, .int (nI k))] → W p l e (headSpec (ws_ yX1_done cX1_done 4 (some .boolean)) ({ frames := 1, cells := 0, slots := 0, locals := 21 } : Room)).room s m ([.ref (bd 0), .int (nI i)] : List Value).toArray below meth c s.heap [] 0 0 (MQ below (vp_Si (fun r : Int32 => xr_B r (pt_need (tk i) (sz i) = 0))) ([.ref (bd 0), .int (nI i)] : List Value).toArray s 0 0 xr_no) (F0 m 4 ls []) := by
    intro d_4
    induction d_4 with
    | zero => intro k ls hk hd_4; exact absurd hd_4 (Nat.not_lt_zero _)
    | succ d_4 ih_4 =>
      intro k ls hk hd_4 hl
      refine lv_iload_n hx hb dX1_done_4 rfl (lv_at hl 3 rfl) ?_
      refine lv_aload_n hx hb dX1_done_5 rfl (lv_at hl 0 rfl) ?_
      refine va_get (D := (dC, dI)) (ci := 1) (v := .ref (bd 1)) (C := RX1) (T := TX1) (N := 2) hx hb hts in_X1 hown hK hP 0 rfl rfl 0 (by decide) (hts _ q195) (fun _ h9 => h9) rfl dX1_done_6 ?_
      refine lv_iload_n hx hb dX1_done_9 rfl (lv_at hl 1 rfl) ?_
      refine xr_iald hx hb hK hP 1 0 rfl rfl (k := i) (hi) (by decide) dX1_done_10 ?_
      refine xr_conv (y := (nI (sz i))) (by rw [hI.2.1 i hi]) ?_
      refine xr_icmp_ge (tgt := 40) hx hb dX1_done_11 (by decide) (by omega) (by omega) (fun c_11 => ?_) (fun c_11 => ?_)
      · have e_11 : k = sz i := by omega
        have hn := pt_need_le (tk i) k
        refine lv_iload_n hx hb dX1_done_40 rfl (lv_at hl 2 rfl) ?_
        refine xr_if_ne (tgt := 48) hx hb dX1_done_41 (by decide) (by omega) (fun c_41 => ?_) (fun c_41 => ?_)
        · skip
          refine lv_iconst (v := nI 0) hx hb dX1_done_48 xc_0 ?_
          exact xr_retSz hx hb hr hlk xr_nz0 rfl (xr_B0 (by rw [← e_11]; omega)) dX1_done_49
        · skip
          refine lv_iconst (v := nI 1) hx hb dX1_done_44 xc_1 ?_
          refine lv_goto (tgt := 49) hx hb dX1_done_45 (by decide) ?_
          exact xr_retSz hx hb hr hlk xr_nz1 rfl (xr_B1 (by rw [← e_11]; exact c_41)) dX1_done_49
      · have hn1 := pt_wf_ok hI.1 hi k c_11
        refine lv_iload_n hx hb dX1_done_14 rfl (lv_at hl 2 rfl) ?_
        refine lv_iconst (v := nI 1) hx hb dX1_done_15 xc_1 ?_
        refine xr_isub hx hb (by omega) dX1_done_16 ?_
        refine lv_aload_n hx hb dX1_done_17 rfl (lv_at hl 0 rfl) ?_
        refine lv_aload_n hx hb dX1_done_18 rfl (lv_at hl 0 rfl) ?_
        refine va_get (D := (dC, dI)) (ci := 1) (v := .ref (bd 2)) (C := RX1) (T := TX1) (N := 2) hx hb hts in_X1 hown hK hP 0 rfl rfl 1 (by decide) (hts _ q196) (fun _ h9 => h9) rfl dX1_done_19 ?_
        refine lv_bipush (v := nI 25) hx hb dX1_done_22 xb_25 ?_
        refine lv_iload_n hx hb dX1_done_24 rfl (lv_at hl 1 rfl) ?_
        refine xr_imul hx hb dX1_done_25 ?_
        refine lv_iload_n hx hb dX1_done_26 rfl (lv_at hl 3 rfl) ?_
        refine xr_iadd hx hb dX1_done_27 ?_
        refine xr_iald hx hb hK hP 2 0 rfl rfl (k := (25 * i) + k) (by omega) (by decide) dX1_done_28 ?_
        refine xr_conv (y := (nI (tk i k))) (by rw [hI.2.2 i hi k c_11]) ?_
        refine xr_cVi (rest := [.int (nI ((pt_need (tk i) k) - 1))]) ⟨hx, hb, hml, hown, hts⟩ (mt_X1_parts l dC dI (tk i k) (pt_wf_7 hI.1 hi c_11)) (cwV 1 hts gV_X1_16 rfl rfl rfl hd_X1_parts ⟨Nat.le_of_ble_eq_true rfl, Nat.le_of_ble_eq_true rfl⟩) hK hP 0 1 rfl rfl rfl hl.1 rfl (Nat.le_of_ble_eq_true rfl) dX1_done_29 ⟨Nat.zero_le _, Nat.zero_le _⟩ (fun r_29 h_29 => ?_)
        subst h_29
        refine xr_iadd hx hb dX1_done_32 ?_
        refine xr_conv (y := (nI (pt_need (tk i) (k + 1)))) (congrArg nI (by rw [pt_need_s]; omega)) ?_
        refine lv_istore_n (lv' := [(2, .int (nI (pt_need (tk i) (k + 1)))), (0, .ref (bd 0)), (1, .int (nI i)), (3, .int (nI k))]) hx hb dX1_done_33 rfl hl (by decide) rfl (fun ls hl => ?_)
        refine lv_iinc (v := (nI (k + 1))) (lv' := [(3, .int (nI (k + 1))), (2, .int (nI (pt_need (tk i) (k + 1)))), (0, .ref (bd 0)), (1, .int (nI i))]) hx hb dX1_done_34 hl (k := 3) rfl (xr_inc _) (by decide) rfl (fun ls hl => ?_)
        refine lv_goto (tgt := 4) hx hb dX1_done_37 (by decide) ?_
        exact ih_4 (k + 1) ls (by omega) (by omega) (lv_sub hl [2, 3, 1, 0] rfl)
  exact key4 _ 0 ls (Nat.zero_le _) (Nat.lt_succ_self _) (lv_sub hl [2, 3, 1, 0] rfl)
end
section
set_option maxHeartbeats 4000000 in
set_option maxRecDepth 100000 in
/-- append(list, token, most) -/
theorem mt_X1_append (l : Launch) (dC : Nat → ClassId) (dI : Nat → Nat → Nat) (hz : Nat) {bd : Nat → Nat} {cI : ClassId} {size tokens : Nat → Nat} {sz : Nat → Nat} {tk : Nat → Nat → Nat} (hI : MI size tokens sz tk) (i : Nat) (hi : i < 5) (t mo : Nat) (h4 : i < 4 → mo ≤ 9 ∧ t ≤ 7) (h5 : i = 4 → mo ≤ 25 ∧ t ≤ 6) : Met l yX1_append (ws_ yX1_append cX1_append 4 (some .int)) ({ frames := 2, cells := 0, slots := 0, locals := 44 } : Room) (va_Pc [.ref (bd 0), .int (nI i), .int (nI t), .int (nI mo)] (xr_Pw (dC, dI) vwCl (MW bd cI size tokens) (tyM cI) hz)) (va_Qi (fun (r : Int32) (u : (Nat → Nat) × (Nat → Nat)) => r = (pt_app sz tk i t mo).1 ∧ MI u.1 u.2 (pt_app sz tk i t mo).2.1 (pt_app sz tk i t mo).2.2) (xr_Bw (dC, dI) vwCl (tyM cI) (va_A (MW bd cI size tokens) hz) (fun u => MWs bd cI u)) (va_A (MW bd cI size tokens) hz)) 0 0 (va_A (MW bd cI size tokens) hz) := by
  refine Met.ofW (cc := cX1_append) (maxL := 4) (ret := (some .int)) (by decide) rfl ?_
  intro p e s m args below meth c s₁ B hml hv
  obtain ⟨rfl, hsz, hP, hK, hD0⟩ := hv
  have hx := B.exec
  have hb := B.bytes
  have hr := B.returns
  have hlk := B.notSynchronized
  have hts := atoms_spec (ws := (ws_ yX1_append cX1_append 4 (some .int))) B.pre
  have hts : ∀ w ∈ lw_all, w.before _ s = true := fun w h => hts w (List.mem_cons_of_mem _ h)
  have hown : s.vm.findClass RX1 = some m.cls := findClass_of_methodNamed B.named
  subst hsz
  have hD := hD0.self (sz := s.heap.size)
  generalize hAe : va_A (MW bd cI size tokens) s.heap.size = A at hD ⊢
  have hA : ∀ q : Nat, s.heap.size ≤ q → A q := fun q h => by rw [← hAe]; exact Or.inr h
  have hS : va_S A s.heap s.heap [] := va_S.rf
  have hl := lv_entry ([.ref (bd 0), .int (nI i), .int (nI t), .int (nI mo)]) (n := 4) (Nat.le_of_ble_eq_true rfl)
  rw [lg_entry_eq]
  generalize (lg_sl ([.ref (bd 0), .int (nI i), .int (nI t), .int (nI mo)]) ++ List.replicate (4 - (lg_sl ([.ref (bd 0), .int (nI i), .int (nI t), .int (nI mo)])).length) Slot.unset).toArray = ls at hl ⊢
  have hl : lv_has ls 4 [(0, .ref (bd 0)), (1, .int (nI i)), (2, .int (nI t)), (3, .int (nI mo))] := hl
  have hz := pt_wf_25 hI.1 hi
  have hmo : mo ≤ 25 := by rcases Nat.lt_or_ge i 4 with q | q; (have := (h4 q).1; omega); exact (h5 (by omega)).1
  refine lv_aload_n hx hb dX1_append_0 rfl (lv_at hl 0 rfl) ?_
  refine lv_iload_n hx hb dX1_append_1 rfl (lv_at hl 1 rfl) ?_
  refine xr_cVi (rest := []) ⟨hx, hb, hml, hown, hts⟩ (mt_X1_done l dC dI hI i hi) (cwV 1 hts gV_X1_20 rfl rfl rfl hd_X1_done ⟨Nat.le_of_ble_eq_true rfl, Nat.le_of_ble_eq_true rfl⟩) hK hP 0 1 rfl rfl rfl hl.1 rfl (Nat.le_of_ble_eq_true rfl) dX1_append_2 ⟨Nat.zero_le _, Nat.zero_le _⟩ (fun r_2 h_2 => ?_)
  refine xr_ifneB (tgt := 18) hx hb h_2 dX1_append_5 (by decide) (fun c_5 => ?_) (fun c_5 => ?_)
  · skip
    refine lv_bipush (v := -2) hx hb dX1_append_18 (by decide) ?_
    exact xr_retWi ((size, tokens)) hx hb hr hlk (by rw [pt_app_no (by omega)]; exact ⟨rfl, hI⟩) hP hK hD hS dX1_append_20
  · skip
    refine lv_aload_n hx hb dX1_append_8 rfl (lv_at hl 0 rfl) ?_
    refine va_get (D := (dC, dI)) (ci := 1) (v := .ref (bd 1)) (C := RX1) (T := TX1) (N := 2) hx hb hts in_X1 hown hK hP 0 rfl rfl 0 (by decide) (hts _ q195) (fun _ h9 => h9) rfl dX1_append_9 ?_
    refine lv_iload_n hx hb dX1_append_12 rfl (lv_at hl 1 rfl) ?_
    refine xr_iald hx hb hK hP 1 0 rfl rfl (k := i) (hi) (by decide) dX1_append_13 ?_
    refine xr_conv (y := (nI (sz i))) (by rw [hI.2.1 i hi]) ?_
    refine lv_iload_n hx hb dX1_append_14 rfl (lv_at hl 3 rfl) ?_
    refine xr_icmp_lt (tgt := 21) hx hb dX1_append_15 (by decide) (by omega) (by omega) (fun c_15 => ?_) (fun c_15 => ?_)
    · skip
      refine lv_aload_n hx hb dX1_append_21 rfl (lv_at hl 0 rfl) ?_
      refine va_get (D := (dC, dI)) (ci := 1) (v := .ref (bd 2)) (C := RX1) (T := TX1) (N := 2) hx hb hts in_X1 hown hK hP 0 rfl rfl 1 (by decide) (hts _ q196) (fun _ h9 => h9) rfl dX1_append_22 ?_
      refine lv_bipush (v := nI 25) hx hb dX1_append_25 xb_25 ?_
      refine lv_iload_n hx hb dX1_append_27 rfl (lv_at hl 1 rfl) ?_
      refine xr_imul hx hb dX1_append_28 ?_
      refine lv_aload_n hx hb dX1_append_29 rfl (lv_at hl 0 rfl) ?_
      refine va_get (D := (dC, dI)) (ci := 1) (v := .ref (bd 1)) (C := RX1) (T := TX1) (N := 2) hx hb hts in_X1 hown hK hP 0 rfl rfl 0 (by decide) (hts _ q195) (fun _ h9 => h9) rfl dX1_append_30 ?_
      refine lv_iload_n hx hb dX1_append_33 rfl (lv_at hl 1 rfl) ?_
      refine xr_iald hx hb hK hP 1 0 rfl rfl (k := i) (hi) (by decide) dX1_append_34 ?_
      refine xr_conv (y := (nI (sz i))) (by rw [hI.2.1 i hi]) ?_
      refine xr_iadd hx hb dX1_append_35 ?_
      refine lv_iload_n hx hb dX1_append_36 rfl (lv_at hl 2 rfl) ?_
      refine xr_iast hx hb hK hP hD hS 2 0 rfl rfl (k := (25 * i) + (sz i)) (v := t) (by omega) (by decide) dX1_append_37 (fun H locs hP hD hS => ?_)
      have hP : va_P (dC, dI) vwCl (MW bd cI size (va_up tokens ((25 * i) + (sz i)) t)) H := hP
      have hD : va_D A (MW bd cI size (va_up tokens ((25 * i) + (sz i)) t)) := hD
      refine lv_aload_n hx hb dX1_append_38 rfl (lv_at hl 0 rfl) ?_
      refine va_get (D := (dC, dI)) (ci := 1) (v := .ref (bd 1)) (C := RX1) (T := TX1) (N := 2) hx hb hts in_X1 hown hK hP 0 rfl rfl 0 (by decide) (hts _ q195) (fun _ h9 => h9) rfl dX1_append_39 ?_
      refine lv_iload_n hx hb dX1_append_42 rfl (lv_at hl 1 rfl) ?_
      refine lv_dup2_11 hx hb dX1_append_43 rfl rfl ?_
      refine xr_iald hx hb hK hP 1 0 rfl rfl (k := i) (hi) (by decide) dX1_append_44 ?_
      refine xr_conv (y := (nI (sz i))) (by rw [hI.2.1 i hi]) ?_
      refine lv_iconst (v := nI 1) hx hb dX1_append_45 xc_1 ?_
      refine xr_iadd hx hb dX1_append_46 ?_
      refine xr_iast hx hb hK hP hD hS 1 0 rfl rfl (k := i) (v := (sz i) + 1) (by omega) (by decide) dX1_append_47 (fun H locs hP hD hS => ?_)
      have hP : va_P (dC, dI) vwCl (MW bd cI (va_up size i ((sz i) + 1)) (va_up tokens ((25 * i) + (sz i)) t)) H := hP
      have hD : va_D A (MW bd cI (va_up size i ((sz i) + 1)) (va_up tokens ((25 * i) + (sz i)) t)) := hD
      refine lv_aload_n hx hb dX1_append_48 rfl (lv_at hl 0 rfl) ?_
      refine va_get (D := (dC, dI)) (ci := 1) (v := .ref (bd 1)) (C := RX1) (T := TX1) (N := 2) hx hb hts in_X1 hown hK hP 0 rfl rfl 0 (by decide) (hts _ q195) (fun _ h9 => h9) rfl dX1_append_49 ?_
      refine lv_iload_n hx hb dX1_append_52 rfl (lv_at hl 1 rfl) ?_
      refine xr_iald hx hb hK hP 1 0 rfl rfl (k := i) (hi) (by decide) dX1_append_53 ?_
      refine xr_conv (y := (nI (sz i + 1))) (by rw [va_up_s]) ?_
      exact xr_retWi ((va_up size i ((sz i) + 1), va_up tokens ((25 * i) + (sz i)) t)) hx hb hr hlk (by rw [pt_app_yes c_15 c_5]; exact ⟨rfl, MI_app hI hi h4 h5 c_15 c_5⟩) hP hK hD hS dX1_append_54
    · skip
      refine lv_bipush (v := -2) hx hb dX1_append_18 (by decide) ?_
      exact xr_retWi ((size, tokens)) hx hb hr hlk (by rw [pt_app_no (by omega)]; exact ⟨rfl, hI⟩) hP hK hD hS dX1_append_20

set_option maxHeartbeats 4000000 in
set_option maxRecDepth 100000 in
/-- take(list) -/
theorem mt_X1_take (l : Launch) (dC : Nat → ClassId) (dI : Nat → Nat → Nat) (hz : Nat) {bd : Nat → Nat} {cI : ClassId} {size tokens : Nat → Nat} {sz : Nat → Nat} {tk : Nat → Nat → Nat} (hI : MI size tokens sz tk) (i : Nat) (hi : i < 5) : Met l yX1_take (ws_ yX1_take cX1_take 2 (some .int)) ({ frames := 0, cells := 0, slots := 0, locals := 0 } : Room) (va_Pc [.ref (bd 0), .int (nI i)] (xr_Pw (dC, dI) vwCl (MW bd cI size tokens) (tyM cI) hz)) (va_Qi (fun (r : Int32) (u : (Nat → Nat) × (Nat → Nat)) => r = (pt_tak sz tk i).1 ∧ MI u.1 u.2 (pt_tak sz tk i).2 tk) (xr_Bw (dC, dI) vwCl (tyM cI) (va_A (MW bd cI size tokens) hz) (fun u => MWs bd cI u)) (va_A (MW bd cI size tokens) hz)) 0 0 (va_A (MW bd cI size tokens) hz) := by
  refine Met.ofW (cc := cX1_take) (maxL := 2) (ret := (some .int)) (by decide) rfl ?_
  intro p e s m args below meth c s₁ B hml hv
  obtain ⟨rfl, hsz, hP, hK, hD0⟩ := hv
  have hx := B.exec
  have hb := B.bytes
  have hr := B.returns
  have hlk := B.notSynchronized
  have hts := atoms_spec (ws := (ws_ yX1_take cX1_take 2 (some .int))) B.pre
  have hts : ∀ w ∈ lw_all, w.before _ s = true := fun w h => hts w (List.mem_cons_of_mem _ h)
  have hown : s.vm.findClass RX1 = some m.cls := findClass_of_methodNamed B.named
  subst hsz
  have hD := hD0.self (sz := s.heap.size)
  generalize hAe : va_A (MW bd cI size tokens) s.heap.size = A at hD ⊢
  have hA : ∀ q : Nat, s.heap.size ≤ q → A q := fun q h => by rw [← hAe]; exact Or.inr h
  have hS : va_S A s.heap s.heap [] := va_S.rf
  have hl := lv_entry ([.ref (bd 0), .int (nI i)]) (n := 2) (Nat.le_of_ble_eq_true rfl)
  rw [lg_entry_eq]
  generalize (lg_sl ([.ref (bd 0), .int (nI i)]) ++ List.replicate (2 - (lg_sl ([.ref (bd 0), .int (nI i)])).length) Slot.unset).toArray = ls at hl ⊢
  have hl : lv_has ls 2 [(0, .ref (bd 0)), (1, .int (nI i))] := hl
  have hz := pt_wf_25 hI.1 hi
  refine lv_aload_n hx hb dX1_take_0 rfl (lv_at hl 0 rfl) ?_
  refine va_get (D := (dC, dI)) (ci := 1) (v := .ref (bd 1)) (C := RX1) (T := TX1) (N := 2) hx hb hts in_X1 hown hK hP 0 rfl rfl 0 (by decide) (hts _ q195) (fun _ h9 => h9) rfl dX1_take_1 ?_
  refine lv_iload_n hx hb dX1_take_4 rfl (lv_at hl 1 rfl) ?_
  refine xr_iald hx hb hK hP 1 0 rfl rfl (k := i) (hi) (by decide) dX1_take_5 ?_
  refine xr_conv (y := (nI (sz i))) (by rw [hI.2.1 i hi]) ?_
  refine xr_if_ne (tgt := 11) hx hb dX1_take_6 (by decide) (by omega) (fun c_6 => ?_) (fun c_6 => ?_)
  · skip
    refine lv_aload_n hx hb dX1_take_11 rfl (lv_at hl 0 rfl) ?_
    refine va_get (D := (dC, dI)) (ci := 1) (v := .ref (bd 1)) (C := RX1) (T := TX1) (N := 2) hx hb hts in_X1 hown hK hP 0 rfl rfl 0 (by decide) (hts _ q195) (fun _ h9 => h9) rfl dX1_take_12 ?_
    refine lv_iload_n hx hb dX1_take_15 rfl (lv_at hl 1 rfl) ?_
    refine lv_dup2_11 hx hb dX1_take_16 rfl rfl ?_
    refine xr_iald hx hb hK hP 1 0 rfl rfl (k := i) (hi) (by decide) dX1_take_17 ?_
    refine xr_conv (y := (nI (sz i))) (by rw [hI.2.1 i hi]) ?_
    refine lv_iconst (v := nI 1) hx hb dX1_take_18 xc_1 ?_
    refine xr_isub hx hb (by omega) dX1_take_19 ?_
    refine xr_iast hx hb hK hP hD hS 1 0 rfl rfl (k := i) (v := (sz i) - 1) (by omega) (by decide) dX1_take_20 (fun H locs hP hD hS => ?_)
    have hP : va_P (dC, dI) vwCl (MW bd cI (va_up size i ((sz i) - 1)) tokens) H := hP
    have hD : va_D A (MW bd cI (va_up size i ((sz i) - 1)) tokens) := hD
    refine lv_aload_n hx hb dX1_take_21 rfl (lv_at hl 0 rfl) ?_
    refine va_get (D := (dC, dI)) (ci := 1) (v := .ref (bd 2)) (C := RX1) (T := TX1) (N := 2) hx hb hts in_X1 hown hK hP 0 rfl rfl 1 (by decide) (hts _ q196) (fun _ h9 => h9) rfl dX1_take_22 ?_
    refine lv_bipush (v := nI 25) hx hb dX1_take_25 xb_25 ?_
    refine lv_iload_n hx hb dX1_take_27 rfl (lv_at hl 1 rfl) ?_
    refine xr_imul hx hb dX1_take_28 ?_
    refine lv_aload_n hx hb dX1_take_29 rfl (lv_at hl 0 rfl) ?_
    refine va_get (D := (dC, dI)) (ci := 1) (v := .ref (bd 1)) (C := RX1) (T := TX1) (N := 2) hx hb hts in_X1 hown hK hP 0 rfl rfl 0 (by decide) (hts _ q195) (fun _ h9 => h9) rfl dX1_take_30 ?_
    refine lv_iload_n hx hb dX1_take_33 rfl (lv_at hl 1 rfl) ?_
    refine xr_iald hx hb hK hP 1 0 rfl rfl (k := i) (hi) (by decide) dX1_take_34 ?_
    refine xr_conv (y := (nI (sz i - 1))) (by rw [va_up_s]) ?_
    refine xr_iadd hx hb dX1_take_35 ?_
    refine xr_iald hx hb hK hP 2 0 rfl rfl (k := (25 * i) + (sz i - 1)) (by omega) (by decide) dX1_take_36 ?_
    refine xr_conv (y := (nI (tk i (sz i - 1)))) (by rw [hI.2.2 i hi (sz i - 1) (by omega)]) ?_
    exact xr_retWi ((va_up size i ((sz i) - 1), tokens)) hx hb hr hlk (by rw [pt_tak_yes (by omega)]; exact ⟨rfl, MI_tak hI i⟩) hP hK hD hS dX1_take_37
  · skip
    refine lv_iconst (v := -1) hx hb dX1_take_9 (by decide) ?_
    exact xr_retWi ((size, tokens)) hx hb hr hlk (by rw [pt_tak_no c_6]; exact ⟨rfl, hI⟩) hP hK hD hS dX1_take_10

set_option maxHeartbeats 4000000 in
set_option maxRecDepth 100000 in
/-- extend(p, token) -/
theorem mt_X1_extend (l : Launch) (dC : Nat → ClassId) (dI : Nat → Nat → Nat) (hz : Nat) {bd : Nat → Nat} {cI : ClassId} {size tokens : Nat → Nat} {sz : Nat → Nat} {tk : Nat → Nat → Nat} (hI : MI size tokens sz tk) (xp xt : Int32) : Met l yX1_extend (ws_ yX1_extend cX1_extend 3 (some .int)) ({ frames := 3, cells := 0, slots := 0, locals := 67 } : Room) (va_Pc [.ref (bd 0), .int xp, .int xt] (xr_Pw (dC, dI) vwCl (MW bd cI size tokens) (tyM cI) hz)) (va_Qi (fun (r : Int32) (u : (Nat → Nat) × (Nat → Nat)) => r = (pt_extend sz tk xp xt).1 ∧ MI u.1 u.2 (pt_extend sz tk xp xt).2.1 (pt_extend sz tk xp xt).2.2) (xr_Bw (dC, dI) vwCl (tyM cI) (va_A (MW bd cI size tokens) hz) (fun u => MWs bd cI u)) (va_A (MW bd cI size tokens) hz)) 0 0 (va_A (MW bd cI size tokens) hz) := by
  refine Met.ofW (cc := cX1_extend) (maxL := 3) (ret := (some .int)) (by decide) rfl ?_
  intro p e s m args below meth c s₁ B hml hv
  obtain ⟨rfl, hsz, hP, hK, hD0⟩ := hv
  have hx := B.exec
  have hb := B.bytes
  have hr := B.returns
  have hlk := B.notSynchronized
  have hts := atoms_spec (ws := (ws_ yX1_extend cX1_extend 3 (some .int))) B.pre
  have hts : ∀ w ∈ lw_all, w.before _ s = true := fun w h => hts w (List.mem_cons_of_mem _ h)
  have hown : s.vm.findClass RX1 = some m.cls := findClass_of_methodNamed B.named
  subst hsz
  have hD := hD0.self (sz := s.heap.size)
  generalize hAe : va_A (MW bd cI size tokens) s.heap.size = A at hD ⊢
  have hA : ∀ q : Nat, s.heap.size ≤ q → A q := fun q h => by rw [← hAe]; exact Or.inr h
  have hS : va_S A s.heap s.heap [] := va_S.rf
  have hl := lv_entry ([.ref (bd 0), .int xp, .int xt]) (n := 3) (Nat.le_of_ble_eq_true rfl)
  rw [lg_entry_eq]
  generalize (lg_sl ([.ref (bd 0), .int xp, .int xt]) ++ List.replicate (3 - (lg_sl ([.ref (bd 0), .int xp, .int xt])).length) Slot.unset).toArray = ls at hl ⊢
  have hl : lv_has ls 3 [(0, .ref (bd 0)), (1, .int xp), (2, .int xt)] := hl
  refine lv_aload_n hx hb dX1_extend_0 rfl (lv_at hl 0 rfl) ?_
  refine lv_iload_n hx hb dX1_extend_1 rfl (lv_at hl 1 rfl) ?_
  refine xr_cVi (rest := []) ⟨hx, hb, hml, hown, hts⟩ (mt_X1_pattern l dC dI xp) (cwV 1 hts gV_X1_24 rfl rfl rfl hd_X1_pattern ⟨Nat.le_of_ble_eq_true rfl, Nat.le_of_ble_eq_true rfl⟩) hK hP 0 1 rfl rfl rfl hl.1 rfl (Nat.le_of_ble_eq_true rfl) dX1_extend_2 ⟨Nat.zero_le _, Nat.zero_le _⟩ (fun r_2 h_2 => ?_)
  refine xr_ifeqB (tgt := 29) hx hb h_2 dX1_extend_5 (by decide) (fun c_5 => ?_) (fun c_5 => ?_)
  · skip
    refine lv_iconst (v := -1) hx hb dX1_extend_29 (by decide) ?_
    exact xr_retWi ((size, tokens)) hx hb hr hlk (by first | (unfold pt_extend; rw [pt_ix_no (by decide) c_5]; exact ⟨rfl, hI⟩) | (unfold pt_extend; rw [pt_ix_in hj (by decide), pt_ix_no (by decide) (pt_rngN 7 (by decide) (by first | exact Or.inl c_9 | exact Or.inr c_15))]; exact ⟨rfl, hI⟩)) hP hK hD hS dX1_extend_30
  · obtain ⟨j, hj, rfl⟩ := c_5
    refine lv_iload_n hx hb dX1_extend_8 rfl (lv_at hl 2 rfl) ?_
    refine lv_if_lt (tgt := 29) hx hb dX1_extend_9 (by decide) (fun c_9 => ?_) (fun c_9 => ?_)
    · skip
      refine lv_iconst (v := -1) hx hb dX1_extend_29 (by decide) ?_
      exact xr_retWi ((size, tokens)) hx hb hr hlk (by first | (unfold pt_extend; rw [pt_ix_no (by decide) c_5]; exact ⟨rfl, hI⟩) | (unfold pt_extend; rw [pt_ix_in hj (by decide), pt_ix_no (by decide) (pt_rngN 7 (by decide) (by first | exact Or.inl c_9 | exact Or.inr c_15))]; exact ⟨rfl, hI⟩)) hP hK hD hS dX1_extend_30
    · skip
      refine lv_iload_n hx hb dX1_extend_12 rfl (lv_at hl 2 rfl) ?_
      refine lv_bipush (v := nI 7) hx hb dX1_extend_13 xb_7 ?_
      refine lv_icmp_gt (tgt := 29) hx hb dX1_extend_15 (by decide) (fun c_15 => ?_) (fun c_15 => ?_)
      · skip
        refine lv_iconst (v := -1) hx hb dX1_extend_29 (by decide) ?_
        exact xr_retWi ((size, tokens)) hx hb hr hlk (by first | (unfold pt_extend; rw [pt_ix_no (by decide) c_5]; exact ⟨rfl, hI⟩) | (unfold pt_extend; rw [pt_ix_in hj (by decide), pt_ix_no (by decide) (pt_rngN 7 (by decide) (by first | exact Or.inl c_9 | exact Or.inr c_15))]; exact ⟨rfl, hI⟩)) hP hK hD hS dX1_extend_30
      · obtain ⟨k, hk, rfl⟩ := pt_rng 7 (by decide) c_9 c_15
        refine lv_aload_n hx hb dX1_extend_18 rfl (lv_at hl 0 rfl) ?_
        refine lv_iload_n hx hb dX1_extend_19 rfl (lv_at hl 1 rfl) ?_
        refine lv_iload_n hx hb dX1_extend_20 rfl (lv_at hl 2 rfl) ?_
        refine lv_bipush (v := nI 9) hx hb dX1_extend_21 xb_9 ?_
        refine xr_cVwi (wr := []) (rest := []) ⟨hx, hb, hml, hown, hts⟩ (mt_X1_append l dC dI _ hI j (by omega) k 9 (fun _ => ⟨Nat.le_refl _, by omega⟩) (fun q => absurd q (by omega))) (cwV 3 hts gV_X1_27 rfl rfl rfl hd_X1_append ⟨Nat.le_of_ble_eq_true rfl, Nat.le_of_ble_eq_true rfl⟩) hK hP hD hS hA [0, 1, 2] [] rfl rfl rfl (by decide) (by decide) (by decide) 0 1 rfl rfl rfl hl.1 rfl (Nat.le_of_ble_eq_true rfl) dX1_extend_23 ⟨Nat.zero_le _, Nat.zero_le _⟩ (fun r_23 u H locs h_23 hP hD hS => ?_)
        obtain ⟨size1, tokens1⟩ := u
        have hP : va_P (dC, dI) vwCl (MW bd cI size1 tokens1) H := hP
        have hD : va_D A (MW bd cI size1 tokens1) := hD
        refine lv_goto (tgt := 30) hx hb dX1_extend_26 (by decide) ?_
        exact xr_retWi ((size1, tokens1)) hx hb hr hlk (by rw [show pt_extend sz tk (nI j) (nI k) = pt_app sz tk j k 9 by unfold pt_extend; rw [pt_ix_in hj (by decide), pt_ix_in hk (by decide)]]; exact h_23) hP hK hD hS dX1_extend_30

set_option maxHeartbeats 4000000 in
set_option maxRecDepth 100000 in
/-- shorten(p) -/
theorem mt_X1_shorten (l : Launch) (dC : Nat → ClassId) (dI : Nat → Nat → Nat) (hz : Nat) {bd : Nat → Nat} {cI : ClassId} {size tokens : Nat → Nat} {sz : Nat → Nat} {tk : Nat → Nat → Nat} (hI : MI size tokens sz tk) (xp : Int32) : Met l yX1_shorten (ws_ yX1_shorten cX1_shorten 2 (some .int)) ({ frames := 1, cells := 0, slots := 0, locals := 21 } : Room) (va_Pc [.ref (bd 0), .int xp] (xr_Pw (dC, dI) vwCl (MW bd cI size tokens) (tyM cI) hz)) (va_Qi (fun (r : Int32) (u : (Nat → Nat) × (Nat → Nat)) => r = (pt_shorten sz tk xp).1 ∧ MI u.1 u.2 (pt_shorten sz tk xp).2 tk) (xr_Bw (dC, dI) vwCl (tyM cI) (va_A (MW bd cI size tokens) hz) (fun u => MWs bd cI u)) (va_A (MW bd cI size tokens) hz)) 0 0 (va_A (MW bd cI size tokens) hz) := by
  refine Met.ofW (cc := cX1_shorten) (maxL := 2) (ret := (some .int)) (by decide) rfl ?_
  intro p e s m args below meth c s₁ B hml hv
  obtain ⟨rfl, hsz, hP, hK, hD0⟩ := hv
  have hx := B.exec
  have hb := B.bytes
  have hr := B.returns
  have hlk := B.notSynchronized
  have hts := atoms_spec (ws := (ws_ yX1_shorten cX1_shorten 2 (some .int))) B.pre
  have hts : ∀ w ∈ lw_all, w.before _ s = true := fun w h => hts w (List.mem_cons_of_mem _ h)
  have hown : s.vm.findClass RX1 = some m.cls := findClass_of_methodNamed B.named
  subst hsz
  have hD := hD0.self (sz := s.heap.size)
  generalize hAe : va_A (MW bd cI size tokens) s.heap.size = A at hD ⊢
  have hA : ∀ q : Nat, s.heap.size ≤ q → A q := fun q h => by rw [← hAe]; exact Or.inr h
  have hS : va_S A s.heap s.heap [] := va_S.rf
  have hl := lv_entry ([.ref (bd 0), .int xp]) (n := 2) (Nat.le_of_ble_eq_true rfl)
  rw [lg_entry_eq]
  generalize (lg_sl ([.ref (bd 0), .int xp]) ++ List.replicate (2 - (lg_sl ([.ref (bd 0), .int xp])).length) Slot.unset).toArray = ls at hl ⊢
  have hl : lv_has ls 2 [(0, .ref (bd 0)), (1, .int xp)] := hl
  refine lv_aload_n hx hb dX1_shorten_0 rfl (lv_at hl 0 rfl) ?_
  refine lv_iload_n hx hb dX1_shorten_1 rfl (lv_at hl 1 rfl) ?_
  refine xr_cVi (rest := []) ⟨hx, hb, hml, hown, hts⟩ (mt_X1_pattern l dC dI xp) (cwV 1 hts gV_X1_24 rfl rfl rfl hd_X1_pattern ⟨Nat.le_of_ble_eq_true rfl, Nat.le_of_ble_eq_true rfl⟩) hK hP 0 1 rfl rfl rfl hl.1 rfl (Nat.le_of_ble_eq_true rfl) dX1_shorten_2 ⟨Nat.zero_le _, Nat.zero_le _⟩ (fun r_2 h_2 => ?_)
  refine xr_ifeqB (tgt := 16) hx hb h_2 dX1_shorten_5 (by decide) (fun c_5 => ?_) (fun c_5 => ?_)
  · skip
    refine lv_iconst (v := -1) hx hb dX1_shorten_16 (by decide) ?_
    exact xr_retWi ((size, tokens)) hx hb hr hlk (by unfold pt_shorten; rw [pt_ix_no (by decide) c_5]; exact ⟨rfl, hI⟩) hP hK hD hS dX1_shorten_17
  · obtain ⟨j, hj, rfl⟩ := c_5
    refine lv_aload_n hx hb dX1_shorten_8 rfl (lv_at hl 0 rfl) ?_
    refine lv_iload_n hx hb dX1_shorten_9 rfl (lv_at hl 1 rfl) ?_
    refine xr_cVwi (wr := []) (rest := []) ⟨hx, hb, hml, hown, hts⟩ (mt_X1_take l dC dI _ hI j (by omega)) (cwV 1 hts gV_X1_31 rfl rfl rfl hd_X1_take ⟨Nat.le_of_ble_eq_true rfl, Nat.le_of_ble_eq_true rfl⟩) hK hP hD hS hA [0, 1, 2] [] rfl rfl rfl (by decide) (by decide) (by decide) 0 1 rfl rfl rfl hl.1 rfl (Nat.le_of_ble_eq_true rfl) dX1_shorten_10 ⟨Nat.zero_le _, Nat.zero_le _⟩ (fun r_10 u H locs h_10 hP hD hS => ?_)
    obtain ⟨size1, tokens1⟩ := u
    have hP : va_P (dC, dI) vwCl (MW bd cI size1 tokens1) H := hP
    have hD : va_D A (MW bd cI size1 tokens1) := hD
    refine lv_goto (tgt := 17) hx hb dX1_shorten_13 (by decide) ?_
    exact xr_retWi ((size1, tokens1)) hx hb hr hlk (by unfold pt_shorten; rw [pt_ix_in hj (by decide)]; exact h_10) hP hK hD hS dX1_shorten_17

set_option maxHeartbeats 4000000 in
set_option maxRecDepth 100000 in
/-- grow(op) -/
theorem mt_X1_grow (l : Launch) (dC : Nat → ClassId) (dI : Nat → Nat → Nat) (hz : Nat) {bd : Nat → Nat} {cI : ClassId} {size tokens : Nat → Nat} {sz : Nat → Nat} {tk : Nat → Nat → Nat} (hI : MI size tokens sz tk) (xt : Int32) : Met l yX1_grow (ws_ yX1_grow cX1_grow 2 (some .int)) ({ frames := 3, cells := 0, slots := 0, locals := 67 } : Room) (va_Pc [.ref (bd 0), .int xt] (xr_Pw (dC, dI) vwCl (MW bd cI size tokens) (tyM cI) hz)) (va_Qi (fun (r : Int32) (u : (Nat → Nat) × (Nat → Nat)) => r = (pt_grow sz tk xt).1 ∧ MI u.1 u.2 (pt_grow sz tk xt).2.1 (pt_grow sz tk xt).2.2) (xr_Bw (dC, dI) vwCl (tyM cI) (va_A (MW bd cI size tokens) hz) (fun u => MWs bd cI u)) (va_A (MW bd cI size tokens) hz)) 0 0 (va_A (MW bd cI size tokens) hz) := by
  refine Met.ofW (cc := cX1_grow) (maxL := 2) (ret := (some .int)) (by decide) rfl ?_
  intro p e s m args below meth c s₁ B hml hv
  obtain ⟨rfl, hsz, hP, hK, hD0⟩ := hv
  have hx := B.exec
  have hb := B.bytes
  have hr := B.returns
  have hlk := B.notSynchronized
  have hts := atoms_spec (ws := (ws_ yX1_grow cX1_grow 2 (some .int))) B.pre
  have hts : ∀ w ∈ lw_all, w.before _ s = true := fun w h => hts w (List.mem_cons_of_mem _ h)
  have hown : s.vm.findClass RX1 = some m.cls := findClass_of_methodNamed B.named
  subst hsz
  have hD := hD0.self (sz := s.heap.size)
  generalize hAe : va_A (MW bd cI size tokens) s.heap.size = A at hD ⊢
  have hA : ∀ q : Nat, s.heap.size ≤ q → A q := fun q h => by rw [← hAe]; exact Or.inr h
  have hS : va_S A s.heap s.heap [] := va_S.rf
  have hl := lv_entry ([.ref (bd 0), .int xt]) (n := 2) (Nat.le_of_ble_eq_true rfl)
  rw [lg_entry_eq]
  generalize (lg_sl ([.ref (bd 0), .int xt]) ++ List.replicate (2 - (lg_sl ([.ref (bd 0), .int xt])).length) Slot.unset).toArray = ls at hl ⊢
  have hl : lv_has ls 2 [(0, .ref (bd 0)), (1, .int xt)] := hl
  refine lv_iload_n hx hb dX1_grow_0 rfl (lv_at hl 1 rfl) ?_
  refine lv_if_lt (tgt := 21) hx hb dX1_grow_1 (by decide) (fun c_1 => ?_) (fun c_1 => ?_)
  · skip
    refine lv_iconst (v := -1) hx hb dX1_grow_21 (by decide) ?_
    exact xr_retWi ((size, tokens)) hx hb hr hlk (by unfold pt_grow; rw [pt_ix_no (by decide) (pt_rngN 6 (by decide) (by first | exact Or.inl c_1 | exact Or.inr c_7))]; exact ⟨rfl, hI⟩) hP hK hD hS dX1_grow_22
  · skip
    refine lv_iload_n hx hb dX1_grow_4 rfl (lv_at hl 1 rfl) ?_
    refine lv_bipush (v := nI 6) hx hb dX1_grow_5 xb_6 ?_
    refine lv_icmp_gt (tgt := 21) hx hb dX1_grow_7 (by decide) (fun c_7 => ?_) (fun c_7 => ?_)
    · skip
      refine lv_iconst (v := -1) hx hb dX1_grow_21 (by decide) ?_
      exact xr_retWi ((size, tokens)) hx hb hr hlk (by unfold pt_grow; rw [pt_ix_no (by decide) (pt_rngN 6 (by decide) (by first | exact Or.inl c_1 | exact Or.inr c_7))]; exact ⟨rfl, hI⟩) hP hK hD hS dX1_grow_22
    · obtain ⟨k, hk, rfl⟩ := pt_rng 6 (by decide) c_1 c_7
      refine lv_aload_n hx hb dX1_grow_10 rfl (lv_at hl 0 rfl) ?_
      refine lv_iconst (v := nI 4) hx hb dX1_grow_11 xc_4 ?_
      refine lv_iload_n hx hb dX1_grow_12 rfl (lv_at hl 1 rfl) ?_
      refine lv_bipush (v := nI 25) hx hb dX1_grow_13 xb_25 ?_
      refine xr_cVwi (wr := []) (rest := []) ⟨hx, hb, hml, hown, hts⟩ (mt_X1_append l dC dI _ hI 4 (by decide) k 25 (fun q => absurd q (by decide)) (fun _ => ⟨Nat.le_refl _, by omega⟩)) (cwV 3 hts gV_X1_27 rfl rfl rfl hd_X1_append ⟨Nat.le_of_ble_eq_true rfl, Nat.le_of_ble_eq_true rfl⟩) hK hP hD hS hA [0, 1, 2] [] rfl rfl rfl (by decide) (by decide) (by decide) 0 1 rfl rfl rfl hl.1 rfl (Nat.le_of_ble_eq_true rfl) dX1_grow_15 ⟨Nat.zero_le _, Nat.zero_le _⟩ (fun r_15 u H locs h_15 hP hD hS => ?_)
      obtain ⟨size1, tokens1⟩ := u
      have hP : va_P (dC, dI) vwCl (MW bd cI size1 tokens1) H := hP
      have hD : va_D A (MW bd cI size1 tokens1) := hD
      refine lv_goto (tgt := 22) hx hb dX1_grow_18 (by decide) ?_
      exact xr_retWi ((size1, tokens1)) hx hb hr hlk (by unfold pt_grow; rw [pt_ix_in hk (by decide)]; exact h_15) hP hK hD hS dX1_grow_22

set_option maxHeartbeats 4000000 in
set_option maxRecDepth 100000 in
/-- prune() -/
theorem mt_X1_prune (l : Launch) (dC : Nat → ClassId) (dI : Nat → Nat → Nat) (hz : Nat) {bd : Nat → Nat} {cI : ClassId} {size tokens : Nat → Nat} {sz : Nat → Nat} {tk : Nat → Nat → Nat} (hI : MI size tokens sz tk) : Met l yX1_prune (ws_ yX1_prune cX1_prune 1 (some .int)) ({ frames := 1, cells := 0, slots := 0, locals := 21 } : Room) (va_Pc [.ref (bd 0)] (xr_Pw (dC, dI) vwCl (MW bd cI size tokens) (tyM cI) hz)) (va_Qi (fun (r : Int32) (u : (Nat → Nat) × (Nat → Nat)) => r = (pt_tak sz tk 4).1 ∧ MI u.1 u.2 (pt_tak sz tk 4).2 tk) (xr_Bw (dC, dI) vwCl (tyM cI) (va_A (MW bd cI size tokens) hz) (fun u => MWs bd cI u)) (va_A (MW bd cI size tokens) hz)) 0 0 (va_A (MW bd cI size tokens) hz) := by
  refine Met.ofW (cc := cX1_prune) (maxL := 1) (ret := (some .int)) (by decide) rfl ?_
  intro p e s m args below meth c s₁ B hml hv
  obtain ⟨rfl, hsz, hP, hK, hD0⟩ := hv
  have hx := B.exec
  have hb := B.bytes
  have hr := B.returns
  have hlk := B.notSynchronized
  have hts := atoms_spec (ws := (ws_ yX1_prune cX1_prune 1 (some .int))) B.pre
  have hts : ∀ w ∈ lw_all, w.before _ s = true := fun w h => hts w (List.mem_cons_of_mem _ h)
  have hown : s.vm.findClass RX1 = some m.cls := findClass_of_methodNamed B.named
  subst hsz
  have hD := hD0.self (sz := s.heap.size)
  generalize hAe : va_A (MW bd cI size tokens) s.heap.size = A at hD ⊢
  have hA : ∀ q : Nat, s.heap.size ≤ q → A q := fun q h => by rw [← hAe]; exact Or.inr h
  have hS : va_S A s.heap s.heap [] := va_S.rf
  have hl := lv_entry ([.ref (bd 0)]) (n := 1) (Nat.le_of_ble_eq_true rfl)
  rw [lg_entry_eq]
  generalize (lg_sl ([.ref (bd 0)]) ++ List.replicate (1 - (lg_sl ([.ref (bd 0)])).length) Slot.unset).toArray = ls at hl ⊢
  have hl : lv_has ls 1 [(0, .ref (bd 0))] := hl
  refine lv_aload_n hx hb dX1_prune_0 rfl (lv_at hl 0 rfl) ?_
  refine lv_iconst (v := nI 4) hx hb dX1_prune_1 xc_4 ?_
  refine xr_cVwi (wr := []) (rest := []) ⟨hx, hb, hml, hown, hts⟩ (mt_X1_take l dC dI _ hI 4 (by decide)) (cwV 1 hts gV_X1_31 rfl rfl rfl hd_X1_take ⟨Nat.le_of_ble_eq_true rfl, Nat.le_of_ble_eq_true rfl⟩) hK hP hD hS hA [0, 1, 2] [] rfl rfl rfl (by decide) (by decide) (by decide) 0 1 rfl rfl rfl hl.1 rfl (Nat.le_of_ble_eq_true rfl) dX1_prune_2 ⟨Nat.zero_le _, Nat.zero_le _⟩ (fun r_2 u H locs h_2 hP hD hS => ?_)
  obtain ⟨size1, tokens1⟩ := u
  have hP : va_P (dC, dI) vwCl (MW bd cI size1 tokens1) H := hP
  have hD : va_D A (MW bd cI size1 tokens1) := hD
  exact xr_retWi ((size1, tokens1)) hx hb hr hlk (h_2) hP hK hD hS dX1_prune_5

set_option maxHeartbeats 4000000 in
set_option maxRecDepth 100000 in
/-- complete(p) -/
theorem mt_X1_complete (l : Launch) (dC : Nat → ClassId) (dI : Nat → Nat → Nat) {bd : Nat → Nat} {cI : ClassId} {size tokens : Nat → Nat} {sz : Nat → Nat} {tk : Nat → Nat → Nat} (hI : MI size tokens sz tk) (xp : Int32) : Met l yX1_complete (ws_ yX1_complete cX1_complete 2 (some .boolean)) ({ frames := 2, cells := 0, slots := 0, locals := 44 } : Room) (va_Pc [.ref (bd 0), .int xp] (xr_Pr (dC, dI) vwCl (MW bd cI size tokens) (tyM cI))) (vp_Si (fun r : Int32 => xr_B r (pt_complete sz tk xp))) 0 0 xr_no := by
  refine Met.ofW (cc := cX1_complete) (maxL := 2) (ret := (some .boolean)) (by decide) rfl ?_
  intro p e s m args below meth c s₁ B hml hv
  obtain ⟨rfl, hP, hK⟩ := hv
  have hx := B.exec
  have hb := B.bytes
  have hr := B.returns
  have hlk := B.notSynchronized
  have hts := atoms_spec (ws := (ws_ yX1_complete cX1_complete 2 (some .boolean))) B.pre
  have hts : ∀ w ∈ lw_all, w.before _ s = true := fun w h => hts w (List.mem_cons_of_mem _ h)
  have hown : s.vm.findClass RX1 = some m.cls := findClass_of_methodNamed B.named
  have hl := lv_entry ([.ref (bd 0), .int xp]) (n := 2) (Nat.le_of_ble_eq_true rfl)
  rw [lg_entry_eq]
  generalize (lg_sl ([.ref (bd 0), .int xp]) ++ List.replicate (2 - (lg_sl ([.ref (bd 0), .int xp])).length) Slot.unset).toArray = ls at hl ⊢
  have hl : lv_has ls 2 [(0, .ref (bd 0)), (1, .int xp)] := hl
  refine lv_aload_n hx hb dX1_complete_0 rfl (lv_at hl 0 rfl) ?_
  refine lv_iload_n hx hb dX1_complete_1 rfl (lv_at hl 1 rfl) ?_
  refine xr_cVi (rest := []) ⟨hx, hb, hml, hown, hts⟩ (mt_X1_pattern l dC dI xp) (cwV 1 hts gV_X1_24 rfl rfl rfl hd_X1_pattern ⟨Nat.le_of_ble_eq_true rfl, Nat.le_of_ble_eq_true rfl⟩) hK hP 0 1 rfl rfl rfl hl.1 rfl (Nat.le_of_ble_eq_true rfl) dX1_complete_2 ⟨Nat.zero_le _, Nat.zero_le _⟩ (fun r_2 h_2 => ?_)
  refine xr_ifeqB (tgt := 20) hx hb h_2 dX1_complete_5 (by decide) (fun c_5 => ?_) (fun c_5 => ?_)
  · skip
    refine lv_iconst (v := nI 0) hx hb dX1_complete_20 xc_0 ?_
    exact xr_retSz hx hb hr hlk xr_nz0 rfl (by first | exact xr_B0 (fun ⟨j, hj, e, _⟩ => c_5 ⟨j, hj, e⟩) | exact xr_B0 (fun ⟨i, hi, e, h⟩ => c_13 (by rw [(nI_eq (by omega) (by omega)).mp e]; exact h))) dX1_complete_21
  · obtain ⟨j, hj, rfl⟩ := c_5
    refine lv_aload_n hx hb dX1_complete_8 rfl (lv_at hl 0 rfl) ?_
    refine lv_iload_n hx hb dX1_complete_9 rfl (lv_at hl 1 rfl) ?_
    refine xr_cVi (rest := []) ⟨hx, hb, hml, hown, hts⟩ (mt_X1_done l dC dI hI j (by omega)) (cwV 1 hts gV_X1_20 rfl rfl rfl hd_X1_done ⟨Nat.le_of_ble_eq_true rfl, Nat.le_of_ble_eq_true rfl⟩) hK hP 0 1 rfl rfl rfl hl.1 rfl (Nat.le_of_ble_eq_true rfl) dX1_complete_10 ⟨Nat.zero_le _, Nat.zero_le _⟩ (fun r_10 h_10 => ?_)
    refine xr_ifeqB (tgt := 20) hx hb h_10 dX1_complete_13 (by decide) (fun c_13 => ?_) (fun c_13 => ?_)
    · skip
      refine lv_iconst (v := nI 0) hx hb dX1_complete_20 xc_0 ?_
      exact xr_retSz hx hb hr hlk xr_nz0 rfl (by first | exact xr_B0 (fun ⟨j, hj, e, _⟩ => c_5 ⟨j, hj, e⟩) | exact xr_B0 (fun ⟨i, hi, e, h⟩ => c_13 (by rw [(nI_eq (by omega) (by omega)).mp e]; exact h))) dX1_complete_21
    · skip
      refine lv_iconst (v := nI 1) hx hb dX1_complete_16 xc_1 ?_
      refine lv_goto (tgt := 21) hx hb dX1_complete_17 (by decide) ?_
      exact xr_retSz hx hb hr hlk xr_nz1 rfl (xr_B1 ⟨j, hj, rfl, c_13⟩) dX1_complete_21

set_option maxHeartbeats 4000000 in
set_option maxRecDepth 100000 in
/-- whole() -/
theorem mt_X1_whole (l : Launch) (dC : Nat → ClassId) (dI : Nat → Nat → Nat) {bd : Nat → Nat} {cI : ClassId} {size tokens : Nat → Nat} {sz : Nat → Nat} {tk : Nat → Nat → Nat} (hI : MI size tokens sz tk) : Met l yX1_whole (ws_ yX1_whole cX1_whole 1 (some .boolean)) ({ frames := 2, cells := 0, slots := 0, locals := 44 } : Room) (va_Pc [.ref (bd 0)] (xr_Pr (dC, dI) vwCl (MW bd cI size tokens) (tyM cI))) (vp_Si (fun r : Int32 => xr_B r (pt_need (tk 4) (sz 4) = 0))) 0 0 xr_no := by
  refine Met.ofW (cc := cX1_whole) (maxL := 1) (ret := (some .boolean)) (by decide) rfl ?_
  intro p e s m args below meth c s₁ B hml hv
  obtain ⟨rfl, hP, hK⟩ := hv
  have hx := B.exec
  have hb := B.bytes
  have hr := B.returns
  have hlk := B.notSynchronized
  have hts := atoms_spec (ws := (ws_ yX1_whole cX1_whole 1 (some .boolean))) B.pre
  have hts : ∀ w ∈ lw_all, w.before _ s = true := fun w h => hts w (List.mem_cons_of_mem _ h)
  have hown : s.vm.findClass RX1 = some m.cls := findClass_of_methodNamed B.named
  have hl := lv_entry ([.ref (bd 0)]) (n := 1) (Nat.le_of_ble_eq_true rfl)
  rw [lg_entry_eq]
  generalize (lg_sl ([.ref (bd 0)]) ++ List.replicate (1 - (lg_sl ([.ref (bd 0)])).length) Slot.unset).toArray = ls at hl ⊢
  have hl : lv_has ls 1 [(0, .ref (bd 0))] := hl
  refine lv_aload_n hx hb dX1_whole_0 rfl (lv_at hl 0 rfl) ?_
  refine lv_iconst (v := nI 4) hx hb dX1_whole_1 xc_4 ?_
  refine xr_cVi (rest := []) ⟨hx, hb, hml, hown, hts⟩ (mt_X1_done l dC dI hI 4 (by decide)) (cwV 1 hts gV_X1_20 rfl rfl rfl hd_X1_done ⟨Nat.le_of_ble_eq_true rfl, Nat.le_of_ble_eq_true rfl⟩) hK hP 0 1 rfl rfl rfl hl.1 rfl (Nat.le_of_ble_eq_true rfl) dX1_whole_2 ⟨Nat.zero_le _, Nat.zero_le _⟩ (fun r_2 h_2 => ?_)
  exact xr_retSz hx hb hr hlk h_2.nz rfl (h_2) dX1_whole_5

set_option maxHeartbeats 4000000 in
set_option maxRecDepth 100000 in
/-- node(n) -/
theorem mt_X1_node (l : Launch) (dC : Nat → ClassId) (dI : Nat → Nat → Nat) {bd : Nat → Nat} {cI : ClassId} {size tokens : Nat → Nat} {sz : Nat → Nat} {tk : Nat → Nat → Nat} (hI : MI size tokens sz tk) (xn : Int32) : Met l yX1_node (ws_ yX1_node cX1_node 2 (some .boolean)) ({ frames := 2, cells := 0, slots := 0, locals := 44 } : Room) (va_Pc [.ref (bd 0), .int xn] (xr_Pr (dC, dI) vwCl (MW bd cI size tokens) (tyM cI))) (vp_Si (fun r : Int32 => xr_B r (pt_node sz tk xn))) 0 0 xr_no := by
  refine Met.ofW (cc := cX1_node) (maxL := 2) (ret := (some .boolean)) (by decide) rfl ?_
  intro p e s m args below meth c s₁ B hml hv
  obtain ⟨rfl, hP, hK⟩ := hv
  have hx := B.exec
  have hb := B.bytes
  have hr := B.returns
  have hlk := B.notSynchronized
  have hts := atoms_spec (ws := (ws_ yX1_node cX1_node 2 (some .boolean))) B.pre
  have hts : ∀ w ∈ lw_all, w.before _ s = true := fun w h => hts w (List.mem_cons_of_mem _ h)
  have hown : s.vm.findClass RX1 = some m.cls := findClass_of_methodNamed B.named
  have hl := lv_entry ([.ref (bd 0), .int xn]) (n := 2) (Nat.le_of_ble_eq_true rfl)
  rw [lg_entry_eq]
  generalize (lg_sl ([.ref (bd 0), .int xn]) ++ List.replicate (2 - (lg_sl ([.ref (bd 0), .int xn])).length) Slot.unset).toArray = ls at hl ⊢
  have hl : lv_has ls 2 [(0, .ref (bd 0)), (1, .int xn)] := hl
  have hz := hI.1.2.1
  refine lv_aload_n hx hb dX1_node_0 rfl (lv_at hl 0 rfl) ?_
  refine lv_iconst (v := nI 4) hx hb dX1_node_1 xc_4 ?_
  refine xr_cVi (rest := []) ⟨hx, hb, hml, hown, hts⟩ (mt_X1_done l dC dI hI 4 (by decide)) (cwV 1 hts gV_X1_20 rfl rfl rfl hd_X1_done ⟨Nat.le_of_ble_eq_true rfl, Nat.le_of_ble_eq_true rfl⟩) hK hP 0 1 rfl rfl rfl hl.1 rfl (Nat.le_of_ble_eq_true rfl) dX1_node_2 ⟨Nat.zero_le _, Nat.zero_le _⟩ (fun r_2 h_2 => ?_)
  refine xr_ifeqB (tgt := 26) hx hb h_2 dX1_node_5 (by decide) (fun c_5 => ?_) (fun c_5 => ?_)
  · skip
    refine lv_iconst (v := nI 0) hx hb dX1_node_26 xc_0 ?_
    exact xr_retSz hx hb hr hlk xr_nz0 rfl (by first | exact xr_B0 (fun h => c_5 h.1) | exact xr_B0 (fun h => pt_rngN' (sz 4) (by omega) (by first | exact Or.inl c_9 | exact Or.inr c_19) h.2)) dX1_node_27
  · skip
    refine lv_iload_n hx hb dX1_node_8 rfl (lv_at hl 1 rfl) ?_
    refine lv_if_lt (tgt := 26) hx hb dX1_node_9 (by decide) (fun c_9 => ?_) (fun c_9 => ?_)
    · skip
      refine lv_iconst (v := nI 0) hx hb dX1_node_26 xc_0 ?_
      exact xr_retSz hx hb hr hlk xr_nz0 rfl (by first | exact xr_B0 (fun h => c_5 h.1) | exact xr_B0 (fun h => pt_rngN' (sz 4) (by omega) (by first | exact Or.inl c_9 | exact Or.inr c_19) h.2)) dX1_node_27
    · skip
      refine lv_iload_n hx hb dX1_node_12 rfl (lv_at hl 1 rfl) ?_
      refine lv_aload_n hx hb dX1_node_13 rfl (lv_at hl 0 rfl) ?_
      refine va_get (D := (dC, dI)) (ci := 1) (v := .ref (bd 1)) (C := RX1) (T := TX1) (N := 2) hx hb hts in_X1 hown hK hP 0 rfl rfl 0 (by decide) (hts _ q195) (fun _ h9 => h9) rfl dX1_node_14 ?_
      refine lv_iconst (v := nI 4) hx hb dX1_node_17 xc_4 ?_
      refine xr_iald hx hb hK hP 1 0 rfl rfl (k := 4) ((by decide)) (by decide) dX1_node_18 ?_
      refine xr_conv (y := (nI (sz 4))) (by rw [hI.2.1 4 (by decide)]) ?_
      refine lv_icmp_ge (tgt := 26) hx hb dX1_node_19 (by decide) (fun c_19 => ?_) (fun c_19 => ?_)
      · skip
        refine lv_iconst (v := nI 0) hx hb dX1_node_26 xc_0 ?_
        exact xr_retSz hx hb hr hlk xr_nz0 rfl (by first | exact xr_B0 (fun h => c_5 h.1) | exact xr_B0 (fun h => pt_rngN' (sz 4) (by omega) (by first | exact Or.inl c_9 | exact Or.inr c_19) h.2)) dX1_node_27
      · skip
        refine lv_iconst (v := nI 1) hx hb dX1_node_22 xc_1 ?_
        refine lv_goto (tgt := 27) hx hb dX1_node_23 (by decide) ?_
        exact xr_retSz hx hb hr hlk xr_nz1 rfl (xr_B1 ⟨c_5, pt_rng' (sz 4) (by omega) c_9 c_19⟩) dX1_node_27

set_option maxHeartbeats 4000000 in
set_option maxRecDepth 100000 in
/-- behind(list, k): the place behind the part at k -/
theorem mt_X1_behind (l : Launch) (dC : Nat → ClassId) (dI : Nat → Nat → Nat) {bd : Nat → Nat} {cI : ClassId} {size tokens : Nat → Nat} {sz : Nat → Nat} {tk : Nat → Nat → Nat} (hI : MI size tokens sz tk) (i : Nat) (hi : i < 5) (k : Nat) (hk : k ≤ 25) : Met l yX1_behind (ws_ yX1_behind cX1_behind 5 (some .int)) ({ frames := 1, cells := 0, slots := 0, locals := 21 } : Room) (va_Pc [.ref (bd 0), .int (nI i), .int (nI k)] (xr_Pr (dC, dI) vwCl (MW bd cI size tokens) (tyM cI))) (vp_Si (fun r : Int32 => r = nI (pt_skip (tk i) (sz i) k 1))) 0 0 xr_no := by
  refine Met.ofW (cc := cX1_behind) (maxL := 5) (ret := (some .int)) (by decide) rfl ?_
  intro p e s m args below meth c s₁ B hml hv
  obtain ⟨rfl, hP, hK⟩ := hv
  have hx := B.exec
  have hb := B.bytes
  have hr := B.returns
  have hlk := B.notSynchronized
  have hts := atoms_spec (ws := (ws_ yX1_behind cX1_behind 5 (some .int))) B.pre
  have hts : ∀ w ∈ lw_all, w.before _ s = true := fun w h => hts w (List.mem_cons_of_mem _ h)
  have hown : s.vm.findClass RX1 = some m.cls := findClass_of_methodNamed B.named
  have hl := lv_entry ([.ref (bd 0), .int (nI i), .int (nI k)]) (n := 5) (Nat.le_of_ble_eq_true rfl)
  rw [lg_entry_eq]
  generalize (lg_sl ([.ref (bd 0), .int (nI i), .int (nI k)]) ++ List.replicate (5 - (lg_sl ([.ref (bd 0), .int (nI i), .int (nI k)])).length) Slot.unset).toArray = ls at hl ⊢
  have hl : lv_has ls 5 [(0, .ref (bd 0)), (1, .int (nI i)), (2, .int (nI k))] := hl
  have hz := pt_wf_25 hI.1 hi
  refine lv_iconst (v := nI 1) hx hb dX1_behind_0 xc_1 ?_
  refine lv_istore_n (lv' := [(3, .int (nI 1)), (0, .ref (bd 0)), (1, .int (nI i)), (2, .int (nI k))]) hx hb dX1_behind_1 rfl hl (by decide) rfl (fun ls hl => ?_)
  refine lv_iload_n hx hb dX1_behind_2 rfl (lv_at hl 3 rfl) ?_
  refine lv_istore (lv' := [(4, .int (nI k)), (3, .int (nI 1)), (0, .ref (bd 0)), (1, .int (nI i)), (2, .int (nI k))]) hx hb dX1_behind_3 hl (by decide) rfl (fun ls hl => ?_)
  have key5 : ∀ (d_5 : Nat) (o : Nat) (a : Nat) (ls : Array Slot), (a ≤ 25) → (o ≤ 1 + a) → (pt_skip (tk i) (sz i) a o = pt_skip (tk i) (sz i) k 1) → (sz i - a) < d_5 → lv_has ls 5 [(0, .ref (bd 0)), (1, .int (nI i)), (3, .int (nI o)), (4, .int (nI a))] → W p l e (headSpec (ws_ yX1_behind cX1_behind 5 (some .int)) ({ frames := 1, cells := 0, slots := 0, locals := 21 } : Room)).room s m ([.ref (bd 0), .int (nI i), .int (nI k)] : List Value).toArray below meth c s.heap [] 0 0 (MQ below (vp_Si (fun r : Int32 => r = nI (pt_skip (tk i) (sz i) k 1))) ([.ref (bd 0), .int (nI i), .int (nI k)] : List Value).toArray s 0 0 xr_no) (F0 m 5 ls []) := by
    intro d_5
    induction d_5 with
    | zero => intro o a ls ha ho hs hd_5; exact absurd hd_5 (Nat.not_lt_zero _)
    | succ d_5 ih_5 =>
      intro o a ls ha ho hs hd_5 hl
      refine lv_iload_n hx hb dX1_behind_5 rfl (lv_at hl 2 rfl) ?_
      refine xr_if_le (tgt := 47) hx hb dX1_behind_6 (by decide) (by omega) (fun c_6 => ?_) (fun c_6 => ?_)
      · subst c_6
        refine lv_iload hx hb dX1_behind_47 (lv_at hl 3 rfl) ?_
        exact xr_retSi hx hb hr hlk rfl (by first | (rw [← hs, pt_skip_0]) | (rw [← hs, pt_skip_end _ _ c_17])) dX1_behind_49
      · skip
        refine lv_iload hx hb dX1_behind_9 (lv_at hl 3 rfl) ?_
        refine lv_aload_n hx hb dX1_behind_11 rfl (lv_at hl 0 rfl) ?_
        refine va_get (D := (dC, dI)) (ci := 1) (v := .ref (bd 1)) (C := RX1) (T := TX1) (N := 2) hx hb hts in_X1 hown hK hP 0 rfl rfl 0 (by decide) (hts _ q195) (fun _ h9 => h9) rfl dX1_behind_12 ?_
        refine lv_iload_n hx hb dX1_behind_15 rfl (lv_at hl 1 rfl) ?_
        refine xr_iald hx hb hK hP 1 0 rfl rfl (k := i) (hi) (by decide) dX1_behind_16 ?_
        refine xr_conv (y := (nI (sz i))) (by rw [hI.2.1 i hi]) ?_
        refine xr_icmp_ge (tgt := 47) hx hb dX1_behind_17 (by decide) (by omega) (by omega) (fun c_17 => ?_) (fun c_17 => ?_)
        · skip
          refine lv_iload hx hb dX1_behind_47 (lv_at hl 3 rfl) ?_
          exact xr_retSi hx hb hr hlk rfl (by first | (rw [← hs, pt_skip_0]) | (rw [← hs, pt_skip_end _ _ c_17])) dX1_behind_49
        · skip
          refine lv_iload_n hx hb dX1_behind_20 rfl (lv_at hl 2 rfl) ?_
          refine lv_iconst (v := nI 1) hx hb dX1_behind_21 xc_1 ?_
          refine xr_isub hx hb (by omega) dX1_behind_22 ?_
          refine lv_aload_n hx hb dX1_behind_23 rfl (lv_at hl 0 rfl) ?_
          refine lv_aload_n hx hb dX1_behind_24 rfl (lv_at hl 0 rfl) ?_
          refine va_get (D := (dC, dI)) (ci := 1) (v := .ref (bd 2)) (C := RX1) (T := TX1) (N := 2) hx hb hts in_X1 hown hK hP 0 rfl rfl 1 (by decide) (hts _ q196) (fun _ h9 => h9) rfl dX1_behind_25 ?_
          refine lv_bipush (v := nI 25) hx hb dX1_behind_28 xb_25 ?_
          refine lv_iload_n hx hb dX1_behind_30 rfl (lv_at hl 1 rfl) ?_
          refine xr_imul hx hb dX1_behind_31 ?_
          refine lv_iload hx hb dX1_behind_32 (lv_at hl 3 rfl) ?_
          refine xr_iadd hx hb dX1_behind_34 ?_
          refine xr_iald hx hb hK hP 2 0 rfl rfl (k := (25 * i) + a) (by omega) (by decide) dX1_behind_35 ?_
          refine xr_conv (y := (nI (tk i a))) (by rw [hI.2.2 i hi a c_17]) ?_
          refine xr_cVi (rest := [.int (nI (o - 1))]) ⟨hx, hb, hml, hown, hts⟩ (mt_X1_parts l dC dI (tk i a) (pt_wf_7 hI.1 hi c_17)) (cwV 1 hts gV_X1_16 rfl rfl rfl hd_X1_parts ⟨Nat.le_of_ble_eq_true rfl, Nat.le_of_ble_eq_true rfl⟩) hK hP 0 1 rfl rfl rfl hl.1 rfl (Nat.le_of_ble_eq_true rfl) dX1_behind_36 ⟨Nat.zero_le _, Nat.zero_le _⟩ (fun r_36 h_36 => ?_)
          subst h_36
          have hle := pt_ar_le (tk i a)
          refine xr_iadd hx hb dX1_behind_39 ?_
          refine lv_istore_n (lv' := [(3, .int (nI ((o - 1) + (pt_ar (tk i a))))), (0, .ref (bd 0)), (1, .int (nI i)), (4, .int (nI a))]) hx hb dX1_behind_40 rfl hl (by decide) rfl (fun ls hl => ?_)
          refine lv_iinc (v := (nI (a + 1))) (lv' := [(4, .int (nI (a + 1))), (3, .int (nI ((o - 1) + (pt_ar (tk i a))))), (0, .ref (bd 0)), (1, .int (nI i))]) hx hb dX1_behind_41 hl (k := 3) rfl (xr_inc _) (by decide) rfl (fun ls hl => ?_)
          refine lv_goto (tgt := 5) hx hb dX1_behind_44 (by decide) ?_
          exact ih_5 (o - 1 + pt_ar (tk i a)) (a + 1) ls (by omega) (by omega) (by rw [pt_skip_s' c_17 c_6]; exact hs) (by omega) (lv_sub hl [2, 3, 1, 0] rfl)
  exact key5 _ 1 k ls (hk) (by omega) (rfl) (Nat.lt_succ_self _) (lv_sub hl [2, 3, 1, 0] rfl)

set_option maxHeartbeats 4000000 in
set_option maxRecDepth 100000 in
/-- lies(p, list, n, i): where token i comes to lie -/
theorem mt_X1_lies (l : Launch) (dC : Nat → ClassId) (dI : Nat → Nat → Nat) {bd : Nat → Nat} {cI : ClassId} {size tokens : Nat → Nat} {sz : Nat → Nat} {tk : Nat → Nat → Nat} (hI : MI size tokens sz tk) (a b : Nat) (ha : a < 5) (hb5 : b < 5) (n : Nat) (hn : n ≤ 25) (i : Nat) (hi : i ≤ sz a) : Met l yX1_lies (ws_ yX1_lies cX1_lies 8 (some .int)) ({ frames := 2, cells := 0, slots := 0, locals := 45 } : Room) (va_Pc [.ref (bd 0), .int (nI a), .int (nI b), .int (nI n), .int (nI i)] (xr_Pr (dC, dI) vwCl (MW bd cI size tokens) (tyM cI))) (vp_Si (fun r : Int32 => (∃ x : Nat, x ≤ 25 ∧ pt_lay (tk a) (tk b) (sz b) i 0 n = some x ∧ r = nI x) ∨ (pt_lay (tk a) (tk b) (sz b) i 0 n = none ∧ r = -1))) 0 0 xr_no := by
  refine Met.ofW (cc := cX1_lies) (maxL := 8) (ret := (some .int)) (by decide) rfl ?_
  intro p e s m args below meth c s₁ B hml hv
  obtain ⟨rfl, hP, hK⟩ := hv
  have hx := B.exec
  have hb := B.bytes
  have hr := B.returns
  have hlk := B.notSynchronized
  have hts := atoms_spec (ws := (ws_ yX1_lies cX1_lies 8 (some .int))) B.pre
  have hts : ∀ w ∈ lw_all, w.before _ s = true := fun w h => hts w (List.mem_cons_of_mem _ h)
  have hown : s.vm.findClass RX1 = some m.cls := findClass_of_methodNamed B.named
  have hl := lv_entry ([.ref (bd 0), .int (nI a), .int (nI b), .int (nI n), .int (nI i)]) (n := 8) (Nat.le_of_ble_eq_true rfl)
  rw [lg_entry_eq]
  generalize (lg_sl ([.ref (bd 0), .int (nI a), .int (nI b), .int (nI n), .int (nI i)]) ++ List.replicate (8 - (lg_sl ([.ref (bd 0), .int (nI a), .int (nI b), .int (nI n), .int (nI i)])).length) Slot.unset).toArray = ls at hl ⊢
  have hl : lv_has ls 8 [(0, .ref (bd 0)), (1, .int (nI a)), (2, .int (nI b)), (3, .int (nI n)), (4, .int (nI i))] := hl
  have hza := pt_wf_25 hI.1 ha
  have hzb := pt_wf_25 hI.1 hb5
  refine lv_iload_n hx hb dX1_lies_0 rfl (lv_at hl 3 rfl) ?_
  refine lv_istore (lv' := [(5, .int (nI n)), (0, .ref (bd 0)), (1, .int (nI a)), (2, .int (nI b)), (3, .int (nI n)), (4, .int (nI i))]) hx hb dX1_lies_1 hl (by decide) rfl (fun ls hl => ?_)
  refine lv_iconst (v := nI 0) hx hb dX1_lies_3 xc_0 ?_
  refine lv_istore (lv' := [(6, .int (nI 0)), (5, .int (nI n)), (0, .ref (bd 0)), (1, .int (nI a)), (2, .int (nI b)), (3, .int (nI n)), (4, .int (nI i))]) hx hb dX1_lies_4 hl (by decide) rfl (fun ls hl => ?_)
  have key6 : ∀ (d_6 : Nat) (x : Nat) (k : Nat) (ls : Array Slot), (x ≤ 25) → (k ≤ i) → (pt_lay (tk a) (tk b) (sz b) i 0 n = pt_lay (tk a) (tk b) (sz b) (i - k) k x) → (i - k) < d_6 → lv_has ls 8 [(0, .ref (bd 0)), (1, .int (nI a)), (2, .int (nI b)), (4, .int (nI i)), (5, .int (nI x)), (6, .int (nI k))] → W p l e (headSpec (ws_ yX1_lies cX1_lies 8 (some .int)) ({ frames := 2, cells := 0, slots := 0, locals := 45 } : Room)).room s m ([.ref (bd 0), .int (nI a), .int (nI b), .int (nI n), .int (nI i)] : List Value).toArray below meth c s.heap [] 0 0 (MQ below (vp_Si (fun r : Int32 => (∃ x : Nat, x ≤ 25 ∧ pt_lay (tk a) (tk b) (sz b) i 0 n = some x ∧ r = nI x) ∨ (pt_lay (tk a) (tk b) (sz b) i 0 n = none ∧ r = -1))) ([.ref (bd 0), .int (nI a), .int (nI b), .int (nI n), .int (nI i)] : List Value).toArray s 0 0 xr_no) (F0 m 6 ls []) := by
    intro d_6
    induction d_6 with
    | zero => intro x k ls hx25 hk hs hd_6; exact absurd hd_6 (Nat.not_lt_zero _)
    | succ d_6 ih_6 =>
      intro x k ls hx25 hk hs hd_6 hl
      refine lv_iload hx hb dX1_lies_6 (lv_at hl 5 rfl) ?_
      refine lv_iload hx hb dX1_lies_8 (lv_at hl 3 rfl) ?_
      refine xr_icmp_ge (tgt := 88) hx hb dX1_lies_10 (by decide) (by omega) (by omega) (fun c_10 => ?_) (fun c_10 => ?_)
      · have e10 : i - k = 0 := by omega
        refine lv_iload hx hb dX1_lies_88 (lv_at hl 4 rfl) ?_
        exact xr_retSi hx hb hr hlk rfl (Or.inl ⟨x, hx25, by rw [hs, e10]; rfl, rfl⟩) dX1_lies_90
      · have hka : k < sz a := by omega
        have h7 := pt_wf_7 hI.1 ha hka
        have ek : i - k = (i - (k + 1)) + 1 := by omega
        refine lv_aload_n hx hb dX1_lies_13 rfl (lv_at hl 0 rfl) ?_
        refine va_get (D := (dC, dI)) (ci := 1) (v := .ref (bd 2)) (C := RX1) (T := TX1) (N := 2) hx hb hts in_X1 hown hK hP 0 rfl rfl 1 (by decide) (hts _ q196) (fun _ h9 => h9) rfl dX1_lies_14 ?_
        refine lv_bipush (v := nI 25) hx hb dX1_lies_17 xb_25 ?_
        refine lv_iload_n hx hb dX1_lies_19 rfl (lv_at hl 1 rfl) ?_
        refine xr_imul hx hb dX1_lies_20 ?_
        refine lv_iload hx hb dX1_lies_21 (lv_at hl 5 rfl) ?_
        refine xr_iadd hx hb dX1_lies_23 ?_
        refine xr_iald hx hb hK hP 2 0 rfl rfl (k := (25 * a) + k) (by omega) (by decide) dX1_lies_24 ?_
        refine xr_conv (y := (nI (tk a k))) (by rw [hI.2.2 a ha k hka]) ?_
        refine lv_istore (lv' := [(7, .int (nI (tk a k))), (0, .ref (bd 0)), (1, .int (nI a)), (2, .int (nI b)), (4, .int (nI i)), (5, .int (nI x)), (6, .int (nI k))]) hx hb dX1_lies_25 hl (by decide) rfl (fun ls hl => ?_)
        refine lv_iload hx hb dX1_lies_27 (lv_at hl 0 rfl) ?_
        refine lv_bipush (v := nI 7) hx hb dX1_lies_29 xb_7 ?_
        refine xr_icmp_ne (tgt := 46) hx hb dX1_lies_31 (by decide) (by omega) (by omega) (fun c_31 => ?_) (fun c_31 => ?_)
        · skip
          refine lv_iload hx hb dX1_lies_46 (lv_at hl 5 rfl) ?_
          refine lv_aload_n hx hb dX1_lies_48 rfl (lv_at hl 1 rfl) ?_
          refine va_get (D := (dC, dI)) (ci := 1) (v := .ref (bd 1)) (C := RX1) (T := TX1) (N := 2) hx hb hts in_X1 hown hK hP 0 rfl rfl 0 (by decide) (hts _ q195) (fun _ h9 => h9) rfl dX1_lies_49 ?_
          refine lv_iload_n hx hb dX1_lies_52 rfl (lv_at hl 3 rfl) ?_
          refine xr_iald hx hb hK hP 1 0 rfl rfl (k := b) (hb5) (by decide) dX1_lies_53 ?_
          refine xr_conv (y := (nI (sz b))) (by rw [hI.2.1 b hb5]) ?_
          refine xr_icmp_ge (tgt := 80) hx hb dX1_lies_54 (by decide) (by omega) (by omega) (fun c_54 => ?_) (fun c_54 => ?_)
          · skip
            refine lv_iconst (v := -1) hx hb dX1_lies_80 (by decide) ?_
            exact xr_retSi hx hb hr hlk rfl (Or.inr ⟨by rw [hs, ek, pt_lay_n c_31 (by omega)], rfl⟩) dX1_lies_81
          · have h7b := pt_wf_7 hI.1 hb5 c_54
            refine lv_aload_n hx hb dX1_lies_57 rfl (lv_at hl 1 rfl) ?_
            refine va_get (D := (dC, dI)) (ci := 1) (v := .ref (bd 2)) (C := RX1) (T := TX1) (N := 2) hx hb hts in_X1 hown hK hP 0 rfl rfl 1 (by decide) (hts _ q196) (fun _ h9 => h9) rfl dX1_lies_58 ?_
            refine lv_bipush (v := nI 25) hx hb dX1_lies_61 xb_25 ?_
            refine lv_iload_n hx hb dX1_lies_63 rfl (lv_at hl 3 rfl) ?_
            refine xr_imul hx hb dX1_lies_64 ?_
            refine lv_iload hx hb dX1_lies_65 (lv_at hl 5 rfl) ?_
            refine xr_iadd hx hb dX1_lies_67 ?_
            refine xr_iald hx hb hK hP 2 0 rfl rfl (k := (25 * b) + x) (by omega) (by decide) dX1_lies_68 ?_
            refine xr_conv (y := (nI (tk b x))) (by rw [hI.2.2 b hb5 x c_54]) ?_
            refine lv_iload hx hb dX1_lies_69 (lv_at hl 0 rfl) ?_
            refine xr_icmp_ne (tgt := 80) hx hb dX1_lies_71 (by decide) (by omega) (by omega) (fun c_71 => ?_) (fun c_71 => ?_)
            · skip
              refine lv_iconst (v := -1) hx hb dX1_lies_80 (by decide) ?_
              exact xr_retSi hx hb hr hlk rfl (Or.inr ⟨by rw [hs, ek, pt_lay_n c_31 (by omega)], rfl⟩) dX1_lies_81
            · skip
              refine lv_iinc (v := (nI (x + 1))) (lv' := [(5, .int (nI (x + 1))), (7, .int (nI (tk a k))), (0, .ref (bd 0)), (1, .int (nI a)), (2, .int (nI b)), (4, .int (nI i)), (6, .int (nI k))]) hx hb dX1_lies_74 hl (k := 5) rfl (xr_inc _) (by decide) rfl (fun ls hl => ?_)
              refine lv_goto (tgt := 82) hx hb dX1_lies_77 (by decide) ?_
              refine lv_iinc (v := (nI (k + 1))) (lv' := [(6, .int (nI (k + 1))), (5, .int (nI (x + 1))), (7, .int (nI (tk a k))), (0, .ref (bd 0)), (1, .int (nI a)), (2, .int (nI b)), (4, .int (nI i))]) hx hb dX1_lies_82 hl (k := 6) rfl (xr_inc _) (by decide) rfl (fun ls hl => ?_)
              refine lv_goto (tgt := 6) hx hb dX1_lies_85 (by decide) ?_
              exact ih_6 (x + 1) (k + 1) ls (by omega) (by omega) (by rw [hs, ek, pt_lay_t c_31 c_54 c_71]) (by omega) (lv_sub hl [3, 4, 5, 6, 1, 0] rfl)
        · skip
          refine lv_aload_n hx hb dX1_lies_34 rfl (lv_at hl 1 rfl) ?_
          refine lv_iload_n hx hb dX1_lies_35 rfl (lv_at hl 3 rfl) ?_
          refine lv_iload hx hb dX1_lies_36 (lv_at hl 5 rfl) ?_
          refine xr_cVi (rest := []) ⟨hx, hb, hml, hown, hts⟩ (mt_X1_behind l dC dI hI b hb5 x hx25) (cwV 2 hts gV_X1_34 rfl rfl rfl hd_X1_behind ⟨Nat.le_of_ble_eq_true rfl, Nat.le_of_ble_eq_true rfl⟩) hK hP 0 1 rfl rfl rfl hl.1 rfl (Nat.le_of_ble_eq_true rfl) dX1_lies_38 ⟨Nat.zero_le _, Nat.zero_le _⟩ (fun r_38 h_38 => ?_)
          subst h_38
          have hsk := pt_skip_25 (tk b) 1 hzb hx25
          refine lv_istore (lv' := [(5, .int (nI (pt_skip (tk b) (sz b) x 1))), (7, .int (nI (tk a k))), (0, .ref (bd 0)), (1, .int (nI a)), (2, .int (nI b)), (4, .int (nI i)), (6, .int (nI k))]) hx hb dX1_lies_41 hl (by decide) rfl (fun ls hl => ?_)
          refine lv_goto (tgt := 82) hx hb dX1_lies_43 (by decide) ?_
          refine lv_iinc (v := (nI (k + 1))) (lv' := [(6, .int (nI (k + 1))), (5, .int (nI (pt_skip (tk b) (sz b) x 1))), (7, .int (nI (tk a k))), (0, .ref (bd 0)), (1, .int (nI a)), (2, .int (nI b)), (4, .int (nI i))]) hx hb dX1_lies_82 hl (k := 6) rfl (xr_inc _) (by decide) rfl (fun ls hl => ?_)
          refine lv_goto (tgt := 6) hx hb dX1_lies_85 (by decide) ?_
          exact ih_6 (pt_skip (tk b) (sz b) x 1) (k + 1) ls (hsk) (by omega) (by rw [hs, ek, pt_lay_g c_31]) (by omega) (lv_sub hl [3, 4, 5, 6, 1, 0] rfl)
  exact key6 _ n 0 ls (hn) (Nat.zero_le _) (rfl) (Nat.lt_succ_self _) (lv_sub hl [2, 3, 4, 6, 1, 0] rfl)

set_option maxHeartbeats 4000000 in
set_option maxRecDepth 100000 in
/-- fits(p, n) -/
theorem mt_X1_fits (l : Launch) (dC : Nat → ClassId) (dI : Nat → Nat → Nat) {bd : Nat → Nat} {cI : ClassId} {size tokens : Nat → Nat} {sz : Nat → Nat} {tk : Nat → Nat → Nat} (hI : MI size tokens sz tk) (a : Nat) (ha : a < 4) (xn : Int32) : Met l yX1_fits (ws_ yX1_fits cX1_fits 3 (some .boolean)) ({ frames := 3, cells := 0, slots := 0, locals := 72 } : Room) (va_Pc [.ref (bd 0), .int (nI a), .int xn] (xr_Pr (dC, dI) vwCl (MW bd cI size tokens) (tyM cI))) (vp_Si (fun r : Int32 => xr_B r (pt_fb sz tk xn a = true))) 0 0 xr_no := by
  refine Met.ofW (cc := cX1_fits) (maxL := 3) (ret := (some .boolean)) (by decide) rfl ?_
  intro p e s m args below meth c s₁ B hml hv
  obtain ⟨rfl, hP, hK⟩ := hv
  have hx := B.exec
  have hb := B.bytes
  have hr := B.returns
  have hlk := B.notSynchronized
  have hts := atoms_spec (ws := (ws_ yX1_fits cX1_fits 3 (some .boolean))) B.pre
  have hts : ∀ w ∈ lw_all, w.before _ s = true := fun w h => hts w (List.mem_cons_of_mem _ h)
  have hown : s.vm.findClass RX1 = some m.cls := findClass_of_methodNamed B.named
  have hl := lv_entry ([.ref (bd 0), .int (nI a), .int xn]) (n := 3) (Nat.le_of_ble_eq_true rfl)
  rw [lg_entry_eq]
  generalize (lg_sl ([.ref (bd 0), .int (nI a), .int xn]) ++ List.replicate (3 - (lg_sl ([.ref (bd 0), .int (nI a), .int xn])).length) Slot.unset).toArray = ls at hl ⊢
  have hl : lv_has ls 3 [(0, .ref (bd 0)), (1, .int (nI a)), (2, .int xn)] := hl
  have hz := hI.1.2.1
  refine lv_aload_n hx hb dX1_fits_0 rfl (lv_at hl 0 rfl) ?_
  refine lv_iload_n hx hb dX1_fits_1 rfl (lv_at hl 1 rfl) ?_
  refine xr_cVi (rest := []) ⟨hx, hb, hml, hown, hts⟩ (mt_X1_done l dC dI hI a (by omega)) (cwV 1 hts gV_X1_20 rfl rfl rfl hd_X1_done ⟨Nat.le_of_ble_eq_true rfl, Nat.le_of_ble_eq_true rfl⟩) hK hP 0 1 rfl rfl rfl hl.1 rfl (Nat.le_of_ble_eq_true rfl) dX1_fits_2 ⟨Nat.zero_le _, Nat.zero_le _⟩ (fun r_2 h_2 => ?_)
  refine xr_ifeqB (tgt := 36) hx hb h_2 dX1_fits_5 (by decide) (fun c_5 => ?_) (fun c_5 => ?_)
  · skip
    refine lv_iconst (v := nI 0) hx hb dX1_fits_36 xc_0 ?_
    exact xr_retSz hx hb hr hlk xr_nz0 rfl (xr_B0 (fun q => by obtain ⟨j1, hj1, e1, q⟩ := (pt_fb_iff hz).mp q; obtain ⟨q1, q2, q3, q4⟩ := pt_ft_iff.mp q; first | exact c_5 q1 | exact c_13 ⟨q2, j1, hj1, e1⟩ | (rw [← (nI_eq (by omega) (by omega)).mp e1, hlay] at q4; cases q4))) dX1_fits_37
  · skip
    refine lv_aload_n hx hb dX1_fits_8 rfl (lv_at hl 0 rfl) ?_
    refine lv_iload_n hx hb dX1_fits_9 rfl (lv_at hl 2 rfl) ?_
    refine xr_cVi (rest := []) ⟨hx, hb, hml, hown, hts⟩ (mt_X1_node l dC dI hI xn) (cwV 1 hts gV_X1_38 rfl rfl rfl hd_X1_node ⟨Nat.le_of_ble_eq_true rfl, Nat.le_of_ble_eq_true rfl⟩) hK hP 0 1 rfl rfl rfl hl.1 rfl (Nat.le_of_ble_eq_true rfl) dX1_fits_10 ⟨Nat.zero_le _, Nat.zero_le _⟩ (fun r_10 h_10 => ?_)
    refine xr_ifeqB (tgt := 36) hx hb h_10 dX1_fits_13 (by decide) (fun c_13 => ?_) (fun c_13 => ?_)
    · skip
      refine lv_iconst (v := nI 0) hx hb dX1_fits_36 xc_0 ?_
      exact xr_retSz hx hb hr hlk xr_nz0 rfl (xr_B0 (fun q => by obtain ⟨j1, hj1, e1, q⟩ := (pt_fb_iff hz).mp q; obtain ⟨q1, q2, q3, q4⟩ := pt_ft_iff.mp q; first | exact c_5 q1 | exact c_13 ⟨q2, j1, hj1, e1⟩ | (rw [← (nI_eq (by omega) (by omega)).mp e1, hlay] at q4; cases q4))) dX1_fits_37
    · obtain ⟨hwh, j, hj, rfl⟩ := c_13
      refine lv_aload_n hx hb dX1_fits_16 rfl (lv_at hl 0 rfl) ?_
      refine lv_iload_n hx hb dX1_fits_17 rfl (lv_at hl 1 rfl) ?_
      refine lv_iconst (v := nI 4) hx hb dX1_fits_18 xc_4 ?_
      refine lv_iload_n hx hb dX1_fits_19 rfl (lv_at hl 2 rfl) ?_
      refine lv_aload_n hx hb dX1_fits_20 rfl (lv_at hl 0 rfl) ?_
      refine va_get (D := (dC, dI)) (ci := 1) (v := .ref (bd 1)) (C := RX1) (T := TX1) (N := 2) hx hb hts in_X1 hown hK hP 0 rfl rfl 0 (by decide) (hts _ q195) (fun _ h9 => h9) rfl dX1_fits_21 ?_
      refine lv_iload_n hx hb dX1_fits_24 rfl (lv_at hl 1 rfl) ?_
      refine xr_iald hx hb hK hP 1 0 rfl rfl (k := a) ((by omega)) (by decide) dX1_fits_25 ?_
      refine xr_conv (y := (nI (sz a))) (by rw [hI.2.1 a (by omega)]) ?_
      refine xr_cVi (rest := []) ⟨hx, hb, hml, hown, hts⟩ (mt_X1_lies l dC dI hI a 4 (by omega) (by decide) j (by omega) (sz a) (Nat.le_refl _)) (cwV 4 hts gV_X1_41 rfl rfl rfl hd_X1_lies ⟨Nat.le_of_ble_eq_true rfl, Nat.le_of_ble_eq_true rfl⟩) hK hP 0 1 rfl rfl rfl hl.1 rfl (Nat.le_of_ble_eq_true rfl) dX1_fits_26 ⟨Nat.zero_le _, Nat.zero_le _⟩ (fun r_26 h_26 => ?_)
      rcases h_26 with ⟨x, hx25, hlay, rfl⟩ | ⟨hlay, rfl⟩
      · skip
        refine xr_if_lt (tgt := 36) hx hb dX1_fits_29 (by decide) (by omega) ?_
        refine lv_iconst (v := nI 1) hx hb dX1_fits_32 xc_1 ?_
        refine lv_goto (tgt := 37) hx hb dX1_fits_33 (by decide) ?_
        exact xr_retSz hx hb hr hlk xr_nz1 rfl (xr_B1 ((pt_fb_iff hz).mpr ⟨j, hj, rfl, pt_ft_iff.mpr ⟨c_5, hwh, hj, by rw [hlay]; rfl⟩⟩)) dX1_fits_37
      · skip
        refine lv_if_lt (tgt := 36) hx hb dX1_fits_29 (by decide) (fun c_29 => ?_) (fun c_29 => ?_)
        · skip
          refine lv_iconst (v := nI 0) hx hb dX1_fits_36 xc_0 ?_
          exact xr_retSz hx hb hr hlk xr_nz0 rfl (xr_B0 (fun q => by obtain ⟨j1, hj1, e1, q⟩ := (pt_fb_iff hz).mp q; obtain ⟨q1, q2, q3, q4⟩ := pt_ft_iff.mp q; first | exact c_5 q1 | exact c_13 ⟨q2, j1, hj1, e1⟩ | (rw [← (nI_eq (by omega) (by omega)).mp e1, hlay] at q4; cases q4))) dX1_fits_37
        · exact absurd xr_m1neg c_29

set_option maxHeartbeats 4000000 in
set_option maxRecDepth 100000 in
/-- fitsAt(n) -/
theorem mt_X1_fitsAt (l : Launch) (dC : Nat → ClassId) (dI : Nat → Nat → Nat) {bd : Nat → Nat} {cI : ClassId} {size tokens : Nat → Nat} {sz : Nat → Nat} {tk : Nat → Nat → Nat} (hI : MI size tokens sz tk) (xn : Int32) : Met l yX1_fitsAt (ws_ yX1_fitsAt cX1_fitsAt 4 (some .int)) ({ frames := 4, cells := 0, slots := 0, locals := 94 } : Room) (va_Pc [.ref (bd 0), .int xn] (xr_Pr (dC, dI) vwCl (MW bd cI size tokens) (tyM cI))) (vp_Si (fun r : Int32 => r = nI (pt_fitsAt sz tk xn))) 0 0 xr_no := by
  refine Met.ofW (cc := cX1_fitsAt) (maxL := 4) (ret := (some .int)) (by decide) rfl ?_
  intro p e s m args below meth c s₁ B hml hv
  obtain ⟨rfl, hP, hK⟩ := hv
  have hx := B.exec
  have hb := B.bytes
  have hr := B.returns
  have hlk := B.notSynchronized
  have hts := atoms_spec (ws := (ws_ yX1_fitsAt cX1_fitsAt 4 (some .int))) B.pre
  have hts : ∀ w ∈ lw_all, w.before _ s = true := fun w h => hts w (List.mem_cons_of_mem _ h)
  have hown : s.vm.findClass RX1 = some m.cls := findClass_of_methodNamed B.named
  have hl := lv_entry ([.ref (bd 0), .int xn]) (n := 4) (Nat.le_of_ble_eq_true rfl)
  rw [lg_entry_eq]
  generalize (lg_sl ([.ref (bd 0), .int xn]) ++ List.replicate (4 - (lg_sl ([.ref (bd 0), .int xn])).length) Slot.unset).toArray = ls at hl ⊢
  have hl : lv_has ls 4 [(0, .ref (bd 0)), (1, .int xn)] := hl
  refine lv_iconst (v := nI 0) hx hb dX1_fitsAt_0 xc_0 ?_
  refine lv_istore_n (lv' := [(2, .int (nI 0)), (0, .ref (bd 0)), (1, .int xn)]) hx hb dX1_fitsAt_1 rfl hl (by decide) rfl (fun ls hl => ?_)
  refine lv_iconst (v := nI 0) hx hb dX1_fitsAt_2 xc_0 ?_
  refine lv_istore_n (lv' := [(3, .int (nI 0)), (2, .int (nI 0)), (0, .ref (bd 0)), (1, .int xn)]) hx hb dX1_fitsAt_3 rfl hl (by decide) rfl (fun ls hl => ?_)
  have key4 : ∀ (d_4 : Nat) (k : Nat) (ls : Array Slot), (k ≤ 4) → (4 - k) < d_4 → lv_has ls 4 [(0, .ref (bd 0)), (1, .int xn), (2, .int (nI (pt_fs (pt_fb sz tk xn) k))), (3, .int (nI k))] → W p l e (headSpec (ws_ yX1_fitsAt cX1_fitsAt 4 (some .int)) ({ frames := 4, cells := 0, slots := 0, locals := 94 } : Room)).room s m ([.ref (bd 0), .int xn] : List Value).toArray below meth c s.heap [] 0 0 (MQ below (vp_Si (fun r : Int32 => r = nI (pt_fitsAt sz tk xn))) ([.ref (bd 0), .int xn] : List Value).toArray s 0 0 xr_no) (F0 m 4 ls []) := by
    intro d_4
    induction d_4 with
    | zero => intro k ls hk hd_4; exact absurd hd_4 (Nat.not_lt_zero _)
    | succ d_4 ih_4 =>
      intro k ls hk hd_4 hl
      refine lv_iload_n hx hb dX1_fitsAt_4 rfl (lv_at hl 3 rfl) ?_
      refine lv_iconst (v := nI 4) hx hb dX1_fitsAt_5 xc_4 ?_
      refine xr_icmp_ge (tgt := 34) hx hb dX1_fitsAt_6 (by decide) (by omega) (by omega) (fun c_6 => ?_) (fun c_6 => ?_)
      · skip
        refine lv_iload_n hx hb dX1_fitsAt_34 rfl (lv_at hl 2 rfl) ?_
        exact xr_retSi hx hb hr hlk rfl (by rw [pt_fitsAt_fs, show 4 = k by omega]) dX1_fitsAt_35
      · skip
        refine lv_aload_n hx hb dX1_fitsAt_9 rfl (lv_at hl 0 rfl) ?_
        refine lv_iload_n hx hb dX1_fitsAt_10 rfl (lv_at hl 3 rfl) ?_
        refine lv_iload_n hx hb dX1_fitsAt_11 rfl (lv_at hl 1 rfl) ?_
        refine xr_cVi (rest := []) ⟨hx, hb, hml, hown, hts⟩ (mt_X1_fits l dC dI hI k c_6 xn) (cwV 2 hts gV_X1_45 rfl rfl rfl hd_X1_fits ⟨Nat.le_of_ble_eq_true rfl, Nat.le_of_ble_eq_true rfl⟩) hK hP 0 1 rfl rfl rfl hl.1 rfl (Nat.le_of_ble_eq_true rfl) dX1_fitsAt_12 ⟨Nat.zero_le _, Nat.zero_le _⟩ (fun r_12 h_12 => ?_)
        refine xr_ifeqB (tgt := 26) hx hb h_12 dX1_fitsAt_15 (by decide) (fun c_15 => ?_) (fun c_15 => ?_)
        · skip
          refine lv_iload_n hx hb dX1_fitsAt_26 rfl (lv_at hl 2 rfl) ?_
          refine xr_conv (y := (nI (pt_fs (pt_fb sz tk xn) (k + 1)))) (by rw [pt_fs_s0 c_15]) ?_
          refine lv_istore_n (lv' := [(2, .int (nI (pt_fs (pt_fb sz tk xn) (k + 1)))), (0, .ref (bd 0)), (1, .int xn), (3, .int (nI k))]) hx hb dX1_fitsAt_27 rfl hl (by decide) rfl (fun ls hl => ?_)
          refine lv_iinc (v := (nI (k + 1))) (lv' := [(3, .int (nI (k + 1))), (2, .int (nI (pt_fs (pt_fb sz tk xn) (k + 1)))), (0, .ref (bd 0)), (1, .int xn)]) hx hb dX1_fitsAt_28 hl (k := 3) rfl (xr_inc _) (by decide) rfl (fun ls hl => ?_)
          refine lv_goto (tgt := 4) hx hb dX1_fitsAt_31 (by decide) ?_
          exact ih_4 (k + 1) ls (by omega) (by omega) (lv_sub hl [2, 3, 1, 0] rfl)
        · skip
          refine lv_iload_n hx hb dX1_fitsAt_18 rfl (lv_at hl 2 rfl) ?_
          refine lv_iconst (v := nI 1) hx hb dX1_fitsAt_19 xc_1 ?_
          refine lv_iload_n hx hb dX1_fitsAt_20 rfl (lv_at hl 3 rfl) ?_
          refine lv_ishl hx hb dX1_fitsAt_21 ?_
          refine lv_ior hx hb dX1_fitsAt_22 ?_
          refine lv_goto (tgt := 27) hx hb dX1_fitsAt_23 (by decide) ?_
          refine xr_conv (y := (nI (pt_fs (pt_fb sz tk xn) (k + 1)))) (pt_fsor c_6 c_15) ?_
          refine lv_istore_n (lv' := [(2, .int (nI (pt_fs (pt_fb sz tk xn) (k + 1)))), (0, .ref (bd 0)), (1, .int xn), (3, .int (nI k))]) hx hb dX1_fitsAt_27 rfl hl (by decide) rfl (fun ls hl => ?_)
          refine lv_iinc (v := (nI (k + 1))) (lv' := [(3, .int (nI (k + 1))), (2, .int (nI (pt_fs (pt_fb sz tk xn) (k + 1)))), (0, .ref (bd 0)), (1, .int xn)]) hx hb dX1_fitsAt_28 hl (k := 3) rfl (xr_inc _) (by decide) rfl (fun ls hl => ?_)
          refine lv_goto (tgt := 4) hx hb dX1_fitsAt_31 (by decide) ?_
          exact ih_4 (k + 1) ls (by omega) (by omega) (lv_sub hl [2, 3, 1, 0] rfl)
  exact key4 _ 0 ls (Nat.zero_le _) (Nat.lt_succ_self _) (lv_sub hl [2, 3, 1, 0] rfl)
end
section
set_option maxHeartbeats 4000000 in
set_option maxRecDepth 100000 in
/-- count(p) -/
theorem mt_X1_count (l : Launch) (dC : Nat → ClassId) (dI : Nat → Nat → Nat) {bd : Nat → Nat} {cI : ClassId} {size tokens : Nat → Nat} {sz : Nat → Nat} {tk : Nat → Nat → Nat} (hI : MI size tokens sz tk) (xp : Int32) : Met l yX1_count (ws_ yX1_count cX1_count 4 (some .int)) ({ frames := 4, cells := 0, slots := 0, locals := 94 } : Room) (va_Pc [.ref (bd 0), .int xp] (xr_Pr (dC, dI) vwCl (MW bd cI size tokens) (tyM cI))) (vp_Si (fun r : Int32 => r = pt_count sz tk xp)) 0 0 xr_no := by
  refine Met.ofW (cc := cX1_count) (maxL := 4) (ret := (some .int)) (by decide) rfl ?_
  intro p e s m args below meth c s₁ B hml hv
  obtain ⟨rfl, hP, hK⟩ := hv
  have hx := B.exec
  have hb := B.bytes
  have hr := B.returns
  have hlk := B.notSynchronized
  have hts := atoms_spec (ws := (ws_ yX1_count cX1_count 4 (some .int))) B.pre
  have hts : ∀ w ∈ lw_all, w.before _ s = true := fun w h => hts w (List.mem_cons_of_mem _ h)
  have hown : s.vm.findClass RX1 = some m.cls := findClass_of_methodNamed B.named
  have hl := lv_entry ([.ref (bd 0), .int xp]) (n := 4) (Nat.le_of_ble_eq_true rfl)
  rw [lg_entry_eq]
  generalize (lg_sl ([.ref (bd 0), .int xp]) ++ List.replicate (4 - (lg_sl ([.ref (bd 0), .int xp])).length) Slot.unset).toArray = ls at hl ⊢
  have hl : lv_has ls 4 [(0, .ref (bd 0)), (1, .int xp)] := hl
  have hz := hI.1.2.1
  rcases pt_ix_cases 4 (by decide) xp with ⟨hn, -⟩ | ⟨j, hj, rfl, -⟩
  · skip
    refine lv_iconst (v := nI 0) hx hb dX1_count_0 xc_0 ?_
    refine lv_istore_n (lv' := [(2, .int (nI 0)), (0, .ref (bd 0)), (1, .int xp)]) hx hb dX1_count_1 rfl hl (by decide) rfl (fun ls hl => ?_)
    refine lv_iconst (v := nI 0) hx hb dX1_count_2 xc_0 ?_
    refine lv_istore_n (lv' := [(3, .int (nI 0)), (2, .int (nI 0)), (0, .ref (bd 0)), (1, .int xp)]) hx hb dX1_count_3 rfl hl (by decide) rfl (fun ls hl => ?_)
    refine lv_iload_n hx hb dX1_count_4 rfl (lv_at hl 0 rfl) ?_
    refine lv_bipush (v := nI 25) hx hb dX1_count_5 xb_25 ?_
    refine xr_icmp_ge (tgt := 41) hx hb dX1_count_7 (by decide) (by omega) (by omega) (fun c_7 => ?_) (fun c_7 => ?_)
    · skip
      refine lv_iload_n hx hb dX1_count_41 rfl (lv_at hl 1 rfl) ?_
      exact xr_retSi hx hb hr hlk rfl (by unfold pt_count; rw [hn]) dX1_count_42
    · skip
      refine lv_aload_n hx hb dX1_count_10 rfl (lv_at hl 2 rfl) ?_
      refine lv_iload_n hx hb dX1_count_11 rfl (lv_at hl 3 rfl) ?_
      refine xr_cVi (rest := []) ⟨hx, hb, hml, hown, hts⟩ (mt_X1_pattern l dC dI xp) (cwV 1 hts gV_X1_24 rfl rfl rfl hd_X1_pattern ⟨Nat.le_of_ble_eq_true rfl, Nat.le_of_ble_eq_true rfl⟩) hK hP 0 1 rfl rfl rfl hl.1 rfl (Nat.le_of_ble_eq_true rfl) dX1_count_12 ⟨Nat.zero_le _, Nat.zero_le _⟩ (fun r_12 h_12 => ?_)
      refine xr_ifeqB (tgt := 41) hx hb h_12 dX1_count_15 (by decide) (fun c_15 => ?_) (fun c_15 => ?_)
      · skip
        refine lv_iload_n hx hb dX1_count_41 rfl (lv_at hl 1 rfl) ?_
        exact xr_retSi hx hb hr hlk rfl (by unfold pt_count; rw [hn]) dX1_count_42
      · exact absurd c_15 (pt_ix_none (by decide) hn)
  · skip
    refine lv_iconst (v := nI 0) hx hb dX1_count_0 xc_0 ?_
    refine lv_istore_n (lv' := [(2, .int (nI 0)), (0, .ref (bd 0)), (1, .int (nI j))]) hx hb dX1_count_1 rfl hl (by decide) rfl (fun ls hl => ?_)
    refine lv_iconst (v := nI 0) hx hb dX1_count_2 xc_0 ?_
    refine lv_istore_n (lv' := [(3, .int (nI 0)), (2, .int (nI 0)), (0, .ref (bd 0)), (1, .int (nI j))]) hx hb dX1_count_3 rfl hl (by decide) rfl (fun ls hl => ?_)
    have key4 : ∀ (d_4 : Nat) (k : Nat) (ls : Array Slot), (k ≤ 25) → (25 - k) < d_4 → lv_has ls 4 [(0, .ref (bd 0)), (1, .int (nI j)), (2, .int (nI (pt_cn (fun n => pt_ft sz tk j n) k))), (3, .int (nI k))] → W p l e (headSpec (ws_ yX1_count cX1_count 4 (some .int)) ({ frames := 4, cells := 0, slots := 0, locals := 94 } : Room)).room s m ([.ref (bd 0), .int (nI j)] : List Value).toArray below meth c s.heap [] 0 0 (MQ below (vp_Si (fun r : Int32 => r = pt_count sz tk (nI j))) ([.ref (bd 0), .int (nI j)] : List Value).toArray s 0 0 xr_no) (F0 m 4 ls []) := by
      intro d_4
      induction d_4 with
      | zero => intro k ls hk hd_4; exact absurd hd_4 (Nat.not_lt_zero _)
      | succ d_4 ih_4 =>
        intro k ls hk hd_4 hl
        refine lv_iload_n hx hb dX1_count_4 rfl (lv_at hl 3 rfl) ?_
        refine lv_bipush (v := nI 25) hx hb dX1_count_5 xb_25 ?_
        refine xr_icmp_ge (tgt := 41) hx hb dX1_count_7 (by decide) (by omega) (by omega) (fun c_7 => ?_) (fun c_7 => ?_)
        · skip
          refine lv_iload_n hx hb dX1_count_41 rfl (lv_at hl 2 rfl) ?_
          exact xr_retSi hx hb hr hlk rfl (by rw [show k = 25 by omega]; exact pt_count_m hj hz) dX1_count_42
        · skip
          refine lv_aload_n hx hb dX1_count_10 rfl (lv_at hl 0 rfl) ?_
          refine lv_iload_n hx hb dX1_count_11 rfl (lv_at hl 1 rfl) ?_
          refine xr_cVi (rest := []) ⟨hx, hb, hml, hown, hts⟩ (mt_X1_pattern l dC dI (nI j)) (cwV 1 hts gV_X1_24 rfl rfl rfl hd_X1_pattern ⟨Nat.le_of_ble_eq_true rfl, Nat.le_of_ble_eq_true rfl⟩) hK hP 0 1 rfl rfl rfl hl.1 rfl (Nat.le_of_ble_eq_true rfl) dX1_count_12 ⟨Nat.zero_le _, Nat.zero_le _⟩ (fun r_12 h_12 => ?_)
          refine xr_ifeqB (tgt := 41) hx hb h_12 dX1_count_15 (by decide) (fun c_15 => ?_) (fun c_15 => ?_)
          · exact absurd ⟨j, hj, rfl⟩ c_15
          · skip
            refine lv_aload_n hx hb dX1_count_18 rfl (lv_at hl 0 rfl) ?_
            refine lv_iload_n hx hb dX1_count_19 rfl (lv_at hl 1 rfl) ?_
            refine lv_iload_n hx hb dX1_count_20 rfl (lv_at hl 3 rfl) ?_
            refine xr_cVi (rest := []) ⟨hx, hb, hml, hown, hts⟩ (mt_X1_fits l dC dI hI j hj (nI k)) (cwV 2 hts gV_X1_45 rfl rfl rfl hd_X1_fits ⟨Nat.le_of_ble_eq_true rfl, Nat.le_of_ble_eq_true rfl⟩) hK hP 0 1 rfl rfl rfl hl.1 rfl (Nat.le_of_ble_eq_true rfl) dX1_count_21 ⟨Nat.zero_le _, Nat.zero_le _⟩ (fun r_21 h_21 => ?_)
            rw [pt_fb_nI hz (by omega)] at h_21
            refine xr_ifeqB (tgt := 33) hx hb h_21 dX1_count_24 (by decide) (fun c_24 => ?_) (fun c_24 => ?_)
            · skip
              refine lv_iload_n hx hb dX1_count_33 rfl (lv_at hl 2 rfl) ?_
              refine xr_conv (y := (nI (pt_cn (fun n => pt_ft sz tk j n) (k + 1)))) (by rw [pt_cn_s0 (b := fun n => pt_ft sz tk j n) c_24]) ?_
              refine lv_istore_n (lv' := [(2, .int (nI (pt_cn (fun n => pt_ft sz tk j n) (k + 1)))), (0, .ref (bd 0)), (1, .int (nI j)), (3, .int (nI k))]) hx hb dX1_count_34 rfl hl (by decide) rfl (fun ls hl => ?_)
              refine lv_iinc (v := (nI (k + 1))) (lv' := [(3, .int (nI (k + 1))), (2, .int (nI (pt_cn (fun n => pt_ft sz tk j n) (k + 1)))), (0, .ref (bd 0)), (1, .int (nI j))]) hx hb dX1_count_35 hl (k := 3) rfl (xr_inc _) (by decide) rfl (fun ls hl => ?_)
              refine lv_goto (tgt := 4) hx hb dX1_count_38 (by decide) ?_
              exact ih_4 (k + 1) ls (by omega) (by omega) (lv_sub hl [2, 3, 1, 0] rfl)
            · skip
              refine lv_iload_n hx hb dX1_count_27 rfl (lv_at hl 2 rfl) ?_
              refine lv_iconst (v := nI 1) hx hb dX1_count_28 xc_1 ?_
              refine xr_iadd hx hb dX1_count_29 ?_
              refine lv_goto (tgt := 34) hx hb dX1_count_30 (by decide) ?_
              refine xr_conv (y := (nI (pt_cn (fun n => pt_ft sz tk j n) (k + 1)))) (by rw [pt_cn_s1 (b := fun n => pt_ft sz tk j n) c_24]) ?_
              refine lv_istore_n (lv' := [(2, .int (nI (pt_cn (fun n => pt_ft sz tk j n) (k + 1)))), (0, .ref (bd 0)), (1, .int (nI j)), (3, .int (nI k))]) hx hb dX1_count_34 rfl hl (by decide) rfl (fun ls hl => ?_)
              refine lv_iinc (v := (nI (k + 1))) (lv' := [(3, .int (nI (k + 1))), (2, .int (nI (pt_cn (fun n => pt_ft sz tk j n) (k + 1)))), (0, .ref (bd 0)), (1, .int (nI j))]) hx hb dX1_count_35 hl (k := 3) rfl (xr_inc _) (by decide) rfl (fun ls hl => ?_)
              refine lv_goto (tgt := 4) hx hb dX1_count_38 (by decide) ?_
              exact ih_4 (k + 1) ls (by omega) (by omega) (lv_sub hl [2, 3, 1, 0] rfl)
    exact key4 _ 0 ls (Nat.zero_le _) (Nat.lt_succ_self _) (lv_sub hl [2, 3, 1, 0] rfl)

set_option maxHeartbeats 4000000 in
set_option maxRecDepth 100000 in
/-- next(p, n) -/
theorem mt_X1_next (l : Launch) (dC : Nat → ClassId) (dI : Nat → Nat → Nat) {bd : Nat → Nat} {cI : ClassId} {size tokens : Nat → Nat} {sz : Nat → Nat} {tk : Nat → Nat → Nat} (hI : MI size tokens sz tk) (xp xn : Int32) : Met l yX1_next (ws_ yX1_next cX1_next 4 (some .int)) ({ frames := 4, cells := 0, slots := 0, locals := 94 } : Room) (va_Pc [.ref (bd 0), .int xp, .int xn] (xr_Pr (dC, dI) vwCl (MW bd cI size tokens) (tyM cI))) (vp_Si (fun r : Int32 => r = pt_next sz tk xp xn)) 0 0 xr_no := by
  refine Met.ofW (cc := cX1_next) (maxL := 4) (ret := (some .int)) (by decide) rfl ?_
  intro p e s m args below meth c s₁ B hml hv
  obtain ⟨rfl, hP, hK⟩ := hv
  have hx := B.exec
  have hb := B.bytes
  have hr := B.returns
  have hlk := B.notSynchronized
  have hts := atoms_spec (ws := (ws_ yX1_next cX1_next 4 (some .int))) B.pre
  have hts : ∀ w ∈ lw_all, w.before _ s = true := fun w h => hts w (List.mem_cons_of_mem _ h)
  have hown : s.vm.findClass RX1 = some m.cls := findClass_of_methodNamed B.named
  have hl := lv_entry ([.ref (bd 0), .int xp, .int xn]) (n := 4) (Nat.le_of_ble_eq_true rfl)
  rw [lg_entry_eq]
  generalize (lg_sl ([.ref (bd 0), .int xp, .int xn]) ++ List.replicate (4 - (lg_sl ([.ref (bd 0), .int xp, .int xn])).length) Slot.unset).toArray = ls at hl ⊢
  have hl : lv_has ls 4 [(0, .ref (bd 0)), (1, .int xp), (2, .int xn)] := hl
  have hz := hI.1.2.1
  rcases pt_ix_cases 4 (by decide) xp with ⟨hn, -⟩ | ⟨j, hj, rfl, -⟩
  · skip
    refine lv_iconst (v := nI 0) hx hb dX1_next_0 xc_0 ?_
    refine lv_istore_n (lv' := [(3, .int (nI 0)), (0, .ref (bd 0)), (1, .int xp), (2, .int xn)]) hx hb dX1_next_1 rfl hl (by decide) rfl (fun ls hl => ?_)
    refine lv_iload_n hx hb dX1_next_2 rfl (lv_at hl 0 rfl) ?_
    refine lv_bipush (v := nI 25) hx hb dX1_next_3 xb_25 ?_
    refine xr_icmp_ge (tgt := 38) hx hb dX1_next_5 (by decide) (by omega) (by omega) (fun c_5 => ?_) (fun c_5 => ?_)
    · skip
      refine lv_iconst (v := -1) hx hb dX1_next_38 (by decide) ?_
      exact xr_retSi hx hb hr hlk rfl (by unfold pt_next; rw [hn]) dX1_next_39
    · skip
      refine lv_aload_n hx hb dX1_next_8 rfl (lv_at hl 1 rfl) ?_
      refine lv_iload_n hx hb dX1_next_9 rfl (lv_at hl 2 rfl) ?_
      refine xr_cVi (rest := []) ⟨hx, hb, hml, hown, hts⟩ (mt_X1_pattern l dC dI xp) (cwV 1 hts gV_X1_24 rfl rfl rfl hd_X1_pattern ⟨Nat.le_of_ble_eq_true rfl, Nat.le_of_ble_eq_true rfl⟩) hK hP 0 1 rfl rfl rfl hl.1 rfl (Nat.le_of_ble_eq_true rfl) dX1_next_10 ⟨Nat.zero_le _, Nat.zero_le _⟩ (fun r_10 h_10 => ?_)
      refine xr_ifeqB (tgt := 38) hx hb h_10 dX1_next_13 (by decide) (fun c_13 => ?_) (fun c_13 => ?_)
      · skip
        refine lv_iconst (v := -1) hx hb dX1_next_38 (by decide) ?_
        exact xr_retSi hx hb hr hlk rfl (by unfold pt_next; rw [hn]) dX1_next_39
      · exact absurd c_13 (pt_ix_none (by decide) hn)
  · skip
    refine lv_iconst (v := nI 0) hx hb dX1_next_0 xc_0 ?_
    refine lv_istore_n (lv' := [(3, .int (nI 0)), (0, .ref (bd 0)), (1, .int (nI j)), (2, .int xn)]) hx hb dX1_next_1 rfl hl (by decide) rfl (fun ls hl => ?_)
    have key2 : ∀ (d_2 : Nat) (k : Nat) (ls : Array Slot), (k ≤ 25) → (∀ m : Nat, xn.toInt.toNat ≤ m → m < k → pt_ft sz tk j m = false) → (25 - k) < d_2 → lv_has ls 4 [(0, .ref (bd 0)), (1, .int (nI j)), (2, .int xn), (3, .int (nI k))] → W p l e (headSpec (ws_ yX1_next cX1_next 4 (some .int)) ({ frames := 4, cells := 0, slots := 0, locals := 94 } : Room)).room s m ([.ref (bd 0), .int (nI j), .int xn] : List Value).toArray below meth c s.heap [] 0 0 (MQ below (vp_Si (fun r : Int32 => r = pt_next sz tk (nI j) xn)) ([.ref (bd 0), .int (nI j), .int xn] : List Value).toArray s 0 0 xr_no) (F0 m 2 ls []) := by
      intro d_2
      induction d_2 with
      | zero => intro k ls hk hf hd_2; exact absurd hd_2 (Nat.not_lt_zero _)
      | succ d_2 ih_2 =>
        intro k ls hk hf hd_2 hl
        refine lv_iload_n hx hb dX1_next_2 rfl (lv_at hl 3 rfl) ?_
        refine lv_bipush (v := nI 25) hx hb dX1_next_3 xb_25 ?_
        refine xr_icmp_ge (tgt := 38) hx hb dX1_next_5 (by decide) (by omega) (by omega) (fun c_5 => ?_) (fun c_5 => ?_)
        · skip
          refine lv_iconst (v := -1) hx hb dX1_next_38 (by decide) ?_
          exact xr_retSi hx hb hr hlk rfl (by unfold pt_next; rw [pt_ix_in hj (by decide)]; exact (pt_first_none (b := (fun m => pt_ft sz tk j m)) _ _ (fun m h1 h2 => hf m h1 (by omega))).symm) dX1_next_39
        · skip
          refine lv_aload_n hx hb dX1_next_8 rfl (lv_at hl 0 rfl) ?_
          refine lv_iload_n hx hb dX1_next_9 rfl (lv_at hl 1 rfl) ?_
          refine xr_cVi (rest := []) ⟨hx, hb, hml, hown, hts⟩ (mt_X1_pattern l dC dI (nI j)) (cwV 1 hts gV_X1_24 rfl rfl rfl hd_X1_pattern ⟨Nat.le_of_ble_eq_true rfl, Nat.le_of_ble_eq_true rfl⟩) hK hP 0 1 rfl rfl rfl hl.1 rfl (Nat.le_of_ble_eq_true rfl) dX1_next_10 ⟨Nat.zero_le _, Nat.zero_le _⟩ (fun r_10 h_10 => ?_)
          refine xr_ifeqB (tgt := 38) hx hb h_10 dX1_next_13 (by decide) (fun c_13 => ?_) (fun c_13 => ?_)
          · exact absurd ⟨j, hj, rfl⟩ c_13
          · skip
            refine lv_iload_n hx hb dX1_next_16 rfl (lv_at hl 3 rfl) ?_
            refine lv_iload_n hx hb dX1_next_17 rfl (lv_at hl 2 rfl) ?_
            refine lv_icmp_lt (tgt := 32) hx hb dX1_next_18 (by decide) (fun c_18 => ?_) (fun c_18 => ?_)
            · have q18 := (pt_ltlo (by omega)).mp c_18
              have hf1 : ∀ m : Nat, xn.toInt.toNat ≤ m → m < k + 1 → pt_ft sz tk j m = false := fun m h1 h2 => absurd h1 (by omega)
              refine lv_iinc (v := (nI (k + 1))) (lv' := [(3, .int (nI (k + 1))), (0, .ref (bd 0)), (1, .int (nI j)), (2, .int xn)]) hx hb dX1_next_32 hl (k := 3) rfl (xr_inc _) (by decide) rfl (fun ls hl => ?_)
              refine lv_goto (tgt := 2) hx hb dX1_next_35 (by decide) ?_
              exact ih_2 (k + 1) ls (by omega) (hf1) (by omega) (lv_sub hl [1, 2, 3, 0] rfl)
            · have q18 : xn.toInt.toNat ≤ k := Nat.le_of_not_lt fun q => c_18 ((pt_ltlo (by omega)).mpr q)
              refine lv_aload_n hx hb dX1_next_21 rfl (lv_at hl 0 rfl) ?_
              refine lv_iload_n hx hb dX1_next_22 rfl (lv_at hl 1 rfl) ?_
              refine lv_iload_n hx hb dX1_next_23 rfl (lv_at hl 3 rfl) ?_
              refine xr_cVi (rest := []) ⟨hx, hb, hml, hown, hts⟩ (mt_X1_fits l dC dI hI j hj (nI k)) (cwV 2 hts gV_X1_45 rfl rfl rfl hd_X1_fits ⟨Nat.le_of_ble_eq_true rfl, Nat.le_of_ble_eq_true rfl⟩) hK hP 0 1 rfl rfl rfl hl.1 rfl (Nat.le_of_ble_eq_true rfl) dX1_next_24 ⟨Nat.zero_le _, Nat.zero_le _⟩ (fun r_24 h_24 => ?_)
              rw [pt_fb_nI hz (by omega)] at h_24
              refine xr_ifeqB (tgt := 32) hx hb h_24 dX1_next_27 (by decide) (fun c_27 => ?_) (fun c_27 => ?_)
              · have hf1 : ∀ m : Nat, xn.toInt.toNat ≤ m → m < k + 1 → pt_ft sz tk j m = false := fun m h1 h2 => by by_cases e : m = k; (rw [e]; exact Bool.eq_false_iff.mpr c_27); exact hf m h1 (by omega)
                refine lv_iinc (v := (nI (k + 1))) (lv' := [(3, .int (nI (k + 1))), (0, .ref (bd 0)), (1, .int (nI j)), (2, .int xn)]) hx hb dX1_next_32 hl (k := 3) rfl (xr_inc _) (by decide) rfl (fun ls hl => ?_)
                refine lv_goto (tgt := 2) hx hb dX1_next_35 (by decide) ?_
                exact ih_2 (k + 1) ls (by omega) (hf1) (by omega) (lv_sub hl [1, 2, 3, 0] rfl)
              · skip
                refine lv_iload_n hx hb dX1_next_30 rfl (lv_at hl 3 rfl) ?_
                exact xr_retSi hx hb hr hlk rfl (by unfold pt_next; rw [pt_ix_in hj (by decide)]; exact (pt_first_is (b := (fun m => pt_ft sz tk j m)) c_27 _ _ q18 (by have := (pt_ft_iff.mp c_27).2.2.1; omega) hf).symm) dX1_next_31
    exact key2 _ 0 ls (Nat.zero_le _) (fun m h1 h2 => absurd h2 (Nat.not_lt_zero _)) (Nat.lt_succ_self _) (lv_sub hl [1, 2, 3, 0] rfl)

set_option maxHeartbeats 4000000 in
set_option maxRecDepth 100000 in
/-- gapAt(p, n, k) -/
theorem mt_X1_gapAt (l : Launch) (dC : Nat → ClassId) (dI : Nat → Nat → Nat) {bd : Nat → Nat} {cI : ClassId} {size tokens : Nat → Nat} {sz : Nat → Nat} {tk : Nat → Nat → Nat} (hI : MI size tokens sz tk) (xp xn xk : Int32) : Met l yX1_gapAt (ws_ yX1_gapAt cX1_gapAt 6 (some .int)) ({ frames := 4, cells := 0, slots := 0, locals := 94 } : Room) (va_Pc [.ref (bd 0), .int xp, .int xn, .int xk] (xr_Pr (dC, dI) vwCl (MW bd cI size tokens) (tyM cI))) (vp_Si (fun r : Int32 => r = pt_gapAt sz tk xp xn xk)) 0 0 xr_no := by
  refine Met.ofW (cc := cX1_gapAt) (maxL := 6) (ret := (some .int)) (by decide) rfl ?_
  intro p e s m args below meth c s₁ B hml hv
  obtain ⟨rfl, hP, hK⟩ := hv
  have hx := B.exec
  have hb := B.bytes
  have hr := B.returns
  have hlk := B.notSynchronized
  have hts := atoms_spec (ws := (ws_ yX1_gapAt cX1_gapAt 6 (some .int))) B.pre
  have hts : ∀ w ∈ lw_all, w.before _ s = true := fun w h => hts w (List.mem_cons_of_mem _ h)
  have hown : s.vm.findClass RX1 = some m.cls := findClass_of_methodNamed B.named
  have hl := lv_entry ([.ref (bd 0), .int xp, .int xn, .int xk]) (n := 6) (Nat.le_of_ble_eq_true rfl)
  rw [lg_entry_eq]
  generalize (lg_sl ([.ref (bd 0), .int xp, .int xn, .int xk]) ++ List.replicate (6 - (lg_sl ([.ref (bd 0), .int xp, .int xn, .int xk])).length) Slot.unset).toArray = ls at hl ⊢
  have hl : lv_has ls 6 [(0, .ref (bd 0)), (1, .int xp), (2, .int xn), (3, .int xk)] := hl
  have hz := hI.1.2.1
  refine lv_aload_n hx hb dX1_gapAt_0 rfl (lv_at hl 0 rfl) ?_
  refine lv_iload_n hx hb dX1_gapAt_1 rfl (lv_at hl 1 rfl) ?_
  refine xr_cVi (rest := []) ⟨hx, hb, hml, hown, hts⟩ (mt_X1_pattern l dC dI xp) (cwV 1 hts gV_X1_24 rfl rfl rfl hd_X1_pattern ⟨Nat.le_of_ble_eq_true rfl, Nat.le_of_ble_eq_true rfl⟩) hK hP 0 1 rfl rfl rfl hl.1 rfl (Nat.le_of_ble_eq_true rfl) dX1_gapAt_2 ⟨Nat.zero_le _, Nat.zero_le _⟩ (fun r_2 h_2 => ?_)
  refine xr_ifeqB (tgt := 17) hx hb h_2 dX1_gapAt_5 (by decide) (fun c_5 => ?_) (fun c_5 => ?_)
  · skip
    refine lv_iconst (v := -1) hx hb dX1_gapAt_17 (by decide) ?_
    exact xr_retSi hx hb hr hlk rfl (by first | (unfold pt_gapAt; rw [pt_ix_no (by decide) c_5]; done) | (unfold pt_gapAt; rw [pt_ix_in hj (by decide)]; unfold pt_fb at c_14; cases hxn : pt_ix (sz 4) xn with | none => rfl | some i => (rw [hxn] at c_14; show _ = if _ then _ else _; rw [if_neg c_14]))) dX1_gapAt_18
  · obtain ⟨j, hj, rfl⟩ := c_5
    refine lv_aload_n hx hb dX1_gapAt_8 rfl (lv_at hl 0 rfl) ?_
    refine lv_iload_n hx hb dX1_gapAt_9 rfl (lv_at hl 1 rfl) ?_
    refine lv_iload_n hx hb dX1_gapAt_10 rfl (lv_at hl 2 rfl) ?_
    refine xr_cVi (rest := []) ⟨hx, hb, hml, hown, hts⟩ (mt_X1_fits l dC dI hI j hj xn) (cwV 2 hts gV_X1_45 rfl rfl rfl hd_X1_fits ⟨Nat.le_of_ble_eq_true rfl, Nat.le_of_ble_eq_true rfl⟩) hK hP 0 1 rfl rfl rfl hl.1 rfl (Nat.le_of_ble_eq_true rfl) dX1_gapAt_11 ⟨Nat.zero_le _, Nat.zero_le _⟩ (fun r_11 h_11 => ?_)
    refine xr_ifneB (tgt := 19) hx hb h_11 dX1_gapAt_14 (by decide) (fun c_14 => ?_) (fun c_14 => ?_)
    · obtain ⟨i, hi, rfl, hft⟩ := (pt_fb_iff hz).mp c_14
      have hz9 := hI.1.1 j hj
      refine lv_iconst (v := nI 0) hx hb dX1_gapAt_19 xc_0 ?_
      refine lv_istore (lv' := [(4, .int (nI 0)), (0, .ref (bd 0)), (1, .int (nI j)), (2, .int (nI i)), (3, .int xk)]) hx hb dX1_gapAt_20 hl (by decide) rfl (fun ls hl => ?_)
      refine lv_iconst (v := nI 0) hx hb dX1_gapAt_22 xc_0 ?_
      refine lv_istore (lv' := [(5, .int (nI 0)), (4, .int (nI 0)), (0, .ref (bd 0)), (1, .int (nI j)), (2, .int (nI i)), (3, .int xk)]) hx hb dX1_gapAt_23 hl (by decide) rfl (fun ls hl => ?_)
      have hgp : pt_gapAt sz tk (nI j) (nI i) xk = pt_gp (tk j) (tk 4) (sz 4) i xk  (sz j) 0 := by unfold pt_gapAt; rw [pt_ix_in hj (by decide), pt_ix_in hi (by omega)]; show (if _ then _ else _) = _; rw [if_pos hft]
      have key25 : ∀ (d_25 : Nat) (x : Nat) (ls : Array Slot), (x ≤ sz j) → (pt_gp (tk j) (tk 4) (sz 4) i xk (sz j) 0 = pt_gp (tk j) (tk 4) (sz 4) i xk (sz j - x) x) → (sz j - x) < d_25 → lv_has ls 6 [(0, .ref (bd 0)), (1, .int (nI j)), (2, .int (nI i)), (3, .int xk), (4, .int (nI (pt_gaps (tk j) x))), (5, .int (nI x))] → W p l e (headSpec (ws_ yX1_gapAt cX1_gapAt 6 (some .int)) ({ frames := 4, cells := 0, slots := 0, locals := 94 } : Room)).room s m ([.ref (bd 0), .int (nI j), .int (nI i), .int xk] : List Value).toArray below meth c s.heap [] 0 0 (MQ below (vp_Si (fun r : Int32 => r = pt_gapAt sz tk (nI j) (nI i) xk)) ([.ref (bd 0), .int (nI j), .int (nI i), .int xk] : List Value).toArray s 0 0 xr_no) (F0 m 25 ls []) := by
        intro d_25
        induction d_25 with
        | zero => intro x ls hx9 hs hd_25; exact absurd hd_25 (Nat.not_lt_zero _)
        | succ d_25 ih_25 =>
          intro x ls hx9 hs hd_25 hl
          refine lv_iload hx hb dX1_gapAt_25 (lv_at hl 5 rfl) ?_
          refine lv_aload_n hx hb dX1_gapAt_27 rfl (lv_at hl 0 rfl) ?_
          refine va_get (D := (dC, dI)) (ci := 1) (v := .ref (bd 1)) (C := RX1) (T := TX1) (N := 2) hx hb hts in_X1 hown hK hP 0 rfl rfl 0 (by decide) (hts _ q195) (fun _ h9 => h9) rfl dX1_gapAt_28 ?_
          refine lv_iload_n hx hb dX1_gapAt_31 rfl (lv_at hl 1 rfl) ?_
          refine xr_iald hx hb hK hP 1 0 rfl rfl (k := j) ((by omega)) (by decide) dX1_gapAt_32 ?_
          refine xr_conv (y := (nI (sz j))) (by rw [hI.2.1 j (by omega)]) ?_
          refine xr_icmp_ge (tgt := 78) hx hb dX1_gapAt_33 (by decide) (by omega) (by omega) (fun c_33 => ?_) (fun c_33 => ?_)
          · have e33 : sz j - x = 0 := by omega
            refine lv_iconst (v := -1) hx hb dX1_gapAt_78 (by decide) ?_
            exact xr_retSi hx hb hr hlk rfl (by rw [hgp, hs, e33]; rfl) dX1_gapAt_79
          · have h7 := pt_wf_7 hI.1 (by omega) c_33
            have ex : sz j - x = (sz j - (x + 1)) + 1 := by omega
            have hg := pt_gaps_le (tk j) x
            refine lv_aload_n hx hb dX1_gapAt_36 rfl (lv_at hl 0 rfl) ?_
            refine va_get (D := (dC, dI)) (ci := 1) (v := .ref (bd 2)) (C := RX1) (T := TX1) (N := 2) hx hb hts in_X1 hown hK hP 0 rfl rfl 1 (by decide) (hts _ q196) (fun _ h9 => h9) rfl dX1_gapAt_37 ?_
            refine lv_bipush (v := nI 25) hx hb dX1_gapAt_40 xb_25 ?_
            refine lv_iload_n hx hb dX1_gapAt_42 rfl (lv_at hl 1 rfl) ?_
            refine xr_imul hx hb dX1_gapAt_43 ?_
            refine lv_iload hx hb dX1_gapAt_44 (lv_at hl 5 rfl) ?_
            refine xr_iadd hx hb dX1_gapAt_46 ?_
            refine xr_iald hx hb hK hP 2 0 rfl rfl (k := (25 * j) + x) (by omega) (by decide) dX1_gapAt_47 ?_
            refine xr_conv (y := (nI (tk j x))) (by rw [hI.2.2 j (by omega) x c_33]) ?_
            refine lv_bipush (v := nI 7) hx hb dX1_gapAt_48 xb_7 ?_
            refine xr_icmp_ne (tgt := 72) hx hb dX1_gapAt_50 (by decide) (by omega) (by omega) (fun c_50 => ?_) (fun c_50 => ?_)
            · skip
              refine lv_iinc (v := (nI (x + 1))) (lv' := [(5, .int (nI (x + 1))), (0, .ref (bd 0)), (1, .int (nI j)), (2, .int (nI i)), (3, .int xk), (4, .int (nI (pt_gaps (tk j) x)))]) hx hb dX1_gapAt_72 hl (k := 5) rfl (xr_inc _) (by decide) rfl (fun ls hl => ?_)
              refine lv_goto (tgt := 25) hx hb dX1_gapAt_75 (by decide) ?_
              rw [show pt_gaps (tk j) x = pt_gaps (tk j) (x + 1) by rw [pt_gaps_s, if_neg c_50]; rfl] at hl
              exact ih_25 (x + 1) ls (by omega) (by rw [hs, ex, pt_gp_s _ _ _ _ _ _ _ (fun q => c_50 q.1)]) (by omega) (lv_sub hl [1, 2, 3, 4, 5, 0] rfl)
            · skip
              refine lv_iload hx hb dX1_gapAt_53 (lv_at hl 4 rfl) ?_
              refine lv_iload_n hx hb dX1_gapAt_55 rfl (lv_at hl 3 rfl) ?_
              refine lv_icmp_ne (tgt := 69) hx hb dX1_gapAt_56 (by decide) (fun c_56 => ?_) (fun c_56 => ?_)
              · skip
                refine lv_iinc (v := (nI (pt_gaps (tk j) x + 1))) (lv' := [(4, .int (nI (pt_gaps (tk j) x + 1))), (0, .ref (bd 0)), (1, .int (nI j)), (2, .int (nI i)), (3, .int xk), (5, .int (nI x))]) hx hb dX1_gapAt_69 hl (k := 4) rfl (xr_inc _) (by decide) rfl (fun ls hl => ?_)
                refine lv_iinc (v := (nI (x + 1))) (lv' := [(5, .int (nI (x + 1))), (4, .int (nI (pt_gaps (tk j) x + 1))), (0, .ref (bd 0)), (1, .int (nI j)), (2, .int (nI i)), (3, .int xk)]) hx hb dX1_gapAt_72 hl (k := 5) rfl (xr_inc _) (by decide) rfl (fun ls hl => ?_)
                refine lv_goto (tgt := 25) hx hb dX1_gapAt_75 (by decide) ?_
                rw [show pt_gaps (tk j) x + 1 = pt_gaps (tk j) (x + 1) by rw [pt_gaps_s, if_pos c_50]] at hl
                exact ih_25 (x + 1) ls (by omega) (by rw [hs, ex, pt_gp_s _ _ _ _ _ _ _ (fun q => c_56 q.2)]) (by omega) (lv_sub hl [2, 3, 4, 5, 1, 0] rfl)
              · skip
                refine lv_aload_n hx hb dX1_gapAt_59 rfl (lv_at hl 0 rfl) ?_
                refine lv_iload_n hx hb dX1_gapAt_60 rfl (lv_at hl 1 rfl) ?_
                refine lv_iconst (v := nI 4) hx hb dX1_gapAt_61 xc_4 ?_
                refine lv_iload_n hx hb dX1_gapAt_62 rfl (lv_at hl 2 rfl) ?_
                refine lv_iload hx hb dX1_gapAt_63 (lv_at hl 5 rfl) ?_
                refine xr_cVi (rest := []) ⟨hx, hb, hml, hown, hts⟩ (mt_X1_lies l dC dI hI j 4 (by omega) (by decide) i (by omega) x (by omega)) (cwV 4 hts gV_X1_41 rfl rfl rfl hd_X1_lies ⟨Nat.le_of_ble_eq_true rfl, Nat.le_of_ble_eq_true rfl⟩) hK hP 0 1 rfl rfl rfl hl.1 rfl (Nat.le_of_ble_eq_true rfl) dX1_gapAt_65 ⟨Nat.zero_le _, Nat.zero_le _⟩ (fun r_65 h_65 => ?_)
                rcases h_65 with ⟨y, hy25, hlay, rfl⟩ | ⟨hlay, rfl⟩
                · skip
                  exact xr_retSi hx hb hr hlk rfl (by rw [hgp, hs, ex, pt_gp_is c_50 c_56 hlay]) dX1_gapAt_68
                · skip
                  exact xr_retSi hx hb hr hlk rfl (by rw [hgp, hs, ex, pt_gp_is0 c_50 c_56 hlay]) dX1_gapAt_68
      exact key25 _ 0 ls (Nat.zero_le _) (rfl) (Nat.lt_succ_self _) (lv_sub hl [2, 3, 4, 5, 1, 0] rfl)
    · skip
      refine lv_iconst (v := -1) hx hb dX1_gapAt_17 (by decide) ?_
      exact xr_retSi hx hb hr hlk rfl (by first | (unfold pt_gapAt; rw [pt_ix_no (by decide) c_5]; done) | (unfold pt_gapAt; rw [pt_ix_in hj (by decide)]; unfold pt_fb at c_14; cases hxn : pt_ix (sz 4) xn with | none => rfl | some i => (rw [hxn] at c_14; show _ = if _ then _ else _; rw [if_neg c_14]))) dX1_gapAt_18

set_option maxHeartbeats 4000000 in
set_option maxRecDepth 100000 in
/-- size(n) -/
theorem mt_X1_size (l : Launch) (dC : Nat → ClassId) (dI : Nat → Nat → Nat) {bd : Nat → Nat} {cI : ClassId} {size tokens : Nat → Nat} {sz : Nat → Nat} {tk : Nat → Nat → Nat} (hI : MI size tokens sz tk) (xn : Int32) : Met l yX1_size (ws_ yX1_size cX1_size 2 (some .int)) ({ frames := 3, cells := 0, slots := 0, locals := 65 } : Room) (va_Pc [.ref (bd 0), .int xn] (xr_Pr (dC, dI) vwCl (MW bd cI size tokens) (tyM cI))) (vp_Si (fun r : Int32 => r = pt_size sz tk xn)) 0 0 xr_no := by
  refine Met.ofW (cc := cX1_size) (maxL := 2) (ret := (some .int)) (by decide) rfl ?_
  intro p e s m args below meth c s₁ B hml hv
  obtain ⟨rfl, hP, hK⟩ := hv
  have hx := B.exec
  have hb := B.bytes
  have hr := B.returns
  have hlk := B.notSynchronized
  have hts := atoms_spec (ws := (ws_ yX1_size cX1_size 2 (some .int))) B.pre
  have hts : ∀ w ∈ lw_all, w.before _ s = true := fun w h => hts w (List.mem_cons_of_mem _ h)
  have hown : s.vm.findClass RX1 = some m.cls := findClass_of_methodNamed B.named
  have hl := lv_entry ([.ref (bd 0), .int xn]) (n := 2) (Nat.le_of_ble_eq_true rfl)
  rw [lg_entry_eq]
  generalize (lg_sl ([.ref (bd 0), .int xn]) ++ List.replicate (2 - (lg_sl ([.ref (bd 0), .int xn])).length) Slot.unset).toArray = ls at hl ⊢
  have hl : lv_has ls 2 [(0, .ref (bd 0)), (1, .int xn)] := hl
  have hz := hI.1.2.1
  refine lv_aload_n hx hb dX1_size_0 rfl (lv_at hl 0 rfl) ?_
  refine lv_iload_n hx hb dX1_size_1 rfl (lv_at hl 1 rfl) ?_
  refine xr_cVi (rest := []) ⟨hx, hb, hml, hown, hts⟩ (mt_X1_node l dC dI hI xn) (cwV 1 hts gV_X1_38 rfl rfl rfl hd_X1_node ⟨Nat.le_of_ble_eq_true rfl, Nat.le_of_ble_eq_true rfl⟩) hK hP 0 1 rfl rfl rfl hl.1 rfl (Nat.le_of_ble_eq_true rfl) dX1_size_2 ⟨Nat.zero_le _, Nat.zero_le _⟩ (fun r_2 h_2 => ?_)
  refine xr_ifeqB (tgt := 19) hx hb h_2 dX1_size_5 (by decide) (fun c_5 => ?_) (fun c_5 => ?_)
  · skip
    refine lv_iconst (v := -1) hx hb dX1_size_19 (by decide) ?_
    exact xr_retSi hx hb hr hlk rfl (by unfold pt_size; cases hxn : pt_ix (sz 4) xn with | none => rfl | some i => (show _ = if _ then _ else _; rw [if_neg (fun q => c_5 ⟨q, by rcases pt_ix_cases (sz 4) (by omega) xn with ⟨h, -⟩ | ⟨j, hj, e, -⟩; (rw [h] at hxn; cases hxn); exact ⟨j, hj, e⟩⟩)])) dX1_size_20
  · obtain ⟨hwh, j, hj, rfl⟩ := c_5
    refine lv_aload_n hx hb dX1_size_8 rfl (lv_at hl 0 rfl) ?_
    refine lv_iconst (v := nI 4) hx hb dX1_size_9 xc_4 ?_
    refine lv_iload_n hx hb dX1_size_10 rfl (lv_at hl 1 rfl) ?_
    refine xr_cVi (rest := []) ⟨hx, hb, hml, hown, hts⟩ (mt_X1_behind l dC dI hI 4 (by decide) j (by omega)) (cwV 2 hts gV_X1_34 rfl rfl rfl hd_X1_behind ⟨Nat.le_of_ble_eq_true rfl, Nat.le_of_ble_eq_true rfl⟩) hK hP 0 1 rfl rfl rfl hl.1 rfl (Nat.le_of_ble_eq_true rfl) dX1_size_11 ⟨Nat.zero_le _, Nat.zero_le _⟩ (fun r_11 h_11 => ?_)
    subst h_11
    refine lv_iload_n hx hb dX1_size_14 rfl (lv_at hl 1 rfl) ?_
    refine xr_isub hx hb ((pt_skip_in (tk 4) 1 (by omega)).1) dX1_size_15 ?_
    refine lv_goto (tgt := 20) hx hb dX1_size_16 (by decide) ?_
    exact xr_retSi hx hb hr hlk rfl (by unfold pt_size; rw [pt_ix_in hj (by omega)]; show _ = if _ then _ else _; rw [if_pos hwh]) dX1_size_20

set_option maxHeartbeats 4000000 in
set_option maxRecDepth 100000 in
/-- equal(m, n) -/
theorem mt_X1_equal (l : Launch) (dC : Nat → ClassId) (dI : Nat → Nat → Nat) {bd : Nat → Nat} {cI : ClassId} {size tokens : Nat → Nat} {sz : Nat → Nat} {tk : Nat → Nat → Nat} (hI : MI size tokens sz tk) (xm xn : Int32) : Met l yX1_equal (ws_ yX1_equal cX1_equal 5 (some .boolean)) ({ frames := 4, cells := 0, slots := 0, locals := 86 } : Room) (va_Pc [.ref (bd 0), .int xm, .int xn] (xr_Pr (dC, dI) vwCl (MW bd cI size tokens) (tyM cI))) (vp_Si (fun r : Int32 => xr_B r (pt_equal sz tk xm xn))) 0 0 xr_no := by
  refine Met.ofW (cc := cX1_equal) (maxL := 5) (ret := (some .boolean)) (by decide) rfl ?_
  intro p e s m args below meth c s₁ B hml hv
  obtain ⟨rfl, hP, hK⟩ := hv
  have hx := B.exec
  have hb := B.bytes
  have hr := B.returns
  have hlk := B.notSynchronized
  have hts := atoms_spec (ws := (ws_ yX1_equal cX1_equal 5 (some .boolean))) B.pre
  have hts : ∀ w ∈ lw_all, w.before _ s = true := fun w h => hts w (List.mem_cons_of_mem _ h)
  have hown : s.vm.findClass RX1 = some m.cls := findClass_of_methodNamed B.named
  have hl := lv_entry ([.ref (bd 0), .int xm, .int xn]) (n := 5) (Nat.le_of_ble_eq_true rfl)
  rw [lg_entry_eq]
  generalize (lg_sl ([.ref (bd 0), .int xm, .int xn]) ++ List.replicate (5 - (lg_sl ([.ref (bd 0), .int xm, .int xn])).length) Slot.unset).toArray = ls at hl ⊢
  have hl : lv_has ls 5 [(0, .ref (bd 0)), (1, .int xm), (2, .int xn)] := hl
  have hz := hI.1.2.1
  refine lv_aload_n hx hb dX1_equal_0 rfl (lv_at hl 0 rfl) ?_
  refine lv_iload_n hx hb dX1_equal_1 rfl (lv_at hl 1 rfl) ?_
  refine xr_cVi (rest := []) ⟨hx, hb, hml, hown, hts⟩ (mt_X1_node l dC dI hI xm) (cwV 1 hts gV_X1_38 rfl rfl rfl hd_X1_node ⟨Nat.le_of_ble_eq_true rfl, Nat.le_of_ble_eq_true rfl⟩) hK hP 0 1 rfl rfl rfl hl.1 rfl (Nat.le_of_ble_eq_true rfl) dX1_equal_2 ⟨Nat.zero_le _, Nat.zero_le _⟩ (fun r_2 h_2 => ?_)
  refine xr_ifeqB (tgt := 33) hx hb h_2 dX1_equal_5 (by decide) (fun c_5 => ?_) (fun c_5 => ?_)
  · skip
    refine lv_iconst (v := nI 0) hx hb dX1_equal_33 xc_0 ?_
    refine lv_istore_n (lv' := [(3, .int (nI 0)), (0, .ref (bd 0)), (1, .int xm), (2, .int xn)]) hx hb dX1_equal_34 rfl hl (by decide) rfl (fun ls hl => ?_)
    refine lv_iconst (v := nI 0) hx hb dX1_equal_35 xc_0 ?_
    refine lv_istore (lv' := [(4, .int (nI 0)), (3, .int (nI 0)), (0, .ref (bd 0)), (1, .int xm), (2, .int xn)]) hx hb dX1_equal_36 hl (by decide) rfl (fun ls hl => ?_)
    refine lv_iload hx hb dX1_equal_38 (lv_at hl 0 rfl) ?_
    refine lv_bipush (v := nI 25) hx hb dX1_equal_40 xb_25 ?_
    refine xr_icmp_ge (tgt := 98) hx hb dX1_equal_42 (by decide) (by omega) (by omega) (fun c_42 => ?_) (fun c_42 => ?_)
    · skip
      refine lv_iload_n hx hb dX1_equal_98 rfl (lv_at hl 1 rfl) ?_
      exact xr_retSz hx hb hr hlk xr_nz0 rfl (xr_B0 (fun ⟨q0, a1, b1, qa, ea, qb, eb, q⟩ => by first | exact c_5 ⟨q0, a1, qa, ea⟩ | exact c_13 ⟨q0, b1, qb, eb⟩ | (have e1 := (nI_eq (by omega) (by omega)).mp ea; have e2 := (nI_eq (by omega) (by omega)).mp eb; subst e1; subst e2; first | exact c_26 (pt_same_len hok hwh qa qb q).symm | exact c_83 (q k c_56)))) dX1_equal_99
    · skip
      refine lv_iload_n hx hb dX1_equal_45 rfl (lv_at hl 1 rfl) ?_
      refine xr_if_eq (tgt := 98) hx hb dX1_equal_46 (by decide) (by omega) (fun c_46 => ?_) (fun c_46 => ?_)
      · skip
        refine lv_iload_n hx hb dX1_equal_98 rfl (lv_at hl 1 rfl) ?_
        exact xr_retSz hx hb hr hlk xr_nz0 rfl (xr_B0 (fun ⟨q0, a1, b1, qa, ea, qb, eb, q⟩ => by first | exact c_5 ⟨q0, a1, qa, ea⟩ | exact c_13 ⟨q0, b1, qb, eb⟩ | (have e1 := (nI_eq (by omega) (by omega)).mp ea; have e2 := (nI_eq (by omega) (by omega)).mp eb; subst e1; subst e2; first | exact c_26 (pt_same_len hok hwh qa qb q).symm | exact c_83 (q k c_56)))) dX1_equal_99
      · exact absurd c_46 (by decide)
  · obtain ⟨hwh, a, ha, rfl⟩ := c_5
    have hok := pt_wf_ok hI.1 (l := 4) (by decide)
    refine lv_aload_n hx hb dX1_equal_8 rfl (lv_at hl 0 rfl) ?_
    refine lv_iload_n hx hb dX1_equal_9 rfl (lv_at hl 2 rfl) ?_
    refine xr_cVi (rest := []) ⟨hx, hb, hml, hown, hts⟩ (mt_X1_node l dC dI hI xn) (cwV 1 hts gV_X1_38 rfl rfl rfl hd_X1_node ⟨Nat.le_of_ble_eq_true rfl, Nat.le_of_ble_eq_true rfl⟩) hK hP 0 1 rfl rfl rfl hl.1 rfl (Nat.le_of_ble_eq_true rfl) dX1_equal_10 ⟨Nat.zero_le _, Nat.zero_le _⟩ (fun r_10 h_10 => ?_)
    refine xr_ifeqB (tgt := 33) hx hb h_10 dX1_equal_13 (by decide) (fun c_13 => ?_) (fun c_13 => ?_)
    · skip
      refine lv_iconst (v := nI 0) hx hb dX1_equal_33 xc_0 ?_
      refine lv_istore_n (lv' := [(3, .int (nI 0)), (0, .ref (bd 0)), (1, .int (nI a)), (2, .int xn)]) hx hb dX1_equal_34 rfl hl (by decide) rfl (fun ls hl => ?_)
      refine lv_iconst (v := nI 0) hx hb dX1_equal_35 xc_0 ?_
      refine lv_istore (lv' := [(4, .int (nI 0)), (3, .int (nI 0)), (0, .ref (bd 0)), (1, .int (nI a)), (2, .int xn)]) hx hb dX1_equal_36 hl (by decide) rfl (fun ls hl => ?_)
      refine lv_iload hx hb dX1_equal_38 (lv_at hl 0 rfl) ?_
      refine lv_bipush (v := nI 25) hx hb dX1_equal_40 xb_25 ?_
      refine xr_icmp_ge (tgt := 98) hx hb dX1_equal_42 (by decide) (by omega) (by omega) (fun c_42 => ?_) (fun c_42 => ?_)
      · skip
        refine lv_iload_n hx hb dX1_equal_98 rfl (lv_at hl 1 rfl) ?_
        exact xr_retSz hx hb hr hlk xr_nz0 rfl (xr_B0 (fun ⟨q0, a1, b1, qa, ea, qb, eb, q⟩ => by first | exact c_5 ⟨q0, a1, qa, ea⟩ | exact c_13 ⟨q0, b1, qb, eb⟩ | (have e1 := (nI_eq (by omega) (by omega)).mp ea; have e2 := (nI_eq (by omega) (by omega)).mp eb; subst e1; subst e2; first | exact c_26 (pt_same_len hok hwh qa qb q).symm | exact c_83 (q k c_56)))) dX1_equal_99
      · skip
        refine lv_iload_n hx hb dX1_equal_45 rfl (lv_at hl 1 rfl) ?_
        refine xr_if_eq (tgt := 98) hx hb dX1_equal_46 (by decide) (by omega) (fun c_46 => ?_) (fun c_46 => ?_)
        · skip
          refine lv_iload_n hx hb dX1_equal_98 rfl (lv_at hl 1 rfl) ?_
          exact xr_retSz hx hb hr hlk xr_nz0 rfl (xr_B0 (fun ⟨q0, a1, b1, qa, ea, qb, eb, q⟩ => by first | exact c_5 ⟨q0, a1, qa, ea⟩ | exact c_13 ⟨q0, b1, qb, eb⟩ | (have e1 := (nI_eq (by omega) (by omega)).mp ea; have e2 := (nI_eq (by omega) (by omega)).mp eb; subst e1; subst e2; first | exact c_26 (pt_same_len hok hwh qa qb q).symm | exact c_83 (q k c_56)))) dX1_equal_99
        · exact absurd c_46 (by decide)
    · obtain ⟨-, b, hb4, rfl⟩ := c_13
      have hsa := pt_skip_in (tk 4) (n := sz 4) (i := a) 1 (by omega)
      have hsb := pt_skip_in (tk 4) (n := sz 4) (i := b) 1 (by omega)
      refine lv_aload_n hx hb dX1_equal_16 rfl (lv_at hl 0 rfl) ?_
      refine lv_iload_n hx hb dX1_equal_17 rfl (lv_at hl 1 rfl) ?_
      refine xr_cVi (rest := []) ⟨hx, hb, hml, hown, hts⟩ (mt_X1_size l dC dI hI (nI a)) (cwV 1 hts gV_X1_49 rfl rfl rfl hd_X1_size ⟨Nat.le_of_ble_eq_true rfl, Nat.le_of_ble_eq_true rfl⟩) hK hP 0 1 rfl rfl rfl hl.1 rfl (Nat.le_of_ble_eq_true rfl) dX1_equal_18 ⟨Nat.zero_le _, Nat.zero_le _⟩ (fun r_18 h_18 => ?_)
      rw [pt_size_in hwh ha (by omega)] at h_18
      subst h_18
      refine lv_aload_n hx hb dX1_equal_21 rfl (lv_at hl 0 rfl) ?_
      refine lv_iload_n hx hb dX1_equal_22 rfl (lv_at hl 2 rfl) ?_
      refine xr_cVi (rest := [.int (nI (pt_skip (tk 4) (sz 4) a 1 - a))]) ⟨hx, hb, hml, hown, hts⟩ (mt_X1_size l dC dI hI (nI b)) (cwV 1 hts gV_X1_49 rfl rfl rfl hd_X1_size ⟨Nat.le_of_ble_eq_true rfl, Nat.le_of_ble_eq_true rfl⟩) hK hP 0 1 rfl rfl rfl hl.1 rfl (Nat.le_of_ble_eq_true rfl) dX1_equal_23 ⟨Nat.zero_le _, Nat.zero_le _⟩ (fun r_23 h_23 => ?_)
      rw [pt_size_in hwh hb4 (by omega)] at h_23
      subst h_23
      refine xr_icmp_ne (tgt := 33) hx hb dX1_equal_26 (by decide) (by omega) (by omega) (fun c_26 => ?_) (fun c_26 => ?_)
      · skip
        refine lv_iconst (v := nI 0) hx hb dX1_equal_33 xc_0 ?_
        refine lv_istore_n (lv' := [(3, .int (nI 0)), (0, .ref (bd 0)), (1, .int (nI a)), (2, .int (nI b))]) hx hb dX1_equal_34 rfl hl (by decide) rfl (fun ls hl => ?_)
        refine lv_iconst (v := nI 0) hx hb dX1_equal_35 xc_0 ?_
        refine lv_istore (lv' := [(4, .int (nI 0)), (3, .int (nI 0)), (0, .ref (bd 0)), (1, .int (nI a)), (2, .int (nI b))]) hx hb dX1_equal_36 hl (by decide) rfl (fun ls hl => ?_)
        refine lv_iload hx hb dX1_equal_38 (lv_at hl 0 rfl) ?_
        refine lv_bipush (v := nI 25) hx hb dX1_equal_40 xb_25 ?_
        refine xr_icmp_ge (tgt := 98) hx hb dX1_equal_42 (by decide) (by omega) (by omega) (fun c_42 => ?_) (fun c_42 => ?_)
        · skip
          refine lv_iload_n hx hb dX1_equal_98 rfl (lv_at hl 1 rfl) ?_
          exact xr_retSz hx hb hr hlk xr_nz0 rfl (xr_B0 (fun ⟨q0, a1, b1, qa, ea, qb, eb, q⟩ => by first | exact c_5 ⟨q0, a1, qa, ea⟩ | exact c_13 ⟨q0, b1, qb, eb⟩ | (have e1 := (nI_eq (by omega) (by omega)).mp ea; have e2 := (nI_eq (by omega) (by omega)).mp eb; subst e1; subst e2; first | exact c_26 (pt_same_len hok hwh qa qb q).symm | exact c_83 (q k c_56)))) dX1_equal_99
        · skip
          refine lv_iload_n hx hb dX1_equal_45 rfl (lv_at hl 1 rfl) ?_
          refine xr_if_eq (tgt := 98) hx hb dX1_equal_46 (by decide) (by omega) (fun c_46 => ?_) (fun c_46 => ?_)
          · skip
            refine lv_iload_n hx hb dX1_equal_98 rfl (lv_at hl 1 rfl) ?_
            exact xr_retSz hx hb hr hlk xr_nz0 rfl (xr_B0 (fun ⟨q0, a1, b1, qa, ea, qb, eb, q⟩ => by first | exact c_5 ⟨q0, a1, qa, ea⟩ | exact c_13 ⟨q0, b1, qb, eb⟩ | (have e1 := (nI_eq (by omega) (by omega)).mp ea; have e2 := (nI_eq (by omega) (by omega)).mp eb; subst e1; subst e2; first | exact c_26 (pt_same_len hok hwh qa qb q).symm | exact c_83 (q k c_56)))) dX1_equal_99
          · exact absurd c_46 (by decide)
      · skip
        refine lv_iconst (v := nI 1) hx hb dX1_equal_29 xc_1 ?_
        refine lv_goto (tgt := 34) hx hb dX1_equal_30 (by decide) ?_
        refine lv_istore_n (lv' := [(3, .int (nI 1)), (0, .ref (bd 0)), (1, .int (nI a)), (2, .int (nI b))]) hx hb dX1_equal_34 rfl hl (by decide) rfl (fun ls hl => ?_)
        refine lv_iconst (v := nI 0) hx hb dX1_equal_35 xc_0 ?_
        refine lv_istore (lv' := [(4, .int (nI 0)), (3, .int (nI 1)), (0, .ref (bd 0)), (1, .int (nI a)), (2, .int (nI b))]) hx hb dX1_equal_36 hl (by decide) rfl (fun ls hl => ?_)
        have key38 : ∀ (d_38 : Nat) (k : Nat) (ls : Array Slot), (k ≤ 25) → (∀ x, x < k → x < pt_skip (tk 4) (sz 4) a 1 - a → tk 4 (a + x) = tk 4 (b + x)) → (25 - k) < d_38 → lv_has ls 5 [(0, .ref (bd 0)), (1, .int (nI a)), (2, .int (nI b)), (3, .int (nI 1)), (4, .int (nI k))] → W p l e (headSpec (ws_ yX1_equal cX1_equal 5 (some .boolean)) ({ frames := 4, cells := 0, slots := 0, locals := 86 } : Room)).room s m ([.ref (bd 0), .int (nI a), .int (nI b)] : List Value).toArray below meth c s.heap [] 0 0 (MQ below (vp_Si (fun r : Int32 => xr_B r (pt_equal sz tk (nI a) (nI b)))) ([.ref (bd 0), .int (nI a), .int (nI b)] : List Value).toArray s 0 0 xr_no) (F0 m 38 ls []) := by
          intro d_38
          induction d_38 with
          | zero => intro k ls hk hq hd_38; exact absurd hd_38 (Nat.not_lt_zero _)
          | succ d_38 ih_38 =>
            intro k ls hk hq hd_38 hl
            refine lv_iload hx hb dX1_equal_38 (lv_at hl 4 rfl) ?_
            refine lv_bipush (v := nI 25) hx hb dX1_equal_40 xb_25 ?_
            refine xr_icmp_ge (tgt := 98) hx hb dX1_equal_42 (by decide) (by omega) (by omega) (fun c_42 => ?_) (fun c_42 => ?_)
            · skip
              refine lv_iload_n hx hb dX1_equal_98 rfl (lv_at hl 3 rfl) ?_
              exact xr_retSz hx hb hr hlk xr_nz1 rfl (xr_B1 ⟨hwh, a, b, ha, rfl, hb4, rfl, fun x hx => hq x (by omega) hx⟩) dX1_equal_99
            · skip
              refine lv_iload_n hx hb dX1_equal_45 rfl (lv_at hl 3 rfl) ?_
              refine xr_if_eq (tgt := 98) hx hb dX1_equal_46 (by decide) (by omega) (fun c_46 => ?_) (fun c_46 => ?_)
              · exact absurd c_46 (by decide)
              · skip
                refine lv_iload hx hb dX1_equal_49 (lv_at hl 4 rfl) ?_
                refine lv_aload_n hx hb dX1_equal_51 rfl (lv_at hl 0 rfl) ?_
                refine lv_iload_n hx hb dX1_equal_52 rfl (lv_at hl 1 rfl) ?_
                refine xr_cVi (rest := [.int (nI k)]) ⟨hx, hb, hml, hown, hts⟩ (mt_X1_size l dC dI hI (nI a)) (cwV 1 hts gV_X1_49 rfl rfl rfl hd_X1_size ⟨Nat.le_of_ble_eq_true rfl, Nat.le_of_ble_eq_true rfl⟩) hK hP 0 1 rfl rfl rfl hl.1 rfl (Nat.le_of_ble_eq_true rfl) dX1_equal_53 ⟨Nat.zero_le _, Nat.zero_le _⟩ (fun r_53 h_53 => ?_)
                rw [pt_size_in hwh ha (by omega)] at h_53
                subst h_53
                refine xr_icmp_ge (tgt := 86) hx hb dX1_equal_56 (by decide) (by omega) (by omega) (fun c_56 => ?_) (fun c_56 => ?_)
                · skip
                  refine lv_iconst (v := nI 1) hx hb dX1_equal_86 xc_1 ?_
                  refine lv_goto (tgt := 91) hx hb dX1_equal_87 (by decide) ?_
                  refine lv_istore_n (lv' := [(3, .int (nI 1)), (0, .ref (bd 0)), (1, .int (nI a)), (2, .int (nI b)), (4, .int (nI k))]) hx hb dX1_equal_91 rfl hl (by decide) rfl (fun ls hl => ?_)
                  refine lv_iinc (v := (nI (k + 1))) (lv' := [(4, .int (nI (k + 1))), (3, .int (nI 1)), (0, .ref (bd 0)), (1, .int (nI a)), (2, .int (nI b))]) hx hb dX1_equal_92 hl (k := 4) rfl (xr_inc _) (by decide) rfl (fun ls hl => ?_)
                  refine lv_goto (tgt := 38) hx hb dX1_equal_95 (by decide) ?_
                  exact ih_38 (k + 1) ls (by omega) (fun x h1 h2 => by by_cases e : x = k; (rw [e]; first | exact c_83 | (exfalso; omega)); exact hq x (by omega) h2) (by omega) (lv_sub hl [2, 3, 4, 1, 0] rfl)
                · skip
                  refine lv_aload_n hx hb dX1_equal_59 rfl (lv_at hl 0 rfl) ?_
                  refine va_get (D := (dC, dI)) (ci := 1) (v := .ref (bd 2)) (C := RX1) (T := TX1) (N := 2) hx hb hts in_X1 hown hK hP 0 rfl rfl 1 (by decide) (hts _ q196) (fun _ h9 => h9) rfl dX1_equal_60 ?_
                  refine lv_bipush (v := nI 100) hx hb dX1_equal_63 xb_100 ?_
                  refine lv_iload_n hx hb dX1_equal_65 rfl (lv_at hl 1 rfl) ?_
                  refine xr_iadd hx hb dX1_equal_66 ?_
                  refine lv_iload hx hb dX1_equal_67 (lv_at hl 4 rfl) ?_
                  refine xr_iadd hx hb dX1_equal_69 ?_
                  refine xr_iald hx hb hK hP 2 0 rfl rfl (k := (100 + a) + k) (by omega) (by decide) dX1_equal_70 ?_
                  refine xr_conv (y := (nI (tk 4 (a + k)))) (by rw [show 100 + a + k = 25 * 4 + (a + k) by omega, hI.2.2 4 (by decide) (a + k) (by omega)]) ?_
                  refine lv_aload_n hx hb dX1_equal_71 rfl (lv_at hl 0 rfl) ?_
                  refine va_get (D := (dC, dI)) (ci := 1) (v := .ref (bd 2)) (C := RX1) (T := TX1) (N := 2) hx hb hts in_X1 hown hK hP 0 rfl rfl 1 (by decide) (hts _ q196) (fun _ h9 => h9) rfl dX1_equal_72 ?_
                  refine lv_bipush (v := nI 100) hx hb dX1_equal_75 xb_100 ?_
                  refine lv_iload_n hx hb dX1_equal_77 rfl (lv_at hl 2 rfl) ?_
                  refine xr_iadd hx hb dX1_equal_78 ?_
                  refine lv_iload hx hb dX1_equal_79 (lv_at hl 4 rfl) ?_
                  refine xr_iadd hx hb dX1_equal_81 ?_
                  refine xr_iald hx hb hK hP 2 0 rfl rfl (k := (100 + b) + k) (by omega) (by decide) dX1_equal_82 ?_
                  refine xr_conv (y := (nI (tk 4 (b + k)))) (by rw [show 100 + b + k = 25 * 4 + (b + k) by omega, hI.2.2 4 (by decide) (b + k) (by omega)]) ?_
                  refine xr_icmp_ne (tgt := 90) hx hb dX1_equal_83 (by decide) (by have := pt_wf_7 hI.1 (l := 4) (k := a + k) (by decide) (by omega); omega) (by have := pt_wf_7 hI.1 (l := 4) (k := b + k) (by decide) (by omega); omega) (fun c_83 => ?_) (fun c_83 => ?_)
                  · skip
                    refine lv_iconst (v := nI 0) hx hb dX1_equal_90 xc_0 ?_
                    refine lv_istore_n (lv' := [(3, .int (nI 0)), (0, .ref (bd 0)), (1, .int (nI a)), (2, .int (nI b)), (4, .int (nI k))]) hx hb dX1_equal_91 rfl hl (by decide) rfl (fun ls hl => ?_)
                    refine lv_iinc (v := (nI (k + 1))) (lv' := [(4, .int (nI (k + 1))), (3, .int (nI 0)), (0, .ref (bd 0)), (1, .int (nI a)), (2, .int (nI b))]) hx hb dX1_equal_92 hl (k := 4) rfl (xr_inc _) (by decide) rfl (fun ls hl => ?_)
                    refine lv_goto (tgt := 38) hx hb dX1_equal_95 (by decide) ?_
                    refine lv_iload hx hb dX1_equal_38 (lv_at hl 0 rfl) ?_
                    refine lv_bipush (v := nI 25) hx hb dX1_equal_40 xb_25 ?_
                    refine xr_icmp_ge (tgt := 98) hx hb dX1_equal_42 (by decide) (by omega) (by omega) (fun c_42 => ?_) (fun c_42 => ?_)
                    · skip
                      refine lv_iload_n hx hb dX1_equal_98 rfl (lv_at hl 1 rfl) ?_
                      exact xr_retSz hx hb hr hlk xr_nz0 rfl (xr_B0 (fun ⟨q0, a1, b1, qa, ea, qb, eb, q⟩ => by first | exact c_5 ⟨q0, a1, qa, ea⟩ | exact c_13 ⟨q0, b1, qb, eb⟩ | (have e1 := (nI_eq (by omega) (by omega)).mp ea; have e2 := (nI_eq (by omega) (by omega)).mp eb; subst e1; subst e2; first | exact c_26 (pt_same_len hok hwh qa qb q).symm | exact c_83 (q k c_56)))) dX1_equal_99
                    · skip
                      refine lv_iload_n hx hb dX1_equal_45 rfl (lv_at hl 1 rfl) ?_
                      refine xr_if_eq (tgt := 98) hx hb dX1_equal_46 (by decide) (by omega) (fun c_46 => ?_) (fun c_46 => ?_)
                      · skip
                        refine lv_iload_n hx hb dX1_equal_98 rfl (lv_at hl 1 rfl) ?_
                        exact xr_retSz hx hb hr hlk xr_nz0 rfl (xr_B0 (fun ⟨q0, a1, b1, qa, ea, qb, eb, q⟩ => by first | exact c_5 ⟨q0, a1, qa, ea⟩ | exact c_13 ⟨q0, b1, qb, eb⟩ | (have e1 := (nI_eq (by omega) (by omega)).mp ea; have e2 := (nI_eq (by omega) (by omega)).mp eb; subst e1; subst e2; first | exact c_26 (pt_same_len hok hwh qa qb q).symm | exact c_83 (q k c_56)))) dX1_equal_99
                      · exact absurd c_46 (by decide)
                  · skip
                    refine lv_iconst (v := nI 1) hx hb dX1_equal_86 xc_1 ?_
                    refine lv_goto (tgt := 91) hx hb dX1_equal_87 (by decide) ?_
                    refine lv_istore_n (lv' := [(3, .int (nI 1)), (0, .ref (bd 0)), (1, .int (nI a)), (2, .int (nI b)), (4, .int (nI k))]) hx hb dX1_equal_91 rfl hl (by decide) rfl (fun ls hl => ?_)
                    refine lv_iinc (v := (nI (k + 1))) (lv' := [(4, .int (nI (k + 1))), (3, .int (nI 1)), (0, .ref (bd 0)), (1, .int (nI a)), (2, .int (nI b))]) hx hb dX1_equal_92 hl (k := 4) rfl (xr_inc _) (by decide) rfl (fun ls hl => ?_)
                    refine lv_goto (tgt := 38) hx hb dX1_equal_95 (by decide) ?_
                    exact ih_38 (k + 1) ls (by omega) (fun x h1 h2 => by by_cases e : x = k; (rw [e]; first | exact c_83 | (exfalso; omega)); exact hq x (by omega) h2) (by omega) (lv_sub hl [2, 3, 4, 1, 0] rfl)
        exact key38 _ 0 ls (Nat.zero_le _) (fun x h => absurd h (Nat.not_lt_zero _)) (Nat.lt_succ_self _) (lv_sub hl [2, 3, 4, 1, 0] rfl)

set_option maxHeartbeats 4000000 in
set_option maxRecDepth 100000 in
/-- kinds() -/
theorem mt_X1_kinds (l : Launch) (dC : Nat → ClassId) (dI : Nat → Nat → Nat) {bd : Nat → Nat} {cI : ClassId} {size tokens : Nat → Nat} {sz : Nat → Nat} {tk : Nat → Nat → Nat} (hI : MI size tokens sz tk) : Met l yX1_kinds (ws_ yX1_kinds cX1_kinds 5 (some .int)) ({ frames := 5, cells := 0, slots := 0, locals := 117 } : Room) (va_Pc [.ref (bd 0)] (xr_Pr (dC, dI) vwCl (MW bd cI size tokens) (tyM cI))) (vp_Si (fun r : Int32 => r = pt_kinds sz tk)) 0 0 xr_no := by
  refine Met.ofW (cc := cX1_kinds) (maxL := 5) (ret := (some .int)) (by decide) rfl ?_
  intro p e s m args below meth c s₁ B hml hv
  obtain ⟨rfl, hP, hK⟩ := hv
  have hx := B.exec
  have hb := B.bytes
  have hr := B.returns
  have hlk := B.notSynchronized
  have hts := atoms_spec (ws := (ws_ yX1_kinds cX1_kinds 5 (some .int))) B.pre
  have hts : ∀ w ∈ lw_all, w.before _ s = true := fun w h => hts w (List.mem_cons_of_mem _ h)
  have hown : s.vm.findClass RX1 = some m.cls := findClass_of_methodNamed B.named
  have hl := lv_entry ([.ref (bd 0)]) (n := 5) (Nat.le_of_ble_eq_true rfl)
  rw [lg_entry_eq]
  generalize (lg_sl ([.ref (bd 0)]) ++ List.replicate (5 - (lg_sl ([.ref (bd 0)])).length) Slot.unset).toArray = ls at hl ⊢
  have hl : lv_has ls 5 [(0, .ref (bd 0))] := hl
  have hz := hI.1.2.1
  refine lv_iconst (v := nI 0) hx hb dX1_kinds_0 xc_0 ?_
  refine lv_istore_n (lv' := [(1, .int (nI 0)), (0, .ref (bd 0))]) hx hb dX1_kinds_1 rfl hl (by decide) rfl (fun ls hl => ?_)
  refine lv_iconst (v := nI 0) hx hb dX1_kinds_2 xc_0 ?_
  refine lv_istore_n (lv' := [(2, .int (nI 0)), (1, .int (nI 0)), (0, .ref (bd 0))]) hx hb dX1_kinds_3 rfl hl (by decide) rfl (fun ls hl => ?_)
  have key4 : ∀ (d_4 : Nat) (v : Nat) (ls : Array Slot), (v ≤ 16) → (16 - v) < d_4 → lv_has ls 5 [(0, .ref (bd 0)), (1, .int (nI (pt_cn (fun v => pt_ex (pt_kb sz tk v) 25) v))), (2, .int (nI v))] → W p l e (headSpec (ws_ yX1_kinds cX1_kinds 5 (some .int)) ({ frames := 5, cells := 0, slots := 0, locals := 117 } : Room)).room s m ([.ref (bd 0)] : List Value).toArray below meth c s.heap [] 0 0 (MQ below (vp_Si (fun r : Int32 => r = pt_kinds sz tk)) ([.ref (bd 0)] : List Value).toArray s 0 0 xr_no) (F0 m 4 ls []) := by
    intro d_4
    induction d_4 with
    | zero => intro v ls hv hd_4; exact absurd hd_4 (Nat.not_lt_zero _)
    | succ d_4 ih_4 =>
      intro v ls hv hd_4 hl
      refine lv_iload_n hx hb dX1_kinds_4 rfl (lv_at hl 2 rfl) ?_
      refine lv_bipush (v := nI 16) hx hb dX1_kinds_5 xb_16 ?_
      refine xr_icmp_ge (tgt := 75) hx hb dX1_kinds_7 (by decide) (by omega) (by omega) (fun c_7 => ?_) (fun c_7 => ?_)
      · skip
        refine lv_iload_n hx hb dX1_kinds_75 rfl (lv_at hl 1 rfl) ?_
        exact xr_retSi hx hb hr hlk rfl (by rw [show v = 16 by omega]; exact pt_kinds_m hz) dX1_kinds_76
      · skip
        refine lv_iconst (v := nI 0) hx hb dX1_kinds_10 xc_0 ?_
        refine lv_istore_n (lv' := [(3, .int (nI 0)), (0, .ref (bd 0)), (1, .int (nI (pt_cn (fun v => pt_ex (pt_kb sz tk v) 25) v))), (2, .int (nI v))]) hx hb dX1_kinds_11 rfl hl (by decide) rfl (fun ls hl => ?_)
        refine lv_iconst (v := nI 0) hx hb dX1_kinds_12 xc_0 ?_
        refine lv_istore (lv' := [(4, .int (nI 0)), (3, .int (nI 0)), (0, .ref (bd 0)), (1, .int (nI (pt_cn (fun v => pt_ex (pt_kb sz tk v) 25) v))), (2, .int (nI v))]) hx hb dX1_kinds_13 hl (by decide) rfl (fun ls hl => ?_)
        have key15 : ∀ (d_15 : Nat) (y : Int32) (k : Nat) (ls : Array Slot), (k ≤ 25) → (xr_B y (pt_ex (pt_kb sz tk v) k = true)) → (25 - k) < d_15 → lv_has ls 5 [(0, .ref (bd 0)), (1, .int (nI (pt_cn (fun v => pt_ex (pt_kb sz tk v) 25) v))), (2, .int (nI v)), (3, .int y), (4, .int (nI k))] → W p l e (headSpec (ws_ yX1_kinds cX1_kinds 5 (some .int)) ({ frames := 5, cells := 0, slots := 0, locals := 117 } : Room)).room s m ([.ref (bd 0)] : List Value).toArray below meth c s.heap [] 0 0 (MQ below (vp_Si (fun r : Int32 => r = pt_kinds sz tk)) ([.ref (bd 0)] : List Value).toArray s 0 0 xr_no) (F0 m 15 ls []) := by
          intro d_15
          induction d_15 with
          | zero => intro y k ls hk hy hd_15; exact absurd hd_15 (Nat.not_lt_zero _)
          | succ d_15 ih_15 =>
            intro y k ls hk hy hd_15 hl
            refine lv_iload hx hb dX1_kinds_15 (lv_at hl 4 rfl) ?_
            refine lv_bipush (v := nI 25) hx hb dX1_kinds_17 xb_25 ?_
            refine xr_icmp_ge (tgt := 57) hx hb dX1_kinds_19 (by decide) (by omega) (by omega) (fun c_19 => ?_) (fun c_19 => ?_)
            · skip
              refine lv_iload_n hx hb dX1_kinds_57 rfl (lv_at hl 3 rfl) ?_
              refine xr_ifeqB (tgt := 67) hx hb hy dX1_kinds_58 (by decide) (fun c_58 => ?_) (fun c_58 => ?_)
              · skip
                refine lv_iload_n hx hb dX1_kinds_67 rfl (lv_at hl 1 rfl) ?_
                refine xr_conv (y := (nI (pt_cn (fun v => pt_ex (pt_kb sz tk v) 25) (v + 1)))) (by rw [pt_cn_s0 (b := fun v => pt_ex (pt_kb sz tk v) 25) (by rw [show 25 = k by omega]; exact c_58)]) ?_
                refine lv_istore_n (lv' := [(1, .int (nI (pt_cn (fun v => pt_ex (pt_kb sz tk v) 25) (v + 1)))), (0, .ref (bd 0)), (2, .int (nI v)), (3, .int y), (4, .int (nI k))]) hx hb dX1_kinds_68 rfl hl (by decide) rfl (fun ls hl => ?_)
                refine lv_iinc (v := (nI (v + 1))) (lv' := [(2, .int (nI (v + 1))), (1, .int (nI (pt_cn (fun v => pt_ex (pt_kb sz tk v) 25) (v + 1)))), (0, .ref (bd 0)), (3, .int y), (4, .int (nI k))]) hx hb dX1_kinds_69 hl (k := 2) rfl (xr_inc _) (by decide) rfl (fun ls hl => ?_)
                refine lv_goto (tgt := 4) hx hb dX1_kinds_72 (by decide) ?_
                exact ih_4 (v + 1) ls (by omega) (by omega) (lv_sub hl [2, 1, 0] rfl)
              · skip
                refine lv_iload_n hx hb dX1_kinds_61 rfl (lv_at hl 1 rfl) ?_
                refine lv_iconst (v := nI 1) hx hb dX1_kinds_62 xc_1 ?_
                refine xr_iadd hx hb dX1_kinds_63 ?_
                refine lv_goto (tgt := 68) hx hb dX1_kinds_64 (by decide) ?_
                refine xr_conv (y := (nI (pt_cn (fun v => pt_ex (pt_kb sz tk v) 25) (v + 1)))) (by rw [pt_cn_s1 (b := fun v => pt_ex (pt_kb sz tk v) 25) (by rw [show 25 = k by omega]; exact c_58)]) ?_
                refine lv_istore_n (lv' := [(1, .int (nI (pt_cn (fun v => pt_ex (pt_kb sz tk v) 25) (v + 1)))), (0, .ref (bd 0)), (2, .int (nI v)), (3, .int y), (4, .int (nI k))]) hx hb dX1_kinds_68 rfl hl (by decide) rfl (fun ls hl => ?_)
                refine lv_iinc (v := (nI (v + 1))) (lv' := [(2, .int (nI (v + 1))), (1, .int (nI (pt_cn (fun v => pt_ex (pt_kb sz tk v) 25) (v + 1)))), (0, .ref (bd 0)), (3, .int y), (4, .int (nI k))]) hx hb dX1_kinds_69 hl (k := 2) rfl (xr_inc _) (by decide) rfl (fun ls hl => ?_)
                refine lv_goto (tgt := 4) hx hb dX1_kinds_72 (by decide) ?_
                exact ih_4 (v + 1) ls (by omega) (by omega) (lv_sub hl [2, 1, 0] rfl)
            · skip
              refine lv_iload_n hx hb dX1_kinds_22 rfl (lv_at hl 3 rfl) ?_
              refine xr_ifneB (tgt := 45) hx hb hy dX1_kinds_23 (by decide) (fun c_23 => ?_) (fun c_23 => ?_)
              · skip
                refine lv_iconst (v := nI 1) hx hb dX1_kinds_45 xc_1 ?_
                refine lv_goto (tgt := 50) hx hb dX1_kinds_46 (by decide) ?_
                refine lv_istore_n (lv' := [(3, .int (nI 1)), (0, .ref (bd 0)), (1, .int (nI (pt_cn (fun v => pt_ex (pt_kb sz tk v) 25) v))), (2, .int (nI v)), (4, .int (nI k))]) hx hb dX1_kinds_50 rfl hl (by decide) rfl (fun ls hl => ?_)
                refine lv_iinc (v := (nI (k + 1))) (lv' := [(4, .int (nI (k + 1))), (3, .int (nI 1)), (0, .ref (bd 0)), (1, .int (nI (pt_cn (fun v => pt_ex (pt_kb sz tk v) 25) v))), (2, .int (nI v))]) hx hb dX1_kinds_51 hl (k := 4) rfl (xr_inc _) (by decide) rfl (fun ls hl => ?_)
                refine lv_goto (tgt := 15) hx hb dX1_kinds_54 (by decide) ?_
                exact ih_15 (nI 1) (k + 1) ls (by omega) (xr_B1 (by rw [pt_ex_s]; first | (rw [c_23]; rfl) | (obtain ⟨hwh, j1, hj1, e1⟩ := c_32; have e2 := (nI_eq (by omega) (by omega)).mp e1; rw [pt_kb_iff.mpr ⟨hwh, by omega, c_42⟩, Bool.or_true]))) (by omega) (lv_sub hl [2, 3, 4, 1, 0] rfl)
              · skip
                refine lv_aload_n hx hb dX1_kinds_26 rfl (lv_at hl 0 rfl) ?_
                refine lv_iload hx hb dX1_kinds_27 (lv_at hl 4 rfl) ?_
                refine xr_cVi (rest := []) ⟨hx, hb, hml, hown, hts⟩ (mt_X1_node l dC dI hI (nI k)) (cwV 1 hts gV_X1_38 rfl rfl rfl hd_X1_node ⟨Nat.le_of_ble_eq_true rfl, Nat.le_of_ble_eq_true rfl⟩) hK hP 0 1 rfl rfl rfl hl.1 rfl (Nat.le_of_ble_eq_true rfl) dX1_kinds_29 ⟨Nat.zero_le _, Nat.zero_le _⟩ (fun r_29 h_29 => ?_)
                refine xr_ifeqB (tgt := 49) hx hb h_29 dX1_kinds_32 (by decide) (fun c_32 => ?_) (fun c_32 => ?_)
                · skip
                  refine lv_iconst (v := nI 0) hx hb dX1_kinds_49 xc_0 ?_
                  refine lv_istore_n (lv' := [(3, .int (nI 0)), (0, .ref (bd 0)), (1, .int (nI (pt_cn (fun v => pt_ex (pt_kb sz tk v) 25) v))), (2, .int (nI v)), (4, .int (nI k))]) hx hb dX1_kinds_50 rfl hl (by decide) rfl (fun ls hl => ?_)
                  refine lv_iinc (v := (nI (k + 1))) (lv' := [(4, .int (nI (k + 1))), (3, .int (nI 0)), (0, .ref (bd 0)), (1, .int (nI (pt_cn (fun v => pt_ex (pt_kb sz tk v) 25) v))), (2, .int (nI v))]) hx hb dX1_kinds_51 hl (k := 4) rfl (xr_inc _) (by decide) rfl (fun ls hl => ?_)
                  refine lv_goto (tgt := 15) hx hb dX1_kinds_54 (by decide) ?_
                  exact ih_15 (nI 0) (k + 1) ls (by omega) (xr_B0 (by rw [pt_ex_s, Bool.eq_false_iff.mpr c_23, Bool.false_or]; intro q; obtain ⟨q1, q2, q3⟩ := pt_kb_iff.mp q; first | exact c_32 ⟨q1, k, q2, rfl⟩ | exact c_42 q3)) (by omega) (lv_sub hl [2, 3, 4, 1, 0] rfl)
                · skip
                  refine lv_aload_n hx hb dX1_kinds_35 rfl (lv_at hl 0 rfl) ?_
                  refine lv_iload hx hb dX1_kinds_36 (lv_at hl 4 rfl) ?_
                  refine xr_cVi (rest := []) ⟨hx, hb, hml, hown, hts⟩ (mt_X1_fitsAt l dC dI hI (nI k)) (cwV 1 hts gV_X1_51 rfl rfl rfl hd_X1_fitsAt ⟨Nat.le_of_ble_eq_true rfl, Nat.le_of_ble_eq_true rfl⟩) hK hP 0 1 rfl rfl rfl hl.1 rfl (Nat.le_of_ble_eq_true rfl) dX1_kinds_38 ⟨Nat.zero_le _, Nat.zero_le _⟩ (fun r_38 h_38 => ?_)
                  rw [pt_fitsAt_nI hz (by omega)] at h_38
                  subst h_38
                  have hF := pt_F_lt sz tk k
                  refine lv_iload_n hx hb dX1_kinds_41 rfl (lv_at hl 2 rfl) ?_
                  refine xr_icmp_ne (tgt := 49) hx hb dX1_kinds_42 (by decide) (by omega) (by omega) (fun c_42 => ?_) (fun c_42 => ?_)
                  · skip
                    refine lv_iconst (v := nI 0) hx hb dX1_kinds_49 xc_0 ?_
                    refine lv_istore_n (lv' := [(3, .int (nI 0)), (0, .ref (bd 0)), (1, .int (nI (pt_cn (fun v => pt_ex (pt_kb sz tk v) 25) v))), (2, .int (nI v)), (4, .int (nI k))]) hx hb dX1_kinds_50 rfl hl (by decide) rfl (fun ls hl => ?_)
                    refine lv_iinc (v := (nI (k + 1))) (lv' := [(4, .int (nI (k + 1))), (3, .int (nI 0)), (0, .ref (bd 0)), (1, .int (nI (pt_cn (fun v => pt_ex (pt_kb sz tk v) 25) v))), (2, .int (nI v))]) hx hb dX1_kinds_51 hl (k := 4) rfl (xr_inc _) (by decide) rfl (fun ls hl => ?_)
                    refine lv_goto (tgt := 15) hx hb dX1_kinds_54 (by decide) ?_
                    exact ih_15 (nI 0) (k + 1) ls (by omega) (xr_B0 (by rw [pt_ex_s, Bool.eq_false_iff.mpr c_23, Bool.false_or]; intro q; obtain ⟨q1, q2, q3⟩ := pt_kb_iff.mp q; first | exact c_32 ⟨q1, k, q2, rfl⟩ | exact c_42 q3)) (by omega) (lv_sub hl [2, 3, 4, 1, 0] rfl)
                  · skip
                    refine lv_iconst (v := nI 1) hx hb dX1_kinds_45 xc_1 ?_
                    refine lv_goto (tgt := 50) hx hb dX1_kinds_46 (by decide) ?_
                    refine lv_istore_n (lv' := [(3, .int (nI 1)), (0, .ref (bd 0)), (1, .int (nI (pt_cn (fun v => pt_ex (pt_kb sz tk v) 25) v))), (2, .int (nI v)), (4, .int (nI k))]) hx hb dX1_kinds_50 rfl hl (by decide) rfl (fun ls hl => ?_)
                    refine lv_iinc (v := (nI (k + 1))) (lv' := [(4, .int (nI (k + 1))), (3, .int (nI 1)), (0, .ref (bd 0)), (1, .int (nI (pt_cn (fun v => pt_ex (pt_kb sz tk v) 25) v))), (2, .int (nI v))]) hx hb dX1_kinds_51 hl (k := 4) rfl (xr_inc _) (by decide) rfl (fun ls hl => ?_)
                    refine lv_goto (tgt := 15) hx hb dX1_kinds_54 (by decide) ?_
                    exact ih_15 (nI 1) (k + 1) ls (by omega) (xr_B1 (by rw [pt_ex_s]; first | (rw [c_23]; rfl) | (obtain ⟨hwh, j1, hj1, e1⟩ := c_32; have e2 := (nI_eq (by omega) (by omega)).mp e1; rw [pt_kb_iff.mpr ⟨hwh, by omega, c_42⟩, Bool.or_true]))) (by omega) (lv_sub hl [2, 3, 4, 1, 0] rfl)
        exact key15 _ (nI 0) 0 ls (Nat.zero_le _) (xr_B0 (by intro q; cases q)) (Nat.lt_succ_self _) (lv_sub hl [2, 3, 4, 1, 0] rfl)
  exact key4 _ 0 ls (Nat.zero_le _) (Nat.lt_succ_self _) (lv_sub hl [2, 1, 0] rfl)

set_option maxHeartbeats 4000000 in
set_option maxRecDepth 100000 in
/-- covers(p, q) -/
theorem mt_X1_covers (l : Launch) (dC : Nat → ClassId) (dI : Nat → Nat → Nat) {bd : Nat → Nat} {cI : ClassId} {size tokens : Nat → Nat} {sz : Nat → Nat} {tk : Nat → Nat → Nat} (hI : MI size tokens sz tk) (xp xq : Int32) : Met l yX1_covers (ws_ yX1_covers cX1_covers 3 (some .boolean)) ({ frames := 3, cells := 0, slots := 0, locals := 72 } : Room) (va_Pc [.ref (bd 0), .int xp, .int xq] (xr_Pr (dC, dI) vwCl (MW bd cI size tokens) (tyM cI))) (vp_Si (fun r : Int32 => xr_B r (pt_covers sz tk xp xq))) 0 0 xr_no := by
  refine Met.ofW (cc := cX1_covers) (maxL := 3) (ret := (some .boolean)) (by decide) rfl ?_
  intro p e s m args below meth c s₁ B hml hv
  obtain ⟨rfl, hP, hK⟩ := hv
  have hx := B.exec
  have hb := B.bytes
  have hr := B.returns
  have hlk := B.notSynchronized
  have hts := atoms_spec (ws := (ws_ yX1_covers cX1_covers 3 (some .boolean))) B.pre
  have hts : ∀ w ∈ lw_all, w.before _ s = true := fun w h => hts w (List.mem_cons_of_mem _ h)
  have hown : s.vm.findClass RX1 = some m.cls := findClass_of_methodNamed B.named
  have hl := lv_entry ([.ref (bd 0), .int xp, .int xq]) (n := 3) (Nat.le_of_ble_eq_true rfl)
  rw [lg_entry_eq]
  generalize (lg_sl ([.ref (bd 0), .int xp, .int xq]) ++ List.replicate (3 - (lg_sl ([.ref (bd 0), .int xp, .int xq])).length) Slot.unset).toArray = ls at hl ⊢
  have hl : lv_has ls 3 [(0, .ref (bd 0)), (1, .int xp), (2, .int xq)] := hl
  refine lv_aload_n hx hb dX1_covers_0 rfl (lv_at hl 0 rfl) ?_
  refine lv_iload_n hx hb dX1_covers_1 rfl (lv_at hl 1 rfl) ?_
  refine xr_cVi (rest := []) ⟨hx, hb, hml, hown, hts⟩ (mt_X1_complete l dC dI hI xp) (cwV 1 hts gV_X1_54 rfl rfl rfl hd_X1_complete ⟨Nat.le_of_ble_eq_true rfl, Nat.le_of_ble_eq_true rfl⟩) hK hP 0 1 rfl rfl rfl hl.1 rfl (Nat.le_of_ble_eq_true rfl) dX1_covers_2 ⟨Nat.zero_le _, Nat.zero_le _⟩ (fun r_2 h_2 => ?_)
  refine xr_ifeqB (tgt := 36) hx hb h_2 dX1_covers_5 (by decide) (fun c_5 => ?_) (fun c_5 => ?_)
  · skip
    refine lv_iconst (v := nI 0) hx hb dX1_covers_36 xc_0 ?_
    exact xr_retSz hx hb hr hlk xr_nz0 rfl (xr_B0 (fun ⟨a1, b1, q1, e1, q2, e2, q3, q4, q5⟩ => by first | exact c_5 ⟨a1, q1, e1, q3⟩ | exact c_13 ⟨b1, q2, e2, q4⟩ | (rw [← (nI_eq (by omega) (by omega)).mp e1, ← (nI_eq (by omega) (by omega)).mp e2, hlay] at q5; cases q5))) dX1_covers_37
  · obtain ⟨a, ha, rfl, hna⟩ := c_5
    refine lv_aload_n hx hb dX1_covers_8 rfl (lv_at hl 0 rfl) ?_
    refine lv_iload_n hx hb dX1_covers_9 rfl (lv_at hl 2 rfl) ?_
    refine xr_cVi (rest := []) ⟨hx, hb, hml, hown, hts⟩ (mt_X1_complete l dC dI hI xq) (cwV 1 hts gV_X1_54 rfl rfl rfl hd_X1_complete ⟨Nat.le_of_ble_eq_true rfl, Nat.le_of_ble_eq_true rfl⟩) hK hP 0 1 rfl rfl rfl hl.1 rfl (Nat.le_of_ble_eq_true rfl) dX1_covers_10 ⟨Nat.zero_le _, Nat.zero_le _⟩ (fun r_10 h_10 => ?_)
    refine xr_ifeqB (tgt := 36) hx hb h_10 dX1_covers_13 (by decide) (fun c_13 => ?_) (fun c_13 => ?_)
    · skip
      refine lv_iconst (v := nI 0) hx hb dX1_covers_36 xc_0 ?_
      exact xr_retSz hx hb hr hlk xr_nz0 rfl (xr_B0 (fun ⟨a1, b1, q1, e1, q2, e2, q3, q4, q5⟩ => by first | exact c_5 ⟨a1, q1, e1, q3⟩ | exact c_13 ⟨b1, q2, e2, q4⟩ | (rw [← (nI_eq (by omega) (by omega)).mp e1, ← (nI_eq (by omega) (by omega)).mp e2, hlay] at q5; cases q5))) dX1_covers_37
    · obtain ⟨b, hb4, rfl, hnb⟩ := c_13
      refine lv_aload_n hx hb dX1_covers_16 rfl (lv_at hl 0 rfl) ?_
      refine lv_iload_n hx hb dX1_covers_17 rfl (lv_at hl 1 rfl) ?_
      refine lv_iload_n hx hb dX1_covers_18 rfl (lv_at hl 2 rfl) ?_
      refine lv_iconst (v := nI 0) hx hb dX1_covers_19 xc_0 ?_
      refine lv_aload_n hx hb dX1_covers_20 rfl (lv_at hl 0 rfl) ?_
      refine va_get (D := (dC, dI)) (ci := 1) (v := .ref (bd 1)) (C := RX1) (T := TX1) (N := 2) hx hb hts in_X1 hown hK hP 0 rfl rfl 0 (by decide) (hts _ q195) (fun _ h9 => h9) rfl dX1_covers_21 ?_
      refine lv_iload_n hx hb dX1_covers_24 rfl (lv_at hl 1 rfl) ?_
      refine xr_iald hx hb hK hP 1 0 rfl rfl (k := a) ((by omega)) (by decide) dX1_covers_25 ?_
      refine xr_conv (y := (nI (sz a))) (by rw [hI.2.1 a (by omega)]) ?_
      refine xr_cVi (rest := []) ⟨hx, hb, hml, hown, hts⟩ (mt_X1_lies l dC dI hI a b (by omega) (by omega) 0 (by decide) (sz a) (Nat.le_refl _)) (cwV 4 hts gV_X1_41 rfl rfl rfl hd_X1_lies ⟨Nat.le_of_ble_eq_true rfl, Nat.le_of_ble_eq_true rfl⟩) hK hP 0 1 rfl rfl rfl hl.1 rfl (Nat.le_of_ble_eq_true rfl) dX1_covers_26 ⟨Nat.zero_le _, Nat.zero_le _⟩ (fun r_26 h_26 => ?_)
      rcases h_26 with ⟨x, hx25, hlay, rfl⟩ | ⟨hlay, rfl⟩
      · skip
        refine xr_if_lt (tgt := 36) hx hb dX1_covers_29 (by decide) (by omega) ?_
        refine lv_iconst (v := nI 1) hx hb dX1_covers_32 xc_1 ?_
        refine lv_goto (tgt := 37) hx hb dX1_covers_33 (by decide) ?_
        exact xr_retSz hx hb hr hlk xr_nz1 rfl (xr_B1 ⟨a, b, ha, rfl, hb4, rfl, hna, hnb, by rw [hlay]; rfl⟩) dX1_covers_37
      · skip
        refine lv_if_lt (tgt := 36) hx hb dX1_covers_29 (by decide) (fun c_29 => ?_) (fun c_29 => ?_)
        · skip
          refine lv_iconst (v := nI 0) hx hb dX1_covers_36 xc_0 ?_
          exact xr_retSz hx hb hr hlk xr_nz0 rfl (xr_B0 (fun ⟨a1, b1, q1, e1, q2, e2, q3, q4, q5⟩ => by first | exact c_5 ⟨a1, q1, e1, q3⟩ | exact c_13 ⟨b1, q2, e2, q4⟩ | (rw [← (nI_eq (by omega) (by omega)).mp e1, ← (nI_eq (by omega) (by omega)).mp e2, hlay] at q5; cases q5))) dX1_covers_37
        · exact absurd xr_m1neg c_29

set_option maxHeartbeats 4000000 in
set_option maxRecDepth 100000 in
/-- bare() -/
theorem mt_X1_bare (l : Launch) (dC : Nat → ClassId) (dI : Nat → Nat → Nat) {bd : Nat → Nat} {cI : ClassId} {size tokens : Nat → Nat} {sz : Nat → Nat} {tk : Nat → Nat → Nat} (hI : MI size tokens sz tk) : Met l yX1_bare (ws_ yX1_bare cX1_bare 3 (some .int)) ({ frames := 5, cells := 0, slots := 0, locals := 117 } : Room) (va_Pc [.ref (bd 0)] (xr_Pr (dC, dI) vwCl (MW bd cI size tokens) (tyM cI))) (vp_Si (fun r : Int32 => r = pt_bare sz tk)) 0 0 xr_no := by
  refine Met.ofW (cc := cX1_bare) (maxL := 3) (ret := (some .int)) (by decide) rfl ?_
  intro p e s m args below meth c s₁ B hml hv
  obtain ⟨rfl, hP, hK⟩ := hv
  have hx := B.exec
  have hb := B.bytes
  have hr := B.returns
  have hlk := B.notSynchronized
  have hts := atoms_spec (ws := (ws_ yX1_bare cX1_bare 3 (some .int))) B.pre
  have hts : ∀ w ∈ lw_all, w.before _ s = true := fun w h => hts w (List.mem_cons_of_mem _ h)
  have hown : s.vm.findClass RX1 = some m.cls := findClass_of_methodNamed B.named
  have hl := lv_entry ([.ref (bd 0)]) (n := 3) (Nat.le_of_ble_eq_true rfl)
  rw [lg_entry_eq]
  generalize (lg_sl ([.ref (bd 0)]) ++ List.replicate (3 - (lg_sl ([.ref (bd 0)])).length) Slot.unset).toArray = ls at hl ⊢
  have hl : lv_has ls 3 [(0, .ref (bd 0))] := hl
  have hz := hI.1.2.1
  refine lv_iconst (v := nI 0) hx hb dX1_bare_0 xc_0 ?_
  refine lv_istore_n (lv' := [(1, .int (nI 0)), (0, .ref (bd 0))]) hx hb dX1_bare_1 rfl hl (by decide) rfl (fun ls hl => ?_)
  refine lv_iconst (v := nI 0) hx hb dX1_bare_2 xc_0 ?_
  refine lv_istore_n (lv' := [(2, .int (nI 0)), (1, .int (nI 0)), (0, .ref (bd 0))]) hx hb dX1_bare_3 rfl hl (by decide) rfl (fun ls hl => ?_)
  have key4 : ∀ (d_4 : Nat) (k : Nat) (ls : Array Slot), (k ≤ 25) → (25 - k) < d_4 → lv_has ls 3 [(0, .ref (bd 0)), (1, .int (nI (pt_cn (pt_kb sz tk 0) k))), (2, .int (nI k))] → W p l e (headSpec (ws_ yX1_bare cX1_bare 3 (some .int)) ({ frames := 5, cells := 0, slots := 0, locals := 117 } : Room)).room s m ([.ref (bd 0)] : List Value).toArray below meth c s.heap [] 0 0 (MQ below (vp_Si (fun r : Int32 => r = pt_bare sz tk)) ([.ref (bd 0)] : List Value).toArray s 0 0 xr_no) (F0 m 4 ls []) := by
    intro d_4
    induction d_4 with
    | zero => intro k ls hk hd_4; exact absurd hd_4 (Nat.not_lt_zero _)
    | succ d_4 ih_4 =>
      intro k ls hk hd_4 hl
      refine lv_iload_n hx hb dX1_bare_4 rfl (lv_at hl 2 rfl) ?_
      refine lv_bipush (v := nI 25) hx hb dX1_bare_5 xb_25 ?_
      refine xr_icmp_ge (tgt := 40) hx hb dX1_bare_7 (by decide) (by omega) (by omega) (fun c_7 => ?_) (fun c_7 => ?_)
      · skip
        refine lv_iload_n hx hb dX1_bare_40 rfl (lv_at hl 1 rfl) ?_
        exact xr_retSi hx hb hr hlk rfl (by rw [show k = 25 by omega]; exact pt_bare_m hz) dX1_bare_41
      · skip
        refine lv_aload_n hx hb dX1_bare_10 rfl (lv_at hl 0 rfl) ?_
        refine lv_iload_n hx hb dX1_bare_11 rfl (lv_at hl 2 rfl) ?_
        refine xr_cVi (rest := []) ⟨hx, hb, hml, hown, hts⟩ (mt_X1_node l dC dI hI (nI k)) (cwV 1 hts gV_X1_38 rfl rfl rfl hd_X1_node ⟨Nat.le_of_ble_eq_true rfl, Nat.le_of_ble_eq_true rfl⟩) hK hP 0 1 rfl rfl rfl hl.1 rfl (Nat.le_of_ble_eq_true rfl) dX1_bare_12 ⟨Nat.zero_le _, Nat.zero_le _⟩ (fun r_12 h_12 => ?_)
        refine xr_ifeqB (tgt := 32) hx hb h_12 dX1_bare_15 (by decide) (fun c_15 => ?_) (fun c_15 => ?_)
        · skip
          refine lv_iload_n hx hb dX1_bare_32 rfl (lv_at hl 1 rfl) ?_
          refine xr_conv (y := (nI (pt_cn (pt_kb sz tk 0) (k + 1)))) (by rw [pt_cn_s0 (fun q => by obtain ⟨q1, q2, q3⟩ := pt_kb_iff.mp q; first | exact c_15 ⟨q1, k, q2, rfl⟩ | omega)]) ?_
          refine lv_istore_n (lv' := [(1, .int (nI (pt_cn (pt_kb sz tk 0) (k + 1)))), (0, .ref (bd 0)), (2, .int (nI k))]) hx hb dX1_bare_33 rfl hl (by decide) rfl (fun ls hl => ?_)
          refine lv_iinc (v := (nI (k + 1))) (lv' := [(2, .int (nI (k + 1))), (1, .int (nI (pt_cn (pt_kb sz tk 0) (k + 1)))), (0, .ref (bd 0))]) hx hb dX1_bare_34 hl (k := 2) rfl (xr_inc _) (by decide) rfl (fun ls hl => ?_)
          refine lv_goto (tgt := 4) hx hb dX1_bare_37 (by decide) ?_
          exact ih_4 (k + 1) ls (by omega) (by omega) (lv_sub hl [2, 1, 0] rfl)
        · skip
          refine lv_aload_n hx hb dX1_bare_18 rfl (lv_at hl 0 rfl) ?_
          refine lv_iload_n hx hb dX1_bare_19 rfl (lv_at hl 2 rfl) ?_
          refine xr_cVi (rest := []) ⟨hx, hb, hml, hown, hts⟩ (mt_X1_fitsAt l dC dI hI (nI k)) (cwV 1 hts gV_X1_51 rfl rfl rfl hd_X1_fitsAt ⟨Nat.le_of_ble_eq_true rfl, Nat.le_of_ble_eq_true rfl⟩) hK hP 0 1 rfl rfl rfl hl.1 rfl (Nat.le_of_ble_eq_true rfl) dX1_bare_20 ⟨Nat.zero_le _, Nat.zero_le _⟩ (fun r_20 h_20 => ?_)
          rw [pt_fitsAt_nI hz (by omega)] at h_20
          subst h_20
          have hF := pt_F_lt sz tk k
          refine xr_if_ne (tgt := 32) hx hb dX1_bare_23 (by decide) (by omega) (fun c_23 => ?_) (fun c_23 => ?_)
          · skip
            refine lv_iload_n hx hb dX1_bare_32 rfl (lv_at hl 1 rfl) ?_
            refine xr_conv (y := (nI (pt_cn (pt_kb sz tk 0) (k + 1)))) (by rw [pt_cn_s0 (fun q => by obtain ⟨q1, q2, q3⟩ := pt_kb_iff.mp q; first | exact c_15 ⟨q1, k, q2, rfl⟩ | omega)]) ?_
            refine lv_istore_n (lv' := [(1, .int (nI (pt_cn (pt_kb sz tk 0) (k + 1)))), (0, .ref (bd 0)), (2, .int (nI k))]) hx hb dX1_bare_33 rfl hl (by decide) rfl (fun ls hl => ?_)
            refine lv_iinc (v := (nI (k + 1))) (lv' := [(2, .int (nI (k + 1))), (1, .int (nI (pt_cn (pt_kb sz tk 0) (k + 1)))), (0, .ref (bd 0))]) hx hb dX1_bare_34 hl (k := 2) rfl (xr_inc _) (by decide) rfl (fun ls hl => ?_)
            refine lv_goto (tgt := 4) hx hb dX1_bare_37 (by decide) ?_
            exact ih_4 (k + 1) ls (by omega) (by omega) (lv_sub hl [2, 1, 0] rfl)
          · skip
            refine lv_iload_n hx hb dX1_bare_26 rfl (lv_at hl 1 rfl) ?_
            refine lv_iconst (v := nI 1) hx hb dX1_bare_27 xc_1 ?_
            refine xr_iadd hx hb dX1_bare_28 ?_
            refine lv_goto (tgt := 33) hx hb dX1_bare_29 (by decide) ?_
            refine xr_conv (y := (nI (pt_cn (pt_kb sz tk 0) (k + 1)))) (by rw [pt_cn_s1 (pt_kb_iff.mpr ⟨c_15.1, by obtain ⟨j1, hj1, e1⟩ := c_15.2; have := (nI_eq (by omega) (by omega)).mp e1; omega, c_23⟩)]) ?_
            refine lv_istore_n (lv' := [(1, .int (nI (pt_cn (pt_kb sz tk 0) (k + 1)))), (0, .ref (bd 0)), (2, .int (nI k))]) hx hb dX1_bare_33 rfl hl (by decide) rfl (fun ls hl => ?_)
            refine lv_iinc (v := (nI (k + 1))) (lv' := [(2, .int (nI (k + 1))), (1, .int (nI (pt_cn (pt_kb sz tk 0) (k + 1)))), (0, .ref (bd 0))]) hx hb dX1_bare_34 hl (k := 2) rfl (xr_inc _) (by decide) rfl (fun ls hl => ?_)
            refine lv_goto (tgt := 4) hx hb dX1_bare_37 (by decide) ?_
            exact ih_4 (k + 1) ls (by omega) (by omega) (lv_sub hl [2, 1, 0] rfl)
  exact key4 _ 0 ls (Nat.zero_le _) (Nat.lt_succ_self _) (lv_sub hl [2, 1, 0] rfl)
end
section
set_option maxHeartbeats 4000000 in
set_option maxRecDepth 100000 in
/-- isPattern(p) -/
theorem mt_X0_isPattern (l : Launch) (xp : Int32) : Met l yX0_isPattern (ws_ yX0_isPattern cX0_isPattern 1 (some .boolean)) ({ frames := 0, cells := 0, slots := 0, locals := 0 } : Room) (va_Pc [.int xp] (fun _ => True)) (vp_Si (fun r : Int32 => xr_B r (∃ j : Nat, j < 4 ∧ xp = nI j))) 0 0 xr_no := by
  refine Met.ofW (cc := cX0_isPattern) (maxL := 1) (ret := (some .boolean)) (by decide) rfl ?_
  intro p e s m args below meth c s₁ B hml hv
  obtain ⟨rfl, -⟩ := hv
  have hx := B.exec
  have hb := B.bytes
  have hr := B.returns
  have hlk := B.notSynchronized
  have hts := atoms_spec (ws := (ws_ yX0_isPattern cX0_isPattern 1 (some .boolean))) B.pre
  have hts : ∀ w ∈ lw_all, w.before _ s = true := fun w h => hts w (List.mem_cons_of_mem _ h)
  have hown : s.vm.findClass RX0 = some m.cls := findClass_of_methodNamed B.named
  have hl := lv_entry ([.int xp]) (n := 1) (Nat.le_of_ble_eq_true rfl)
  rw [lg_entry_eq]
  generalize (lg_sl ([.int xp]) ++ List.replicate (1 - (lg_sl ([.int xp])).length) Slot.unset).toArray = ls at hl ⊢
  have hl : lv_has ls 1 [(0, .int xp)] := hl
  refine lv_iload_n hx hb dX0_isPattern_0 rfl (lv_at hl 0 rfl) ?_
  refine lv_if_lt (tgt := 13) hx hb dX0_isPattern_1 (by decide) (fun c_1 => ?_) (fun c_1 => ?_)
  · skip
    refine lv_iconst (v := nI 0) hx hb dX0_isPattern_13 xc_0 ?_
    exact xr_retSz hx hb hr hlk xr_nz0 rfl (xr_B0 (pt_rngN' 4 (by decide) (by first | exact Or.inl c_1 | exact Or.inr c_6))) dX0_isPattern_14
  · skip
    refine lv_iload_n hx hb dX0_isPattern_4 rfl (lv_at hl 0 rfl) ?_
    refine lv_iconst (v := nI 4) hx hb dX0_isPattern_5 xc_4 ?_
    refine lv_icmp_ge (tgt := 13) hx hb dX0_isPattern_6 (by decide) (fun c_6 => ?_) (fun c_6 => ?_)
    · skip
      refine lv_iconst (v := nI 0) hx hb dX0_isPattern_13 xc_0 ?_
      exact xr_retSz hx hb hr hlk xr_nz0 rfl (xr_B0 (pt_rngN' 4 (by decide) (by first | exact Or.inl c_1 | exact Or.inr c_6))) dX0_isPattern_14
    · skip
      refine lv_iconst (v := nI 1) hx hb dX0_isPattern_9 xc_1 ?_
      refine lv_goto (tgt := 14) hx hb dX0_isPattern_10 (by decide) ?_
      exact xr_retSz hx hb hr hlk xr_nz1 rfl (xr_B1 (pt_rng' 4 (by decide) c_1 c_6)) dX0_isPattern_14

set_option maxHeartbeats 4000000 in
set_option maxRecDepth 100000 in
/-- arity(token) -/
theorem mt_X0_arity (l : Launch) (t : Nat) (ht : t ≤ 7) : Met l yX0_arity (ws_ yX0_arity cX0_arity 1 (some .int)) ({ frames := 0, cells := 0, slots := 0, locals := 0 } : Room) (va_Pc [.int (nI t)] (fun _ => True)) (vp_Si (fun r : Int32 => r = nI (pt_ar t))) 0 0 xr_no := by
  refine Met.ofW (cc := cX0_arity) (maxL := 1) (ret := (some .int)) (by decide) rfl ?_
  intro p e s m args below meth c s₁ B hml hv
  obtain ⟨rfl, -⟩ := hv
  have hx := B.exec
  have hb := B.bytes
  have hr := B.returns
  have hlk := B.notSynchronized
  have hts := atoms_spec (ws := (ws_ yX0_arity cX0_arity 1 (some .int))) B.pre
  have hts : ∀ w ∈ lw_all, w.before _ s = true := fun w h => hts w (List.mem_cons_of_mem _ h)
  have hown : s.vm.findClass RX0 = some m.cls := findClass_of_methodNamed B.named
  have hl := lv_entry ([.int (nI t)]) (n := 1) (Nat.le_of_ble_eq_true rfl)
  rw [lg_entry_eq]
  generalize (lg_sl ([.int (nI t)]) ++ List.replicate (1 - (lg_sl ([.int (nI t)])).length) Slot.unset).toArray = ls at hl ⊢
  have hl : lv_has ls 1 [(0, .int (nI t))] := hl
  refine lv_iload_n hx hb dX0_arity_0 rfl (lv_at hl 0 rfl) ?_
  refine lv_iconst (v := nI 2) hx hb dX0_arity_1 xc_2 ?_
  refine xr_icmp_ge (tgt := 7) hx hb dX0_arity_2 (by decide) (by omega) (by omega) (fun c_2 => ?_) (fun c_2 => ?_)
  · skip
    refine lv_iload_n hx hb dX0_arity_7 rfl (lv_at hl 0 rfl) ?_
    refine lv_iconst (v := nI 4) hx hb dX0_arity_8 xc_4 ?_
    refine xr_icmp_ge (tgt := 16) hx hb dX0_arity_9 (by decide) (by omega) (by omega) (fun c_9 => ?_) (fun c_9 => ?_)
    · skip
      refine lv_iconst (v := nI 0) hx hb dX0_arity_16 xc_0 ?_
      exact xr_retSi hx hb hr hlk rfl (by rw [pt_ar0 (by omega)]) dX0_arity_17
    · skip
      refine lv_iconst (v := nI 1) hx hb dX0_arity_12 xc_1 ?_
      refine lv_goto (tgt := 17) hx hb dX0_arity_13 (by decide) ?_
      exact xr_retSi hx hb hr hlk rfl (by rw [pt_ar1 (by omega) (by omega)]) dX0_arity_17
  · skip
    refine lv_iconst (v := nI 2) hx hb dX0_arity_5 xc_2 ?_
    exact xr_retSi hx hb hr hlk rfl (by rw [pt_ar2 (by omega)]) dX0_arity_6

set_option maxHeartbeats 4000000 in
set_option maxRecDepth 100000 in
/-- missing(p) -/
theorem mt_X0_missing (l : Launch) (dC : Nat → ClassId) (dI : Nat → Nat → Nat) {ad : Nat → Nat} {cB cJ : ClassId} {sizes tokens spans subject parts : Nat → Nat} {states : Nat → Int64} {table stateAt fits sameAs : Nat → Nat} {cnt kn sc : Nat} {sz : Nat → Nat} {tk : Nat → Nat → Nat} (hL : XL sizes tokens subject cnt sz tk) (j : Nat) (hj : j < 4) : Met l yX0_missing (ws_ yX0_missing cX0_missing 4 (some .int)) ({ frames := 1, cells := 0, slots := 0, locals := 20 } : Room) (va_Pc [.ref (ad 0), .int (nI j)] (xr_Pr (dC, dI) vwCl (XW ad cB cJ sizes tokens spans subject parts states table stateAt fits sameAs cnt kn sc) (tyX cB cJ))) (vp_Si (fun r : Int32 => r = nI (pt_need (tk j) (sz j)))) 0 0 xr_no := by
  refine Met.ofW (cc := cX0_missing) (maxL := 4) (ret := (some .int)) (by decide) rfl ?_
  intro p e s m args below meth c s₁ B hml hv
  obtain ⟨rfl, hP, hK⟩ := hv
  have hx := B.exec
  have hb := B.bytes
  have hr := B.returns
  have hlk := B.notSynchronized
  have hts := atoms_spec (ws := (ws_ yX0_missing cX0_missing 4 (some .int))) B.pre
  have hts : ∀ w ∈ lw_all, w.before _ s = true := fun w h => hts w (List.mem_cons_of_mem _ h)
  have hown : s.vm.findClass RX0 = some m.cls := findClass_of_methodNamed B.named
  have hl := lv_entry ([.ref (ad 0), .int (nI j)]) (n := 4) (Nat.le_of_ble_eq_true rfl)
  rw [lg_entry_eq]
  generalize (lg_sl ([.ref (ad 0), .int (nI j)]) ++ List.replicate (4 - (lg_sl ([.ref (ad 0), .int (nI j)])).length) Slot.unset).toArray = ls at hl ⊢
  have hl : lv_has ls 4 [(0, .ref (ad 0)), (1, .int (nI j))] := hl
  have hz := hL.1.1 j hj
  refine lv_iconst (v := nI 1) hx hb dX0_missing_0 xc_1 ?_
  refine lv_istore_n (lv' := [(2, .int (nI 1)), (0, .ref (ad 0)), (1, .int (nI j))]) hx hb dX0_missing_1 rfl hl (by decide) rfl (fun ls hl => ?_)
  refine lv_iconst (v := nI 0) hx hb dX0_missing_2 xc_0 ?_
  refine lv_istore_n (lv' := [(3, .int (nI 0)), (2, .int (nI 1)), (0, .ref (ad 0)), (1, .int (nI j))]) hx hb dX0_missing_3 rfl hl (by decide) rfl (fun ls hl => ?_)
  have key4 : ∀ (d_4 : Nat) (k : Nat) (ls : Array Slot), (k ≤ sz j) → (sz j - k) < d_4 → lv_has ls 4 [(0, .ref (ad 0)), (1, .int (nI j)), (2, .int (nI (pt_need (tk j) k))), (3, .int (nI k))] → W p l e (headSpec (ws_ yX0_missing cX0_missing 4 (some .int)) ({ frames := 1, cells := 0, slots := 0, locals := 20 } : Room)).room s m ([.ref (ad 0), .int (nI j)] : List Value).toArray below meth c s.heap [] 0 0 (MQ below (vp_Si (fun r : Int32 => r = nI (pt_need (tk j) (sz j)))) ([.ref (ad 0), .int (nI j)] : List Value).toArray s 0 0 xr_no) (F0 m 4 ls []) := by
    intro d_4
    induction d_4 with
    | zero => intro k ls hk hd_4; exact absurd hd_4 (Nat.not_lt_zero _)
    | succ d_4 ih_4 =>
      intro k ls hk hd_4 hl
      refine lv_iload_n hx hb dX0_missing_4 rfl (lv_at hl 3 rfl) ?_
      refine lv_aload_n hx hb dX0_missing_5 rfl (lv_at hl 0 rfl) ?_
      refine va_get (D := (dC, dI)) (ci := 0) (v := .ref (ad 1)) (C := RX0) (T := TX0) (N := 13) hx hb hts in_X0 hown hK hP 0 rfl rfl 0 (by decide) (hts _ q31) (fun _ h9 => h9) rfl dX0_missing_6 ?_
      refine lv_iload_n hx hb dX0_missing_9 rfl (lv_at hl 1 rfl) ?_
      refine xr_bald hx hb hK hP 1 0 rfl rfl (k := j) (hj) (by decide) dX0_missing_10 ?_
      refine xr_conv (y := (nI (sz j))) (by rw [hL.2.1 j hj]) ?_
      refine xr_icmp_ge (tgt := 39) hx hb dX0_missing_11 (by decide) (by omega) (by omega) (fun c_11 => ?_) (fun c_11 => ?_)
      · skip
        refine lv_iload_n hx hb dX0_missing_39 rfl (lv_at hl 2 rfl) ?_
        exact xr_retSi hx hb hr hlk rfl (by rw [show sz j = k by omega]) dX0_missing_40
      · have hn1 := pt_wf_ok hL.1 (l := j) (by omega) k c_11
        refine lv_iload_n hx hb dX0_missing_14 rfl (lv_at hl 2 rfl) ?_
        refine lv_aload_n hx hb dX0_missing_15 rfl (lv_at hl 0 rfl) ?_
        refine va_get (D := (dC, dI)) (ci := 0) (v := .ref (ad 2)) (C := RX0) (T := TX0) (N := 13) hx hb hts in_X0 hown hK hP 0 rfl rfl 1 (by decide) (hts _ q32) (fun _ h9 => h9) rfl dX0_missing_16 ?_
        refine lv_iload_n hx hb dX0_missing_19 rfl (lv_at hl 1 rfl) ?_
        refine lv_bipush (v := nI 9) hx hb dX0_missing_20 xb_9 ?_
        refine xr_imul hx hb dX0_missing_22 ?_
        refine lv_iload_n hx hb dX0_missing_23 rfl (lv_at hl 3 rfl) ?_
        refine xr_iadd hx hb dX0_missing_24 ?_
        refine xr_bald hx hb hK hP 2 0 rfl rfl (k := (j * 9) + k) (by omega) (by decide) dX0_missing_25 ?_
        refine xr_conv (y := (nI (tk j k))) (by rw [hL.2.2.1 j hj k c_11]) ?_
        refine xr_cSi (rest := [.int (nI (pt_need (tk j) k))]) ⟨hx, hb, hml, hown, hts⟩ (mt_X0_arity l (tk j k) (pt_wf_7 hL.1 (by omega) c_11)) (va_cwS 1 hts gS_X0_41 rfl rfl rfl hd_X0_arity ⟨Nat.le_of_ble_eq_true rfl, Nat.le_of_ble_eq_true rfl⟩) rfl hl.1 rfl (Nat.le_of_ble_eq_true rfl) dX0_missing_26 ⟨Nat.zero_le _, Nat.zero_le _⟩ (fun r_26 h_26 => ?_)
        subst h_26
        refine lv_iconst (v := nI 1) hx hb dX0_missing_29 xc_1 ?_
        refine lv_isub hx hb dX0_missing_30 ?_
        refine lv_iadd hx hb dX0_missing_31 ?_
        refine xr_conv (y := (nI (pt_need (tk j) (k + 1)))) (by rw [xr_needI hn1, pt_need_s]) ?_
        refine lv_istore_n (lv' := [(2, .int (nI (pt_need (tk j) (k + 1)))), (0, .ref (ad 0)), (1, .int (nI j)), (3, .int (nI k))]) hx hb dX0_missing_32 rfl hl (by decide) rfl (fun ls hl => ?_)
        refine lv_iinc (v := (nI (k + 1))) (lv' := [(3, .int (nI (k + 1))), (2, .int (nI (pt_need (tk j) (k + 1)))), (0, .ref (ad 0)), (1, .int (nI j))]) hx hb dX0_missing_33 hl (k := 3) rfl (xr_inc _) (by decide) rfl (fun ls hl => ?_)
        refine lv_goto (tgt := 4) hx hb dX0_missing_36 (by decide) ?_
        exact ih_4 (k + 1) ls (by omega) (by omega) (lv_sub hl [2, 3, 1, 0] rfl)
  exact key4 _ 0 ls (Nat.zero_le _) (Nat.lt_succ_self _) (lv_sub hl [2, 3, 1, 0] rfl)

set_option maxHeartbeats 4000000 in
set_option maxRecDepth 100000 in
/-- missingInSubject() -/
theorem mt_X0_missingInSubject (l : Launch) (dC : Nat → ClassId) (dI : Nat → Nat → Nat) {ad : Nat → Nat} {cB cJ : ClassId} {sizes tokens spans subject parts : Nat → Nat} {states : Nat → Int64} {table stateAt fits sameAs : Nat → Nat} {cnt kn sc : Nat} {sz : Nat → Nat} {tk : Nat → Nat → Nat} (hL : XL sizes tokens subject cnt sz tk) : Met l yX0_missingInSubject (ws_ yX0_missingInSubject cX0_missingInSubject 3 (some .int)) ({ frames := 1, cells := 0, slots := 0, locals := 20 } : Room) (va_Pc [.ref (ad 0)] (xr_Pr (dC, dI) vwCl (XW ad cB cJ sizes tokens spans subject parts states table stateAt fits sameAs cnt kn sc) (tyX cB cJ))) (vp_Si (fun r : Int32 => r = nI (pt_need (tk 4) (sz 4)))) 0 0 xr_no := by
  refine Met.ofW (cc := cX0_missingInSubject) (maxL := 3) (ret := (some .int)) (by decide) rfl ?_
  intro p e s m args below meth c s₁ B hml hv
  obtain ⟨rfl, hP, hK⟩ := hv
  have hx := B.exec
  have hb := B.bytes
  have hr := B.returns
  have hlk := B.notSynchronized
  have hts := atoms_spec (ws := (ws_ yX0_missingInSubject cX0_missingInSubject 3 (some .int))) B.pre
  have hts : ∀ w ∈ lw_all, w.before _ s = true := fun w h => hts w (List.mem_cons_of_mem _ h)
  have hown : s.vm.findClass RX0 = some m.cls := findClass_of_methodNamed B.named
  have hl := lv_entry ([.ref (ad 0)]) (n := 3) (Nat.le_of_ble_eq_true rfl)
  rw [lg_entry_eq]
  generalize (lg_sl ([.ref (ad 0)]) ++ List.replicate (3 - (lg_sl ([.ref (ad 0)])).length) Slot.unset).toArray = ls at hl ⊢
  have hl : lv_has ls 3 [(0, .ref (ad 0))] := hl
  obtain rfl : cnt = sz 4 := hL.2.2.2.1
  have hz := hL.1.2.1
  refine lv_iconst (v := nI 1) hx hb dX0_missingInSubject_0 xc_1 ?_
  refine lv_istore_n (lv' := [(1, .int (nI 1)), (0, .ref (ad 0))]) hx hb dX0_missingInSubject_1 rfl hl (by decide) rfl (fun ls hl => ?_)
  refine lv_iconst (v := nI 0) hx hb dX0_missingInSubject_2 xc_0 ?_
  refine lv_istore_n (lv' := [(2, .int (nI 0)), (1, .int (nI 1)), (0, .ref (ad 0))]) hx hb dX0_missingInSubject_3 rfl hl (by decide) rfl (fun ls hl => ?_)
  have key4 : ∀ (d_4 : Nat) (k : Nat) (ls : Array Slot), (k ≤ sz 4) → (sz 4 - k) < d_4 → lv_has ls 3 [(0, .ref (ad 0)), (1, .int (nI (pt_need (tk 4) k))), (2, .int (nI k))] → W p l e (headSpec (ws_ yX0_missingInSubject cX0_missingInSubject 3 (some .int)) ({ frames := 1, cells := 0, slots := 0, locals := 20 } : Room)).room s m ([.ref (ad 0)] : List Value).toArray below meth c s.heap [] 0 0 (MQ below (vp_Si (fun r : Int32 => r = nI (pt_need (tk 4) (sz 4)))) ([.ref (ad 0)] : List Value).toArray s 0 0 xr_no) (F0 m 4 ls []) := by
    intro d_4
    induction d_4 with
    | zero => intro k ls hk hd_4; exact absurd hd_4 (Nat.not_lt_zero _)
    | succ d_4 ih_4 =>
      intro k ls hk hd_4 hl
      refine lv_iload_n hx hb dX0_missingInSubject_4 rfl (lv_at hl 2 rfl) ?_
      refine lv_aload_n hx hb dX0_missingInSubject_5 rfl (lv_at hl 0 rfl) ?_
      refine va_get (D := (dC, dI)) (ci := 0) (v := .int (nI (sz 4))) (C := RX0) (T := TX0) (N := 13) hx hb hts in_X0 hown hK hP 0 rfl rfl 3 (by decide) (hts _ q34) (fun _ h9 => h9) rfl dX0_missingInSubject_6 ?_
      refine xr_icmp_ge (tgt := 32) hx hb dX0_missingInSubject_9 (by decide) (by omega) (by omega) (fun c_9 => ?_) (fun c_9 => ?_)
      · skip
        refine lv_iload_n hx hb dX0_missingInSubject_32 rfl (lv_at hl 1 rfl) ?_
        exact xr_retSi hx hb hr hlk rfl (by rw [show sz 4 = k by omega]) dX0_missingInSubject_33
      · have hn1 := pt_wf_ok hL.1 (l := 4) (by decide) k c_9
        refine lv_iload_n hx hb dX0_missingInSubject_12 rfl (lv_at hl 1 rfl) ?_
        refine lv_aload_n hx hb dX0_missingInSubject_13 rfl (lv_at hl 0 rfl) ?_
        refine va_get (D := (dC, dI)) (ci := 0) (v := .ref (ad 4)) (C := RX0) (T := TX0) (N := 13) hx hb hts in_X0 hown hK hP 0 rfl rfl 4 (by decide) (hts _ q35) (fun _ h9 => h9) rfl dX0_missingInSubject_14 ?_
        refine lv_iload_n hx hb dX0_missingInSubject_17 rfl (lv_at hl 2 rfl) ?_
        refine xr_bald hx hb hK hP 4 0 rfl rfl (k := k) (by omega) (by decide) dX0_missingInSubject_18 ?_
        refine xr_conv (y := (nI (tk 4 k))) (by rw [hL.2.2.2.2 k c_9]) ?_
        refine xr_cSi (rest := [.int (nI (pt_need (tk 4) k))]) ⟨hx, hb, hml, hown, hts⟩ (mt_X0_arity l (tk 4 k) (pt_wf_7 hL.1 (by decide) c_9)) (va_cwS 1 hts gS_X0_41 rfl rfl rfl hd_X0_arity ⟨Nat.le_of_ble_eq_true rfl, Nat.le_of_ble_eq_true rfl⟩) rfl hl.1 rfl (Nat.le_of_ble_eq_true rfl) dX0_missingInSubject_19 ⟨Nat.zero_le _, Nat.zero_le _⟩ (fun r_19 h_19 => ?_)
        subst h_19
        refine lv_iconst (v := nI 1) hx hb dX0_missingInSubject_22 xc_1 ?_
        refine lv_isub hx hb dX0_missingInSubject_23 ?_
        refine lv_iadd hx hb dX0_missingInSubject_24 ?_
        refine xr_conv (y := (nI (pt_need (tk 4) (k + 1)))) (by rw [xr_needI hn1, pt_need_s]) ?_
        refine lv_istore_n (lv' := [(1, .int (nI (pt_need (tk 4) (k + 1)))), (0, .ref (ad 0)), (2, .int (nI k))]) hx hb dX0_missingInSubject_25 rfl hl (by decide) rfl (fun ls hl => ?_)
        refine lv_iinc (v := (nI (k + 1))) (lv' := [(2, .int (nI (k + 1))), (1, .int (nI (pt_need (tk 4) (k + 1)))), (0, .ref (ad 0))]) hx hb dX0_missingInSubject_26 hl (k := 2) rfl (xr_inc _) (by decide) rfl (fun ls hl => ?_)
        refine lv_goto (tgt := 4) hx hb dX0_missingInSubject_29 (by decide) ?_
        exact ih_4 (k + 1) ls (by omega) (by omega) (lv_sub hl [2, 1, 0] rfl)
  exact key4 _ 0 ls (Nat.zero_le _) (Nat.lt_succ_self _) (lv_sub hl [2, 1, 0] rfl)

set_option maxHeartbeats 4000000 in
set_option maxRecDepth 100000 in
/-- complete(p) -/
theorem mt_X0_complete (l : Launch) (dC : Nat → ClassId) (dI : Nat → Nat → Nat) {ad : Nat → Nat} {cB cJ : ClassId} {sizes tokens spans subject parts : Nat → Nat} {states : Nat → Int64} {table stateAt fits sameAs : Nat → Nat} {cnt kn sc : Nat} {sz : Nat → Nat} {tk : Nat → Nat → Nat} (hL : XL sizes tokens subject cnt sz tk) (xp : Int32) : Met l yX0_complete (ws_ yX0_complete cX0_complete 2 (some .boolean)) ({ frames := 2, cells := 0, slots := 0, locals := 43 } : Room) (va_Pc [.ref (ad 0), .int xp] (xr_Pr (dC, dI) vwCl (XW ad cB cJ sizes tokens spans subject parts states table stateAt fits sameAs cnt kn sc) (tyX cB cJ))) (vp_Si (fun r : Int32 => xr_B r (pt_complete sz tk xp))) 0 0 xr_no := by
  refine Met.ofW (cc := cX0_complete) (maxL := 2) (ret := (some .boolean)) (by decide) rfl ?_
  intro p e s m args below meth c s₁ B hml hv
  obtain ⟨rfl, hP, hK⟩ := hv
  have hx := B.exec
  have hb := B.bytes
  have hr := B.returns
  have hlk := B.notSynchronized
  have hts := atoms_spec (ws := (ws_ yX0_complete cX0_complete 2 (some .boolean))) B.pre
  have hts : ∀ w ∈ lw_all, w.before _ s = true := fun w h => hts w (List.mem_cons_of_mem _ h)
  have hown : s.vm.findClass RX0 = some m.cls := findClass_of_methodNamed B.named
  have hl := lv_entry ([.ref (ad 0), .int xp]) (n := 2) (Nat.le_of_ble_eq_true rfl)
  rw [lg_entry_eq]
  generalize (lg_sl ([.ref (ad 0), .int xp]) ++ List.replicate (2 - (lg_sl ([.ref (ad 0), .int xp])).length) Slot.unset).toArray = ls at hl ⊢
  have hl : lv_has ls 2 [(0, .ref (ad 0)), (1, .int xp)] := hl
  refine lv_iload_n hx hb dX0_complete_0 rfl (lv_at hl 1 rfl) ?_
  refine xr_cSi (rest := []) ⟨hx, hb, hml, hown, hts⟩ (mt_X0_isPattern l xp) (va_cwS 1 hts gS_X0_49 rfl rfl rfl hd_X0_isPattern ⟨Nat.le_of_ble_eq_true rfl, Nat.le_of_ble_eq_true rfl⟩) rfl hl.1 rfl (Nat.le_of_ble_eq_true rfl) dX0_complete_1 ⟨Nat.zero_le _, Nat.zero_le _⟩ (fun r_1 h_1 => ?_)
  refine xr_ifeqB (tgt := 19) hx hb h_1 dX0_complete_4 (by decide) (fun c_4 => ?_) (fun c_4 => ?_)
  · skip
    refine lv_iconst (v := nI 0) hx hb dX0_complete_19 xc_0 ?_
    exact xr_retSz hx hb hr hlk xr_nz0 rfl (by first | exact xr_B0 (fun ⟨j, hj, e, _⟩ => c_4 ⟨j, hj, e⟩) | exact xr_B0 (fun ⟨i, hi, e, h⟩ => by rw [(nI_eq (by omega) (by omega)).mp e] at c_12; omega)) dX0_complete_20
  · obtain ⟨j, hj, rfl⟩ := c_4
    have hz := hL.1.1 j hj
    have hnl := pt_need_le (tk j) (sz j)
    refine lv_aload_n hx hb dX0_complete_7 rfl (lv_at hl 0 rfl) ?_
    refine lv_iload_n hx hb dX0_complete_8 rfl (lv_at hl 1 rfl) ?_
    refine xr_cVi (rest := []) ⟨hx, hb, hml, hown, hts⟩ (mt_X0_missing l dC dI hL j hj) (cwV 1 hts gV_X0_53 rfl rfl rfl hd_X0_missing ⟨Nat.le_of_ble_eq_true rfl, Nat.le_of_ble_eq_true rfl⟩) hK hP 0 0 rfl rfl rfl hl.1 rfl (Nat.le_of_ble_eq_true rfl) dX0_complete_9 ⟨Nat.zero_le _, Nat.zero_le _⟩ (fun r_9 h_9 => ?_)
    subst h_9
    refine xr_if_ne (tgt := 19) hx hb dX0_complete_12 (by decide) (by omega) (fun c_12 => ?_) (fun c_12 => ?_)
    · skip
      refine lv_iconst (v := nI 0) hx hb dX0_complete_19 xc_0 ?_
      exact xr_retSz hx hb hr hlk xr_nz0 rfl (by first | exact xr_B0 (fun ⟨j, hj, e, _⟩ => c_4 ⟨j, hj, e⟩) | exact xr_B0 (fun ⟨i, hi, e, h⟩ => by rw [(nI_eq (by omega) (by omega)).mp e] at c_12; omega)) dX0_complete_20
    · skip
      refine lv_iconst (v := nI 1) hx hb dX0_complete_15 xc_1 ?_
      refine lv_goto (tgt := 20) hx hb dX0_complete_16 (by decide) ?_
      exact xr_retSz hx hb hr hlk xr_nz1 rfl (xr_B1 ⟨j, hj, rfl, c_12⟩) dX0_complete_20

set_option maxHeartbeats 4000000 in
set_option maxRecDepth 100000 in
/-- whole() -/
theorem mt_X0_whole (l : Launch) (dC : Nat → ClassId) (dI : Nat → Nat → Nat) {ad : Nat → Nat} {cB cJ : ClassId} {sizes tokens spans subject parts : Nat → Nat} {states : Nat → Int64} {table stateAt fits sameAs : Nat → Nat} {cnt kn sc : Nat} {sz : Nat → Nat} {tk : Nat → Nat → Nat} (hL : XL sizes tokens subject cnt sz tk) : Met l yX0_whole (ws_ yX0_whole cX0_whole 1 (some .boolean)) ({ frames := 2, cells := 0, slots := 0, locals := 42 } : Room) (va_Pc [.ref (ad 0)] (xr_Pr (dC, dI) vwCl (XW ad cB cJ sizes tokens spans subject parts states table stateAt fits sameAs cnt kn sc) (tyX cB cJ))) (vp_Si (fun r : Int32 => xr_B r (pt_need (tk 4) (sz 4) = 0))) 0 0 xr_no := by
  refine Met.ofW (cc := cX0_whole) (maxL := 1) (ret := (some .boolean)) (by decide) rfl ?_
  intro p e s m args below meth c s₁ B hml hv
  obtain ⟨rfl, hP, hK⟩ := hv
  have hx := B.exec
  have hb := B.bytes
  have hr := B.returns
  have hlk := B.notSynchronized
  have hts := atoms_spec (ws := (ws_ yX0_whole cX0_whole 1 (some .boolean))) B.pre
  have hts : ∀ w ∈ lw_all, w.before _ s = true := fun w h => hts w (List.mem_cons_of_mem _ h)
  have hown : s.vm.findClass RX0 = some m.cls := findClass_of_methodNamed B.named
  have hl := lv_entry ([.ref (ad 0)]) (n := 1) (Nat.le_of_ble_eq_true rfl)
  rw [lg_entry_eq]
  generalize (lg_sl ([.ref (ad 0)]) ++ List.replicate (1 - (lg_sl ([.ref (ad 0)])).length) Slot.unset).toArray = ls at hl ⊢
  have hl : lv_has ls 1 [(0, .ref (ad 0))] := hl
  have hz := hL.1.2.1
  have hnl := pt_need_le (tk 4) (sz 4)
  refine lv_aload_n hx hb dX0_whole_0 rfl (lv_at hl 0 rfl) ?_
  refine xr_cVi (rest := []) ⟨hx, hb, hml, hown, hts⟩ (mt_X0_missingInSubject l dC dI hL) (cwV 0 hts gV_X0_60 rfl rfl rfl hd_X0_missingInSubject ⟨Nat.le_of_ble_eq_true rfl, Nat.le_of_ble_eq_true rfl⟩) hK hP 0 0 rfl rfl rfl hl.1 rfl (Nat.le_of_ble_eq_true rfl) dX0_whole_1 ⟨Nat.zero_le _, Nat.zero_le _⟩ (fun r_1 h_1 => ?_)
  subst h_1
  refine xr_if_ne (tgt := 11) hx hb dX0_whole_4 (by decide) (by omega) (fun c_4 => ?_) (fun c_4 => ?_)
  · skip
    refine lv_iconst (v := nI 0) hx hb dX0_whole_11 xc_0 ?_
    exact xr_retSz hx hb hr hlk xr_nz0 rfl (xr_B0 (by omega)) dX0_whole_12
  · skip
    refine lv_iconst (v := nI 1) hx hb dX0_whole_7 xc_1 ?_
    refine lv_goto (tgt := 12) hx hb dX0_whole_8 (by decide) ?_
    exact xr_retSz hx hb hr hlk xr_nz1 rfl (xr_B1 c_4) dX0_whole_12

set_option maxHeartbeats 4000000 in
set_option maxRecDepth 100000 in
/-- extend(p, token) -/
theorem mt_X0_extend (l : Launch) (dC : Nat → ClassId) (dI : Nat → Nat → Nat) (hz : Nat) {ad : Nat → Nat} {cB cJ : ClassId} {sizes tokens spans subject parts : Nat → Nat} {states : Nat → Int64} {table stateAt fits sameAs : Nat → Nat} {cnt kn sc : Nat} {sz : Nat → Nat} {tk : Nat → Nat → Nat} (hI : XI (sizes, tokens, spans, subject, parts, states, table, stateAt, fits, sameAs, cnt, kn, sc) sz tk) (xp xt : Int32) : Met l yX0_extend (ws_ yX0_extend cX0_extend 3 (some .int)) ({ frames := 2, cells := 0, slots := 0, locals := 43 } : Room) (va_Pc [.ref (ad 0), .int xp, .int xt] (xr_Pw (dC, dI) vwCl (XW ad cB cJ sizes tokens spans subject parts states table stateAt fits sameAs cnt kn sc) (tyX cB cJ) hz)) (va_Qi (fun (r : Int32) (u : XS) => r = (pt_extend sz tk xp xt).1 ∧ XI u (pt_extend sz tk xp xt).2.1 (pt_extend sz tk xp xt).2.2) (xr_Bw (dC, dI) vwCl (tyX cB cJ) (va_A (XW ad cB cJ sizes tokens spans subject parts states table stateAt fits sameAs cnt kn sc) hz) (fun u => XWs ad cB cJ u)) (va_A (XW ad cB cJ sizes tokens spans subject parts states table stateAt fits sameAs cnt kn sc) hz)) 0 0 (va_A (XW ad cB cJ sizes tokens spans subject parts states table stateAt fits sameAs cnt kn sc) hz) := by
  refine Met.ofW (cc := cX0_extend) (maxL := 3) (ret := (some .int)) (by decide) rfl ?_
  intro p e s m args below meth c s₁ B hml hv
  obtain ⟨rfl, hsz, hP, hK, hD0⟩ := hv
  have hx := B.exec
  have hb := B.bytes
  have hr := B.returns
  have hlk := B.notSynchronized
  have hts := atoms_spec (ws := (ws_ yX0_extend cX0_extend 3 (some .int))) B.pre
  have hts : ∀ w ∈ lw_all, w.before _ s = true := fun w h => hts w (List.mem_cons_of_mem _ h)
  have hown : s.vm.findClass RX0 = some m.cls := findClass_of_methodNamed B.named
  subst hsz
  have hD := hD0.self (sz := s.heap.size)
  generalize hAe : va_A (XW ad cB cJ sizes tokens spans subject parts states table stateAt fits sameAs cnt kn sc) s.heap.size = A at hD ⊢
  have hA : ∀ q : Nat, s.heap.size ≤ q → A q := fun q h => by rw [← hAe]; exact Or.inr h
  have hS : va_S A s.heap s.heap [] := va_S.rf
  have hl := lv_entry ([.ref (ad 0), .int xp, .int xt]) (n := 3) (Nat.le_of_ble_eq_true rfl)
  rw [lg_entry_eq]
  generalize (lg_sl ([.ref (ad 0), .int xp, .int xt]) ++ List.replicate (3 - (lg_sl ([.ref (ad 0), .int xp, .int xt])).length) Slot.unset).toArray = ls at hl ⊢
  have hl : lv_has ls 3 [(0, .ref (ad 0)), (1, .int xp), (2, .int xt)] := hl
  have hI0 := hI
  obtain ⟨hL, hk1, hkn⟩ := hI
  refine lv_iload_n hx hb dX0_extend_0 rfl (lv_at hl 1 rfl) ?_
  refine xr_cSi (rest := []) ⟨hx, hb, hml, hown, hts⟩ (mt_X0_isPattern l xp) (va_cwS 1 hts gS_X0_49 rfl rfl rfl hd_X0_isPattern ⟨Nat.le_of_ble_eq_true rfl, Nat.le_of_ble_eq_true rfl⟩) rfl hl.1 rfl (Nat.le_of_ble_eq_true rfl) dX0_extend_1 ⟨Nat.zero_le _, Nat.zero_le _⟩ (fun r_1 h_1 => ?_)
  refine xr_ifeqB (tgt := 17) hx hb h_1 dX0_extend_4 (by decide) (fun c_4 => ?_) (fun c_4 => ?_)
  · skip
    refine lv_iconst (v := -1) hx hb dX0_extend_17 (by decide) ?_
    exact xr_retWi ((sizes, tokens, spans, subject, parts, states, table, stateAt, fits, sameAs, cnt, kn, sc)) hx hb hr hlk (by first | (unfold pt_extend; rw [pt_ix_no (by decide) c_4]; exact ⟨rfl, hI0⟩) | (unfold pt_extend; rw [pt_ix_in hj (by decide), pt_ix_no (by decide) (pt_rngNL 7 (by decide) (by first | exact Or.inl c_8 | exact Or.inr c_14))]; exact ⟨rfl, hI0⟩)) hP hK hD hS dX0_extend_18
  · obtain ⟨j, hj, rfl⟩ := c_4
    have hz := hL.1.1 j hj
    have hnl := pt_need_le (tk j) (sz j)
    refine lv_iload_n hx hb dX0_extend_7 rfl (lv_at hl 2 rfl) ?_
    refine lv_if_lt (tgt := 17) hx hb dX0_extend_8 (by decide) (fun c_8 => ?_) (fun c_8 => ?_)
    · skip
      refine lv_iconst (v := -1) hx hb dX0_extend_17 (by decide) ?_
      exact xr_retWi ((sizes, tokens, spans, subject, parts, states, table, stateAt, fits, sameAs, cnt, kn, sc)) hx hb hr hlk (by first | (unfold pt_extend; rw [pt_ix_no (by decide) c_4]; exact ⟨rfl, hI0⟩) | (unfold pt_extend; rw [pt_ix_in hj (by decide), pt_ix_no (by decide) (pt_rngNL 7 (by decide) (by first | exact Or.inl c_8 | exact Or.inr c_14))]; exact ⟨rfl, hI0⟩)) hP hK hD hS dX0_extend_18
    · skip
      refine lv_iload_n hx hb dX0_extend_11 rfl (lv_at hl 2 rfl) ?_
      refine lv_bipush (v := nI 7) hx hb dX0_extend_12 xb_7 ?_
      refine lv_icmp_le (tgt := 19) hx hb dX0_extend_14 (by decide) (fun c_14 => ?_) (fun c_14 => ?_)
      · obtain ⟨k, hk, rfl⟩ := pt_rngL 7 (by decide) c_8 c_14
        have hex : pt_extend sz tk (nI j) (nI k) = pt_app sz tk j k 9 := by unfold pt_extend; rw [pt_ix_in hj (by decide), pt_ix_in hk (by decide)]
        refine lv_aload_n hx hb dX0_extend_19 rfl (lv_at hl 0 rfl) ?_
        refine va_get (D := (dC, dI)) (ci := 0) (v := .ref (ad 1)) (C := RX0) (T := TX0) (N := 13) hx hb hts in_X0 hown hK hP 0 rfl rfl 0 (by decide) (hts _ q31) (fun _ h9 => h9) rfl dX0_extend_20 ?_
        refine lv_iload_n hx hb dX0_extend_23 rfl (lv_at hl 1 rfl) ?_
        refine xr_bald hx hb hK hP 1 0 rfl rfl (k := j) (hj) (by decide) dX0_extend_24 ?_
        refine xr_conv (y := (nI (sz j))) (by rw [hL.2.1 j hj]) ?_
        refine lv_bipush (v := nI 9) hx hb dX0_extend_25 xb_9 ?_
        refine xr_icmp_ge (tgt := 38) hx hb dX0_extend_27 (by decide) (by omega) (by omega) (fun c_27 => ?_) (fun c_27 => ?_)
        · skip
          refine lv_bipush (v := -2) hx hb dX0_extend_38 (by decide) ?_
          exact xr_retWi ((sizes, tokens, spans, subject, parts, states, table, stateAt, fits, sameAs, cnt, kn, sc)) hx hb hr hlk (by rw [hex, pt_app_no (by omega)]; exact ⟨rfl, hI0⟩) hP hK hD hS dX0_extend_40
        · skip
          refine lv_aload_n hx hb dX0_extend_30 rfl (lv_at hl 0 rfl) ?_
          refine lv_iload_n hx hb dX0_extend_31 rfl (lv_at hl 1 rfl) ?_
          refine xr_cVi (rest := []) ⟨hx, hb, hml, hown, hts⟩ (mt_X0_missing l dC dI hL j hj) (cwV 1 hts gV_X0_53 rfl rfl rfl hd_X0_missing ⟨Nat.le_of_ble_eq_true rfl, Nat.le_of_ble_eq_true rfl⟩) hK hP 0 0 rfl rfl rfl hl.1 rfl (Nat.le_of_ble_eq_true rfl) dX0_extend_32 ⟨Nat.zero_le _, Nat.zero_le _⟩ (fun r_32 h_32 => ?_)
          subst h_32
          refine xr_if_ne (tgt := 41) hx hb dX0_extend_35 (by decide) (by omega) (fun c_35 => ?_) (fun c_35 => ?_)
          · skip
            refine lv_aload_n hx hb dX0_extend_41 rfl (lv_at hl 0 rfl) ?_
            refine va_get (D := (dC, dI)) (ci := 0) (v := .ref (ad 2)) (C := RX0) (T := TX0) (N := 13) hx hb hts in_X0 hown hK hP 0 rfl rfl 1 (by decide) (hts _ q32) (fun _ h9 => h9) rfl dX0_extend_42 ?_
            refine lv_iload_n hx hb dX0_extend_45 rfl (lv_at hl 1 rfl) ?_
            refine lv_bipush (v := nI 9) hx hb dX0_extend_46 xb_9 ?_
            refine xr_imul hx hb dX0_extend_48 ?_
            refine lv_aload_n hx hb dX0_extend_49 rfl (lv_at hl 0 rfl) ?_
            refine va_get (D := (dC, dI)) (ci := 0) (v := .ref (ad 1)) (C := RX0) (T := TX0) (N := 13) hx hb hts in_X0 hown hK hP 0 rfl rfl 0 (by decide) (hts _ q31) (fun _ h9 => h9) rfl dX0_extend_50 ?_
            refine lv_iload_n hx hb dX0_extend_53 rfl (lv_at hl 1 rfl) ?_
            refine xr_bald hx hb hK hP 1 0 rfl rfl (k := j) (hj) (by decide) dX0_extend_54 ?_
            refine xr_conv (y := (nI (sz j))) (by rw [hL.2.1 j hj]) ?_
            refine xr_iadd hx hb dX0_extend_55 ?_
            refine lv_iload_n hx hb dX0_extend_56 rfl (lv_at hl 2 rfl) ?_
            refine xr_i2b hx hb (by omega) dX0_extend_57 ?_
            refine xr_bast hx hb hK hP hD hS 2 0 rfl rfl (k := (j * 9) + (sz j)) (v := k) (by omega) (by decide) (by omega) dX0_extend_58 (fun H locs hP hD hS => ?_)
            have hP : va_P (dC, dI) vwCl (XW ad cB cJ sizes (va_up tokens ((j * 9) + (sz j)) k) spans subject parts states table stateAt fits sameAs cnt kn sc) H := hP
            have hD : va_D A (XW ad cB cJ sizes (va_up tokens ((j * 9) + (sz j)) k) spans subject parts states table stateAt fits sameAs cnt kn sc) := hD
            refine lv_aload_n hx hb dX0_extend_59 rfl (lv_at hl 0 rfl) ?_
            refine va_get (D := (dC, dI)) (ci := 0) (v := .ref (ad 1)) (C := RX0) (T := TX0) (N := 13) hx hb hts in_X0 hown hK hP 0 rfl rfl 0 (by decide) (hts _ q31) (fun _ h9 => h9) rfl dX0_extend_60 ?_
            refine lv_iload_n hx hb dX0_extend_63 rfl (lv_at hl 1 rfl) ?_
            refine lv_dup2_11 hx hb dX0_extend_64 rfl rfl ?_
            refine xr_bald hx hb hK hP 1 0 rfl rfl (k := j) (hj) (by decide) dX0_extend_65 ?_
            refine xr_conv (y := (nI (sz j))) (by rw [hL.2.1 j hj]) ?_
            refine lv_iconst (v := nI 1) hx hb dX0_extend_66 xc_1 ?_
            refine xr_iadd hx hb dX0_extend_67 ?_
            refine xr_i2b hx hb (by omega) dX0_extend_68 ?_
            refine xr_bast hx hb hK hP hD hS 1 0 rfl rfl (k := j) (v := (sz j) + 1) (hj) (by decide) (by omega) dX0_extend_69 (fun H locs hP hD hS => ?_)
            have hP : va_P (dC, dI) vwCl (XW ad cB cJ (va_up sizes j ((sz j) + 1)) (va_up tokens ((j * 9) + (sz j)) k) spans subject parts states table stateAt fits sameAs cnt kn sc) H := hP
            have hD : va_D A (XW ad cB cJ (va_up sizes j ((sz j) + 1)) (va_up tokens ((j * 9) + (sz j)) k) spans subject parts states table stateAt fits sameAs cnt kn sc) := hD
            refine lv_aload_n hx hb dX0_extend_70 rfl (lv_at hl 0 rfl) ?_
            refine lv_iconst (v := nI 0) hx hb dX0_extend_71 xc_0 ?_
            refine va_put (D := (dC, dI)) (ci := 0) (v := .int (nI 0)) (ty := .boolean) (C := RX0) (T := TX0) (N := 13) hx hb hts in_X0 tyX0 tyX0_ok nmX0 hown hK hP hD hS 0 rfl rfl 6 (by decide) (hts _ q37) (fun _ h9 => h9) rfl (by decide +kernel) rfl rfl (Nat.le_of_ble_eq_true rfl) dX0_extend_72 (fun H locs hP hD hS => ?_)
            have hP : va_P (dC, dI) vwCl (XW ad cB cJ (va_up sizes j ((sz j) + 1)) (va_up tokens ((j * 9) + (sz j)) k) spans subject parts states table stateAt fits sameAs cnt 0 sc) H := hP
            have hD : va_D A (XW ad cB cJ (va_up sizes j ((sz j) + 1)) (va_up tokens ((j * 9) + (sz j)) k) spans subject parts states table stateAt fits sameAs cnt 0 sc) := hD
            refine lv_aload_n hx hb dX0_extend_75 rfl (lv_at hl 0 rfl) ?_
            refine va_get (D := (dC, dI)) (ci := 0) (v := .ref (ad 1)) (C := RX0) (T := TX0) (N := 13) hx hb hts in_X0 hown hK hP 0 rfl rfl 0 (by decide) (hts _ q31) (fun _ h9 => h9) rfl dX0_extend_76 ?_
            refine lv_iload_n hx hb dX0_extend_79 rfl (lv_at hl 1 rfl) ?_
            refine xr_bald hx hb hK hP 1 0 rfl rfl (k := j) (hj) (by decide) dX0_extend_80 ?_
            refine xr_conv (y := (nI (sz j + 1))) (by rw [va_up_s]) ?_
            exact xr_retWi ((va_up sizes j ((sz j) + 1), va_up tokens ((j * 9) + (sz j)) k, spans, subject, parts, states, table, stateAt, fits, sameAs, cnt, 0, sc)) hx hb hr hlk (by rw [hex, pt_app_yes (by omega) (by omega)]; exact ⟨rfl, XI_0 (XL_app hL hj (by omega) (by omega) (by omega))⟩) hP hK hD hS dX0_extend_81
          · skip
            refine lv_bipush (v := -2) hx hb dX0_extend_38 (by decide) ?_
            exact xr_retWi ((sizes, tokens, spans, subject, parts, states, table, stateAt, fits, sameAs, cnt, kn, sc)) hx hb hr hlk (by rw [hex, pt_app_no (by omega)]; exact ⟨rfl, hI0⟩) hP hK hD hS dX0_extend_40
      · skip
        refine lv_iconst (v := -1) hx hb dX0_extend_17 (by decide) ?_
        exact xr_retWi ((sizes, tokens, spans, subject, parts, states, table, stateAt, fits, sameAs, cnt, kn, sc)) hx hb hr hlk (by first | (unfold pt_extend; rw [pt_ix_no (by decide) c_4]; exact ⟨rfl, hI0⟩) | (unfold pt_extend; rw [pt_ix_in hj (by decide), pt_ix_no (by decide) (pt_rngNL 7 (by decide) (by first | exact Or.inl c_8 | exact Or.inr c_14))]; exact ⟨rfl, hI0⟩)) hP hK hD hS dX0_extend_18

set_option maxHeartbeats 4000000 in
set_option maxRecDepth 100000 in
/-- shorten(p) -/
theorem mt_X0_shorten (l : Launch) (dC : Nat → ClassId) (dI : Nat → Nat → Nat) (hz : Nat) {ad : Nat → Nat} {cB cJ : ClassId} {sizes tokens spans subject parts : Nat → Nat} {states : Nat → Int64} {table stateAt fits sameAs : Nat → Nat} {cnt kn sc : Nat} {sz : Nat → Nat} {tk : Nat → Nat → Nat} (hI : XI (sizes, tokens, spans, subject, parts, states, table, stateAt, fits, sameAs, cnt, kn, sc) sz tk) (xp : Int32) : Met l yX0_shorten (ws_ yX0_shorten cX0_shorten 2 (some .int)) ({ frames := 1, cells := 0, slots := 0, locals := 20 } : Room) (va_Pc [.ref (ad 0), .int xp] (xr_Pw (dC, dI) vwCl (XW ad cB cJ sizes tokens spans subject parts states table stateAt fits sameAs cnt kn sc) (tyX cB cJ) hz)) (va_Qi (fun (r : Int32) (u : XS) => r = (pt_shorten sz tk xp).1 ∧ XI u (pt_shorten sz tk xp).2 tk) (xr_Bw (dC, dI) vwCl (tyX cB cJ) (va_A (XW ad cB cJ sizes tokens spans subject parts states table stateAt fits sameAs cnt kn sc) hz) (fun u => XWs ad cB cJ u)) (va_A (XW ad cB cJ sizes tokens spans subject parts states table stateAt fits sameAs cnt kn sc) hz)) 0 0 (va_A (XW ad cB cJ sizes tokens spans subject parts states table stateAt fits sameAs cnt kn sc) hz) := by
  refine Met.ofW (cc := cX0_shorten) (maxL := 2) (ret := (some .int)) (by decide) rfl ?_
  intro p e s m args below meth c s₁ B hml hv
  obtain ⟨rfl, hsz, hP, hK, hD0⟩ := hv
  have hx := B.exec
  have hb := B.bytes
  have hr := B.returns
  have hlk := B.notSynchronized
  have hts := atoms_spec (ws := (ws_ yX0_shorten cX0_shorten 2 (some .int))) B.pre
  have hts : ∀ w ∈ lw_all, w.before _ s = true := fun w h => hts w (List.mem_cons_of_mem _ h)
  have hown : s.vm.findClass RX0 = some m.cls := findClass_of_methodNamed B.named
  subst hsz
  have hD := hD0.self (sz := s.heap.size)
  generalize hAe : va_A (XW ad cB cJ sizes tokens spans subject parts states table stateAt fits sameAs cnt kn sc) s.heap.size = A at hD ⊢
  have hA : ∀ q : Nat, s.heap.size ≤ q → A q := fun q h => by rw [← hAe]; exact Or.inr h
  have hS : va_S A s.heap s.heap [] := va_S.rf
  have hl := lv_entry ([.ref (ad 0), .int xp]) (n := 2) (Nat.le_of_ble_eq_true rfl)
  rw [lg_entry_eq]
  generalize (lg_sl ([.ref (ad 0), .int xp]) ++ List.replicate (2 - (lg_sl ([.ref (ad 0), .int xp])).length) Slot.unset).toArray = ls at hl ⊢
  have hl : lv_has ls 2 [(0, .ref (ad 0)), (1, .int xp)] := hl
  have hI0 := hI
  obtain ⟨hL, hk1, hkn⟩ := hI
  refine lv_iload_n hx hb dX0_shorten_0 rfl (lv_at hl 1 rfl) ?_
  refine xr_cSi (rest := []) ⟨hx, hb, hml, hown, hts⟩ (mt_X0_isPattern l xp) (va_cwS 1 hts gS_X0_49 rfl rfl rfl hd_X0_isPattern ⟨Nat.le_of_ble_eq_true rfl, Nat.le_of_ble_eq_true rfl⟩) rfl hl.1 rfl (Nat.le_of_ble_eq_true rfl) dX0_shorten_1 ⟨Nat.zero_le _, Nat.zero_le _⟩ (fun r_1 h_1 => ?_)
  refine xr_ifeqB (tgt := 16) hx hb h_1 dX0_shorten_4 (by decide) (fun c_4 => ?_) (fun c_4 => ?_)
  · skip
    refine lv_iconst (v := -1) hx hb dX0_shorten_16 (by decide) ?_
    exact xr_retWi ((sizes, tokens, spans, subject, parts, states, table, stateAt, fits, sameAs, cnt, kn, sc)) hx hb hr hlk (by first | (unfold pt_shorten; rw [pt_ix_no (by decide) c_4]; exact ⟨rfl, hI0⟩) | (rw [hex, pt_tak_no c_13]; exact ⟨rfl, hI0⟩)) hP hK hD hS dX0_shorten_17
  · obtain ⟨j, hj, rfl⟩ := c_4
    have hz := hL.1.1 j hj
    have hex : pt_shorten sz tk (nI j) = pt_tak sz tk j := by unfold pt_shorten; rw [pt_ix_in hj (by decide)]
    refine lv_aload_n hx hb dX0_shorten_7 rfl (lv_at hl 0 rfl) ?_
    refine va_get (D := (dC, dI)) (ci := 0) (v := .ref (ad 1)) (C := RX0) (T := TX0) (N := 13) hx hb hts in_X0 hown hK hP 0 rfl rfl 0 (by decide) (hts _ q31) (fun _ h9 => h9) rfl dX0_shorten_8 ?_
    refine lv_iload_n hx hb dX0_shorten_11 rfl (lv_at hl 1 rfl) ?_
    refine xr_bald hx hb hK hP 1 0 rfl rfl (k := j) (hj) (by decide) dX0_shorten_12 ?_
    refine xr_conv (y := (nI (sz j))) (by rw [hL.2.1 j hj]) ?_
    refine xr_if_ne (tgt := 18) hx hb dX0_shorten_13 (by decide) (by omega) (fun c_13 => ?_) (fun c_13 => ?_)
    · skip
      refine lv_aload_n hx hb dX0_shorten_18 rfl (lv_at hl 0 rfl) ?_
      refine va_get (D := (dC, dI)) (ci := 0) (v := .ref (ad 1)) (C := RX0) (T := TX0) (N := 13) hx hb hts in_X0 hown hK hP 0 rfl rfl 0 (by decide) (hts _ q31) (fun _ h9 => h9) rfl dX0_shorten_19 ?_
      refine lv_iload_n hx hb dX0_shorten_22 rfl (lv_at hl 1 rfl) ?_
      refine lv_dup2_11 hx hb dX0_shorten_23 rfl rfl ?_
      refine xr_bald hx hb hK hP 1 0 rfl rfl (k := j) (hj) (by decide) dX0_shorten_24 ?_
      refine xr_conv (y := (nI (sz j))) (by rw [hL.2.1 j hj]) ?_
      refine lv_iconst (v := nI 1) hx hb dX0_shorten_25 xc_1 ?_
      refine xr_isub hx hb (by omega) dX0_shorten_26 ?_
      refine xr_i2b hx hb (by omega) dX0_shorten_27 ?_
      refine xr_bast hx hb hK hP hD hS 1 0 rfl rfl (k := j) (v := (sz j) - 1) (hj) (by decide) (by omega) dX0_shorten_28 (fun H locs hP hD hS => ?_)
      have hP : va_P (dC, dI) vwCl (XW ad cB cJ (va_up sizes j ((sz j) - 1)) tokens spans subject parts states table stateAt fits sameAs cnt kn sc) H := hP
      have hD : va_D A (XW ad cB cJ (va_up sizes j ((sz j) - 1)) tokens spans subject parts states table stateAt fits sameAs cnt kn sc) := hD
      refine lv_aload_n hx hb dX0_shorten_29 rfl (lv_at hl 0 rfl) ?_
      refine lv_iconst (v := nI 0) hx hb dX0_shorten_30 xc_0 ?_
      refine va_put (D := (dC, dI)) (ci := 0) (v := .int (nI 0)) (ty := .boolean) (C := RX0) (T := TX0) (N := 13) hx hb hts in_X0 tyX0 tyX0_ok nmX0 hown hK hP hD hS 0 rfl rfl 6 (by decide) (hts _ q37) (fun _ h9 => h9) rfl (by decide +kernel) rfl rfl (Nat.le_of_ble_eq_true rfl) dX0_shorten_31 (fun H locs hP hD hS => ?_)
      have hP : va_P (dC, dI) vwCl (XW ad cB cJ (va_up sizes j ((sz j) - 1)) tokens spans subject parts states table stateAt fits sameAs cnt 0 sc) H := hP
      have hD : va_D A (XW ad cB cJ (va_up sizes j ((sz j) - 1)) tokens spans subject parts states table stateAt fits sameAs cnt 0 sc) := hD
      refine lv_aload_n hx hb dX0_shorten_34 rfl (lv_at hl 0 rfl) ?_
      refine va_get (D := (dC, dI)) (ci := 0) (v := .ref (ad 2)) (C := RX0) (T := TX0) (N := 13) hx hb hts in_X0 hown hK hP 0 rfl rfl 1 (by decide) (hts _ q32) (fun _ h9 => h9) rfl dX0_shorten_35 ?_
      refine lv_iload_n hx hb dX0_shorten_38 rfl (lv_at hl 1 rfl) ?_
      refine lv_bipush (v := nI 9) hx hb dX0_shorten_39 xb_9 ?_
      refine xr_imul hx hb dX0_shorten_41 ?_
      refine lv_aload_n hx hb dX0_shorten_42 rfl (lv_at hl 0 rfl) ?_
      refine va_get (D := (dC, dI)) (ci := 0) (v := .ref (ad 1)) (C := RX0) (T := TX0) (N := 13) hx hb hts in_X0 hown hK hP 0 rfl rfl 0 (by decide) (hts _ q31) (fun _ h9 => h9) rfl dX0_shorten_43 ?_
      refine lv_iload_n hx hb dX0_shorten_46 rfl (lv_at hl 1 rfl) ?_
      refine xr_bald hx hb hK hP 1 0 rfl rfl (k := j) (hj) (by decide) dX0_shorten_47 ?_
      refine xr_conv (y := (nI (sz j - 1))) (by rw [va_up_s]) ?_
      refine xr_iadd hx hb dX0_shorten_48 ?_
      refine xr_bald hx hb hK hP 2 0 rfl rfl (k := (j * 9) + (sz j - 1)) (by omega) (by decide) dX0_shorten_49 ?_
      refine xr_conv (y := (nI (tk j (sz j - 1)))) (by rw [hL.2.2.1 j hj (sz j - 1) (by omega)]) ?_
      exact xr_retWi ((va_up sizes j ((sz j) - 1), tokens, spans, subject, parts, states, table, stateAt, fits, sameAs, cnt, 0, sc)) hx hb hr hlk (by rw [hex, pt_tak_yes (by omega)]; exact ⟨rfl, XI_0 (XL_tak hL hj)⟩) hP hK hD hS dX0_shorten_50
    · skip
      refine lv_iconst (v := -1) hx hb dX0_shorten_16 (by decide) ?_
      exact xr_retWi ((sizes, tokens, spans, subject, parts, states, table, stateAt, fits, sameAs, cnt, kn, sc)) hx hb hr hlk (by first | (unfold pt_shorten; rw [pt_ix_no (by decide) c_4]; exact ⟨rfl, hI0⟩) | (rw [hex, pt_tak_no c_13]; exact ⟨rfl, hI0⟩)) hP hK hD hS dX0_shorten_17

set_option maxHeartbeats 4000000 in
set_option maxRecDepth 100000 in
/-- grow(op) -/
theorem mt_X0_grow (l : Launch) (dC : Nat → ClassId) (dI : Nat → Nat → Nat) (hz : Nat) {ad : Nat → Nat} {cB cJ : ClassId} {sizes tokens spans subject parts : Nat → Nat} {states : Nat → Int64} {table stateAt fits sameAs : Nat → Nat} {cnt kn sc : Nat} {sz : Nat → Nat} {tk : Nat → Nat → Nat} (hI : XI (sizes, tokens, spans, subject, parts, states, table, stateAt, fits, sameAs, cnt, kn, sc) sz tk) (xt : Int32) : Met l yX0_grow (ws_ yX0_grow cX0_grow 2 (some .int)) ({ frames := 2, cells := 0, slots := 0, locals := 42 } : Room) (va_Pc [.ref (ad 0), .int xt] (xr_Pw (dC, dI) vwCl (XW ad cB cJ sizes tokens spans subject parts states table stateAt fits sameAs cnt kn sc) (tyX cB cJ) hz)) (va_Qi (fun (r : Int32) (u : XS) => r = (pt_grow sz tk xt).1 ∧ XI u (pt_grow sz tk xt).2.1 (pt_grow sz tk xt).2.2) (xr_Bw (dC, dI) vwCl (tyX cB cJ) (va_A (XW ad cB cJ sizes tokens spans subject parts states table stateAt fits sameAs cnt kn sc) hz) (fun u => XWs ad cB cJ u)) (va_A (XW ad cB cJ sizes tokens spans subject parts states table stateAt fits sameAs cnt kn sc) hz)) 0 0 (va_A (XW ad cB cJ sizes tokens spans subject parts states table stateAt fits sameAs cnt kn sc) hz) := by
  refine Met.ofW (cc := cX0_grow) (maxL := 2) (ret := (some .int)) (by decide) rfl ?_
  intro p e s m args below meth c s₁ B hml hv
  obtain ⟨rfl, hsz, hP, hK, hD0⟩ := hv
  have hx := B.exec
  have hb := B.bytes
  have hr := B.returns
  have hlk := B.notSynchronized
  have hts := atoms_spec (ws := (ws_ yX0_grow cX0_grow 2 (some .int))) B.pre
  have hts : ∀ w ∈ lw_all, w.before _ s = true := fun w h => hts w (List.mem_cons_of_mem _ h)
  have hown : s.vm.findClass RX0 = some m.cls := findClass_of_methodNamed B.named
  subst hsz
  have hD := hD0.self (sz := s.heap.size)
  generalize hAe : va_A (XW ad cB cJ sizes tokens spans subject parts states table stateAt fits sameAs cnt kn sc) s.heap.size = A at hD ⊢
  have hA : ∀ q : Nat, s.heap.size ≤ q → A q := fun q h => by rw [← hAe]; exact Or.inr h
  have hS : va_S A s.heap s.heap [] := va_S.rf
  have hl := lv_entry ([.ref (ad 0), .int xt]) (n := 2) (Nat.le_of_ble_eq_true rfl)
  rw [lg_entry_eq]
  generalize (lg_sl ([.ref (ad 0), .int xt]) ++ List.replicate (2 - (lg_sl ([.ref (ad 0), .int xt])).length) Slot.unset).toArray = ls at hl ⊢
  have hl : lv_has ls 2 [(0, .ref (ad 0)), (1, .int xt)] := hl
  have hI0 := hI
  obtain ⟨hL, hk1, hkn⟩ := hI
  obtain rfl : cnt = sz 4 := hL.2.2.2.1
  have hz := hL.1.2.1
  have hnl := pt_need_le (tk 4) (sz 4)
  refine lv_iload_n hx hb dX0_grow_0 rfl (lv_at hl 1 rfl) ?_
  refine lv_if_lt (tgt := 10) hx hb dX0_grow_1 (by decide) (fun c_1 => ?_) (fun c_1 => ?_)
  · skip
    refine lv_iconst (v := -1) hx hb dX0_grow_10 (by decide) ?_
    exact xr_retWi ((sizes, tokens, spans, subject, parts, states, table, stateAt, fits, sameAs, sz 4, kn, sc)) hx hb hr hlk (by unfold pt_grow; rw [pt_ix_no (by decide) (pt_rngNL 6 (by decide) (by first | exact Or.inl c_1 | exact Or.inr c_7))]; exact ⟨rfl, hI0⟩) hP hK hD hS dX0_grow_11
  · skip
    refine lv_iload_n hx hb dX0_grow_4 rfl (lv_at hl 1 rfl) ?_
    refine lv_bipush (v := nI 6) hx hb dX0_grow_5 xb_6 ?_
    refine lv_icmp_le (tgt := 12) hx hb dX0_grow_7 (by decide) (fun c_7 => ?_) (fun c_7 => ?_)
    · obtain ⟨k, hk, rfl⟩ := pt_rngL 6 (by decide) c_1 c_7
      have hex : pt_grow sz tk (nI k) = pt_app sz tk 4 k 25 := by unfold pt_grow; rw [pt_ix_in hk (by decide)]
      refine lv_aload_n hx hb dX0_grow_12 rfl (lv_at hl 0 rfl) ?_
      refine va_get (D := (dC, dI)) (ci := 0) (v := .int (nI (sz 4))) (C := RX0) (T := TX0) (N := 13) hx hb hts in_X0 hown hK hP 0 rfl rfl 3 (by decide) (hts _ q34) (fun _ h9 => h9) rfl dX0_grow_13 ?_
      refine lv_bipush (v := nI 25) hx hb dX0_grow_16 xb_25 ?_
      refine xr_icmp_ge (tgt := 28) hx hb dX0_grow_18 (by decide) (by omega) (by omega) (fun c_18 => ?_) (fun c_18 => ?_)
      · skip
        refine lv_bipush (v := -2) hx hb dX0_grow_28 (by decide) ?_
        exact xr_retWi ((sizes, tokens, spans, subject, parts, states, table, stateAt, fits, sameAs, sz 4, kn, sc)) hx hb hr hlk (by rw [hex, pt_app_no (by omega)]; exact ⟨rfl, hI0⟩) hP hK hD hS dX0_grow_30
      · skip
        refine lv_aload_n hx hb dX0_grow_21 rfl (lv_at hl 0 rfl) ?_
        refine xr_cVi (rest := []) ⟨hx, hb, hml, hown, hts⟩ (mt_X0_missingInSubject l dC dI hL) (cwV 0 hts gV_X0_60 rfl rfl rfl hd_X0_missingInSubject ⟨Nat.le_of_ble_eq_true rfl, Nat.le_of_ble_eq_true rfl⟩) hK hP 0 0 rfl rfl rfl hl.1 rfl (Nat.le_of_ble_eq_true rfl) dX0_grow_22 ⟨Nat.zero_le _, Nat.zero_le _⟩ (fun r_22 h_22 => ?_)
        subst h_22
        refine xr_if_ne (tgt := 31) hx hb dX0_grow_25 (by decide) (by omega) (fun c_25 => ?_) (fun c_25 => ?_)
        · skip
          refine lv_aload_n hx hb dX0_grow_31 rfl (lv_at hl 0 rfl) ?_
          refine va_get (D := (dC, dI)) (ci := 0) (v := .ref (ad 4)) (C := RX0) (T := TX0) (N := 13) hx hb hts in_X0 hown hK hP 0 rfl rfl 4 (by decide) (hts _ q35) (fun _ h9 => h9) rfl dX0_grow_32 ?_
          refine lv_aload_n hx hb dX0_grow_35 rfl (lv_at hl 0 rfl) ?_
          refine va_get (D := (dC, dI)) (ci := 0) (v := .int (nI (sz 4))) (C := RX0) (T := TX0) (N := 13) hx hb hts in_X0 hown hK hP 0 rfl rfl 3 (by decide) (hts _ q34) (fun _ h9 => h9) rfl dX0_grow_36 ?_
          refine lv_iload_n hx hb dX0_grow_39 rfl (lv_at hl 1 rfl) ?_
          refine xr_i2b hx hb (by omega) dX0_grow_40 ?_
          refine xr_bast hx hb hK hP hD hS 4 0 rfl rfl (k := sz 4) (v := k) (by omega) (by decide) (by omega) dX0_grow_41 (fun H locs hP hD hS => ?_)
          have hP : va_P (dC, dI) vwCl (XW ad cB cJ sizes tokens spans (va_up subject (sz 4) k) parts states table stateAt fits sameAs (sz 4) kn sc) H := hP
          have hD : va_D A (XW ad cB cJ sizes tokens spans (va_up subject (sz 4) k) parts states table stateAt fits sameAs (sz 4) kn sc) := hD
          refine lv_aload_n hx hb dX0_grow_42 rfl (lv_at hl 0 rfl) ?_
          refine lv_dup hx hb dX0_grow_43 rfl ?_
          refine va_get (D := (dC, dI)) (ci := 0) (v := .int (nI (sz 4))) (C := RX0) (T := TX0) (N := 13) hx hb hts in_X0 hown hK hP 0 rfl rfl 3 (by decide) (hts _ q34) (fun _ h9 => h9) rfl dX0_grow_44 ?_
          refine lv_iconst (v := nI 1) hx hb dX0_grow_47 xc_1 ?_
          refine xr_iadd hx hb dX0_grow_48 ?_
          refine va_put (D := (dC, dI)) (ci := 0) (v := .int (nI ((sz 4) + 1))) (ty := .int) (C := RX0) (T := TX0) (N := 13) hx hb hts in_X0 tyX0 tyX0_ok nmX0 hown hK hP hD hS 0 rfl rfl 3 (by decide) (hts _ q34) (fun _ h9 => h9) rfl (by decide +kernel) rfl rfl (Nat.le_of_ble_eq_true rfl) dX0_grow_49 (fun H locs hP hD hS => ?_)
          have hP : va_P (dC, dI) vwCl (XW ad cB cJ sizes tokens spans (va_up subject (sz 4) k) parts states table stateAt fits sameAs ((sz 4) + 1) kn sc) H := hP
          have hD : va_D A (XW ad cB cJ sizes tokens spans (va_up subject (sz 4) k) parts states table stateAt fits sameAs ((sz 4) + 1) kn sc) := hD
          refine lv_aload_n hx hb dX0_grow_52 rfl (lv_at hl 0 rfl) ?_
          refine lv_iconst (v := nI 0) hx hb dX0_grow_53 xc_0 ?_
          refine va_put (D := (dC, dI)) (ci := 0) (v := .int (nI 0)) (ty := .boolean) (C := RX0) (T := TX0) (N := 13) hx hb hts in_X0 tyX0 tyX0_ok nmX0 hown hK hP hD hS 0 rfl rfl 6 (by decide) (hts _ q37) (fun _ h9 => h9) rfl (by decide +kernel) rfl rfl (Nat.le_of_ble_eq_true rfl) dX0_grow_54 (fun H locs hP hD hS => ?_)
          have hP : va_P (dC, dI) vwCl (XW ad cB cJ sizes tokens spans (va_up subject (sz 4) k) parts states table stateAt fits sameAs ((sz 4) + 1) 0 sc) H := hP
          have hD : va_D A (XW ad cB cJ sizes tokens spans (va_up subject (sz 4) k) parts states table stateAt fits sameAs ((sz 4) + 1) 0 sc) := hD
          refine lv_aload_n hx hb dX0_grow_57 rfl (lv_at hl 0 rfl) ?_
          refine va_get (D := (dC, dI)) (ci := 0) (v := .int (nI ((sz 4) + 1))) (C := RX0) (T := TX0) (N := 13) hx hb hts in_X0 hown hK hP 0 rfl rfl 3 (by decide) (hts _ q34) (fun _ h9 => h9) rfl dX0_grow_58 ?_
          exact xr_retWi ((sizes, tokens, spans, va_up subject (sz 4) k, parts, states, table, stateAt, fits, sameAs, (sz 4) + 1, 0, sc)) hx hb hr hlk (by rw [hex, pt_app_yes (by omega) (by omega)]; exact ⟨rfl, XI_0 (XL_grow hL (by omega) (by omega) (by omega))⟩) hP hK hD hS dX0_grow_61
        · skip
          refine lv_bipush (v := -2) hx hb dX0_grow_28 (by decide) ?_
          exact xr_retWi ((sizes, tokens, spans, subject, parts, states, table, stateAt, fits, sameAs, sz 4, kn, sc)) hx hb hr hlk (by rw [hex, pt_app_no (by omega)]; exact ⟨rfl, hI0⟩) hP hK hD hS dX0_grow_30
    · skip
      refine lv_iconst (v := -1) hx hb dX0_grow_10 (by decide) ?_
      exact xr_retWi ((sizes, tokens, spans, subject, parts, states, table, stateAt, fits, sameAs, sz 4, kn, sc)) hx hb hr hlk (by unfold pt_grow; rw [pt_ix_no (by decide) (pt_rngNL 6 (by decide) (by first | exact Or.inl c_1 | exact Or.inr c_7))]; exact ⟨rfl, hI0⟩) hP hK hD hS dX0_grow_11

set_option maxHeartbeats 4000000 in
set_option maxRecDepth 100000 in
/-- prune() -/
theorem mt_X0_prune (l : Launch) (dC : Nat → ClassId) (dI : Nat → Nat → Nat) (hz : Nat) {ad : Nat → Nat} {cB cJ : ClassId} {sizes tokens spans subject parts : Nat → Nat} {states : Nat → Int64} {table stateAt fits sameAs : Nat → Nat} {cnt kn sc : Nat} {sz : Nat → Nat} {tk : Nat → Nat → Nat} (hI : XI (sizes, tokens, spans, subject, parts, states, table, stateAt, fits, sameAs, cnt, kn, sc) sz tk) : Met l yX0_prune (ws_ yX0_prune cX0_prune 1 (some .int)) ({ frames := 0, cells := 0, slots := 0, locals := 0 } : Room) (va_Pc [.ref (ad 0)] (xr_Pw (dC, dI) vwCl (XW ad cB cJ sizes tokens spans subject parts states table stateAt fits sameAs cnt kn sc) (tyX cB cJ) hz)) (va_Qi (fun (r : Int32) (u : XS) => r = (pt_tak sz tk 4).1 ∧ XI u (pt_tak sz tk 4).2 tk) (xr_Bw (dC, dI) vwCl (tyX cB cJ) (va_A (XW ad cB cJ sizes tokens spans subject parts states table stateAt fits sameAs cnt kn sc) hz) (fun u => XWs ad cB cJ u)) (va_A (XW ad cB cJ sizes tokens spans subject parts states table stateAt fits sameAs cnt kn sc) hz)) 0 0 (va_A (XW ad cB cJ sizes tokens spans subject parts states table stateAt fits sameAs cnt kn sc) hz) := by
  refine Met.ofW (cc := cX0_prune) (maxL := 1) (ret := (some .int)) (by decide) rfl ?_
  intro p e s m args below meth c s₁ B hml hv
  obtain ⟨rfl, hsz, hP, hK, hD0⟩ := hv
  have hx := B.exec
  have hb := B.bytes
  have hr := B.returns
  have hlk := B.notSynchronized
  have hts := atoms_spec (ws := (ws_ yX0_prune cX0_prune 1 (some .int))) B.pre
  have hts : ∀ w ∈ lw_all, w.before _ s = true := fun w h => hts w (List.mem_cons_of_mem _ h)
  have hown : s.vm.findClass RX0 = some m.cls := findClass_of_methodNamed B.named
  subst hsz
  have hD := hD0.self (sz := s.heap.size)
  generalize hAe : va_A (XW ad cB cJ sizes tokens spans subject parts states table stateAt fits sameAs cnt kn sc) s.heap.size = A at hD ⊢
  have hA : ∀ q : Nat, s.heap.size ≤ q → A q := fun q h => by rw [← hAe]; exact Or.inr h
  have hS : va_S A s.heap s.heap [] := va_S.rf
  have hl := lv_entry ([.ref (ad 0)]) (n := 1) (Nat.le_of_ble_eq_true rfl)
  rw [lg_entry_eq]
  generalize (lg_sl ([.ref (ad 0)]) ++ List.replicate (1 - (lg_sl ([.ref (ad 0)])).length) Slot.unset).toArray = ls at hl ⊢
  have hl : lv_has ls 1 [(0, .ref (ad 0))] := hl
  have hI0 := hI
  obtain ⟨hL, hk1, hkn⟩ := hI
  obtain rfl : cnt = sz 4 := hL.2.2.2.1
  have hz := hL.1.2.1
  refine lv_aload_n hx hb dX0_prune_0 rfl (lv_at hl 0 rfl) ?_
  refine va_get (D := (dC, dI)) (ci := 0) (v := .int (nI (sz 4))) (C := RX0) (T := TX0) (N := 13) hx hb hts in_X0 hown hK hP 0 rfl rfl 3 (by decide) (hts _ q34) (fun _ h9 => h9) rfl dX0_prune_1 ?_
  refine xr_if_ne (tgt := 9) hx hb dX0_prune_4 (by decide) (by omega) (fun c_4 => ?_) (fun c_4 => ?_)
  · skip
    refine lv_aload_n hx hb dX0_prune_9 rfl (lv_at hl 0 rfl) ?_
    refine lv_dup hx hb dX0_prune_10 rfl ?_
    refine va_get (D := (dC, dI)) (ci := 0) (v := .int (nI (sz 4))) (C := RX0) (T := TX0) (N := 13) hx hb hts in_X0 hown hK hP 0 rfl rfl 3 (by decide) (hts _ q34) (fun _ h9 => h9) rfl dX0_prune_11 ?_
    refine lv_iconst (v := nI 1) hx hb dX0_prune_14 xc_1 ?_
    refine xr_isub hx hb (by omega) dX0_prune_15 ?_
    refine va_put (D := (dC, dI)) (ci := 0) (v := .int (nI ((sz 4) - 1))) (ty := .int) (C := RX0) (T := TX0) (N := 13) hx hb hts in_X0 tyX0 tyX0_ok nmX0 hown hK hP hD hS 0 rfl rfl 3 (by decide) (hts _ q34) (fun _ h9 => h9) rfl (by decide +kernel) rfl rfl (Nat.le_of_ble_eq_true rfl) dX0_prune_16 (fun H locs hP hD hS => ?_)
    have hP : va_P (dC, dI) vwCl (XW ad cB cJ sizes tokens spans subject parts states table stateAt fits sameAs ((sz 4) - 1) kn sc) H := hP
    have hD : va_D A (XW ad cB cJ sizes tokens spans subject parts states table stateAt fits sameAs ((sz 4) - 1) kn sc) := hD
    refine lv_aload_n hx hb dX0_prune_19 rfl (lv_at hl 0 rfl) ?_
    refine lv_iconst (v := nI 0) hx hb dX0_prune_20 xc_0 ?_
    refine va_put (D := (dC, dI)) (ci := 0) (v := .int (nI 0)) (ty := .boolean) (C := RX0) (T := TX0) (N := 13) hx hb hts in_X0 tyX0 tyX0_ok nmX0 hown hK hP hD hS 0 rfl rfl 6 (by decide) (hts _ q37) (fun _ h9 => h9) rfl (by decide +kernel) rfl rfl (Nat.le_of_ble_eq_true rfl) dX0_prune_21 (fun H locs hP hD hS => ?_)
    have hP : va_P (dC, dI) vwCl (XW ad cB cJ sizes tokens spans subject parts states table stateAt fits sameAs ((sz 4) - 1) 0 sc) H := hP
    have hD : va_D A (XW ad cB cJ sizes tokens spans subject parts states table stateAt fits sameAs ((sz 4) - 1) 0 sc) := hD
    refine lv_aload_n hx hb dX0_prune_24 rfl (lv_at hl 0 rfl) ?_
    refine va_get (D := (dC, dI)) (ci := 0) (v := .ref (ad 4)) (C := RX0) (T := TX0) (N := 13) hx hb hts in_X0 hown hK hP 0 rfl rfl 4 (by decide) (hts _ q35) (fun _ h9 => h9) rfl dX0_prune_25 ?_
    refine lv_aload_n hx hb dX0_prune_28 rfl (lv_at hl 0 rfl) ?_
    refine va_get (D := (dC, dI)) (ci := 0) (v := .int (nI ((sz 4) - 1))) (C := RX0) (T := TX0) (N := 13) hx hb hts in_X0 hown hK hP 0 rfl rfl 3 (by decide) (hts _ q34) (fun _ h9 => h9) rfl dX0_prune_29 ?_
    refine xr_bald hx hb hK hP 4 0 rfl rfl (k := (sz 4) - 1) (by omega) (by decide) dX0_prune_32 ?_
    refine xr_conv (y := (nI (tk 4 (sz 4 - 1)))) (by rw [hL.2.2.2.2 (sz 4 - 1) (by omega)]) ?_
    exact xr_retWi ((sizes, tokens, spans, subject, parts, states, table, stateAt, fits, sameAs, (sz 4) - 1, 0, sc)) hx hb hr hlk (by rw [pt_tak_yes (by omega)]; exact ⟨rfl, XI_0 (XL_prune hL)⟩) hP hK hD hS dX0_prune_33
  · skip
    refine lv_iconst (v := -1) hx hb dX0_prune_7 (by decide) ?_
    exact xr_retWi ((sizes, tokens, spans, subject, parts, states, table, stateAt, fits, sameAs, sz 4, kn, sc)) hx hb hr hlk (by rw [pt_tak_no c_4]; exact ⟨rfl, hI0⟩) hP hK hD hS dX0_prune_8
end
section
set_option maxHeartbeats 4000000 in
set_option maxRecDepth 100000 in
/-- measure(p): the spans of a complete pattern -/
theorem mt_X0_measure (l : Launch) (dC : Nat → ClassId) (dI : Nat → Nat → Nat) (hz : Nat) {ad : Nat → Nat} {cB cJ : ClassId} {sizes tokens spans subject parts : Nat → Nat} {states : Nat → Int64} {table stateAt fits sameAs : Nat → Nat} {cnt kn sc : Nat} {sz : Nat → Nat} {tk : Nat → Nat → Nat} (hL : XL sizes tokens subject cnt sz tk) (j : Nat) (hj : j < 4) : Met l yX0_measure (ws_ yX0_measure cX0_measure 6 none) ({ frames := 3, cells := 0, slots := 0, locals := 64 } : Room) (va_Pc [.ref (ad 0), .int (nI j)] (xr_Pw (dC, dI) vwCl (XW ad cB cJ sizes tokens spans subject parts states table stateAt fits sameAs cnt kn sc) (tyX cB cJ) hz)) (va_Qv (fun (u : Nat → Nat) => (pt_need (tk j) (sz j) = 0 → ∀ i, i < sz j → u (j * 9 + i) = pt_skip (tk j) (sz j) i 1 - i) ∧ ∀ i, ¬ (j * 9 ≤ i ∧ i < j * 9 + 9) → u i = spans i) (xr_Bw (dC, dI) vwCl (tyX cB cJ) (va_A (XW ad cB cJ sizes tokens spans subject parts states table stateAt fits sameAs cnt kn sc) hz) (fun u => XW ad cB cJ sizes tokens u subject parts states table stateAt fits sameAs cnt kn sc)) (va_A (XW ad cB cJ sizes tokens spans subject parts states table stateAt fits sameAs cnt kn sc) hz)) 0 0 (va_A (XW ad cB cJ sizes tokens spans subject parts states table stateAt fits sameAs cnt kn sc) hz) := by
  refine Met.ofW (cc := cX0_measure) (maxL := 6) (ret := none) (by decide) rfl ?_
  intro p e s m args below meth c s₁ B hml hv
  obtain ⟨rfl, hsz, hP, hK, hD0⟩ := hv
  have hx := B.exec
  have hb := B.bytes
  have hr := B.returns
  have hlk := B.notSynchronized
  have hts := atoms_spec (ws := (ws_ yX0_measure cX0_measure 6 none)) B.pre
  have hts : ∀ w ∈ lw_all, w.before _ s = true := fun w h => hts w (List.mem_cons_of_mem _ h)
  have hown : s.vm.findClass RX0 = some m.cls := findClass_of_methodNamed B.named
  subst hsz
  have hD := hD0.self (sz := s.heap.size)
  generalize hAe : va_A (XW ad cB cJ sizes tokens spans subject parts states table stateAt fits sameAs cnt kn sc) s.heap.size = A at hD ⊢
  have hA : ∀ q : Nat, s.heap.size ≤ q → A q := fun q h => by rw [← hAe]; exact Or.inr h
  have hS : va_S A s.heap s.heap [] := va_S.rf
  have hl := lv_entry ([.ref (ad 0), .int (nI j)]) (n := 6) (Nat.le_of_ble_eq_true rfl)
  rw [lg_entry_eq]
  generalize (lg_sl ([.ref (ad 0), .int (nI j)]) ++ List.replicate (6 - (lg_sl ([.ref (ad 0), .int (nI j)])).length) Slot.unset).toArray = ls at hl ⊢
  have hl : lv_has ls 6 [(0, .ref (ad 0)), (1, .int (nI j))] := hl
  obtain rfl : cnt = sz 4 := hL.2.2.2.1
  have hz := hL.1.1 j hj
  have hok := pt_wf_ok hL.1 (l := j) (by omega)
  refine lv_aload_n hx hb dX0_measure_0 rfl (lv_at hl 0 rfl) ?_
  refine lv_iload_n hx hb dX0_measure_1 rfl (lv_at hl 1 rfl) ?_
  refine xr_cVi (rest := []) ⟨hx, hb, hml, hown, hts⟩ (mt_X0_complete l dC dI hL (nI j)) (cwV 1 hts gV_X0_86 rfl rfl rfl hd_X0_complete ⟨Nat.le_of_ble_eq_true rfl, Nat.le_of_ble_eq_true rfl⟩) hK hP 0 0 rfl rfl rfl hl.1 rfl (Nat.le_of_ble_eq_true rfl) dX0_measure_2 ⟨Nat.zero_le _, Nat.zero_le _⟩ (fun r_2 h_2 => ?_)
  refine xr_ifneB (tgt := 9) hx hb h_2 dX0_measure_5 (by decide) (fun c_5 => ?_) (fun c_5 => ?_)
  · have h0 : pt_need (tk j) (sz j) = 0 := by obtain ⟨i, hi, e, h⟩ := c_5; rw [(nI_eq (by omega) (by omega)).mp e]; exact h
    refine lv_aload_n hx hb dX0_measure_9 rfl (lv_at hl 0 rfl) ?_
    refine va_get (D := (dC, dI)) (ci := 0) (v := .ref (ad 1)) (C := RX0) (T := TX0) (N := 13) hx hb hts in_X0 hown hK hP 0 rfl rfl 0 (by decide) (hts _ q31) (fun _ h9 => h9) rfl dX0_measure_10 ?_
    refine lv_iload_n hx hb dX0_measure_13 rfl (lv_at hl 1 rfl) ?_
    refine xr_bald hx hb hK hP 1 0 rfl rfl (k := j) (hj) (by decide) dX0_measure_14 ?_
    refine xr_conv (y := (nI (sz j))) (by rw [hL.2.1 j hj]) ?_
    refine lv_iconst (v := nI 1) hx hb dX0_measure_15 xc_1 ?_
    refine xr_isubP hx hb dX0_measure_16 ?_
    refine lv_istore_n (lv' := [(2, .int (pI (sz j))), (0, .ref (ad 0)), (1, .int (nI j))]) hx hb dX0_measure_17 rfl hl (by decide) rfl (fun ls hl => ?_)
    have key18 : ∀ (d_18 : Nat) (spans1 : Nat → Nat) (k : Nat) (ls : Array Slot) (H : Heap) (locs : List Loc), (k ≤ sz j) → (∀ i, k ≤ i → i < sz j → spans1 (j * 9 + i) = pt_skip (tk j) (sz j) i 1 - i) → (∀ i, ¬ (j * 9 ≤ i ∧ i < j * 9 + 9) → spans1 i = spans i) → k < d_18 → va_P (dC, dI) vwCl (XW ad cB cJ sizes tokens spans1 subject parts states table stateAt fits sameAs (sz 4) kn sc) H → va_D A (XW ad cB cJ sizes tokens spans1 subject parts states table stateAt fits sameAs (sz 4) kn sc) → va_S A s.heap H locs → lv_has ls 6 [(0, .ref (ad 0)), (1, .int (nI j)), (2, .int (pI k))] → W p l e (headSpec (ws_ yX0_measure cX0_measure 6 none) ({ frames := 3, cells := 0, slots := 0, locals := 64 } : Room)).room s m ([.ref (ad 0), .int (nI j)] : List Value).toArray below meth c H locs 0 0 (MQ below (va_Qv (fun (u : Nat → Nat) => (pt_need (tk j) (sz j) = 0 → ∀ i, i < sz j → u (j * 9 + i) = pt_skip (tk j) (sz j) i 1 - i) ∧ ∀ i, ¬ (j * 9 ≤ i ∧ i < j * 9 + 9) → u i = spans i) (xr_Bw (dC, dI) vwCl (tyX cB cJ) A (fun u => XW ad cB cJ sizes tokens u subject parts states table stateAt fits sameAs (sz 4) kn sc)) A) ([.ref (ad 0), .int (nI j)] : List Value).toArray s 0 0 A) (F0 m 18 ls []) := by
      intro d_18
      induction d_18 with
      | zero => intro spans1 k ls H locs hk hq hr2 hd_18; exact absurd hd_18 (Nat.not_lt_zero _)
      | succ d_18 ih_18 =>
        intro spans1 k ls H locs hk hq hr2 hd_18 hP hD hS hl
        refine lv_iload_n hx hb dX0_measure_18 rfl (lv_at hl 2 rfl) ?_
        refine xr_if_ltP (tgt := 98) hx hb dX0_measure_19 (by decide) (by omega) (fun c_19 => ?_) (fun c_19 => ?_)
        · subst c_19
          exact xr_retWv (spans1) hx hb hr hlk (⟨fun _ i hi => hq i (Nat.zero_le _) hi, hr2⟩) hP hK hD hS dX0_measure_98
        · obtain ⟨n, rfl⟩ : ∃ n, k = n + 1 := ⟨k - 1, by omega⟩
          rw [pI_s] at hl
          have hn : n < sz j := by omega
          have hs0 := pt_need_s (tk j) n
          have hn1 := hok n hn
          have hle := pt_ar_le (tk j n)
          have hski := pt_skip_in (tk j) (n := sz j) (i := n) 1 (by omega)
          have hskj := pt_skip_in (tk j) (n := sz j) (i := n + 1) 1 (by omega)
          refine lv_iload_n hx hb dX0_measure_22 rfl (lv_at hl 1 rfl) ?_
          refine lv_bipush (v := nI 9) hx hb dX0_measure_23 xb_9 ?_
          refine xr_imul hx hb dX0_measure_25 ?_
          refine lv_iload_n hx hb dX0_measure_26 rfl (lv_at hl 2 rfl) ?_
          refine xr_iadd hx hb dX0_measure_27 ?_
          refine lv_istore_n (lv' := [(3, .int (nI ((j * 9) + n))), (0, .ref (ad 0)), (1, .int (nI j)), (2, .int (nI n))]) hx hb dX0_measure_28 rfl hl (by decide) rfl (fun ls hl => ?_)
          refine lv_aload_n hx hb dX0_measure_29 rfl (lv_at hl 1 rfl) ?_
          refine va_get (D := (dC, dI)) (ci := 0) (v := .ref (ad 2)) (C := RX0) (T := TX0) (N := 13) hx hb hts in_X0 hown hK hP 0 rfl rfl 1 (by decide) (hts _ q32) (fun _ h9 => h9) rfl dX0_measure_30 ?_
          refine lv_iload_n hx hb dX0_measure_33 rfl (lv_at hl 0 rfl) ?_
          refine xr_bald hx hb hK hP 2 0 rfl rfl (k := (j * 9) + n) (by omega) (by decide) dX0_measure_34 ?_
          refine xr_conv (y := (nI (tk j n))) (by rw [hL.2.2.1 j hj n hn]) ?_
          refine xr_cSi (rest := []) ⟨hx, hb, hml, hown, hts⟩ (mt_X0_arity l (tk j n) (pt_wf_7 hL.1 (by omega) hn)) (va_cwS 1 hts gS_X0_41 rfl rfl rfl hd_X0_arity ⟨Nat.le_of_ble_eq_true rfl, Nat.le_of_ble_eq_true rfl⟩) rfl hl.1 rfl (Nat.le_of_ble_eq_true rfl) dX0_measure_35 ⟨Nat.zero_le _, Nat.zero_le _⟩ (fun r_35 h_35 => ?_)
          subst h_35
          refine lv_istore (lv' := [(4, .int (nI (pt_ar (tk j n)))), (3, .int (nI ((j * 9) + n))), (0, .ref (ad 0)), (1, .int (nI j)), (2, .int (nI n))]) hx hb dX0_measure_38 hl (by decide) rfl (fun ls hl => ?_)
          refine lv_iload hx hb dX0_measure_40 (lv_at hl 0 rfl) ?_
          refine xr_if_le (tgt := 56) hx hb dX0_measure_42 (by decide) (by omega) (fun c_42 => ?_) (fun c_42 => ?_)
          · skip
            refine lv_iconst (v := nI 0) hx hb dX0_measure_56 xc_0 ?_
            refine lv_istore (lv' := [(5, .int (nI 0)), (4, .int (nI (pt_ar (tk j n)))), (3, .int (nI ((j * 9) + n))), (0, .ref (ad 0)), (1, .int (nI j)), (2, .int (nI n))]) hx hb dX0_measure_57 hl (by decide) rfl (fun ls hl => ?_)
            refine lv_aload_n hx hb dX0_measure_59 rfl (lv_at hl 3 rfl) ?_
            refine va_get (D := (dC, dI)) (ci := 0) (v := .ref (ad 3)) (C := RX0) (T := TX0) (N := 13) hx hb hts in_X0 hown hK hP 0 rfl rfl 2 (by decide) (hts _ q33) (fun _ h9 => h9) rfl dX0_measure_60 ?_
            refine lv_iload_n hx hb dX0_measure_63 rfl (lv_at hl 2 rfl) ?_
            refine lv_iconst (v := nI 1) hx hb dX0_measure_64 xc_1 ?_
            refine lv_iload hx hb dX0_measure_65 (lv_at hl 0 rfl) ?_
            refine xr_iadd hx hb dX0_measure_67 ?_
            refine lv_iload hx hb dX0_measure_68 (lv_at hl 1 rfl) ?_
            refine lv_iconst (v := nI 1) hx hb dX0_measure_70 xc_1 ?_
            refine xr_icmp_le (tgt := 88) hx hb dX0_measure_71 (by decide) (by omega) (by omega) (fun c_71 => ?_) (fun c_71 => ?_)
            · skip
              refine lv_iconst (v := nI 0) hx hb dX0_measure_88 xc_0 ?_
              refine xr_iadd hx hb dX0_measure_89 ?_
              refine xr_conv (y := (nI (pt_skip (tk j) (sz j) n 1 - n))) (congrArg nI (by rw [pt_skip_a0 hn (by omega)]; omega)) ?_
              refine xr_i2b hx hb (by omega) dX0_measure_90 ?_
              refine xr_bast hx hb hK hP hD hS 3 0 rfl rfl (k := (j * 9) + n) (v := pt_skip (tk j) (sz j) n 1 - n) (by omega) (by decide) (by omega) dX0_measure_91 (fun H locs hP hD hS => ?_)
              have hP : va_P (dC, dI) vwCl (XW ad cB cJ sizes tokens (va_up spans1 ((j * 9) + n) (pt_skip (tk j) (sz j) n 1 - n)) subject parts states table stateAt fits sameAs (sz 4) kn sc) H := hP
              have hD : va_D A (XW ad cB cJ sizes tokens (va_up spans1 ((j * 9) + n) (pt_skip (tk j) (sz j) n 1 - n)) subject parts states table stateAt fits sameAs (sz 4) kn sc) := hD
              refine lv_iinc (v := (pI n)) (lv' := [(2, .int (pI n)), (5, .int (nI 0)), (4, .int (nI (pt_ar (tk j n)))), (3, .int (nI ((j * 9) + n))), (0, .ref (ad 0)), (1, .int (nI j))]) hx hb dX0_measure_92 hl (k := 5) rfl (xr_dec _) (by decide) rfl (fun ls hl => ?_)
              refine lv_goto (tgt := 18) hx hb dX0_measure_95 (by decide) ?_
              exact ih_18 (va_up spans1 (j * 9 + n) (pt_skip (tk j) (sz j) n 1 - n)) n ls H locs (by omega) (fun i h1 h2 => by by_cases e : i = n; (rw [e, va_up_s]); (rw [va_up_n _ _ (by omega)]; exact hq i (by omega) h2)) (fun i hi => by rw [va_up_n _ _ (by omega)]; exact hr2 i hi) (by omega) hP hD hS (lv_sub hl [4, 5, 0] rfl)
            · exact absurd c_71 (by omega)
          · have hlt : n + 1 < sz j := pt_lt_of_need h0 (by omega) (by omega)
            refine lv_aload_n hx hb dX0_measure_45 rfl (lv_at hl 2 rfl) ?_
            refine va_get (D := (dC, dI)) (ci := 0) (v := .ref (ad 3)) (C := RX0) (T := TX0) (N := 13) hx hb hts in_X0 hown hK hP 0 rfl rfl 2 (by decide) (hts _ q33) (fun _ h9 => h9) rfl dX0_measure_46 ?_
            refine lv_iload_n hx hb dX0_measure_49 rfl (lv_at hl 1 rfl) ?_
            refine lv_iconst (v := nI 1) hx hb dX0_measure_50 xc_1 ?_
            refine xr_iadd hx hb dX0_measure_51 ?_
            refine xr_bald hx hb hK hP 3 0 rfl rfl (k := ((j * 9) + n) + 1) (by omega) (by decide) dX0_measure_52 ?_
            refine xr_conv (y := (nI (pt_skip (tk j) (sz j) (n + 1) 1 - (n + 1)))) (by rw [show j * 9 + n + 1 = j * 9 + (n + 1) by omega, hq (n + 1) (by omega) hlt]) ?_
            refine lv_goto (tgt := 57) hx hb dX0_measure_53 (by decide) ?_
            refine lv_istore (lv' := [(5, .int (nI (pt_skip (tk j) (sz j) (n + 1) 1 - (n + 1)))), (4, .int (nI (pt_ar (tk j n)))), (3, .int (nI ((j * 9) + n))), (0, .ref (ad 0)), (1, .int (nI j)), (2, .int (nI n))]) hx hb dX0_measure_57 hl (by decide) rfl (fun ls hl => ?_)
            refine lv_aload_n hx hb dX0_measure_59 rfl (lv_at hl 3 rfl) ?_
            refine va_get (D := (dC, dI)) (ci := 0) (v := .ref (ad 3)) (C := RX0) (T := TX0) (N := 13) hx hb hts in_X0 hown hK hP 0 rfl rfl 2 (by decide) (hts _ q33) (fun _ h9 => h9) rfl dX0_measure_60 ?_
            refine lv_iload_n hx hb dX0_measure_63 rfl (lv_at hl 2 rfl) ?_
            refine lv_iconst (v := nI 1) hx hb dX0_measure_64 xc_1 ?_
            refine lv_iload hx hb dX0_measure_65 (lv_at hl 0 rfl) ?_
            refine xr_iadd hx hb dX0_measure_67 ?_
            refine lv_iload hx hb dX0_measure_68 (lv_at hl 1 rfl) ?_
            refine lv_iconst (v := nI 1) hx hb dX0_measure_70 xc_1 ?_
            refine xr_icmp_le (tgt := 88) hx hb dX0_measure_71 (by decide) (by omega) (by omega) (fun c_71 => ?_) (fun c_71 => ?_)
            · skip
              refine lv_iconst (v := nI 0) hx hb dX0_measure_88 xc_0 ?_
              refine xr_iadd hx hb dX0_measure_89 ?_
              refine xr_conv (y := (nI (pt_skip (tk j) (sz j) n 1 - n))) (congrArg nI (by rw [pt_skip_a1 hn (by omega)]; omega)) ?_
              refine xr_i2b hx hb (by omega) dX0_measure_90 ?_
              refine xr_bast hx hb hK hP hD hS 3 0 rfl rfl (k := (j * 9) + n) (v := pt_skip (tk j) (sz j) n 1 - n) (by omega) (by decide) (by omega) dX0_measure_91 (fun H locs hP hD hS => ?_)
              have hP : va_P (dC, dI) vwCl (XW ad cB cJ sizes tokens (va_up spans1 ((j * 9) + n) (pt_skip (tk j) (sz j) n 1 - n)) subject parts states table stateAt fits sameAs (sz 4) kn sc) H := hP
              have hD : va_D A (XW ad cB cJ sizes tokens (va_up spans1 ((j * 9) + n) (pt_skip (tk j) (sz j) n 1 - n)) subject parts states table stateAt fits sameAs (sz 4) kn sc) := hD
              refine lv_iinc (v := (pI n)) (lv' := [(2, .int (pI n)), (5, .int (nI (pt_skip (tk j) (sz j) (n + 1) 1 - (n + 1)))), (4, .int (nI (pt_ar (tk j n)))), (3, .int (nI ((j * 9) + n))), (0, .ref (ad 0)), (1, .int (nI j))]) hx hb dX0_measure_92 hl (k := 5) rfl (xr_dec _) (by decide) rfl (fun ls hl => ?_)
              refine lv_goto (tgt := 18) hx hb dX0_measure_95 (by decide) ?_
              exact ih_18 (va_up spans1 (j * 9 + n) (pt_skip (tk j) (sz j) n 1 - n)) n ls H locs (by omega) (fun i h1 h2 => by by_cases e : i = n; (rw [e, va_up_s]); (rw [va_up_n _ _ (by omega)]; exact hq i (by omega) h2)) (fun i hi => by rw [va_up_n _ _ (by omega)]; exact hr2 i hi) (by omega) hP hD hS (lv_sub hl [4, 5, 0] rfl)
            · have hns := pt_need_skip' (i := n + 1) (o := 1) hok h0 (by omega) (by omega)
              have hlt2 : pt_skip (tk j) (sz j) (n + 1) 1 < sz j := pt_lt_of_need h0 hskj.2 (by omega)
              have hsk3 := pt_skip_in (tk j) (n := sz j) (i := pt_skip (tk j) (sz j) (n + 1) 1) 1 (by omega)
              refine lv_aload_n hx hb dX0_measure_74 rfl (lv_at hl 3 rfl) ?_
              refine va_get (D := (dC, dI)) (ci := 0) (v := .ref (ad 3)) (C := RX0) (T := TX0) (N := 13) hx hb hts in_X0 hown hK hP 0 rfl rfl 2 (by decide) (hts _ q33) (fun _ h9 => h9) rfl dX0_measure_75 ?_
              refine lv_iload_n hx hb dX0_measure_78 rfl (lv_at hl 2 rfl) ?_
              refine lv_iconst (v := nI 1) hx hb dX0_measure_79 xc_1 ?_
              refine xr_iadd hx hb dX0_measure_80 ?_
              refine lv_iload hx hb dX0_measure_81 (lv_at hl 0 rfl) ?_
              refine xr_iadd hx hb dX0_measure_83 ?_
              refine xr_bald hx hb hK hP 3 0 rfl rfl (k := (((j * 9) + n) + 1) + (pt_skip (tk j) (sz j) (n + 1) 1 - (n + 1))) (by omega) (by decide) dX0_measure_84 ?_
              refine xr_conv (y := (nI (pt_skip (tk j) (sz j) (pt_skip (tk j) (sz j) (n + 1) 1) 1 - pt_skip (tk j) (sz j) (n + 1) 1))) (by rw [show j * 9 + n + 1 + (pt_skip (tk j) (sz j) (n + 1) 1 - (n + 1)) = j * 9 + pt_skip (tk j) (sz j) (n + 1) 1 by omega, hq (pt_skip (tk j) (sz j) (n + 1) 1) (by omega) hlt2]) ?_
              refine lv_goto (tgt := 89) hx hb dX0_measure_85 (by decide) ?_
              refine xr_iadd hx hb dX0_measure_89 ?_
              refine xr_conv (y := (nI (pt_skip (tk j) (sz j) n 1 - n))) (congrArg nI (by rw [pt_skip_a2 hn (by omega)]; omega)) ?_
              refine xr_i2b hx hb (by omega) dX0_measure_90 ?_
              refine xr_bast hx hb hK hP hD hS 3 0 rfl rfl (k := (j * 9) + n) (v := pt_skip (tk j) (sz j) n 1 - n) (by omega) (by decide) (by omega) dX0_measure_91 (fun H locs hP hD hS => ?_)
              have hP : va_P (dC, dI) vwCl (XW ad cB cJ sizes tokens (va_up spans1 ((j * 9) + n) (pt_skip (tk j) (sz j) n 1 - n)) subject parts states table stateAt fits sameAs (sz 4) kn sc) H := hP
              have hD : va_D A (XW ad cB cJ sizes tokens (va_up spans1 ((j * 9) + n) (pt_skip (tk j) (sz j) n 1 - n)) subject parts states table stateAt fits sameAs (sz 4) kn sc) := hD
              refine lv_iinc (v := (pI n)) (lv' := [(2, .int (pI n)), (5, .int (nI (pt_skip (tk j) (sz j) (n + 1) 1 - (n + 1)))), (4, .int (nI (pt_ar (tk j n)))), (3, .int (nI ((j * 9) + n))), (0, .ref (ad 0)), (1, .int (nI j))]) hx hb dX0_measure_92 hl (k := 5) rfl (xr_dec _) (by decide) rfl (fun ls hl => ?_)
              refine lv_goto (tgt := 18) hx hb dX0_measure_95 (by decide) ?_
              exact ih_18 (va_up spans1 (j * 9 + n) (pt_skip (tk j) (sz j) n 1 - n)) n ls H locs (by omega) (fun i h1 h2 => by by_cases e : i = n; (rw [e, va_up_s]); (rw [va_up_n _ _ (by omega)]; exact hq i (by omega) h2)) (fun i hi => by rw [va_up_n _ _ (by omega)]; exact hr2 i hi) (by omega) hP hD hS (lv_sub hl [4, 5, 0] rfl)
    exact key18 _ spans (sz j) ls _ _ (Nat.le_refl _) (fun i h1 h2 => absurd h2 (by omega)) (fun _ _ => rfl) (Nat.lt_succ_self _) hP hD hS (lv_sub hl [1, 2, 0] rfl)
  · skip
    exact xr_retWv (spans) hx hb hr hlk (⟨fun q => absurd ⟨j, hj, rfl, q⟩ c_5, fun _ _ => rfl⟩) hP hK hD hS dX0_measure_8

set_option maxHeartbeats 4000000 in
set_option maxRecDepth 100000 in
/-- secondPart(n) -/
theorem mt_X0_secondPart (l : Launch) (dC : Nat → ClassId) (dI : Nat → Nat → Nat) {ad : Nat → Nat} {cB cJ : ClassId} {sizes tokens spans subject parts : Nat → Nat} {states : Nat → Int64} {table stateAt fits sameAs : Nat → Nat} {cnt kn sc : Nat} (n : Nat) (hn : n + 1 < 25) : Met l yX0_secondPart (ws_ yX0_secondPart cX0_secondPart 2 (some .int)) ({ frames := 0, cells := 0, slots := 0, locals := 0 } : Room) (va_Pc [.ref (ad 0), .int (nI n)] (xr_Pr (dC, dI) vwCl (XW ad cB cJ sizes tokens spans subject parts states table stateAt fits sameAs cnt kn sc) (tyX cB cJ))) (vp_Si (fun r : Int32 => r = nI (n + 1 + parts (n + 1)))) 0 0 xr_no := by
  refine Met.ofW (cc := cX0_secondPart) (maxL := 2) (ret := (some .int)) (by decide) rfl ?_
  intro p e s m args below meth c s₁ B hml hv
  obtain ⟨rfl, hP, hK⟩ := hv
  have hx := B.exec
  have hb := B.bytes
  have hr := B.returns
  have hlk := B.notSynchronized
  have hts := atoms_spec (ws := (ws_ yX0_secondPart cX0_secondPart 2 (some .int))) B.pre
  have hts : ∀ w ∈ lw_all, w.before _ s = true := fun w h => hts w (List.mem_cons_of_mem _ h)
  have hown : s.vm.findClass RX0 = some m.cls := findClass_of_methodNamed B.named
  have hl := lv_entry ([.ref (ad 0), .int (nI n)]) (n := 2) (Nat.le_of_ble_eq_true rfl)
  rw [lg_entry_eq]
  generalize (lg_sl ([.ref (ad 0), .int (nI n)]) ++ List.replicate (2 - (lg_sl ([.ref (ad 0), .int (nI n)])).length) Slot.unset).toArray = ls at hl ⊢
  have hl : lv_has ls 2 [(0, .ref (ad 0)), (1, .int (nI n))] := hl
  refine lv_iload_n hx hb dX0_secondPart_0 rfl (lv_at hl 1 rfl) ?_
  refine lv_iconst (v := nI 1) hx hb dX0_secondPart_1 xc_1 ?_
  refine xr_iadd hx hb dX0_secondPart_2 ?_
  refine lv_aload_n hx hb dX0_secondPart_3 rfl (lv_at hl 0 rfl) ?_
  refine va_get (D := (dC, dI)) (ci := 0) (v := .ref (ad 5)) (C := RX0) (T := TX0) (N := 13) hx hb hts in_X0 hown hK hP 0 rfl rfl 5 (by decide) (hts _ q36) (fun _ h9 => h9) rfl dX0_secondPart_4 ?_
  refine lv_iload_n hx hb dX0_secondPart_7 rfl (lv_at hl 1 rfl) ?_
  refine lv_iconst (v := nI 1) hx hb dX0_secondPart_8 xc_1 ?_
  refine xr_iadd hx hb dX0_secondPart_9 ?_
  refine xr_bald hx hb hK hP 5 0 rfl rfl (k := n + 1) (hn) (by decide) dX0_secondPart_10 ?_
  refine xr_iadd hx hb dX0_secondPart_11 ?_
  exact xr_retSi hx hb hr hlk rfl (rfl) dX0_secondPart_12

set_option maxHeartbeats 4000000 in
set_option maxRecDepth 100000 in
/-- partsFit(cell, op, first, second) -/
theorem mt_X0_partsFit (l : Launch) (dC : Nat → ClassId) (dI : Nat → Nat → Nat) {ad : Nat → Nat} {cB cJ : ClassId} {sizes tokens spans subject parts : Nat → Nat} {states : Nat → Int64} {table stateAt fits sameAs : Nat → Nat} {cnt kn sc : Nat} (ce op : Nat) (ho : op ≤ 7) (x y : Int64) (h1 : 0 < pt_ar op → ce + 1 < 36) (h2 : 1 < pt_ar op → ce + 1 + spans (ce + 1) < 36) : Met l yX0_partsFit (ws_ yX0_partsFit cX0_partsFit 8 (some .boolean)) ({ frames := 1, cells := 0, slots := 0, locals := 20 } : Room) (va_Pc [.ref (ad 0), .int (nI ce), .int (nI op), .long x, .long y] (xr_Pr (dC, dI) vwCl (XW ad cB cJ sizes tokens spans subject parts states table stateAt fits sameAs cnt kn sc) (tyX cB cJ))) (vp_Si (fun r : Int32 => xr_B r ((0 < pt_ar op → tb x (ce + 1) = true) ∧ (1 < pt_ar op → tb y (ce + 1 + spans (ce + 1)) = true)))) 0 0 xr_no := by
  refine Met.ofW (cc := cX0_partsFit) (maxL := 8) (ret := (some .boolean)) (by decide) rfl ?_
  intro p e s m args below meth c s₁ B hml hv
  obtain ⟨rfl, hP, hK⟩ := hv
  have hx := B.exec
  have hb := B.bytes
  have hr := B.returns
  have hlk := B.notSynchronized
  have hts := atoms_spec (ws := (ws_ yX0_partsFit cX0_partsFit 8 (some .boolean))) B.pre
  have hts : ∀ w ∈ lw_all, w.before _ s = true := fun w h => hts w (List.mem_cons_of_mem _ h)
  have hown : s.vm.findClass RX0 = some m.cls := findClass_of_methodNamed B.named
  have hl := lv_entry ([.ref (ad 0), .int (nI ce), .int (nI op), .long x, .long y]) (n := 8) (Nat.le_of_ble_eq_true rfl)
  rw [lg_entry_eq]
  generalize (lg_sl ([.ref (ad 0), .int (nI ce), .int (nI op), .long x, .long y]) ++ List.replicate (8 - (lg_sl ([.ref (ad 0), .int (nI ce), .int (nI op), .long x, .long y])).length) Slot.unset).toArray = ls at hl ⊢
  have hl : lv_has ls 8 [(0, .ref (ad 0)), (1, .int (nI ce)), (2, .int (nI op)), (3, .long x), (5, .long y)] := hl
  refine lv_iload_n hx hb dX0_partsFit_0 rfl (lv_at hl 2 rfl) ?_
  refine xr_cSi (rest := []) ⟨hx, hb, hml, hown, hts⟩ (mt_X0_arity l (op) (ho)) (va_cwS 1 hts gS_X0_41 rfl rfl rfl hd_X0_arity ⟨Nat.le_of_ble_eq_true rfl, Nat.le_of_ble_eq_true rfl⟩) rfl hl.1 rfl (Nat.le_of_ble_eq_true rfl) dX0_partsFit_1 ⟨Nat.zero_le _, Nat.zero_le _⟩ (fun r_1 h_1 => ?_)
  subst h_1
  refine lv_istore (lv' := [(7, .int (nI (pt_ar (op)))), (0, .ref (ad 0)), (1, .int (nI ce)), (2, .int (nI op)), (3, .long x), (5, .long y)]) hx hb dX0_partsFit_4 hl (by decide) rfl (fun ls hl => ?_)
  have hle := pt_ar_le op
  refine lv_iload hx hb dX0_partsFit_6 (lv_at hl 0 rfl) ?_
  refine xr_if_le (tgt := 25) hx hb dX0_partsFit_8 (by decide) (by omega) (fun c_8 => ?_) (fun c_8 => ?_)
  · skip
    refine lv_iload hx hb dX0_partsFit_25 (lv_at hl 0 rfl) ?_
    refine lv_iconst (v := nI 2) hx hb dX0_partsFit_27 xc_2 ?_
    refine xr_icmp_lt (tgt := 53) hx hb dX0_partsFit_28 (by decide) (by omega) (by omega) (fun c_28 => ?_) (fun c_28 => ?_)
    · skip
      refine lv_iconst (v := nI 1) hx hb dX0_partsFit_53 xc_1 ?_
      refine lv_goto (tgt := 58) hx hb dX0_partsFit_54 (by decide) ?_
      exact xr_retSz hx hb hr hlk xr_nz1 rfl (xr_B1 ⟨fun q => by first | exact t1 | exact absurd q (by omega), fun q => by first | exact t2 | exact absurd q (by omega)⟩) dX0_partsFit_58
    · skip
      refine lv_lload hx hb dX0_partsFit_31 (lv_at hl 5 rfl) ?_
      refine lv_iload_n hx hb dX0_partsFit_33 rfl (lv_at hl 2 rfl) ?_
      refine lv_iconst (v := nI 1) hx hb dX0_partsFit_34 xc_1 ?_
      refine xr_iadd hx hb dX0_partsFit_35 ?_
      refine lv_aload_n hx hb dX0_partsFit_36 rfl (lv_at hl 1 rfl) ?_
      refine va_get (D := (dC, dI)) (ci := 0) (v := .ref (ad 3)) (C := RX0) (T := TX0) (N := 13) hx hb hts in_X0 hown hK hP 0 rfl rfl 2 (by decide) (hts _ q33) (fun _ h9 => h9) rfl dX0_partsFit_37 ?_
      refine lv_iload_n hx hb dX0_partsFit_40 rfl (lv_at hl 2 rfl) ?_
      refine lv_iconst (v := nI 1) hx hb dX0_partsFit_41 xc_1 ?_
      refine xr_iadd hx hb dX0_partsFit_42 ?_
      refine xr_bald hx hb hK hP 3 0 rfl rfl (k := ce + 1) (h1 (by omega)) (by decide) dX0_partsFit_43 ?_
      refine xr_iadd hx hb dX0_partsFit_44 ?_
      refine lv_lushr (v := (y.toUInt64 >>> ((nI (ce + 1 + spans (ce + 1))).toInt64.toUInt64 &&& Int64.toUInt64 63)).toInt64) hx hb dX0_partsFit_45 (rfl) ?_
      refine lv_lconst (v := 1) hx hb dX0_partsFit_46 (by decide) ?_
      refine lv_land hx hb dX0_partsFit_47 ?_
      refine lv_lconst (v := 0) hx hb dX0_partsFit_48 (by decide) ?_
      refine W.lcmp hx hb dX0_partsFit_49 ?_
      refine lv_if_eq (tgt := 57) hx hb dX0_partsFit_50 (by decide) (fun c_50 => ?_) (fun c_50 => ?_)
      · have t2 : tb y (ce + 1 + spans (ce + 1)) = false := by have q := h2 (by omega); exact (tb_bit0 y (by omega)).mp ((lg_cmp_eq _ _).mp c_50)
        refine lv_iconst (v := nI 0) hx hb dX0_partsFit_57 xc_0 ?_
        exact xr_retSz hx hb hr hlk xr_nz0 rfl (xr_B0 (fun q => by rw [q.2 (by omega)] at t2; cases t2)) dX0_partsFit_58
      · have t2 : tb y (ce + 1 + spans (ce + 1)) = true := by have q := h2 (by omega); cases hh : tb y (ce + 1 + spans (ce + 1)) with | true => rfl | false => exact absurd ((lg_cmp_eq _ _).mpr ((tb_bit0 y (by omega)).mpr hh)) c_50
        refine lv_iconst (v := nI 1) hx hb dX0_partsFit_53 xc_1 ?_
        refine lv_goto (tgt := 58) hx hb dX0_partsFit_54 (by decide) ?_
        exact xr_retSz hx hb hr hlk xr_nz1 rfl (xr_B1 ⟨fun q => by first | exact t1 | exact absurd q (by omega), fun q => by first | exact t2 | exact absurd q (by omega)⟩) dX0_partsFit_58
  · skip
    refine lv_lload_n hx hb dX0_partsFit_11 rfl (lv_at hl 4 rfl) ?_
    refine lv_iload_n hx hb dX0_partsFit_12 rfl (lv_at hl 2 rfl) ?_
    refine lv_iconst (v := nI 1) hx hb dX0_partsFit_13 xc_1 ?_
    refine xr_iadd hx hb dX0_partsFit_14 ?_
    refine lv_lushr (v := (x.toUInt64 >>> ((nI (ce + 1)).toInt64.toUInt64 &&& Int64.toUInt64 63)).toInt64) hx hb dX0_partsFit_15 (rfl) ?_
    refine lv_lconst (v := 1) hx hb dX0_partsFit_16 (by decide) ?_
    refine lv_land hx hb dX0_partsFit_17 ?_
    refine lv_lconst (v := 0) hx hb dX0_partsFit_18 (by decide) ?_
    refine W.lcmp hx hb dX0_partsFit_19 ?_
    refine lv_if_ne (tgt := 25) hx hb dX0_partsFit_20 (by decide) (fun c_20 => ?_) (fun c_20 => ?_)
    · have t1 : tb x (ce + 1) = true := by have q := h1 c_8; cases hh : tb x (ce + 1) with | true => rfl | false => exact absurd ((lg_cmp_eq _ _).mpr ((tb_bit0 x (by omega)).mpr hh)) c_20
      refine lv_iload hx hb dX0_partsFit_25 (lv_at hl 0 rfl) ?_
      refine lv_iconst (v := nI 2) hx hb dX0_partsFit_27 xc_2 ?_
      refine xr_icmp_lt (tgt := 53) hx hb dX0_partsFit_28 (by decide) (by omega) (by omega) (fun c_28 => ?_) (fun c_28 => ?_)
      · skip
        refine lv_iconst (v := nI 1) hx hb dX0_partsFit_53 xc_1 ?_
        refine lv_goto (tgt := 58) hx hb dX0_partsFit_54 (by decide) ?_
        exact xr_retSz hx hb hr hlk xr_nz1 rfl (xr_B1 ⟨fun q => by first | exact t1 | exact absurd q (by omega), fun q => by first | exact t2 | exact absurd q (by omega)⟩) dX0_partsFit_58
      · skip
        refine lv_lload hx hb dX0_partsFit_31 (lv_at hl 5 rfl) ?_
        refine lv_iload_n hx hb dX0_partsFit_33 rfl (lv_at hl 2 rfl) ?_
        refine lv_iconst (v := nI 1) hx hb dX0_partsFit_34 xc_1 ?_
        refine xr_iadd hx hb dX0_partsFit_35 ?_
        refine lv_aload_n hx hb dX0_partsFit_36 rfl (lv_at hl 1 rfl) ?_
        refine va_get (D := (dC, dI)) (ci := 0) (v := .ref (ad 3)) (C := RX0) (T := TX0) (N := 13) hx hb hts in_X0 hown hK hP 0 rfl rfl 2 (by decide) (hts _ q33) (fun _ h9 => h9) rfl dX0_partsFit_37 ?_
        refine lv_iload_n hx hb dX0_partsFit_40 rfl (lv_at hl 2 rfl) ?_
        refine lv_iconst (v := nI 1) hx hb dX0_partsFit_41 xc_1 ?_
        refine xr_iadd hx hb dX0_partsFit_42 ?_
        refine xr_bald hx hb hK hP 3 0 rfl rfl (k := ce + 1) (h1 (by omega)) (by decide) dX0_partsFit_43 ?_
        refine xr_iadd hx hb dX0_partsFit_44 ?_
        refine lv_lushr (v := (y.toUInt64 >>> ((nI (ce + 1 + spans (ce + 1))).toInt64.toUInt64 &&& Int64.toUInt64 63)).toInt64) hx hb dX0_partsFit_45 (rfl) ?_
        refine lv_lconst (v := 1) hx hb dX0_partsFit_46 (by decide) ?_
        refine lv_land hx hb dX0_partsFit_47 ?_
        refine lv_lconst (v := 0) hx hb dX0_partsFit_48 (by decide) ?_
        refine W.lcmp hx hb dX0_partsFit_49 ?_
        refine lv_if_eq (tgt := 57) hx hb dX0_partsFit_50 (by decide) (fun c_50 => ?_) (fun c_50 => ?_)
        · have t2 : tb y (ce + 1 + spans (ce + 1)) = false := by have q := h2 (by omega); exact (tb_bit0 y (by omega)).mp ((lg_cmp_eq _ _).mp c_50)
          refine lv_iconst (v := nI 0) hx hb dX0_partsFit_57 xc_0 ?_
          exact xr_retSz hx hb hr hlk xr_nz0 rfl (xr_B0 (fun q => by rw [q.2 (by omega)] at t2; cases t2)) dX0_partsFit_58
        · have t2 : tb y (ce + 1 + spans (ce + 1)) = true := by have q := h2 (by omega); cases hh : tb y (ce + 1 + spans (ce + 1)) with | true => rfl | false => exact absurd ((lg_cmp_eq _ _).mpr ((tb_bit0 y (by omega)).mpr hh)) c_50
          refine lv_iconst (v := nI 1) hx hb dX0_partsFit_53 xc_1 ?_
          refine lv_goto (tgt := 58) hx hb dX0_partsFit_54 (by decide) ?_
          exact xr_retSz hx hb hr hlk xr_nz1 rfl (xr_B1 ⟨fun q => by first | exact t1 | exact absurd q (by omega), fun q => by first | exact t2 | exact absurd q (by omega)⟩) dX0_partsFit_58
    · have t1 : tb x (ce + 1) = false := by have q := h1 c_8; exact (tb_bit0 x (by omega)).mp ((lg_cmp_eq _ _).mp c_20)
      refine lv_iconst (v := nI 0) hx hb dX0_partsFit_23 xc_0 ?_
      exact xr_retSz hx hb hr hlk xr_nz0 rfl (xr_B0 (fun q => by rw [q.1 c_8] at t1; cases t1)) dX0_partsFit_24

set_option maxHeartbeats 4000000 in
set_option maxRecDepth 100000 in
/-- stateOf(set) -/
theorem mt_X0_stateOf (l : Launch) (dC : Nat → ClassId) (dI : Nat → Nat → Nat) (hz : Nat) {ad : Nat → Nat} {cB cJ : ClassId} {sizes tokens spans subject parts : Nat → Nat} {states : Nat → Int64} {table stateAt fits sameAs : Nat → Nat} {cnt kn sc : Nat} (x : Int64) (hsc : sc ≤ 25) : Met l yX0_stateOf (ws_ yX0_stateOf cX0_stateOf 4 (some .int)) ({ frames := 0, cells := 0, slots := 0, locals := 0 } : Room) (va_Pc [.ref (ad 0), .long x] (xr_Pw (dC, dI) vwCl (XW ad cB cJ sizes tokens spans subject parts states table stateAt fits sameAs cnt kn sc) (tyX cB cJ) hz)) (va_Qi (fun (r : Int32) (u : (Nat → Int64) × Nat) => ∃ i : Nat, r = nI i ∧ i < u.2 ∧ u.1 i = x ∧ sc ≤ u.2 ∧ u.2 ≤ sc + 1 ∧ ∀ i, i < sc → u.1 i = states i) (xr_Bw (dC, dI) vwCl (tyX cB cJ) (va_A (XW ad cB cJ sizes tokens spans subject parts states table stateAt fits sameAs cnt kn sc) hz) (fun u => XW ad cB cJ sizes tokens spans subject parts u.1 table stateAt fits sameAs cnt kn u.2)) (va_A (XW ad cB cJ sizes tokens spans subject parts states table stateAt fits sameAs cnt kn sc) hz)) 0 0 (va_A (XW ad cB cJ sizes tokens spans subject parts states table stateAt fits sameAs cnt kn sc) hz) := by
  refine Met.ofW (cc := cX0_stateOf) (maxL := 4) (ret := (some .int)) (by decide) rfl ?_
  intro p e s m args below meth c s₁ B hml hv
  obtain ⟨rfl, hsz, hP, hK, hD0⟩ := hv
  have hx := B.exec
  have hb := B.bytes
  have hr := B.returns
  have hlk := B.notSynchronized
  have hts := atoms_spec (ws := (ws_ yX0_stateOf cX0_stateOf 4 (some .int))) B.pre
  have hts : ∀ w ∈ lw_all, w.before _ s = true := fun w h => hts w (List.mem_cons_of_mem _ h)
  have hown : s.vm.findClass RX0 = some m.cls := findClass_of_methodNamed B.named
  subst hsz
  have hD := hD0.self (sz := s.heap.size)
  generalize hAe : va_A (XW ad cB cJ sizes tokens spans subject parts states table stateAt fits sameAs cnt kn sc) s.heap.size = A at hD ⊢
  have hA : ∀ q : Nat, s.heap.size ≤ q → A q := fun q h => by rw [← hAe]; exact Or.inr h
  have hS : va_S A s.heap s.heap [] := va_S.rf
  have hl := lv_entry ([.ref (ad 0), .long x]) (n := 4) (Nat.le_of_ble_eq_true rfl)
  rw [lg_entry_eq]
  generalize (lg_sl ([.ref (ad 0), .long x]) ++ List.replicate (4 - (lg_sl ([.ref (ad 0), .long x])).length) Slot.unset).toArray = ls at hl ⊢
  have hl : lv_has ls 4 [(0, .ref (ad 0)), (1, .long x)] := hl
  refine lv_iconst (v := nI 0) hx hb dX0_stateOf_0 xc_0 ?_
  refine lv_istore_n (lv' := [(3, .int (nI 0)), (0, .ref (ad 0)), (1, .long x)]) hx hb dX0_stateOf_1 rfl hl (by decide) rfl (fun ls hl => ?_)
  have key2 : ∀ (d_2 : Nat) (k : Nat) (ls : Array Slot) (H : Heap) (locs : List Loc), (k ≤ sc) → (sc - k) < d_2 → va_P (dC, dI) vwCl (XW ad cB cJ sizes tokens spans subject parts states table stateAt fits sameAs cnt kn sc) H → va_D A (XW ad cB cJ sizes tokens spans subject parts states table stateAt fits sameAs cnt kn sc) → va_S A s.heap H locs → lv_has ls 4 [(0, .ref (ad 0)), (1, .long x), (3, .int (nI k))] → W p l e (headSpec (ws_ yX0_stateOf cX0_stateOf 4 (some .int)) ({ frames := 0, cells := 0, slots := 0, locals := 0 } : Room)).room s m ([.ref (ad 0), .long x] : List Value).toArray below meth c H locs 0 0 (MQ below (va_Qi (fun (r : Int32) (u : (Nat → Int64) × Nat) => ∃ i : Nat, r = nI i ∧ i < u.2 ∧ u.1 i = x ∧ sc ≤ u.2 ∧ u.2 ≤ sc + 1 ∧ ∀ i, i < sc → u.1 i = states i) (xr_Bw (dC, dI) vwCl (tyX cB cJ) A (fun u => XW ad cB cJ sizes tokens spans subject parts u.1 table stateAt fits sameAs cnt kn u.2)) A) ([.ref (ad 0), .long x] : List Value).toArray s 0 0 A) (F0 m 2 ls []) := by
    intro d_2
    induction d_2 with
    | zero => intro k ls H locs hk hd_2; exact absurd hd_2 (Nat.not_lt_zero _)
    | succ d_2 ih_2 =>
      intro k ls H locs hk hd_2 hP hD hS hl
      refine lv_iload_n hx hb dX0_stateOf_2 rfl (lv_at hl 2 rfl) ?_
      refine lv_aload_n hx hb dX0_stateOf_3 rfl (lv_at hl 0 rfl) ?_
      refine va_get (D := (dC, dI)) (ci := 0) (v := .int (nI sc)) (C := RX0) (T := TX0) (N := 13) hx hb hts in_X0 hown hK hP 0 rfl rfl 7 (by decide) (hts _ q38) (fun _ h9 => h9) rfl dX0_stateOf_4 ?_
      refine xr_icmp_ge (tgt := 29) hx hb dX0_stateOf_7 (by decide) (by omega) (by omega) (fun c_7 => ?_) (fun c_7 => ?_)
      · skip
        refine lv_aload_n hx hb dX0_stateOf_29 rfl (lv_at hl 0 rfl) ?_
        refine va_get (D := (dC, dI)) (ci := 0) (v := .ref (ad 6)) (C := RX0) (T := TX0) (N := 13) hx hb hts in_X0 hown hK hP 0 rfl rfl 8 (by decide) (hts _ q39) (fun _ h9 => h9) rfl dX0_stateOf_30 ?_
        refine lv_aload_n hx hb dX0_stateOf_33 rfl (lv_at hl 0 rfl) ?_
        refine va_get (D := (dC, dI)) (ci := 0) (v := .int (nI sc)) (C := RX0) (T := TX0) (N := 13) hx hb hts in_X0 hown hK hP 0 rfl rfl 7 (by decide) (hts _ q38) (fun _ h9 => h9) rfl dX0_stateOf_34 ?_
        refine lv_lload_n hx hb dX0_stateOf_37 rfl (lv_at hl 1 rfl) ?_
        refine xr_last hx hb hK hP hD hS 6 1 rfl rfl (k := sc) (v := x) (by omega) (by decide) dX0_stateOf_38 (fun H locs hP hD hS => ?_)
        have hP : va_P (dC, dI) vwCl (XW ad cB cJ sizes tokens spans subject parts (vp_updL states sc x) table stateAt fits sameAs cnt kn sc) H := hP
        have hD : va_D A (XW ad cB cJ sizes tokens spans subject parts (vp_updL states sc x) table stateAt fits sameAs cnt kn sc) := hD
        refine lv_aload_n hx hb dX0_stateOf_39 rfl (lv_at hl 0 rfl) ?_
        refine lv_dup hx hb dX0_stateOf_40 rfl ?_
        refine va_get (D := (dC, dI)) (ci := 0) (v := .int (nI sc)) (C := RX0) (T := TX0) (N := 13) hx hb hts in_X0 hown hK hP 0 rfl rfl 7 (by decide) (hts _ q38) (fun _ h9 => h9) rfl dX0_stateOf_41 ?_
        refine lv_iconst (v := nI 1) hx hb dX0_stateOf_44 xc_1 ?_
        refine xr_iadd hx hb dX0_stateOf_45 ?_
        refine va_put (D := (dC, dI)) (ci := 0) (v := .int (nI (sc + 1))) (ty := .int) (C := RX0) (T := TX0) (N := 13) hx hb hts in_X0 tyX0 tyX0_ok nmX0 hown hK hP hD hS 0 rfl rfl 7 (by decide) (hts _ q38) (fun _ h9 => h9) rfl (by decide +kernel) rfl rfl (Nat.le_of_ble_eq_true rfl) dX0_stateOf_46 (fun H locs hP hD hS => ?_)
        have hP : va_P (dC, dI) vwCl (XW ad cB cJ sizes tokens spans subject parts (vp_updL states sc x) table stateAt fits sameAs cnt kn (sc + 1)) H := hP
        have hD : va_D A (XW ad cB cJ sizes tokens spans subject parts (vp_updL states sc x) table stateAt fits sameAs cnt kn (sc + 1)) := hD
        refine lv_aload_n hx hb dX0_stateOf_49 rfl (lv_at hl 0 rfl) ?_
        refine va_get (D := (dC, dI)) (ci := 0) (v := .int (nI (sc + 1))) (C := RX0) (T := TX0) (N := 13) hx hb hts in_X0 hown hK hP 0 rfl rfl 7 (by decide) (hts _ q38) (fun _ h9 => h9) rfl dX0_stateOf_50 ?_
        refine lv_iconst (v := nI 1) hx hb dX0_stateOf_53 xc_1 ?_
        refine xr_isub hx hb (by omega) dX0_stateOf_54 ?_
        exact xr_retWi ((vp_updL states sc x, sc + 1)) hx hb hr hlk (⟨sc, rfl, by show sc < sc + 1; omega, pk_uLs, by show sc ≤ sc + 1; omega, Nat.le_refl _, fun i hi => pk_uLn (by omega)⟩) hP hK hD hS dX0_stateOf_55
      · skip
        refine lv_aload_n hx hb dX0_stateOf_10 rfl (lv_at hl 0 rfl) ?_
        refine va_get (D := (dC, dI)) (ci := 0) (v := .ref (ad 6)) (C := RX0) (T := TX0) (N := 13) hx hb hts in_X0 hown hK hP 0 rfl rfl 8 (by decide) (hts _ q39) (fun _ h9 => h9) rfl dX0_stateOf_11 ?_
        refine lv_iload_n hx hb dX0_stateOf_14 rfl (lv_at hl 2 rfl) ?_
        refine xr_lald hx hb hK hP 6 1 rfl rfl (k := k) (by omega) (by decide) dX0_stateOf_15 ?_
        refine lv_lload_n hx hb dX0_stateOf_16 rfl (lv_at hl 1 rfl) ?_
        refine W.lcmp hx hb dX0_stateOf_17 ?_
        refine lv_if_ne (tgt := 23) hx hb dX0_stateOf_18 (by decide) (fun c_18 => ?_) (fun c_18 => ?_)
        · skip
          refine lv_iinc (v := (nI (k + 1))) (lv' := [(3, .int (nI (k + 1))), (0, .ref (ad 0)), (1, .long x)]) hx hb dX0_stateOf_23 hl (k := 2) rfl (xr_inc _) (by decide) rfl (fun ls hl => ?_)
          refine lv_goto (tgt := 2) hx hb dX0_stateOf_26 (by decide) ?_
          exact ih_2 (k + 1) ls H locs (by omega) (by omega) hP hD hS (lv_sub hl [1, 2, 0] rfl)
        · skip
          refine lv_iload_n hx hb dX0_stateOf_21 rfl (lv_at hl 2 rfl) ?_
          exact xr_retWi ((states, sc)) hx hb hr hlk (⟨k, rfl, c_7, (lg_cmp_eq _ _).mp c_18, Nat.le_refl _, by omega, fun _ _ => rfl⟩) hP hK hD hS dX0_stateOf_22
  exact key2 _ 0 ls _ _ (Nat.zero_le _) (Nat.lt_succ_self _) hP hD hS (lv_sub hl [1, 2, 0] rfl)

set_option maxHeartbeats 4000000 in
set_option maxRecDepth 100000 in
/-- wholePatterns(set) -/
theorem mt_X0_wholePatterns (l : Launch) (x : Int64) : Met l yX0_wholePatterns (ws_ yX0_wholePatterns cX0_wholePatterns 4 (some .int)) ({ frames := 0, cells := 0, slots := 0, locals := 0 } : Room) (va_Pc [.long x] (fun _ => True)) (vp_Si (fun r : Int32 => r = nI (pt_fs (fun p => tb x (p * 9)) 4))) 0 0 xr_no := by
  refine Met.ofW (cc := cX0_wholePatterns) (maxL := 4) (ret := (some .int)) (by decide) rfl ?_
  intro p e s m args below meth c s₁ B hml hv
  obtain ⟨rfl, -⟩ := hv
  have hx := B.exec
  have hb := B.bytes
  have hr := B.returns
  have hlk := B.notSynchronized
  have hts := atoms_spec (ws := (ws_ yX0_wholePatterns cX0_wholePatterns 4 (some .int))) B.pre
  have hts : ∀ w ∈ lw_all, w.before _ s = true := fun w h => hts w (List.mem_cons_of_mem _ h)
  have hown : s.vm.findClass RX0 = some m.cls := findClass_of_methodNamed B.named
  have hl := lv_entry ([.long x]) (n := 4) (Nat.le_of_ble_eq_true rfl)
  rw [lg_entry_eq]
  generalize (lg_sl ([.long x]) ++ List.replicate (4 - (lg_sl ([.long x])).length) Slot.unset).toArray = ls at hl ⊢
  have hl : lv_has ls 4 [(0, .long x)] := hl
  refine lv_iconst (v := nI 0) hx hb dX0_wholePatterns_0 xc_0 ?_
  refine lv_istore_n (lv' := [(2, .int (nI 0)), (0, .long x)]) hx hb dX0_wholePatterns_1 rfl hl (by decide) rfl (fun ls hl => ?_)
  refine lv_iconst (v := nI 0) hx hb dX0_wholePatterns_2 xc_0 ?_
  refine lv_istore_n (lv' := [(3, .int (nI 0)), (2, .int (nI 0)), (0, .long x)]) hx hb dX0_wholePatterns_3 rfl hl (by decide) rfl (fun ls hl => ?_)
  have key4 : ∀ (d_4 : Nat) (k : Nat) (ls : Array Slot), (k ≤ 4) → (4 - k) < d_4 → lv_has ls 4 [(0, .long x), (2, .int (nI (pt_fs (fun p => tb x (p * 9)) k))), (3, .int (nI k))] → W p l e (headSpec (ws_ yX0_wholePatterns cX0_wholePatterns 4 (some .int)) ({ frames := 0, cells := 0, slots := 0, locals := 0 } : Room)).room s m ([.long x] : List Value).toArray below meth c s.heap [] 0 0 (MQ below (vp_Si (fun r : Int32 => r = nI (pt_fs (fun p => tb x (p * 9)) 4))) ([.long x] : List Value).toArray s 0 0 xr_no) (F0 m 4 ls []) := by
    intro d_4
    induction d_4 with
    | zero => intro k ls hk hd_4; exact absurd hd_4 (Nat.not_lt_zero _)
    | succ d_4 ih_4 =>
      intro k ls hk hd_4 hl
      refine lv_iload_n hx hb dX0_wholePatterns_4 rfl (lv_at hl 2 rfl) ?_
      refine lv_iconst (v := nI 4) hx hb dX0_wholePatterns_5 xc_4 ?_
      refine xr_icmp_ge (tgt := 29) hx hb dX0_wholePatterns_6 (by decide) (by omega) (by omega) (fun c_6 => ?_) (fun c_6 => ?_)
      · skip
        refine lv_iload_n hx hb dX0_wholePatterns_29 rfl (lv_at hl 1 rfl) ?_
        exact xr_retSi hx hb hr hlk rfl (by rw [show 4 = k by omega]) dX0_wholePatterns_30
      · skip
        refine lv_iload_n hx hb dX0_wholePatterns_9 rfl (lv_at hl 1 rfl) ?_
        refine lv_lload_n hx hb dX0_wholePatterns_10 rfl (lv_at hl 0 rfl) ?_
        refine lv_iload_n hx hb dX0_wholePatterns_11 rfl (lv_at hl 2 rfl) ?_
        refine lv_bipush (v := nI 9) hx hb dX0_wholePatterns_12 xb_9 ?_
        refine xr_imul hx hb dX0_wholePatterns_14 ?_
        refine lv_lushr (v := (x.toUInt64 >>> ((nI (k * 9)).toInt64.toUInt64 &&& Int64.toUInt64 63)).toInt64) hx hb dX0_wholePatterns_15 (rfl) ?_
        refine lv_lconst (v := 1) hx hb dX0_wholePatterns_16 (by decide) ?_
        refine lv_land hx hb dX0_wholePatterns_17 ?_
        refine lv_l2i (v := (nI (if tb x (k * 9) then 1 else 0))) hx hb dX0_wholePatterns_18 (by rw [tb_bit x (by omega)]; exact lN_i _) ?_
        refine lv_iload_n hx hb dX0_wholePatterns_19 rfl (lv_at hl 2 rfl) ?_
        refine lv_ishl hx hb dX0_wholePatterns_20 ?_
        refine lv_ior hx hb dX0_wholePatterns_21 ?_
        refine xr_conv (y := (nI (pt_fs (fun p => tb x (p * 9)) (k + 1)))) (pt_fsor2 (b := fun p => tb x (p * 9)) c_6) ?_
        refine lv_istore_n (lv' := [(2, .int (nI (pt_fs (fun p => tb x (p * 9)) (k + 1)))), (0, .long x), (3, .int (nI k))]) hx hb dX0_wholePatterns_22 rfl hl (by decide) rfl (fun ls hl => ?_)
        refine lv_iinc (v := (nI (k + 1))) (lv' := [(3, .int (nI (k + 1))), (2, .int (nI (pt_fs (fun p => tb x (p * 9)) (k + 1)))), (0, .long x)]) hx hb dX0_wholePatterns_23 hl (k := 2) rfl (xr_inc _) (by decide) rfl (fun ls hl => ?_)
        refine lv_goto (tgt := 4) hx hb dX0_wholePatterns_26 (by decide) ?_
        exact ih_4 (k + 1) ls (by omega) (by omega) (lv_sub hl [2, 1, 0] rfl)
  exact key4 _ 0 ls (Nat.zero_le _) (Nat.lt_succ_self _) (lv_sub hl [2, 1, 0] rfl)

set_option maxHeartbeats 4000000 in
set_option maxRecDepth 100000 in
/-- samePart(n, m) -/
theorem mt_X0_samePart (l : Launch) (dC : Nat → ClassId) (dI : Nat → Nat → Nat) {ad : Nat → Nat} {cB cJ : ClassId} {sizes tokens spans subject parts : Nat → Nat} {states : Nat → Int64} {table stateAt fits sameAs : Nat → Nat} {cnt kn sc : Nat} {sz : Nat → Nat} {tk : Nat → Nat → Nat} (hL : XL sizes tokens subject cnt sz tk) (h0 : pt_need (tk 4) (sz 4) = 0) (hpa : ∀ i, i < sz 4 → parts i = pt_skip (tk 4) (sz 4) i 1 - i) (a b : Nat) (ha : a < b) (hb4 : b < sz 4) (hsm : ∀ i, a < i → i < sz 4 → sameAs i < 25) : Met l yX0_samePart (ws_ yX0_samePart cX0_samePart 4 (some .boolean)) ({ frames := 1, cells := 0, slots := 0, locals := 21 } : Room) (va_Pc [.ref (ad 0), .int (nI a), .int (nI b)] (xr_Pr (dC, dI) vwCl (XW ad cB cJ sizes tokens spans subject parts states table stateAt fits sameAs cnt kn sc) (tyX cB cJ))) (vp_Si (fun r : Int32 => xr_B r (tk 4 a = tk 4 b ∧ (0 < pt_ar (tk 4 a) → sameAs (a + 1) = sameAs (b + 1)) ∧ (1 < pt_ar (tk 4 a) → sameAs (pt_skip (tk 4) (sz 4) (a + 1) 1) = sameAs (pt_skip (tk 4) (sz 4) (b + 1) 1))))) 0 0 xr_no := by
  refine Met.ofW (cc := cX0_samePart) (maxL := 4) (ret := (some .boolean)) (by decide) rfl ?_
  intro p e s m args below meth c s₁ B hml hv
  obtain ⟨rfl, hP, hK⟩ := hv
  have hx := B.exec
  have hb := B.bytes
  have hr := B.returns
  have hlk := B.notSynchronized
  have hts := atoms_spec (ws := (ws_ yX0_samePart cX0_samePart 4 (some .boolean))) B.pre
  have hts : ∀ w ∈ lw_all, w.before _ s = true := fun w h => hts w (List.mem_cons_of_mem _ h)
  have hown : s.vm.findClass RX0 = some m.cls := findClass_of_methodNamed B.named
  have hl := lv_entry ([.ref (ad 0), .int (nI a), .int (nI b)]) (n := 4) (Nat.le_of_ble_eq_true rfl)
  rw [lg_entry_eq]
  generalize (lg_sl ([.ref (ad 0), .int (nI a), .int (nI b)]) ++ List.replicate (4 - (lg_sl ([.ref (ad 0), .int (nI a), .int (nI b)])).length) Slot.unset).toArray = ls at hl ⊢
  have hl : lv_has ls 4 [(0, .ref (ad 0)), (1, .int (nI a)), (2, .int (nI b))] := hl
  have hz := hL.1.2.1
  have hok := pt_wf_ok hL.1 (l := 4) (by decide)
  have h7a := pt_wf_7 hL.1 (l := 4) (k := a) (by decide) (by omega)
  have h7b := pt_wf_7 hL.1 (l := 4) (k := b) (by decide) hb4
  have hle := pt_ar_le (tk 4 a)
  have hsa := pt_need_s (tk 4) a
  have hsb := pt_need_s (tk 4) b
  have hna := hok a (by omega)
  have hnb := hok b hb4
  have hka := pt_skip_in (tk 4) (n := sz 4) (i := a + 1) 1 (by omega)
  have hkb := pt_skip_in (tk 4) (n := sz 4) (i := b + 1) 1 (by omega)
  refine lv_aload_n hx hb dX0_samePart_0 rfl (lv_at hl 0 rfl) ?_
  refine va_get (D := (dC, dI)) (ci := 0) (v := .ref (ad 4)) (C := RX0) (T := TX0) (N := 13) hx hb hts in_X0 hown hK hP 0 rfl rfl 4 (by decide) (hts _ q35) (fun _ h9 => h9) rfl dX0_samePart_1 ?_
  refine lv_iload_n hx hb dX0_samePart_4 rfl (lv_at hl 1 rfl) ?_
  refine xr_bald hx hb hK hP 4 0 rfl rfl (k := a) (by omega) (by decide) dX0_samePart_5 ?_
  refine xr_conv (y := (nI (tk 4 a))) (by rw [hL.2.2.2.2 a (by omega)]) ?_
  refine xr_cSi (rest := []) ⟨hx, hb, hml, hown, hts⟩ (mt_X0_arity l (tk 4 a) (h7a)) (va_cwS 1 hts gS_X0_41 rfl rfl rfl hd_X0_arity ⟨Nat.le_of_ble_eq_true rfl, Nat.le_of_ble_eq_true rfl⟩) rfl hl.1 rfl (Nat.le_of_ble_eq_true rfl) dX0_samePart_6 ⟨Nat.zero_le _, Nat.zero_le _⟩ (fun r_6 h_6 => ?_)
  subst h_6
  refine lv_istore_n (lv' := [(3, .int (nI (pt_ar (tk 4 a)))), (0, .ref (ad 0)), (1, .int (nI a)), (2, .int (nI b))]) hx hb dX0_samePart_9 rfl hl (by decide) rfl (fun ls hl => ?_)
  refine lv_aload_n hx hb dX0_samePart_10 rfl (lv_at hl 1 rfl) ?_
  refine va_get (D := (dC, dI)) (ci := 0) (v := .ref (ad 4)) (C := RX0) (T := TX0) (N := 13) hx hb hts in_X0 hown hK hP 0 rfl rfl 4 (by decide) (hts _ q35) (fun _ h9 => h9) rfl dX0_samePart_11 ?_
  refine lv_iload_n hx hb dX0_samePart_14 rfl (lv_at hl 2 rfl) ?_
  refine xr_bald hx hb hK hP 4 0 rfl rfl (k := a) (by omega) (by decide) dX0_samePart_15 ?_
  refine xr_conv (y := (nI (tk 4 a))) (by rw [hL.2.2.2.2 a (by omega)]) ?_
  refine lv_aload_n hx hb dX0_samePart_16 rfl (lv_at hl 1 rfl) ?_
  refine va_get (D := (dC, dI)) (ci := 0) (v := .ref (ad 4)) (C := RX0) (T := TX0) (N := 13) hx hb hts in_X0 hown hK hP 0 rfl rfl 4 (by decide) (hts _ q35) (fun _ h9 => h9) rfl dX0_samePart_17 ?_
  refine lv_iload_n hx hb dX0_samePart_20 rfl (lv_at hl 3 rfl) ?_
  refine xr_bald hx hb hK hP 4 0 rfl rfl (k := b) (by omega) (by decide) dX0_samePart_21 ?_
  refine xr_conv (y := (nI (tk 4 b))) (by rw [hL.2.2.2.2 b hb4]) ?_
  refine xr_icmp_ne (tgt := 48) hx hb dX0_samePart_22 (by decide) (by omega) (by omega) (fun c_22 => ?_) (fun c_22 => ?_)
  · skip
    refine lv_iconst (v := nI 0) hx hb dX0_samePart_48 xc_0 ?_
    exact xr_retSz hx hb hr hlk xr_nz0 rfl (xr_B0 (fun q => by first | exact c_22 q.1 | exact c_45 (q.2.1 c_26))) dX0_samePart_49
  · rw [← c_22] at hsb
    refine lv_iload_n hx hb dX0_samePart_25 rfl (lv_at hl 0 rfl) ?_
    refine xr_if_le (tgt := 50) hx hb dX0_samePart_26 (by decide) (by omega) (fun c_26 => ?_) (fun c_26 => ?_)
    · skip
      refine lv_iload_n hx hb dX0_samePart_50 rfl (lv_at hl 0 rfl) ?_
      refine lv_iconst (v := nI 2) hx hb dX0_samePart_51 xc_2 ?_
      refine xr_icmp_lt (tgt := 78) hx hb dX0_samePart_52 (by decide) (by omega) (by omega) (fun c_52 => ?_) (fun c_52 => ?_)
      · skip
        refine lv_iconst (v := nI 1) hx hb dX0_samePart_78 xc_1 ?_
        refine lv_goto (tgt := 83) hx hb dX0_samePart_79 (by decide) ?_
        exact xr_retSz hx hb hr hlk xr_nz1 rfl (xr_B1 ⟨c_22, fun q => by first | exact c_45 | exact absurd q (by omega), fun q => by first | exact c_75 | exact absurd q (by omega)⟩) dX0_samePart_83
      · have hxa : a + 1 < sz 4 := pt_lt_of_need h0 (by omega) (by omega)
        have hxb : b + 1 < sz 4 := pt_lt_of_need h0 (by omega) (by omega)
        have hn2a := pt_need_skip' (i := a + 1) (o := 1) hok h0 (by omega) (by omega)
        have hn2b := pt_need_skip' (i := b + 1) (o := 1) hok h0 (by omega) (by omega)
        have h2a : pt_skip (tk 4) (sz 4) (a + 1) 1 < sz 4 := pt_lt_of_need h0 hka.2 (by omega)
        have h2b : pt_skip (tk 4) (sz 4) (b + 1) 1 < sz 4 := pt_lt_of_need h0 hkb.2 (by omega)
        have hsm3 := hsm (pt_skip (tk 4) (sz 4) (a + 1) 1) (by omega) h2a
        have hsm4 := hsm (pt_skip (tk 4) (sz 4) (b + 1) 1) (by omega) h2b
        refine lv_aload_n hx hb dX0_samePart_55 rfl (lv_at hl 1 rfl) ?_
        refine va_get (D := (dC, dI)) (ci := 0) (v := .ref (ad 10)) (C := RX0) (T := TX0) (N := 13) hx hb hts in_X0 hown hK hP 0 rfl rfl 12 (by decide) (hts _ q43) (fun _ h9 => h9) rfl dX0_samePart_56 ?_
        refine lv_aload_n hx hb dX0_samePart_59 rfl (lv_at hl 1 rfl) ?_
        refine lv_iload_n hx hb dX0_samePart_60 rfl (lv_at hl 2 rfl) ?_
        refine xr_cVi (rest := [.ref (ad 10)]) ⟨hx, hb, hml, hown, hts⟩ (mt_X0_secondPart l dC dI a (by omega)) (cwV 1 hts gV_X0_89 rfl rfl rfl hd_X0_secondPart ⟨Nat.le_of_ble_eq_true rfl, Nat.le_of_ble_eq_true rfl⟩) hK hP 0 0 rfl rfl rfl hl.1 rfl (Nat.le_of_ble_eq_true rfl) dX0_samePart_61 ⟨Nat.zero_le _, Nat.zero_le _⟩ (fun r_61 h_61 => ?_)
        rw [show a + 1 + parts (a + 1) = pt_skip (tk 4) (sz 4) (a + 1) 1 by rw [hpa (a + 1) (by omega)]; omega] at h_61
        subst h_61
        refine xr_bald hx hb hK hP 10 0 rfl rfl (k := pt_skip (tk 4) (sz 4) (a + 1) 1) (by omega) (by decide) dX0_samePart_64 ?_
        refine lv_aload_n hx hb dX0_samePart_65 rfl (lv_at hl 1 rfl) ?_
        refine va_get (D := (dC, dI)) (ci := 0) (v := .ref (ad 10)) (C := RX0) (T := TX0) (N := 13) hx hb hts in_X0 hown hK hP 0 rfl rfl 12 (by decide) (hts _ q43) (fun _ h9 => h9) rfl dX0_samePart_66 ?_
        refine lv_aload_n hx hb dX0_samePart_69 rfl (lv_at hl 1 rfl) ?_
        refine lv_iload_n hx hb dX0_samePart_70 rfl (lv_at hl 3 rfl) ?_
        refine xr_cVi (rest := [.ref (ad 10), .int (nI (sameAs (pt_skip (tk 4) (sz 4) (a + 1) 1)))]) ⟨hx, hb, hml, hown, hts⟩ (mt_X0_secondPart l dC dI b (by omega)) (cwV 1 hts gV_X0_89 rfl rfl rfl hd_X0_secondPart ⟨Nat.le_of_ble_eq_true rfl, Nat.le_of_ble_eq_true rfl⟩) hK hP 0 0 rfl rfl rfl hl.1 rfl (Nat.le_of_ble_eq_true rfl) dX0_samePart_71 ⟨Nat.zero_le _, Nat.zero_le _⟩ (fun r_71 h_71 => ?_)
        rw [show b + 1 + parts (b + 1) = pt_skip (tk 4) (sz 4) (b + 1) 1 by rw [hpa (b + 1) (by omega)]; omega] at h_71
        subst h_71
        refine xr_bald hx hb hK hP 10 0 rfl rfl (k := pt_skip (tk 4) (sz 4) (b + 1) 1) (by omega) (by decide) dX0_samePart_74 ?_
        refine xr_icmp_ne (tgt := 82) hx hb dX0_samePart_75 (by decide) (by omega) (by omega) (fun c_75 => ?_) (fun c_75 => ?_)
        · skip
          refine lv_iconst (v := nI 0) hx hb dX0_samePart_82 xc_0 ?_
          exact xr_retSz hx hb hr hlk xr_nz0 rfl (xr_B0 (fun q => c_75 (q.2.2 (by omega)))) dX0_samePart_83
        · skip
          refine lv_iconst (v := nI 1) hx hb dX0_samePart_78 xc_1 ?_
          refine lv_goto (tgt := 83) hx hb dX0_samePart_79 (by decide) ?_
          exact xr_retSz hx hb hr hlk xr_nz1 rfl (xr_B1 ⟨c_22, fun q => by first | exact c_45 | exact absurd q (by omega), fun q => by first | exact c_75 | exact absurd q (by omega)⟩) dX0_samePart_83
    · have h1a : a + 1 < sz 4 := pt_lt_of_need h0 (by omega) (by omega)
      have h1b : b + 1 < sz 4 := pt_lt_of_need h0 (by omega) (by omega)
      have hsm1 := hsm (a + 1) (by omega) h1a
      have hsm2 := hsm (b + 1) (by omega) h1b
      refine lv_aload_n hx hb dX0_samePart_29 rfl (lv_at hl 1 rfl) ?_
      refine va_get (D := (dC, dI)) (ci := 0) (v := .ref (ad 10)) (C := RX0) (T := TX0) (N := 13) hx hb hts in_X0 hown hK hP 0 rfl rfl 12 (by decide) (hts _ q43) (fun _ h9 => h9) rfl dX0_samePart_30 ?_
      refine lv_iload_n hx hb dX0_samePart_33 rfl (lv_at hl 2 rfl) ?_
      refine lv_iconst (v := nI 1) hx hb dX0_samePart_34 xc_1 ?_
      refine xr_iadd hx hb dX0_samePart_35 ?_
      refine xr_bald hx hb hK hP 10 0 rfl rfl (k := a + 1) (by omega) (by decide) dX0_samePart_36 ?_
      refine lv_aload_n hx hb dX0_samePart_37 rfl (lv_at hl 1 rfl) ?_
      refine va_get (D := (dC, dI)) (ci := 0) (v := .ref (ad 10)) (C := RX0) (T := TX0) (N := 13) hx hb hts in_X0 hown hK hP 0 rfl rfl 12 (by decide) (hts _ q43) (fun _ h9 => h9) rfl dX0_samePart_38 ?_
      refine lv_iload_n hx hb dX0_samePart_41 rfl (lv_at hl 3 rfl) ?_
      refine lv_iconst (v := nI 1) hx hb dX0_samePart_42 xc_1 ?_
      refine xr_iadd hx hb dX0_samePart_43 ?_
      refine xr_bald hx hb hK hP 10 0 rfl rfl (k := b + 1) (by omega) (by decide) dX0_samePart_44 ?_
      refine xr_icmp_eq (tgt := 50) hx hb dX0_samePart_45 (by decide) (by omega) (by omega) (fun c_45 => ?_) (fun c_45 => ?_)
      · skip
        refine lv_iload_n hx hb dX0_samePart_50 rfl (lv_at hl 0 rfl) ?_
        refine lv_iconst (v := nI 2) hx hb dX0_samePart_51 xc_2 ?_
        refine xr_icmp_lt (tgt := 78) hx hb dX0_samePart_52 (by decide) (by omega) (by omega) (fun c_52 => ?_) (fun c_52 => ?_)
        · skip
          refine lv_iconst (v := nI 1) hx hb dX0_samePart_78 xc_1 ?_
          refine lv_goto (tgt := 83) hx hb dX0_samePart_79 (by decide) ?_
          exact xr_retSz hx hb hr hlk xr_nz1 rfl (xr_B1 ⟨c_22, fun q => by first | exact c_45 | exact absurd q (by omega), fun q => by first | exact c_75 | exact absurd q (by omega)⟩) dX0_samePart_83
        · have hxa : a + 1 < sz 4 := pt_lt_of_need h0 (by omega) (by omega)
          have hxb : b + 1 < sz 4 := pt_lt_of_need h0 (by omega) (by omega)
          have hn2a := pt_need_skip' (i := a + 1) (o := 1) hok h0 (by omega) (by omega)
          have hn2b := pt_need_skip' (i := b + 1) (o := 1) hok h0 (by omega) (by omega)
          have h2a : pt_skip (tk 4) (sz 4) (a + 1) 1 < sz 4 := pt_lt_of_need h0 hka.2 (by omega)
          have h2b : pt_skip (tk 4) (sz 4) (b + 1) 1 < sz 4 := pt_lt_of_need h0 hkb.2 (by omega)
          have hsm3 := hsm (pt_skip (tk 4) (sz 4) (a + 1) 1) (by omega) h2a
          have hsm4 := hsm (pt_skip (tk 4) (sz 4) (b + 1) 1) (by omega) h2b
          refine lv_aload_n hx hb dX0_samePart_55 rfl (lv_at hl 1 rfl) ?_
          refine va_get (D := (dC, dI)) (ci := 0) (v := .ref (ad 10)) (C := RX0) (T := TX0) (N := 13) hx hb hts in_X0 hown hK hP 0 rfl rfl 12 (by decide) (hts _ q43) (fun _ h9 => h9) rfl dX0_samePart_56 ?_
          refine lv_aload_n hx hb dX0_samePart_59 rfl (lv_at hl 1 rfl) ?_
          refine lv_iload_n hx hb dX0_samePart_60 rfl (lv_at hl 2 rfl) ?_
          refine xr_cVi (rest := [.ref (ad 10)]) ⟨hx, hb, hml, hown, hts⟩ (mt_X0_secondPart l dC dI a (by omega)) (cwV 1 hts gV_X0_89 rfl rfl rfl hd_X0_secondPart ⟨Nat.le_of_ble_eq_true rfl, Nat.le_of_ble_eq_true rfl⟩) hK hP 0 0 rfl rfl rfl hl.1 rfl (Nat.le_of_ble_eq_true rfl) dX0_samePart_61 ⟨Nat.zero_le _, Nat.zero_le _⟩ (fun r_61 h_61 => ?_)
          rw [show a + 1 + parts (a + 1) = pt_skip (tk 4) (sz 4) (a + 1) 1 by rw [hpa (a + 1) (by omega)]; omega] at h_61
          subst h_61
          refine xr_bald hx hb hK hP 10 0 rfl rfl (k := pt_skip (tk 4) (sz 4) (a + 1) 1) (by omega) (by decide) dX0_samePart_64 ?_
          refine lv_aload_n hx hb dX0_samePart_65 rfl (lv_at hl 1 rfl) ?_
          refine va_get (D := (dC, dI)) (ci := 0) (v := .ref (ad 10)) (C := RX0) (T := TX0) (N := 13) hx hb hts in_X0 hown hK hP 0 rfl rfl 12 (by decide) (hts _ q43) (fun _ h9 => h9) rfl dX0_samePart_66 ?_
          refine lv_aload_n hx hb dX0_samePart_69 rfl (lv_at hl 1 rfl) ?_
          refine lv_iload_n hx hb dX0_samePart_70 rfl (lv_at hl 3 rfl) ?_
          refine xr_cVi (rest := [.ref (ad 10), .int (nI (sameAs (pt_skip (tk 4) (sz 4) (a + 1) 1)))]) ⟨hx, hb, hml, hown, hts⟩ (mt_X0_secondPart l dC dI b (by omega)) (cwV 1 hts gV_X0_89 rfl rfl rfl hd_X0_secondPart ⟨Nat.le_of_ble_eq_true rfl, Nat.le_of_ble_eq_true rfl⟩) hK hP 0 0 rfl rfl rfl hl.1 rfl (Nat.le_of_ble_eq_true rfl) dX0_samePart_71 ⟨Nat.zero_le _, Nat.zero_le _⟩ (fun r_71 h_71 => ?_)
          rw [show b + 1 + parts (b + 1) = pt_skip (tk 4) (sz 4) (b + 1) 1 by rw [hpa (b + 1) (by omega)]; omega] at h_71
          subst h_71
          refine xr_bald hx hb hK hP 10 0 rfl rfl (k := pt_skip (tk 4) (sz 4) (b + 1) 1) (by omega) (by decide) dX0_samePart_74 ?_
          refine xr_icmp_ne (tgt := 82) hx hb dX0_samePart_75 (by decide) (by omega) (by omega) (fun c_75 => ?_) (fun c_75 => ?_)
          · skip
            refine lv_iconst (v := nI 0) hx hb dX0_samePart_82 xc_0 ?_
            exact xr_retSz hx hb hr hlk xr_nz0 rfl (xr_B0 (fun q => c_75 (q.2.2 (by omega)))) dX0_samePart_83
          · skip
            refine lv_iconst (v := nI 1) hx hb dX0_samePart_78 xc_1 ?_
            refine lv_goto (tgt := 83) hx hb dX0_samePart_79 (by decide) ?_
            exact xr_retSz hx hb hr hlk xr_nz1 rfl (xr_B1 ⟨c_22, fun q => by first | exact c_45 | exact absurd q (by omega), fun q => by first | exact c_75 | exact absurd q (by omega)⟩) dX0_samePart_83
      · skip
        refine lv_iconst (v := nI 0) hx hb dX0_samePart_48 xc_0 ?_
        exact xr_retSz hx hb hr hlk xr_nz0 rfl (xr_B0 (fun q => by first | exact c_22 q.1 | exact c_45 (q.2.1 c_26))) dX0_samePart_49

set_option maxHeartbeats 4000000 in
set_option maxRecDepth 100000 in
/-- combine(op, first, second) -/
theorem mt_X0_combine (l : Launch) (dC : Nat → ClassId) (dI : Nat → Nat → Nat) {ad : Nat → Nat} {cB cJ : ClassId} {sizes tokens spans subject parts : Nat → Nat} {states : Nat → Int64} {table stateAt fits sameAs : Nat → Nat} {cnt kn sc : Nat} {sz : Nat → Nat} {tk : Nat → Nat → Nat} (hL : XL sizes tokens subject cnt sz tk) (hsp : XSp spans sz tk 4) (op : Nat) (ho : op ≤ 6) (x y : Int64) : Met l yX0_combine (ws_ yX0_combine cX0_combine 12 (some .long)) ({ frames := 3, cells := 0, slots := 0, locals := 64 } : Room) (va_Pc [.ref (ad 0), .int (nI op), .long x, .long y] (xr_Pr (dC, dI) vwCl (XW ad cB cJ sizes tokens spans subject parts states table stateAt fits sameAs cnt kn sc) (tyX cB cJ))) (vp_Sl (fun r : Int64 => ∀ p, p < 4 → ∀ k, k < 9 → (tb r (p * 9 + k) = true ↔ cbP sz tk op (tb x) (tb y) p k))) 0 0 xr_no := by
  refine Met.ofW (cc := cX0_combine) (maxL := 12) (ret := (some .long)) (by decide) rfl ?_
  intro p e s m args below meth c s₁ B hml hv
  obtain ⟨rfl, hP, hK⟩ := hv
  have hx := B.exec
  have hb := B.bytes
  have hr := B.returns
  have hlk := B.notSynchronized
  have hts := atoms_spec (ws := (ws_ yX0_combine cX0_combine 12 (some .long))) B.pre
  have hts : ∀ w ∈ lw_all, w.before _ s = true := fun w h => hts w (List.mem_cons_of_mem _ h)
  have hown : s.vm.findClass RX0 = some m.cls := findClass_of_methodNamed B.named
  have hl := lv_entry ([.ref (ad 0), .int (nI op), .long x, .long y]) (n := 12) (Nat.le_of_ble_eq_true rfl)
  rw [lg_entry_eq]
  generalize (lg_sl ([.ref (ad 0), .int (nI op), .long x, .long y]) ++ List.replicate (12 - (lg_sl ([.ref (ad 0), .int (nI op), .long x, .long y])).length) Slot.unset).toArray = ls at hl ⊢
  have hl : lv_has ls 12 [(0, .ref (ad 0)), (1, .int (nI op)), (2, .long x), (4, .long y)] := hl
  refine lv_lconst (v := 0) hx hb dX0_combine_0 (by decide) ?_
  refine lv_lstore (lv' := [(6, .long 0), (0, .ref (ad 0)), (1, .int (nI op)), (2, .long x), (4, .long y)]) hx hb dX0_combine_1 hl (by decide) rfl (fun ls hl => ?_)
  refine lv_iconst (v := nI 0) hx hb dX0_combine_3 xc_0 ?_
  refine lv_istore (lv' := [(8, .int (nI 0)), (6, .long 0), (0, .ref (ad 0)), (1, .int (nI op)), (2, .long x), (4, .long y)]) hx hb dX0_combine_4 hl (by decide) rfl (fun ls hl => ?_)
  have key6 : ∀ (d_6 : Nat) (set : Int64) (v : Nat) (ls : Array Slot), (v ≤ 4) → (cbT sz tk op (tb x) (tb y) v 0 set) → (4 - v) < d_6 → lv_has ls 12 [(0, .ref (ad 0)), (1, .int (nI op)), (2, .long x), (4, .long y), (6, .long set), (8, .int (nI v))] → W p l e (headSpec (ws_ yX0_combine cX0_combine 12 (some .long)) ({ frames := 3, cells := 0, slots := 0, locals := 64 } : Room)).room s m ([.ref (ad 0), .int (nI op), .long x, .long y] : List Value).toArray below meth c s.heap [] 0 0 (MQ below (vp_Sl (fun r : Int64 => ∀ p, p < 4 → ∀ k, k < 9 → (tb r (p * 9 + k) = true ↔ cbP sz tk op (tb x) (tb y) p k))) ([.ref (ad 0), .int (nI op), .long x, .long y] : List Value).toArray s 0 0 xr_no) (F0 m 6 ls []) := by
    intro d_6
    induction d_6 with
    | zero => intro set v ls hv hset hd_6; exact absurd hd_6 (Nat.not_lt_zero _)
    | succ d_6 ih_6 =>
      intro set v ls hv hset hd_6 hl
      refine lv_iload hx hb dX0_combine_6 (lv_at hl 5 rfl) ?_
      refine lv_iconst (v := nI 4) hx hb dX0_combine_8 xc_4 ?_
      refine xr_icmp_ge (tgt := 111) hx hb dX0_combine_9 (by decide) (by omega) (by omega) (fun c_9 => ?_) (fun c_9 => ?_)
      · skip
        refine lv_lload hx hb dX0_combine_111 (lv_at hl 4 rfl) ?_
        exact xr_retSl hx hb hr hlk rfl (fun p hp k hk => by rw [hset p hp k hk]; exact ⟨fun q => q.2, fun q => ⟨by omega, q⟩⟩) dX0_combine_113
      · skip
        refine lv_aload_n hx hb dX0_combine_12 rfl (lv_at hl 0 rfl) ?_
        refine lv_iload hx hb dX0_combine_13 (lv_at hl 5 rfl) ?_
        refine xr_cVi (rest := []) ⟨hx, hb, hml, hown, hts⟩ (mt_X0_complete l dC dI hL (nI v)) (cwV 1 hts gV_X0_86 rfl rfl rfl hd_X0_complete ⟨Nat.le_of_ble_eq_true rfl, Nat.le_of_ble_eq_true rfl⟩) hK hP 0 0 rfl rfl rfl hl.1 rfl (Nat.le_of_ble_eq_true rfl) dX0_combine_15 ⟨Nat.zero_le _, Nat.zero_le _⟩ (fun r_15 h_15 => ?_)
        refine xr_ifeqB (tgt := 31) hx hb h_15 dX0_combine_18 (by decide) (fun c_18 => ?_) (fun c_18 => ?_)
        · have hnv : ¬ pt_need (tk v) (sz v) = 0 := fun q => c_18 ⟨v, c_9, rfl, q⟩
          refine lv_iconst (v := nI 0) hx hb dX0_combine_31 xc_0 ?_
          refine lv_istore (lv' := [(9, .int (nI 0)), (0, .ref (ad 0)), (1, .int (nI op)), (2, .long x), (4, .long y), (6, .long set), (8, .int (nI v))]) hx hb dX0_combine_32 hl (by decide) rfl (fun ls hl => ?_)
          refine lv_iconst (v := nI 0) hx hb dX0_combine_34 xc_0 ?_
          refine lv_istore (lv' := [(10, .int (nI 0)), (9, .int (nI 0)), (0, .ref (ad 0)), (1, .int (nI op)), (2, .long x), (4, .long y), (6, .long set), (8, .int (nI v))]) hx hb dX0_combine_35 hl (by decide) rfl (fun ls hl => ?_)
          refine lv_iload hx hb dX0_combine_37 (lv_at hl 0 rfl) ?_
          refine lv_iload hx hb dX0_combine_39 (lv_at hl 1 rfl) ?_
          refine xr_icmp_ge (tgt := 105) hx hb dX0_combine_41 (by decide) (by omega) (by omega) (fun c_41 => ?_) (fun c_41 => ?_)
          · skip
            refine lv_iinc (v := (nI (v + 1))) (lv' := [(8, .int (nI (v + 1))), (10, .int (nI 0)), (9, .int (nI 0)), (0, .ref (ad 0)), (1, .int (nI op)), (2, .long x), (4, .long y), (6, .long set)]) hx hb dX0_combine_105 hl (k := 7) rfl (xr_inc _) (by decide) rfl (fun ls hl => ?_)
            refine lv_goto (tgt := 6) hx hb dX0_combine_108 (by decide) ?_
            exact ih_6 set (v + 1) ls (by omega) (cbT_next hset (fun q => absurd q hnv)) (by omega) (lv_sub hl [3, 4, 5, 6, 7, 0] rfl)
          · exact absurd c_41 (by omega)
        · have hcv : pt_need (tk v) (sz v) = 0 := by obtain ⟨i, hi, e, h⟩ := c_18; rw [(nI_eq (by omega) (by omega)).mp e]; exact h
          have hz := hL.1.1 v c_9
          have hokv := pt_wf_ok hL.1 (l := v) (by omega)
          refine lv_aload_n hx hb dX0_combine_21 rfl (lv_at hl 0 rfl) ?_
          refine va_get (D := (dC, dI)) (ci := 0) (v := .ref (ad 1)) (C := RX0) (T := TX0) (N := 13) hx hb hts in_X0 hown hK hP 0 rfl rfl 0 (by decide) (hts _ q31) (fun _ h9 => h9) rfl dX0_combine_22 ?_
          refine lv_iload hx hb dX0_combine_25 (lv_at hl 5 rfl) ?_
          refine xr_bald hx hb hK hP 1 0 rfl rfl (k := v) (c_9) (by decide) dX0_combine_27 ?_
          refine xr_conv (y := (nI (sz v))) (by rw [hL.2.1 v c_9]) ?_
          refine lv_goto (tgt := 32) hx hb dX0_combine_28 (by decide) ?_
          refine lv_istore (lv' := [(9, .int (nI (sz v))), (0, .ref (ad 0)), (1, .int (nI op)), (2, .long x), (4, .long y), (6, .long set), (8, .int (nI v))]) hx hb dX0_combine_32 hl (by decide) rfl (fun ls hl => ?_)
          refine lv_iconst (v := nI 0) hx hb dX0_combine_34 xc_0 ?_
          refine lv_istore (lv' := [(10, .int (nI 0)), (9, .int (nI (sz v))), (0, .ref (ad 0)), (1, .int (nI op)), (2, .long x), (4, .long y), (6, .long set), (8, .int (nI v))]) hx hb dX0_combine_35 hl (by decide) rfl (fun ls hl => ?_)
          have key37 : ∀ (d_37 : Nat) (set : Int64) (z : Nat) (ls : Array Slot), (z ≤ sz v) → (cbT sz tk op (tb x) (tb y) v z set) → (sz v - z) < d_37 → lv_has ls 12 [(0, .ref (ad 0)), (1, .int (nI op)), (2, .long x), (4, .long y), (6, .long set), (8, .int (nI v)), (9, .int (nI (sz v))), (10, .int (nI z))] → W p l e (headSpec (ws_ yX0_combine cX0_combine 12 (some .long)) ({ frames := 3, cells := 0, slots := 0, locals := 64 } : Room)).room s m ([.ref (ad 0), .int (nI op), .long x, .long y] : List Value).toArray below meth c s.heap [] 0 0 (MQ below (vp_Sl (fun r : Int64 => ∀ p, p < 4 → ∀ k, k < 9 → (tb r (p * 9 + k) = true ↔ cbP sz tk op (tb x) (tb y) p k))) ([.ref (ad 0), .int (nI op), .long x, .long y] : List Value).toArray s 0 0 xr_no) (F0 m 37 ls []) := by
            intro d_37
            induction d_37 with
            | zero => intro set z ls hz9 hset hd_37; exact absurd hd_37 (Nat.not_lt_zero _)
            | succ d_37 ih_37 =>
              intro set z ls hz9 hset hd_37 hl
              refine lv_iload hx hb dX0_combine_37 (lv_at hl 7 rfl) ?_
              refine lv_iload hx hb dX0_combine_39 (lv_at hl 6 rfl) ?_
              refine xr_icmp_ge (tgt := 105) hx hb dX0_combine_41 (by decide) (by omega) (by omega) (fun c_41 => ?_) (fun c_41 => ?_)
              · skip
                refine lv_iinc (v := (nI (v + 1))) (lv' := [(8, .int (nI (v + 1))), (0, .ref (ad 0)), (1, .int (nI op)), (2, .long x), (4, .long y), (6, .long set), (9, .int (nI (sz v))), (10, .int (nI z))]) hx hb dX0_combine_105 hl (k := 5) rfl (xr_inc _) (by decide) rfl (fun ls hl => ?_)
                refine lv_goto (tgt := 6) hx hb dX0_combine_108 (by decide) ?_
                exact ih_6 set (v + 1) ls (by omega) (cbT_next hset (fun _ => c_41)) (by omega) (lv_sub hl [1, 2, 3, 4, 5, 0] rfl)
              · have h7 := pt_wf_7 hL.1 (l := v) (by omega) c_41
                have hn1 := hokv z c_41
                have hs0 := pt_need_s (tk v) z
                refine lv_iload hx hb dX0_combine_44 (lv_at hl 5 rfl) ?_
                refine lv_bipush (v := nI 9) hx hb dX0_combine_46 xb_9 ?_
                refine xr_imul hx hb dX0_combine_48 ?_
                refine lv_iload hx hb dX0_combine_49 (lv_at hl 7 rfl) ?_
                refine xr_iadd hx hb dX0_combine_51 ?_
                refine lv_istore (lv' := [(11, .int (nI ((v * 9) + z))), (0, .ref (ad 0)), (1, .int (nI op)), (2, .long x), (4, .long y), (6, .long set), (8, .int (nI v)), (9, .int (nI (sz v))), (10, .int (nI z))]) hx hb dX0_combine_52 hl (by decide) rfl (fun ls hl => ?_)
                refine lv_aload_n hx hb dX0_combine_54 rfl (lv_at hl 1 rfl) ?_
                refine va_get (D := (dC, dI)) (ci := 0) (v := .ref (ad 2)) (C := RX0) (T := TX0) (N := 13) hx hb hts in_X0 hown hK hP 0 rfl rfl 1 (by decide) (hts _ q32) (fun _ h9 => h9) rfl dX0_combine_55 ?_
                refine lv_iload hx hb dX0_combine_58 (lv_at hl 0 rfl) ?_
                refine xr_bald hx hb hK hP 2 0 rfl rfl (k := (v * 9) + z) (by omega) (by decide) dX0_combine_60 ?_
                refine xr_conv (y := (nI (tk v z))) (by rw [hL.2.2.1 v c_9 z c_41]) ?_
                refine lv_bipush (v := nI 7) hx hb dX0_combine_61 xb_7 ?_
                refine xr_icmp_eq (tgt := 90) hx hb dX0_combine_63 (by decide) (by omega) (by omega) (fun c_63 => ?_) (fun c_63 => ?_)
                · skip
                  refine lv_lload hx hb dX0_combine_90 (lv_at hl 5 rfl) ?_
                  refine lv_lconst (v := 1) hx hb dX0_combine_92 (by decide) ?_
                  refine lv_iload hx hb dX0_combine_93 (lv_at hl 0 rfl) ?_
                  refine lv_lshl (v := (1 : Int64) <<< ((nI (v * 9 + z)).toInt64 &&& 63)) hx hb dX0_combine_95 (rfl) ?_
                  refine lv_lor hx hb dX0_combine_96 ?_
                  refine lv_lstore (lv' := [(6, .long (set ||| ((1 : Int64) <<< ((nI (v * 9 + z)).toInt64 &&& 63)))), (11, .int (nI ((v * 9) + z))), (0, .ref (ad 0)), (1, .int (nI op)), (2, .long x), (4, .long y), (8, .int (nI v)), (9, .int (nI (sz v))), (10, .int (nI z))]) hx hb dX0_combine_97 hl (by decide) rfl (fun ls hl => ?_)
                  refine lv_iinc (v := (nI (z + 1))) (lv' := [(10, .int (nI (z + 1))), (6, .long (set ||| ((1 : Int64) <<< ((nI (v * 9 + z)).toInt64 &&& 63)))), (11, .int (nI ((v * 9) + z))), (0, .ref (ad 0)), (1, .int (nI op)), (2, .long x), (4, .long y), (8, .int (nI v)), (9, .int (nI (sz v)))]) hx hb dX0_combine_99 hl (k := 8) rfl (xr_inc _) (by decide) rfl (fun ls hl => ?_)
                  refine lv_goto (tgt := 37) hx hb dX0_combine_102 (by decide) ?_
                  exact ih_37 (set ||| ((1 : Int64) <<< ((nI (v * 9 + z)).toInt64 &&& 63))) (z + 1) ls (by omega) (cbT_put hset c_9 (by omega) (by first | exact ⟨hcv, c_41, Or.inl c_63⟩ | exact ⟨hcv, c_41, Or.inr ⟨c_74, fun q => by rw [show v * 9 + (z + 1) = v * 9 + z + 1 by omega]; exact c_87.1 q, fun q => by rw [← hspz (by omega)]; exact c_87.2 q⟩⟩)) (by omega) (lv_sub hl [3, 4, 5, 6, 1, 7, 8, 0] rfl)
                · skip
                  refine lv_aload_n hx hb dX0_combine_66 rfl (lv_at hl 1 rfl) ?_
                  refine va_get (D := (dC, dI)) (ci := 0) (v := .ref (ad 2)) (C := RX0) (T := TX0) (N := 13) hx hb hts in_X0 hown hK hP 0 rfl rfl 1 (by decide) (hts _ q32) (fun _ h9 => h9) rfl dX0_combine_67 ?_
                  refine lv_iload hx hb dX0_combine_70 (lv_at hl 0 rfl) ?_
                  refine xr_bald hx hb hK hP 2 0 rfl rfl (k := (v * 9) + z) (by omega) (by decide) dX0_combine_72 ?_
                  refine xr_conv (y := (nI (tk v z))) (by rw [hL.2.2.1 v c_9 z c_41]) ?_
                  refine lv_iload_n hx hb dX0_combine_73 rfl (lv_at hl 2 rfl) ?_
                  refine xr_icmp_ne (tgt := 99) hx hb dX0_combine_74 (by decide) (by omega) (by omega) (fun c_74 => ?_) (fun c_74 => ?_)
                  · skip
                    refine lv_iinc (v := (nI (z + 1))) (lv' := [(10, .int (nI (z + 1))), (11, .int (nI ((v * 9) + z))), (0, .ref (ad 0)), (1, .int (nI op)), (2, .long x), (4, .long y), (6, .long set), (8, .int (nI v)), (9, .int (nI (sz v)))]) hx hb dX0_combine_99 hl (k := 8) rfl (xr_inc _) (by decide) rfl (fun ls hl => ?_)
                    refine lv_goto (tgt := 37) hx hb dX0_combine_102 (by decide) ?_
                    exact ih_37 set (z + 1) ls (by omega) (cbT_skip hset (fun q => by rcases q.2.2 with q | ⟨q1, q2, q3⟩; exact c_63 q; first | exact c_74 q1 | exact c_87 ⟨fun t => by rw [show v * 9 + z + 1 = v * 9 + (z + 1) by omega]; exact q2 t, fun t => by rw [hspz (by omega)]; exact q3 t⟩)) (by omega) (lv_sub hl [2, 3, 4, 5, 6, 7, 8, 0] rfl)
                  · skip
                    refine lv_aload_n hx hb dX0_combine_77 rfl (lv_at hl 1 rfl) ?_
                    refine lv_iload hx hb dX0_combine_78 (lv_at hl 0 rfl) ?_
                    refine lv_iload_n hx hb dX0_combine_80 rfl (lv_at hl 2 rfl) ?_
                    refine lv_lload_n hx hb dX0_combine_81 rfl (lv_at hl 3 rfl) ?_
                    refine lv_lload hx hb dX0_combine_82 (lv_at hl 4 rfl) ?_
                    rw [c_74] at hs0
                    have hzl : 0 < pt_ar op → z + 1 < sz v := fun q => pt_lt_of_need hcv (by omega) (by omega)
                    have hp1 : 0 < pt_ar op → v * 9 + z + 1 < 36 := fun q => by have := hzl q; omega
                    have hspz : 0 < pt_ar op → v * 9 + z + 1 + spans (v * 9 + z + 1) = v * 9 + pt_skip (tk v) (sz v) (z + 1) 1 := fun q => by rw [show v * 9 + z + 1 = v * 9 + (z + 1) by omega, hsp v c_9 hcv (z + 1) (hzl q)]; have := (pt_skip_in (tk v) (n := sz v) (i := z + 1) 1 (by omega)).1; omega
                    have hp2 : 1 < pt_ar op → v * 9 + z + 1 + spans (v * 9 + z + 1) < 36 := fun q => by have h1 := hzl (by omega); have h2 := pt_need_skip' (i := z + 1) (o := 1) hokv hcv (by omega) (by omega); have h3 : pt_skip (tk v) (sz v) (z + 1) 1 < sz v := pt_lt_of_need hcv (pt_skip_in (tk v) (n := sz v) (i := z + 1) 1 (by omega)).2 (by omega); rw [hspz (by omega)]; omega
                    refine xr_cVi (rest := []) ⟨hx, hb, hml, hown, hts⟩ (mt_X0_partsFit l dC dI (v * 9 + z) op (by omega) x y hp1 hp2) (cwV 4 hts gV_X0_99 rfl rfl rfl hd_X0_partsFit ⟨Nat.le_of_ble_eq_true rfl, Nat.le_of_ble_eq_true rfl⟩) hK hP 0 0 rfl rfl rfl hl.1 rfl (Nat.le_of_ble_eq_true rfl) dX0_combine_84 ⟨Nat.zero_le _, Nat.zero_le _⟩ (fun r_84 h_84 => ?_)
                    refine xr_ifeqB (tgt := 99) hx hb h_84 dX0_combine_87 (by decide) (fun c_87 => ?_) (fun c_87 => ?_)
                    · skip
                      refine lv_iinc (v := (nI (z + 1))) (lv' := [(10, .int (nI (z + 1))), (11, .int (nI ((v * 9) + z))), (0, .ref (ad 0)), (1, .int (nI op)), (2, .long x), (4, .long y), (6, .long set), (8, .int (nI v)), (9, .int (nI (sz v)))]) hx hb dX0_combine_99 hl (k := 8) rfl (xr_inc _) (by decide) rfl (fun ls hl => ?_)
                      refine lv_goto (tgt := 37) hx hb dX0_combine_102 (by decide) ?_
                      exact ih_37 set (z + 1) ls (by omega) (cbT_skip hset (fun q => by rcases q.2.2 with q | ⟨q1, q2, q3⟩; exact c_63 q; first | exact c_74 q1 | exact c_87 ⟨fun t => by rw [show v * 9 + z + 1 = v * 9 + (z + 1) by omega]; exact q2 t, fun t => by rw [hspz (by omega)]; exact q3 t⟩)) (by omega) (lv_sub hl [2, 3, 4, 5, 6, 7, 8, 0] rfl)
                    · skip
                      refine lv_lload hx hb dX0_combine_90 (lv_at hl 5 rfl) ?_
                      refine lv_lconst (v := 1) hx hb dX0_combine_92 (by decide) ?_
                      refine lv_iload hx hb dX0_combine_93 (lv_at hl 0 rfl) ?_
                      refine lv_lshl (v := (1 : Int64) <<< ((nI (v * 9 + z)).toInt64 &&& 63)) hx hb dX0_combine_95 (rfl) ?_
                      refine lv_lor hx hb dX0_combine_96 ?_
                      refine lv_lstore (lv' := [(6, .long (set ||| ((1 : Int64) <<< ((nI (v * 9 + z)).toInt64 &&& 63)))), (11, .int (nI ((v * 9) + z))), (0, .ref (ad 0)), (1, .int (nI op)), (2, .long x), (4, .long y), (8, .int (nI v)), (9, .int (nI (sz v))), (10, .int (nI z))]) hx hb dX0_combine_97 hl (by decide) rfl (fun ls hl => ?_)
                      refine lv_iinc (v := (nI (z + 1))) (lv' := [(10, .int (nI (z + 1))), (6, .long (set ||| ((1 : Int64) <<< ((nI (v * 9 + z)).toInt64 &&& 63)))), (11, .int (nI ((v * 9) + z))), (0, .ref (ad 0)), (1, .int (nI op)), (2, .long x), (4, .long y), (8, .int (nI v)), (9, .int (nI (sz v)))]) hx hb dX0_combine_99 hl (k := 8) rfl (xr_inc _) (by decide) rfl (fun ls hl => ?_)
                      refine lv_goto (tgt := 37) hx hb dX0_combine_102 (by decide) ?_
                      exact ih_37 (set ||| ((1 : Int64) <<< ((nI (v * 9 + z)).toInt64 &&& 63))) (z + 1) ls (by omega) (cbT_put hset c_9 (by omega) (by first | exact ⟨hcv, c_41, Or.inl c_63⟩ | exact ⟨hcv, c_41, Or.inr ⟨c_74, fun q => by rw [show v * 9 + (z + 1) = v * 9 + z + 1 by omega]; exact c_87.1 q, fun q => by rw [← hspz (by omega)]; exact c_87.2 q⟩⟩)) (by omega) (lv_sub hl [3, 4, 5, 6, 1, 7, 8, 0] rfl)
          exact key37 _ set 0 ls (Nat.zero_le _) (hset) (Nat.lt_succ_self _) (lv_sub hl [2, 3, 4, 5, 6, 7, 1, 0] rfl)
  exact key6 _ 0 0 ls (Nat.zero_le _) (cbT_0) (Nat.lt_succ_self _) (lv_sub hl [2, 3, 4, 5, 1, 0] rfl)
end
section
set_option maxHeartbeats 4000000 in
set_option maxRecDepth 100000 in
/-- lookUp(n): the state of a node, its parts having theirs -/
theorem mt_X0_lookUp (l : Launch) (dC : Nat → ClassId) (dI : Nat → Nat → Nat) (hz : Nat) {ad : Nat → Nat} {cB cJ : ClassId} {sizes tokens spans subject parts : Nat → Nat} {states : Nat → Int64} {table stateAt fits sameAs : Nat → Nat} {cnt kn sc : Nat} {sz : Nat → Nat} {tk : Nat → Nat → Nat} (hL : XL sizes tokens subject cnt sz tk) (h0 : pt_need (tk 4) (sz 4) = 0) (hsp : XSp spans sz tk 4) (n : Nat) (hn : n < sz 4) (hpa : ∀ i, i < sz 4 → parts i = pt_skip (tk 4) (sz 4) i 1 - i) (hsc : sc ≤ 24) (hst : ∀ m, n < m → m < sz 4 → stateAt m < sc) (hbt : ∀ m, n < m → m < sz 4 → FTs sz tk m (states (stateAt m))) (htb : XTb sz tk states table sc) : Met l yX0_lookUp (ws_ yX0_lookUp cX0_lookUp 9 (some .int)) ({ frames := 4, cells := 0, slots := 0, locals := 95 } : Room) (va_Pc [.ref (ad 0), .int (nI n)] (xr_Pw (dC, dI) vwCl (XW ad cB cJ sizes tokens spans subject parts states table stateAt fits sameAs cnt kn sc) (tyX cB cJ) hz)) (va_Qi (fun (r : Int32) (u : (Nat → Int64) × (Nat → Nat) × Nat) => ∃ i : Nat, r = nI i ∧ i < u.2.2 ∧ FTs sz tk n (u.1 i) ∧ sc ≤ u.2.2 ∧ u.2.2 ≤ sc + 1 ∧ (∀ i, i < sc → u.1 i = states i) ∧ XTb sz tk u.1 u.2.1 u.2.2) (xr_Bw (dC, dI) vwCl (tyX cB cJ) (va_A (XW ad cB cJ sizes tokens spans subject parts states table stateAt fits sameAs cnt kn sc) hz) (fun u => XW ad cB cJ sizes tokens spans subject parts u.1 u.2.1 stateAt fits sameAs cnt kn u.2.2)) (va_A (XW ad cB cJ sizes tokens spans subject parts states table stateAt fits sameAs cnt kn sc) hz)) 0 0 (va_A (XW ad cB cJ sizes tokens spans subject parts states table stateAt fits sameAs cnt kn sc) hz) := by
  refine Met.ofW (cc := cX0_lookUp) (maxL := 9) (ret := (some .int)) (by decide) rfl ?_
  intro p e s m args below meth c s₁ B hml hv
  obtain ⟨rfl, hsz, hP, hK, hD0⟩ := hv
  have hx := B.exec
  have hb := B.bytes
  have hr := B.returns
  have hlk := B.notSynchronized
  have hts := atoms_spec (ws := (ws_ yX0_lookUp cX0_lookUp 9 (some .int))) B.pre
  have hts : ∀ w ∈ lw_all, w.before _ s = true := fun w h => hts w (List.mem_cons_of_mem _ h)
  have hown : s.vm.findClass RX0 = some m.cls := findClass_of_methodNamed B.named
  subst hsz
  have hD := hD0.self (sz := s.heap.size)
  generalize hAe : va_A (XW ad cB cJ sizes tokens spans subject parts states table stateAt fits sameAs cnt kn sc) s.heap.size = A at hD ⊢
  have hA : ∀ q : Nat, s.heap.size ≤ q → A q := fun q h => by rw [← hAe]; exact Or.inr h
  have hS : va_S A s.heap s.heap [] := va_S.rf
  have hl := lv_entry ([.ref (ad 0), .int (nI n)]) (n := 9) (Nat.le_of_ble_eq_true rfl)
  rw [lg_entry_eq]
  generalize (lg_sl ([.ref (ad 0), .int (nI n)]) ++ List.replicate (9 - (lg_sl ([.ref (ad 0), .int (nI n)])).length) Slot.unset).toArray = ls at hl ⊢
  have hl : lv_has ls 9 [(0, .ref (ad 0)), (1, .int (nI n))] := hl
  obtain rfl : cnt = sz 4 := hL.2.2.2.1
  have hz := hL.1.2.1
  have hok := pt_wf_ok hL.1 (l := 4) (by decide)
  have h6 := hL.1.2.2.2.2 n hn
  have hsn := pt_need_s (tk 4) n
  have hn1 := hok n hn
  have hkn := pt_skip_in (tk 4) (n := sz 4) (i := n + 1) 1 (by omega)
  refine lv_aload_n hx hb dX0_lookUp_0 rfl (lv_at hl 0 rfl) ?_
  refine va_get (D := (dC, dI)) (ci := 0) (v := .ref (ad 4)) (C := RX0) (T := TX0) (N := 13) hx hb hts in_X0 hown hK hP 0 rfl rfl 4 (by decide) (hts _ q35) (fun _ h9 => h9) rfl dX0_lookUp_1 ?_
  refine lv_iload_n hx hb dX0_lookUp_4 rfl (lv_at hl 1 rfl) ?_
  refine xr_bald hx hb hK hP 4 0 rfl rfl (k := n) (by omega) (by decide) dX0_lookUp_5 ?_
  refine xr_conv (y := (nI (tk 4 n))) (by rw [hL.2.2.2.2 n hn]) ?_
  refine lv_istore_n (lv' := [(2, .int (nI (tk 4 n))), (0, .ref (ad 0)), (1, .int (nI n))]) hx hb dX0_lookUp_6 rfl hl (by decide) rfl (fun ls hl => ?_)
  refine lv_iload_n hx hb dX0_lookUp_7 rfl (lv_at hl 0 rfl) ?_
  refine xr_cSi (rest := []) ⟨hx, hb, hml, hown, hts⟩ (mt_X0_arity l (tk 4 n) (by omega)) (va_cwS 1 hts gS_X0_41 rfl rfl rfl hd_X0_arity ⟨Nat.le_of_ble_eq_true rfl, Nat.le_of_ble_eq_true rfl⟩) rfl hl.1 rfl (Nat.le_of_ble_eq_true rfl) dX0_lookUp_8 ⟨Nat.zero_le _, Nat.zero_le _⟩ (fun r_8 h_8 => ?_)
  subst h_8
  refine lv_istore_n (lv' := [(3, .int (nI (pt_ar (tk 4 n)))), (2, .int (nI (tk 4 n))), (0, .ref (ad 0)), (1, .int (nI n))]) hx hb dX0_lookUp_11 rfl hl (by decide) rfl (fun ls hl => ?_)
  rcases pt_ar_3 (tk 4 n) with har | har | har
  · skip
    have hF : 0 < pt_ar (tk 4 n) → ∀ p, p < 4 → ∀ k, k < 9 → (tb (states 0) (p * 9 + k) = true ↔ FT sz tk (n + 1) p k) := fun q => absurd q (by omega)
    have hS2 : 1 < pt_ar (tk 4 n) → ∀ p, p < 4 → ∀ k, k < 9 → (tb (states 0) (p * 9 + k) = true ↔ FT sz tk (pt_skip (tk 4) (sz 4) (n + 1) 1) p k) := fun q => absurd q (by omega)
    have hfs : 0 < pt_ar (tk 4 n) → 0 < sc := fun q => by omega
    have hss : 1 < pt_ar (tk 4 n) → 0 < sc := fun q => by omega
    have hf26 : 0 < 26 := by omega
    have hs26 : 0 < 26 := by omega
    have hpl := pt_place_lt h6 hf26 hs26
    have hT := htb (tk 4 n) h6 0 hf26 0 hs26
    have hTle : table (pt_place (tk 4 n) 0 0) ≤ sc := by rcases hT with q | q; (rw [q]; exact Nat.zero_le _); exact q.1
    refine lv_iload_n hx hb dX0_lookUp_12 rfl (lv_at hl 0 rfl) ?_
    refine xr_if_le (tgt := 27) hx hb dX0_lookUp_13 (by decide) (by omega) (fun c_13 => ?_) (fun c_13 => ?_)
    · skip
      refine lv_iconst (v := nI 0) hx hb dX0_lookUp_27 xc_0 ?_
      refine lv_istore (lv' := [(4, .int (nI 0)), (3, .int (nI (pt_ar (tk 4 n)))), (2, .int (nI (tk 4 n))), (0, .ref (ad 0)), (1, .int (nI n))]) hx hb dX0_lookUp_28 hl (by decide) rfl (fun ls hl => ?_)
      refine lv_iload_n hx hb dX0_lookUp_30 rfl (lv_at hl 1 rfl) ?_
      refine lv_iconst (v := nI 1) hx hb dX0_lookUp_31 xc_1 ?_
      refine xr_icmp_le (tgt := 48) hx hb dX0_lookUp_32 (by decide) (by omega) (by omega) (fun c_32 => ?_) (fun c_32 => ?_)
      · skip
        refine lv_iconst (v := nI 0) hx hb dX0_lookUp_48 xc_0 ?_
        refine lv_istore (lv' := [(5, .int (nI 0)), (4, .int (nI 0)), (3, .int (nI (pt_ar (tk 4 n)))), (2, .int (nI (tk 4 n))), (0, .ref (ad 0)), (1, .int (nI n))]) hx hb dX0_lookUp_49 hl (by decide) rfl (fun ls hl => ?_)
        refine lv_sipush (v := nI 1404) hx hb dX0_lookUp_51 xs_1404 ?_
        refine lv_iload_n hx hb dX0_lookUp_54 rfl (lv_at hl 3 rfl) ?_
        refine xr_iadd hx hb dX0_lookUp_55 ?_
        refine lv_iconst (v := nI 4) hx hb dX0_lookUp_56 xc_4 ?_
        refine xr_isub hx hb (by omega) dX0_lookUp_57 ?_
        refine xr_conv (y := (nI (pt_place (tk 4 n) 0 0))) (by rw [pt_place_0 har]) ?_
        refine lv_istore (lv' := [(6, .int (nI (pt_place (tk 4 n) 0 0))), (5, .int (nI 0)), (4, .int (nI 0)), (3, .int (nI (pt_ar (tk 4 n)))), (2, .int (nI (tk 4 n))), (0, .ref (ad 0)), (1, .int (nI n))]) hx hb dX0_lookUp_58 hl (by decide) rfl (fun ls hl => ?_)
        refine lv_iload_n hx hb dX0_lookUp_60 rfl (lv_at hl 3 rfl) ?_
        refine lv_iconst (v := nI 2) hx hb dX0_lookUp_61 xc_2 ?_
        refine xr_icmp_ne (tgt := 83) hx hb dX0_lookUp_62 (by decide) (by omega) (by omega) (fun c_62 => ?_) (fun c_62 => ?_)
        · skip
          refine lv_iload_n hx hb dX0_lookUp_83 rfl (lv_at hl 3 rfl) ?_
          refine lv_iconst (v := nI 1) hx hb dX0_lookUp_84 xc_1 ?_
          refine xr_icmp_ne (tgt := 103) hx hb dX0_lookUp_85 (by decide) (by omega) (by omega) (fun c_85 => ?_) (fun c_85 => ?_)
          · skip
            refine lv_aload_n hx hb dX0_lookUp_103 rfl (lv_at hl 5 rfl) ?_
            refine va_get (D := (dC, dI)) (ci := 0) (v := .ref (ad 7)) (C := RX0) (T := TX0) (N := 13) hx hb hts in_X0 hown hK hP 0 rfl rfl 9 (by decide) (hts _ q40) (fun _ h9 => h9) rfl dX0_lookUp_104 ?_
            refine lv_iload hx hb dX0_lookUp_107 (lv_at hl 0 rfl) ?_
            refine xr_baldP hx hb hK hP 7 0 rfl rfl (k := pt_place (tk 4 n) 0 0) (hpl) (by decide) dX0_lookUp_109 ?_
            refine xr_if_geP (tgt := 148) hx hb dX0_lookUp_110 (by decide) (by omega) (fun c_110 => ?_) (fun c_110 => ?_)
            · skip
              refine lv_aload_n hx hb dX0_lookUp_148 rfl (lv_at hl 5 rfl) ?_
              refine va_get (D := (dC, dI)) (ci := 0) (v := .ref (ad 7)) (C := RX0) (T := TX0) (N := 13) hx hb hts in_X0 hown hK hP 0 rfl rfl 9 (by decide) (hts _ q40) (fun _ h9 => h9) rfl dX0_lookUp_149 ?_
              refine lv_iload hx hb dX0_lookUp_152 (lv_at hl 0 rfl) ?_
              refine xr_baldP hx hb hK hP 7 0 rfl rfl (k := pt_place (tk 4 n) 0 0) (hpl) (by decide) dX0_lookUp_154 ?_
              refine xr_conv (y := (nI (table (pt_place (tk 4 n) 0 0) - 1))) (pI_pos c_110) ?_
              obtain ⟨hT1, hT2, hT3, hT4⟩ := hT.resolve_left (by omega)
              exact xr_retWi ((states, table, sc)) hx hb hr hlk (⟨table (pt_place (tk 4 n) 0 0) - 1, rfl, by show _ < sc; omega, fun p hp k hk => (hT4 p hp k hk).trans (cbP_FT hL.1 h0 hn hF hS2 hp k), Nat.le_refl _, Nat.le_succ _, fun _ _ => rfl, htb⟩) hP hK hD hS dX0_lookUp_155
            · skip
              refine lv_aload_n hx hb dX0_lookUp_113 rfl (lv_at hl 5 rfl) ?_
              refine lv_iload_n hx hb dX0_lookUp_114 rfl (lv_at hl 4 rfl) ?_
              refine lv_aload_n hx hb dX0_lookUp_115 rfl (lv_at hl 5 rfl) ?_
              refine va_get (D := (dC, dI)) (ci := 0) (v := .ref (ad 6)) (C := RX0) (T := TX0) (N := 13) hx hb hts in_X0 hown hK hP 0 rfl rfl 8 (by decide) (hts _ q39) (fun _ h9 => h9) rfl dX0_lookUp_116 ?_
              refine lv_iload hx hb dX0_lookUp_119 (lv_at hl 2 rfl) ?_
              refine xr_lald hx hb hK hP 6 1 rfl rfl (k := 0) (by omega) (by decide) dX0_lookUp_121 ?_
              refine lv_aload_n hx hb dX0_lookUp_122 rfl (lv_at hl 5 rfl) ?_
              refine va_get (D := (dC, dI)) (ci := 0) (v := .ref (ad 6)) (C := RX0) (T := TX0) (N := 13) hx hb hts in_X0 hown hK hP 0 rfl rfl 8 (by decide) (hts _ q39) (fun _ h9 => h9) rfl dX0_lookUp_123 ?_
              refine lv_iload hx hb dX0_lookUp_126 (lv_at hl 1 rfl) ?_
              refine xr_lald hx hb hK hP 6 1 rfl rfl (k := 0) (by omega) (by decide) dX0_lookUp_128 ?_
              refine xr_cVl (rest := []) ⟨hx, hb, hml, hown, hts⟩ (mt_X0_combine l dC dI hL hsp (tk 4 n) h6 (states 0) (states 0)) (cwV 3 hts gV_X0_92 rfl rfl rfl hd_X0_combine ⟨Nat.le_of_ble_eq_true rfl, Nat.le_of_ble_eq_true rfl⟩) hK hP 0 0 rfl rfl rfl hl.1 rfl (Nat.le_of_ble_eq_true rfl) dX0_lookUp_129 ⟨Nat.zero_le _, Nat.zero_le _⟩ (fun r_129 h_129 => ?_)
              refine lv_lstore (lv' := [(7, .long r_129), (6, .int (nI (pt_place (tk 4 n) 0 0))), (5, .int (nI 0)), (4, .int (nI 0)), (3, .int (nI (pt_ar (tk 4 n)))), (2, .int (nI (tk 4 n))), (0, .ref (ad 0)), (1, .int (nI n))]) hx hb dX0_lookUp_132 hl (by decide) rfl (fun ls hl => ?_)
              refine lv_aload_n hx hb dX0_lookUp_134 rfl (lv_at hl 6 rfl) ?_
              refine va_get (D := (dC, dI)) (ci := 0) (v := .ref (ad 7)) (C := RX0) (T := TX0) (N := 13) hx hb hts in_X0 hown hK hP 0 rfl rfl 9 (by decide) (hts _ q40) (fun _ h9 => h9) rfl dX0_lookUp_135 ?_
              refine lv_iload hx hb dX0_lookUp_138 (lv_at hl 1 rfl) ?_
              refine lv_aload_n hx hb dX0_lookUp_140 rfl (lv_at hl 6 rfl) ?_
              refine lv_lload hx hb dX0_lookUp_141 (lv_at hl 0 rfl) ?_
              refine xr_cVwi (wr := []) (rest := [.int (nI (pt_place (tk 4 n) 0 0)), .ref (ad 7)]) ⟨hx, hb, hml, hown, hts⟩ (mt_X0_stateOf l dC dI _ r_129 (by omega)) (cwV 1 hts gV_X0_96 rfl rfl rfl hd_X0_stateOf ⟨Nat.le_of_ble_eq_true rfl, Nat.le_of_ble_eq_true rfl⟩) hK hP hD hS hA [0, 1, 2, 3, 4, 5, 6, 7, 8, 9, 10] [] rfl rfl rfl (by decide) (by decide) (by decide) 0 0 rfl rfl rfl hl.1 rfl (Nat.le_of_ble_eq_true rfl) dX0_lookUp_143 ⟨Nat.zero_le _, Nat.zero_le _⟩ (fun r_143 u H locs h_143 hP hD hS => ?_)
              obtain ⟨states1, sc1⟩ := u
              obtain ⟨i, rfl, hi, hix, hs1, hs2, hs3⟩ := h_143
              have hi : i < sc1 := hi
              have hix : states1 i = r_129 := hix
              have hs1 : sc ≤ sc1 := hs1
              have hs2 : sc1 ≤ sc + 1 := hs2
              have hs3 : ∀ i, i < sc → states1 i = states i := hs3
              have hP : va_P (dC, dI) vwCl (XW ad cB cJ sizes tokens spans subject parts states1 table stateAt fits sameAs (sz 4) kn sc1) H := hP
              have hD : va_D A (XW ad cB cJ sizes tokens spans subject parts states1 table stateAt fits sameAs (sz 4) kn sc1) := hD
              refine xr_i2b hx hb (by omega) dX0_lookUp_146 ?_
              refine xr_conv (y := (pI (i + 1))) ((pI_s i).symm) ?_
              refine xr_bastP hx hb hK hP hD hS 7 0 rfl rfl (k := pt_place (tk 4 n) 0 0) (v := i + 1) (hpl) (by decide) (by omega) dX0_lookUp_147 (fun H locs hP hD hS => ?_)
              have hP : va_P (dC, dI) vwCl (XW ad cB cJ sizes tokens spans subject parts states1 (va_up table (pt_place (tk 4 n) 0 0) (i + 1)) stateAt fits sameAs (sz 4) kn sc1) H := hP
              have hD : va_D A (XW ad cB cJ sizes tokens spans subject parts states1 (va_up table (pt_place (tk 4 n) 0 0) (i + 1)) stateAt fits sameAs (sz 4) kn sc1) := hD
              refine lv_aload_n hx hb dX0_lookUp_148 rfl (lv_at hl 6 rfl) ?_
              refine va_get (D := (dC, dI)) (ci := 0) (v := .ref (ad 7)) (C := RX0) (T := TX0) (N := 13) hx hb hts in_X0 hown hK hP 0 rfl rfl 9 (by decide) (hts _ q40) (fun _ h9 => h9) rfl dX0_lookUp_149 ?_
              refine lv_iload hx hb dX0_lookUp_152 (lv_at hl 1 rfl) ?_
              refine xr_baldP hx hb hK hP 7 0 rfl rfl (k := pt_place (tk 4 n) 0 0) (hpl) (by decide) dX0_lookUp_154 ?_
              refine xr_conv (y := (nI i)) (by rw [va_up_s, pI_s]) ?_
              have hX := XTb_put (states := states1) (XTb_more htb hs1 hs3) h6 hf26 hs26 hi (fun q => Nat.lt_of_lt_of_le (hfs q) hs1) (fun q => Nat.lt_of_lt_of_le (hss q) hs1) (fun p hp k hk => by rw [hix]; exact (h_129 p hp k hk).trans (cbP_congr (fun q => by rw [hs3 _ (hfs q)]) (fun q => by rw [hs3 _ (hss q)])))
              exact xr_retWi ((states1, va_up table (pt_place (tk 4 n) 0 0) (i + 1), sc1)) hx hb hr hlk (⟨i, rfl, hi, fun p hp k hk => by show tb (states1 i) _ = true ↔ _; rw [hix]; exact (h_129 p hp k hk).trans (cbP_FT hL.1 h0 hn hF hS2 hp k), hs1, hs2, hs3, hX⟩) hP hK hD hS dX0_lookUp_155
          · exact absurd c_85 (by omega)
        · exact absurd c_62 (by omega)
      · exact absurd c_32 (by omega)
    · exact absurd c_13 (by omega)
  · skip
    have hlt : n + 1 < sz 4 := pt_lt_of_need h0 (by omega) (by omega)
    have hst1 := hst (n + 1) (by omega) hlt
    have hop := pt_ar_op1 har
    have hF : 0 < pt_ar (tk 4 n) → ∀ p, p < 4 → ∀ k, k < 9 → (tb (states (stateAt (n + 1))) (p * 9 + k) = true ↔ FT sz tk (n + 1) p k) := fun _ => hbt (n + 1) (by omega) hlt
    have hS2 : 1 < pt_ar (tk 4 n) → ∀ p, p < 4 → ∀ k, k < 9 → (tb (states 0) (p * 9 + k) = true ↔ FT sz tk (pt_skip (tk 4) (sz 4) (n + 1) 1) p k) := fun q => absurd q (by omega)
    have hfs : 0 < pt_ar (tk 4 n) → (stateAt (n + 1)) < sc := fun q => by omega
    have hss : 1 < pt_ar (tk 4 n) → 0 < sc := fun q => by omega
    have hf26 : (stateAt (n + 1)) < 26 := by omega
    have hs26 : 0 < 26 := by omega
    have hpl := pt_place_lt h6 hf26 hs26
    have hT := htb (tk 4 n) h6 (stateAt (n + 1)) hf26 0 hs26
    have hTle : table (pt_place (tk 4 n) (stateAt (n + 1)) 0) ≤ sc := by rcases hT with q | q; (rw [q]; exact Nat.zero_le _); exact q.1
    refine lv_iload_n hx hb dX0_lookUp_12 rfl (lv_at hl 0 rfl) ?_
    refine xr_if_le (tgt := 27) hx hb dX0_lookUp_13 (by decide) (by omega) (fun c_13 => ?_) (fun c_13 => ?_)
    · exact absurd c_13 (by omega)
    · skip
      refine lv_aload_n hx hb dX0_lookUp_16 rfl (lv_at hl 2 rfl) ?_
      refine va_get (D := (dC, dI)) (ci := 0) (v := .ref (ad 8)) (C := RX0) (T := TX0) (N := 13) hx hb hts in_X0 hown hK hP 0 rfl rfl 10 (by decide) (hts _ q41) (fun _ h9 => h9) rfl dX0_lookUp_17 ?_
      refine lv_iload_n hx hb dX0_lookUp_20 rfl (lv_at hl 3 rfl) ?_
      refine lv_iconst (v := nI 1) hx hb dX0_lookUp_21 xc_1 ?_
      refine xr_iadd hx hb dX0_lookUp_22 ?_
      refine xr_bald hx hb hK hP 8 0 rfl rfl (k := n + 1) (by omega) (by decide) dX0_lookUp_23 ?_
      refine lv_goto (tgt := 28) hx hb dX0_lookUp_24 (by decide) ?_
      refine lv_istore (lv' := [(4, .int (nI (stateAt (n + 1)))), (3, .int (nI (pt_ar (tk 4 n)))), (2, .int (nI (tk 4 n))), (0, .ref (ad 0)), (1, .int (nI n))]) hx hb dX0_lookUp_28 hl (by decide) rfl (fun ls hl => ?_)
      refine lv_iload_n hx hb dX0_lookUp_30 rfl (lv_at hl 1 rfl) ?_
      refine lv_iconst (v := nI 1) hx hb dX0_lookUp_31 xc_1 ?_
      refine xr_icmp_le (tgt := 48) hx hb dX0_lookUp_32 (by decide) (by omega) (by omega) (fun c_32 => ?_) (fun c_32 => ?_)
      · skip
        refine lv_iconst (v := nI 0) hx hb dX0_lookUp_48 xc_0 ?_
        refine lv_istore (lv' := [(5, .int (nI 0)), (4, .int (nI (stateAt (n + 1)))), (3, .int (nI (pt_ar (tk 4 n)))), (2, .int (nI (tk 4 n))), (0, .ref (ad 0)), (1, .int (nI n))]) hx hb dX0_lookUp_49 hl (by decide) rfl (fun ls hl => ?_)
        refine lv_sipush (v := nI 1404) hx hb dX0_lookUp_51 xs_1404 ?_
        refine lv_iload_n hx hb dX0_lookUp_54 rfl (lv_at hl 3 rfl) ?_
        refine xr_iadd hx hb dX0_lookUp_55 ?_
        refine lv_iconst (v := nI 4) hx hb dX0_lookUp_56 xc_4 ?_
        refine xr_isub hx hb (by omega) dX0_lookUp_57 ?_
        refine lv_istore (lv' := [(6, .int (nI ((1404 + (tk 4 n)) - 4))), (5, .int (nI 0)), (4, .int (nI (stateAt (n + 1)))), (3, .int (nI (pt_ar (tk 4 n)))), (2, .int (nI (tk 4 n))), (0, .ref (ad 0)), (1, .int (nI n))]) hx hb dX0_lookUp_58 hl (by decide) rfl (fun ls hl => ?_)
        refine lv_iload_n hx hb dX0_lookUp_60 rfl (lv_at hl 3 rfl) ?_
        refine lv_iconst (v := nI 2) hx hb dX0_lookUp_61 xc_2 ?_
        refine xr_icmp_ne (tgt := 83) hx hb dX0_lookUp_62 (by decide) (by omega) (by omega) (fun c_62 => ?_) (fun c_62 => ?_)
        · skip
          refine lv_iload_n hx hb dX0_lookUp_83 rfl (lv_at hl 3 rfl) ?_
          refine lv_iconst (v := nI 1) hx hb dX0_lookUp_84 xc_1 ?_
          refine xr_icmp_ne (tgt := 103) hx hb dX0_lookUp_85 (by decide) (by omega) (by omega) (fun c_85 => ?_) (fun c_85 => ?_)
          · exact absurd c_85 (by omega)
          · skip
            refine lv_sipush (v := nI 1352) hx hb dX0_lookUp_88 xs_1352 ?_
            refine lv_iload_n hx hb dX0_lookUp_91 rfl (lv_at hl 4 rfl) ?_
            refine lv_iconst (v := nI 2) hx hb dX0_lookUp_92 xc_2 ?_
            refine xr_isub hx hb (by omega) dX0_lookUp_93 ?_
            refine lv_bipush (v := nI 26) hx hb dX0_lookUp_94 xb_26 ?_
            refine xr_imul hx hb dX0_lookUp_96 ?_
            refine xr_iadd hx hb dX0_lookUp_97 ?_
            refine lv_iload hx hb dX0_lookUp_98 (lv_at hl 2 rfl) ?_
            refine xr_iadd hx hb dX0_lookUp_100 ?_
            refine xr_conv (y := (nI (pt_place (tk 4 n) (stateAt (n + 1)) 0))) (by rw [pt_place_1 har]) ?_
            refine lv_istore (lv' := [(6, .int (nI (pt_place (tk 4 n) (stateAt (n + 1)) 0))), (5, .int (nI 0)), (4, .int (nI (stateAt (n + 1)))), (3, .int (nI (pt_ar (tk 4 n)))), (2, .int (nI (tk 4 n))), (0, .ref (ad 0)), (1, .int (nI n))]) hx hb dX0_lookUp_101 hl (by decide) rfl (fun ls hl => ?_)
            refine lv_aload_n hx hb dX0_lookUp_103 rfl (lv_at hl 5 rfl) ?_
            refine va_get (D := (dC, dI)) (ci := 0) (v := .ref (ad 7)) (C := RX0) (T := TX0) (N := 13) hx hb hts in_X0 hown hK hP 0 rfl rfl 9 (by decide) (hts _ q40) (fun _ h9 => h9) rfl dX0_lookUp_104 ?_
            refine lv_iload hx hb dX0_lookUp_107 (lv_at hl 0 rfl) ?_
            refine xr_baldP hx hb hK hP 7 0 rfl rfl (k := pt_place (tk 4 n) (stateAt (n + 1)) 0) (hpl) (by decide) dX0_lookUp_109 ?_
            refine xr_if_geP (tgt := 148) hx hb dX0_lookUp_110 (by decide) (by omega) (fun c_110 => ?_) (fun c_110 => ?_)
            · skip
              refine lv_aload_n hx hb dX0_lookUp_148 rfl (lv_at hl 5 rfl) ?_
              refine va_get (D := (dC, dI)) (ci := 0) (v := .ref (ad 7)) (C := RX0) (T := TX0) (N := 13) hx hb hts in_X0 hown hK hP 0 rfl rfl 9 (by decide) (hts _ q40) (fun _ h9 => h9) rfl dX0_lookUp_149 ?_
              refine lv_iload hx hb dX0_lookUp_152 (lv_at hl 0 rfl) ?_
              refine xr_baldP hx hb hK hP 7 0 rfl rfl (k := pt_place (tk 4 n) (stateAt (n + 1)) 0) (hpl) (by decide) dX0_lookUp_154 ?_
              refine xr_conv (y := (nI (table (pt_place (tk 4 n) (stateAt (n + 1)) 0) - 1))) (pI_pos c_110) ?_
              obtain ⟨hT1, hT2, hT3, hT4⟩ := hT.resolve_left (by omega)
              exact xr_retWi ((states, table, sc)) hx hb hr hlk (⟨table (pt_place (tk 4 n) (stateAt (n + 1)) 0) - 1, rfl, by show _ < sc; omega, fun p hp k hk => (hT4 p hp k hk).trans (cbP_FT hL.1 h0 hn hF hS2 hp k), Nat.le_refl _, Nat.le_succ _, fun _ _ => rfl, htb⟩) hP hK hD hS dX0_lookUp_155
            · skip
              refine lv_aload_n hx hb dX0_lookUp_113 rfl (lv_at hl 5 rfl) ?_
              refine lv_iload_n hx hb dX0_lookUp_114 rfl (lv_at hl 4 rfl) ?_
              refine lv_aload_n hx hb dX0_lookUp_115 rfl (lv_at hl 5 rfl) ?_
              refine va_get (D := (dC, dI)) (ci := 0) (v := .ref (ad 6)) (C := RX0) (T := TX0) (N := 13) hx hb hts in_X0 hown hK hP 0 rfl rfl 8 (by decide) (hts _ q39) (fun _ h9 => h9) rfl dX0_lookUp_116 ?_
              refine lv_iload hx hb dX0_lookUp_119 (lv_at hl 2 rfl) ?_
              refine xr_lald hx hb hK hP 6 1 rfl rfl (k := stateAt (n + 1)) (by omega) (by decide) dX0_lookUp_121 ?_
              refine lv_aload_n hx hb dX0_lookUp_122 rfl (lv_at hl 5 rfl) ?_
              refine va_get (D := (dC, dI)) (ci := 0) (v := .ref (ad 6)) (C := RX0) (T := TX0) (N := 13) hx hb hts in_X0 hown hK hP 0 rfl rfl 8 (by decide) (hts _ q39) (fun _ h9 => h9) rfl dX0_lookUp_123 ?_
              refine lv_iload hx hb dX0_lookUp_126 (lv_at hl 1 rfl) ?_
              refine xr_lald hx hb hK hP 6 1 rfl rfl (k := 0) (by omega) (by decide) dX0_lookUp_128 ?_
              refine xr_cVl (rest := []) ⟨hx, hb, hml, hown, hts⟩ (mt_X0_combine l dC dI hL hsp (tk 4 n) h6 (states (stateAt (n + 1))) (states 0)) (cwV 3 hts gV_X0_92 rfl rfl rfl hd_X0_combine ⟨Nat.le_of_ble_eq_true rfl, Nat.le_of_ble_eq_true rfl⟩) hK hP 0 0 rfl rfl rfl hl.1 rfl (Nat.le_of_ble_eq_true rfl) dX0_lookUp_129 ⟨Nat.zero_le _, Nat.zero_le _⟩ (fun r_129 h_129 => ?_)
              refine lv_lstore (lv' := [(7, .long r_129), (6, .int (nI (pt_place (tk 4 n) (stateAt (n + 1)) 0))), (5, .int (nI 0)), (4, .int (nI (stateAt (n + 1)))), (3, .int (nI (pt_ar (tk 4 n)))), (2, .int (nI (tk 4 n))), (0, .ref (ad 0)), (1, .int (nI n))]) hx hb dX0_lookUp_132 hl (by decide) rfl (fun ls hl => ?_)
              refine lv_aload_n hx hb dX0_lookUp_134 rfl (lv_at hl 6 rfl) ?_
              refine va_get (D := (dC, dI)) (ci := 0) (v := .ref (ad 7)) (C := RX0) (T := TX0) (N := 13) hx hb hts in_X0 hown hK hP 0 rfl rfl 9 (by decide) (hts _ q40) (fun _ h9 => h9) rfl dX0_lookUp_135 ?_
              refine lv_iload hx hb dX0_lookUp_138 (lv_at hl 1 rfl) ?_
              refine lv_aload_n hx hb dX0_lookUp_140 rfl (lv_at hl 6 rfl) ?_
              refine lv_lload hx hb dX0_lookUp_141 (lv_at hl 0 rfl) ?_
              refine xr_cVwi (wr := []) (rest := [.int (nI (pt_place (tk 4 n) (stateAt (n + 1)) 0)), .ref (ad 7)]) ⟨hx, hb, hml, hown, hts⟩ (mt_X0_stateOf l dC dI _ r_129 (by omega)) (cwV 1 hts gV_X0_96 rfl rfl rfl hd_X0_stateOf ⟨Nat.le_of_ble_eq_true rfl, Nat.le_of_ble_eq_true rfl⟩) hK hP hD hS hA [0, 1, 2, 3, 4, 5, 6, 7, 8, 9, 10] [] rfl rfl rfl (by decide) (by decide) (by decide) 0 0 rfl rfl rfl hl.1 rfl (Nat.le_of_ble_eq_true rfl) dX0_lookUp_143 ⟨Nat.zero_le _, Nat.zero_le _⟩ (fun r_143 u H locs h_143 hP hD hS => ?_)
              obtain ⟨states1, sc1⟩ := u
              obtain ⟨i, rfl, hi, hix, hs1, hs2, hs3⟩ := h_143
              have hi : i < sc1 := hi
              have hix : states1 i = r_129 := hix
              have hs1 : sc ≤ sc1 := hs1
              have hs2 : sc1 ≤ sc + 1 := hs2
              have hs3 : ∀ i, i < sc → states1 i = states i := hs3
              have hP : va_P (dC, dI) vwCl (XW ad cB cJ sizes tokens spans subject parts states1 table stateAt fits sameAs (sz 4) kn sc1) H := hP
              have hD : va_D A (XW ad cB cJ sizes tokens spans subject parts states1 table stateAt fits sameAs (sz 4) kn sc1) := hD
              refine xr_i2b hx hb (by omega) dX0_lookUp_146 ?_
              refine xr_conv (y := (pI (i + 1))) ((pI_s i).symm) ?_
              refine xr_bastP hx hb hK hP hD hS 7 0 rfl rfl (k := pt_place (tk 4 n) (stateAt (n + 1)) 0) (v := i + 1) (hpl) (by decide) (by omega) dX0_lookUp_147 (fun H locs hP hD hS => ?_)
              have hP : va_P (dC, dI) vwCl (XW ad cB cJ sizes tokens spans subject parts states1 (va_up table (pt_place (tk 4 n) (stateAt (n + 1)) 0) (i + 1)) stateAt fits sameAs (sz 4) kn sc1) H := hP
              have hD : va_D A (XW ad cB cJ sizes tokens spans subject parts states1 (va_up table (pt_place (tk 4 n) (stateAt (n + 1)) 0) (i + 1)) stateAt fits sameAs (sz 4) kn sc1) := hD
              refine lv_aload_n hx hb dX0_lookUp_148 rfl (lv_at hl 6 rfl) ?_
              refine va_get (D := (dC, dI)) (ci := 0) (v := .ref (ad 7)) (C := RX0) (T := TX0) (N := 13) hx hb hts in_X0 hown hK hP 0 rfl rfl 9 (by decide) (hts _ q40) (fun _ h9 => h9) rfl dX0_lookUp_149 ?_
              refine lv_iload hx hb dX0_lookUp_152 (lv_at hl 1 rfl) ?_
              refine xr_baldP hx hb hK hP 7 0 rfl rfl (k := pt_place (tk 4 n) (stateAt (n + 1)) 0) (hpl) (by decide) dX0_lookUp_154 ?_
              refine xr_conv (y := (nI i)) (by rw [va_up_s, pI_s]) ?_
              have hX := XTb_put (states := states1) (XTb_more htb hs1 hs3) h6 hf26 hs26 hi (fun q => Nat.lt_of_lt_of_le (hfs q) hs1) (fun q => Nat.lt_of_lt_of_le (hss q) hs1) (fun p hp k hk => by rw [hix]; exact (h_129 p hp k hk).trans (cbP_congr (fun q => by rw [hs3 _ (hfs q)]) (fun q => by rw [hs3 _ (hss q)])))
              exact xr_retWi ((states1, va_up table (pt_place (tk 4 n) (stateAt (n + 1)) 0) (i + 1), sc1)) hx hb hr hlk (⟨i, rfl, hi, fun p hp k hk => by show tb (states1 i) _ = true ↔ _; rw [hix]; exact (h_129 p hp k hk).trans (cbP_FT hL.1 h0 hn hF hS2 hp k), hs1, hs2, hs3, hX⟩) hP hK hD hS dX0_lookUp_155
        · exact absurd c_62 (by omega)
      · exact absurd c_32 (by omega)
  · skip
    have hlt : n + 1 < sz 4 := pt_lt_of_need h0 (by omega) (by omega)
    have hst1 := hst (n + 1) (by omega) hlt
    have hns := pt_need_skip' (i := n + 1) (o := 1) hok h0 (by omega) (by omega)
    have hlt2 : pt_skip (tk 4) (sz 4) (n + 1) 1 < sz 4 := pt_lt_of_need h0 hkn.2 (by omega)
    have hst2 := hst (pt_skip (tk 4) (sz 4) (n + 1) 1) (by omega) hlt2
    have hF : 0 < pt_ar (tk 4 n) → ∀ p, p < 4 → ∀ k, k < 9 → (tb (states (stateAt (n + 1))) (p * 9 + k) = true ↔ FT sz tk (n + 1) p k) := fun _ => hbt (n + 1) (by omega) hlt
    have hS2 : 1 < pt_ar (tk 4 n) → ∀ p, p < 4 → ∀ k, k < 9 → (tb (states (stateAt (pt_skip (tk 4) (sz 4) (n + 1) 1))) (p * 9 + k) = true ↔ FT sz tk (pt_skip (tk 4) (sz 4) (n + 1) 1) p k) := fun _ => hbt (pt_skip (tk 4) (sz 4) (n + 1) 1) (by omega) hlt2
    have hfs : 0 < pt_ar (tk 4 n) → (stateAt (n + 1)) < sc := fun q => by omega
    have hss : 1 < pt_ar (tk 4 n) → (stateAt (pt_skip (tk 4) (sz 4) (n + 1) 1)) < sc := fun q => by omega
    have hf26 : (stateAt (n + 1)) < 26 := by omega
    have hs26 : (stateAt (pt_skip (tk 4) (sz 4) (n + 1) 1)) < 26 := by omega
    have hpl := pt_place_lt h6 hf26 hs26
    have hT := htb (tk 4 n) h6 (stateAt (n + 1)) hf26 (stateAt (pt_skip (tk 4) (sz 4) (n + 1) 1)) hs26
    have hTle : table (pt_place (tk 4 n) (stateAt (n + 1)) (stateAt (pt_skip (tk 4) (sz 4) (n + 1) 1))) ≤ sc := by rcases hT with q | q; (rw [q]; exact Nat.zero_le _); exact q.1
    refine lv_iload_n hx hb dX0_lookUp_12 rfl (lv_at hl 0 rfl) ?_
    refine xr_if_le (tgt := 27) hx hb dX0_lookUp_13 (by decide) (by omega) (fun c_13 => ?_) (fun c_13 => ?_)
    · exact absurd c_13 (by omega)
    · skip
      refine lv_aload_n hx hb dX0_lookUp_16 rfl (lv_at hl 2 rfl) ?_
      refine va_get (D := (dC, dI)) (ci := 0) (v := .ref (ad 8)) (C := RX0) (T := TX0) (N := 13) hx hb hts in_X0 hown hK hP 0 rfl rfl 10 (by decide) (hts _ q41) (fun _ h9 => h9) rfl dX0_lookUp_17 ?_
      refine lv_iload_n hx hb dX0_lookUp_20 rfl (lv_at hl 3 rfl) ?_
      refine lv_iconst (v := nI 1) hx hb dX0_lookUp_21 xc_1 ?_
      refine xr_iadd hx hb dX0_lookUp_22 ?_
      refine xr_bald hx hb hK hP 8 0 rfl rfl (k := n + 1) (by omega) (by decide) dX0_lookUp_23 ?_
      refine lv_goto (tgt := 28) hx hb dX0_lookUp_24 (by decide) ?_
      refine lv_istore (lv' := [(4, .int (nI (stateAt (n + 1)))), (3, .int (nI (pt_ar (tk 4 n)))), (2, .int (nI (tk 4 n))), (0, .ref (ad 0)), (1, .int (nI n))]) hx hb dX0_lookUp_28 hl (by decide) rfl (fun ls hl => ?_)
      refine lv_iload_n hx hb dX0_lookUp_30 rfl (lv_at hl 1 rfl) ?_
      refine lv_iconst (v := nI 1) hx hb dX0_lookUp_31 xc_1 ?_
      refine xr_icmp_le (tgt := 48) hx hb dX0_lookUp_32 (by decide) (by omega) (by omega) (fun c_32 => ?_) (fun c_32 => ?_)
      · exact absurd c_32 (by omega)
      · skip
        refine lv_aload_n hx hb dX0_lookUp_35 rfl (lv_at hl 3 rfl) ?_
        refine va_get (D := (dC, dI)) (ci := 0) (v := .ref (ad 8)) (C := RX0) (T := TX0) (N := 13) hx hb hts in_X0 hown hK hP 0 rfl rfl 10 (by decide) (hts _ q41) (fun _ h9 => h9) rfl dX0_lookUp_36 ?_
        refine lv_aload_n hx hb dX0_lookUp_39 rfl (lv_at hl 3 rfl) ?_
        refine lv_iload_n hx hb dX0_lookUp_40 rfl (lv_at hl 4 rfl) ?_
        refine xr_cVi (rest := [.ref (ad 8)]) ⟨hx, hb, hml, hown, hts⟩ (mt_X0_secondPart l dC dI n (by omega)) (cwV 1 hts gV_X0_89 rfl rfl rfl hd_X0_secondPart ⟨Nat.le_of_ble_eq_true rfl, Nat.le_of_ble_eq_true rfl⟩) hK hP 0 0 rfl rfl rfl hl.1 rfl (Nat.le_of_ble_eq_true rfl) dX0_lookUp_41 ⟨Nat.zero_le _, Nat.zero_le _⟩ (fun r_41 h_41 => ?_)
        rw [show n + 1 + parts (n + 1) = pt_skip (tk 4) (sz 4) (n + 1) 1 by rw [hpa (n + 1) hlt]; omega] at h_41
        subst h_41
        refine xr_bald hx hb hK hP 8 0 rfl rfl (k := pt_skip (tk 4) (sz 4) (n + 1) 1) (by omega) (by decide) dX0_lookUp_44 ?_
        refine lv_goto (tgt := 49) hx hb dX0_lookUp_45 (by decide) ?_
        refine lv_istore (lv' := [(5, .int (nI (stateAt (pt_skip (tk 4) (sz 4) (n + 1) 1)))), (4, .int (nI (stateAt (n + 1)))), (3, .int (nI (pt_ar (tk 4 n)))), (2, .int (nI (tk 4 n))), (0, .ref (ad 0)), (1, .int (nI n))]) hx hb dX0_lookUp_49 hl (by decide) rfl (fun ls hl => ?_)
        refine lv_sipush (v := nI 1404) hx hb dX0_lookUp_51 xs_1404 ?_
        refine lv_iload_n hx hb dX0_lookUp_54 rfl (lv_at hl 3 rfl) ?_
        refine xr_iadd hx hb dX0_lookUp_55 ?_
        refine lv_iconst (v := nI 4) hx hb dX0_lookUp_56 xc_4 ?_
        refine xr_isub hx hb (by omega) dX0_lookUp_57 ?_
        refine lv_istore (lv' := [(6, .int (nI ((1404 + (tk 4 n)) - 4))), (5, .int (nI (stateAt (pt_skip (tk 4) (sz 4) (n + 1) 1)))), (4, .int (nI (stateAt (n + 1)))), (3, .int (nI (pt_ar (tk 4 n)))), (2, .int (nI (tk 4 n))), (0, .ref (ad 0)), (1, .int (nI n))]) hx hb dX0_lookUp_58 hl (by decide) rfl (fun ls hl => ?_)
        refine lv_iload_n hx hb dX0_lookUp_60 rfl (lv_at hl 3 rfl) ?_
        refine lv_iconst (v := nI 2) hx hb dX0_lookUp_61 xc_2 ?_
        refine xr_icmp_ne (tgt := 83) hx hb dX0_lookUp_62 (by decide) (by omega) (by omega) (fun c_62 => ?_) (fun c_62 => ?_)
        · exact absurd c_62 (by omega)
        · skip
          refine lv_iload_n hx hb dX0_lookUp_65 rfl (lv_at hl 4 rfl) ?_
          refine lv_bipush (v := nI 26) hx hb dX0_lookUp_66 xb_26 ?_
          refine xr_imul hx hb dX0_lookUp_68 ?_
          refine lv_iload hx hb dX0_lookUp_69 (lv_at hl 2 rfl) ?_
          refine xr_iadd hx hb dX0_lookUp_71 ?_
          refine lv_bipush (v := nI 26) hx hb dX0_lookUp_72 xb_26 ?_
          refine xr_imul hx hb dX0_lookUp_74 ?_
          refine lv_iload hx hb dX0_lookUp_75 (lv_at hl 1 rfl) ?_
          refine xr_iadd hx hb dX0_lookUp_77 ?_
          refine xr_conv (y := (nI (pt_place (tk 4 n) (stateAt (n + 1)) (stateAt (pt_skip (tk 4) (sz 4) (n + 1) 1))))) (by rw [pt_place_2 har]) ?_
          refine lv_istore (lv' := [(6, .int (nI (pt_place (tk 4 n) (stateAt (n + 1)) (stateAt (pt_skip (tk 4) (sz 4) (n + 1) 1))))), (5, .int (nI (stateAt (pt_skip (tk 4) (sz 4) (n + 1) 1)))), (4, .int (nI (stateAt (n + 1)))), (3, .int (nI (pt_ar (tk 4 n)))), (2, .int (nI (tk 4 n))), (0, .ref (ad 0)), (1, .int (nI n))]) hx hb dX0_lookUp_78 hl (by decide) rfl (fun ls hl => ?_)
          refine lv_goto (tgt := 103) hx hb dX0_lookUp_80 (by decide) ?_
          refine lv_aload_n hx hb dX0_lookUp_103 rfl (lv_at hl 5 rfl) ?_
          refine va_get (D := (dC, dI)) (ci := 0) (v := .ref (ad 7)) (C := RX0) (T := TX0) (N := 13) hx hb hts in_X0 hown hK hP 0 rfl rfl 9 (by decide) (hts _ q40) (fun _ h9 => h9) rfl dX0_lookUp_104 ?_
          refine lv_iload hx hb dX0_lookUp_107 (lv_at hl 0 rfl) ?_
          refine xr_baldP hx hb hK hP 7 0 rfl rfl (k := pt_place (tk 4 n) (stateAt (n + 1)) (stateAt (pt_skip (tk 4) (sz 4) (n + 1) 1))) (hpl) (by decide) dX0_lookUp_109 ?_
          refine xr_if_geP (tgt := 148) hx hb dX0_lookUp_110 (by decide) (by omega) (fun c_110 => ?_) (fun c_110 => ?_)
          · skip
            refine lv_aload_n hx hb dX0_lookUp_148 rfl (lv_at hl 5 rfl) ?_
            refine va_get (D := (dC, dI)) (ci := 0) (v := .ref (ad 7)) (C := RX0) (T := TX0) (N := 13) hx hb hts in_X0 hown hK hP 0 rfl rfl 9 (by decide) (hts _ q40) (fun _ h9 => h9) rfl dX0_lookUp_149 ?_
            refine lv_iload hx hb dX0_lookUp_152 (lv_at hl 0 rfl) ?_
            refine xr_baldP hx hb hK hP 7 0 rfl rfl (k := pt_place (tk 4 n) (stateAt (n + 1)) (stateAt (pt_skip (tk 4) (sz 4) (n + 1) 1))) (hpl) (by decide) dX0_lookUp_154 ?_
            refine xr_conv (y := (nI (table (pt_place (tk 4 n) (stateAt (n + 1)) (stateAt (pt_skip (tk 4) (sz 4) (n + 1) 1))) - 1))) (pI_pos c_110) ?_
            obtain ⟨hT1, hT2, hT3, hT4⟩ := hT.resolve_left (by omega)
            exact xr_retWi ((states, table, sc)) hx hb hr hlk (⟨table (pt_place (tk 4 n) (stateAt (n + 1)) (stateAt (pt_skip (tk 4) (sz 4) (n + 1) 1))) - 1, rfl, by show _ < sc; omega, fun p hp k hk => (hT4 p hp k hk).trans (cbP_FT hL.1 h0 hn hF hS2 hp k), Nat.le_refl _, Nat.le_succ _, fun _ _ => rfl, htb⟩) hP hK hD hS dX0_lookUp_155
          · skip
            refine lv_aload_n hx hb dX0_lookUp_113 rfl (lv_at hl 5 rfl) ?_
            refine lv_iload_n hx hb dX0_lookUp_114 rfl (lv_at hl 4 rfl) ?_
            refine lv_aload_n hx hb dX0_lookUp_115 rfl (lv_at hl 5 rfl) ?_
            refine va_get (D := (dC, dI)) (ci := 0) (v := .ref (ad 6)) (C := RX0) (T := TX0) (N := 13) hx hb hts in_X0 hown hK hP 0 rfl rfl 8 (by decide) (hts _ q39) (fun _ h9 => h9) rfl dX0_lookUp_116 ?_
            refine lv_iload hx hb dX0_lookUp_119 (lv_at hl 2 rfl) ?_
            refine xr_lald hx hb hK hP 6 1 rfl rfl (k := stateAt (n + 1)) (by omega) (by decide) dX0_lookUp_121 ?_
            refine lv_aload_n hx hb dX0_lookUp_122 rfl (lv_at hl 5 rfl) ?_
            refine va_get (D := (dC, dI)) (ci := 0) (v := .ref (ad 6)) (C := RX0) (T := TX0) (N := 13) hx hb hts in_X0 hown hK hP 0 rfl rfl 8 (by decide) (hts _ q39) (fun _ h9 => h9) rfl dX0_lookUp_123 ?_
            refine lv_iload hx hb dX0_lookUp_126 (lv_at hl 1 rfl) ?_
            refine xr_lald hx hb hK hP 6 1 rfl rfl (k := stateAt (pt_skip (tk 4) (sz 4) (n + 1) 1)) (by omega) (by decide) dX0_lookUp_128 ?_
            refine xr_cVl (rest := []) ⟨hx, hb, hml, hown, hts⟩ (mt_X0_combine l dC dI hL hsp (tk 4 n) h6 (states (stateAt (n + 1))) (states (stateAt (pt_skip (tk 4) (sz 4) (n + 1) 1)))) (cwV 3 hts gV_X0_92 rfl rfl rfl hd_X0_combine ⟨Nat.le_of_ble_eq_true rfl, Nat.le_of_ble_eq_true rfl⟩) hK hP 0 0 rfl rfl rfl hl.1 rfl (Nat.le_of_ble_eq_true rfl) dX0_lookUp_129 ⟨Nat.zero_le _, Nat.zero_le _⟩ (fun r_129 h_129 => ?_)
            refine lv_lstore (lv' := [(7, .long r_129), (6, .int (nI (pt_place (tk 4 n) (stateAt (n + 1)) (stateAt (pt_skip (tk 4) (sz 4) (n + 1) 1))))), (5, .int (nI (stateAt (pt_skip (tk 4) (sz 4) (n + 1) 1)))), (4, .int (nI (stateAt (n + 1)))), (3, .int (nI (pt_ar (tk 4 n)))), (2, .int (nI (tk 4 n))), (0, .ref (ad 0)), (1, .int (nI n))]) hx hb dX0_lookUp_132 hl (by decide) rfl (fun ls hl => ?_)
            refine lv_aload_n hx hb dX0_lookUp_134 rfl (lv_at hl 6 rfl) ?_
            refine va_get (D := (dC, dI)) (ci := 0) (v := .ref (ad 7)) (C := RX0) (T := TX0) (N := 13) hx hb hts in_X0 hown hK hP 0 rfl rfl 9 (by decide) (hts _ q40) (fun _ h9 => h9) rfl dX0_lookUp_135 ?_
            refine lv_iload hx hb dX0_lookUp_138 (lv_at hl 1 rfl) ?_
            refine lv_aload_n hx hb dX0_lookUp_140 rfl (lv_at hl 6 rfl) ?_
            refine lv_lload hx hb dX0_lookUp_141 (lv_at hl 0 rfl) ?_
            refine xr_cVwi (wr := []) (rest := [.int (nI (pt_place (tk 4 n) (stateAt (n + 1)) (stateAt (pt_skip (tk 4) (sz 4) (n + 1) 1)))), .ref (ad 7)]) ⟨hx, hb, hml, hown, hts⟩ (mt_X0_stateOf l dC dI _ r_129 (by omega)) (cwV 1 hts gV_X0_96 rfl rfl rfl hd_X0_stateOf ⟨Nat.le_of_ble_eq_true rfl, Nat.le_of_ble_eq_true rfl⟩) hK hP hD hS hA [0, 1, 2, 3, 4, 5, 6, 7, 8, 9, 10] [] rfl rfl rfl (by decide) (by decide) (by decide) 0 0 rfl rfl rfl hl.1 rfl (Nat.le_of_ble_eq_true rfl) dX0_lookUp_143 ⟨Nat.zero_le _, Nat.zero_le _⟩ (fun r_143 u H locs h_143 hP hD hS => ?_)
            obtain ⟨states1, sc1⟩ := u
            obtain ⟨i, rfl, hi, hix, hs1, hs2, hs3⟩ := h_143
            have hi : i < sc1 := hi
            have hix : states1 i = r_129 := hix
            have hs1 : sc ≤ sc1 := hs1
            have hs2 : sc1 ≤ sc + 1 := hs2
            have hs3 : ∀ i, i < sc → states1 i = states i := hs3
            have hP : va_P (dC, dI) vwCl (XW ad cB cJ sizes tokens spans subject parts states1 table stateAt fits sameAs (sz 4) kn sc1) H := hP
            have hD : va_D A (XW ad cB cJ sizes tokens spans subject parts states1 table stateAt fits sameAs (sz 4) kn sc1) := hD
            refine xr_i2b hx hb (by omega) dX0_lookUp_146 ?_
            refine xr_conv (y := (pI (i + 1))) ((pI_s i).symm) ?_
            refine xr_bastP hx hb hK hP hD hS 7 0 rfl rfl (k := pt_place (tk 4 n) (stateAt (n + 1)) (stateAt (pt_skip (tk 4) (sz 4) (n + 1) 1))) (v := i + 1) (hpl) (by decide) (by omega) dX0_lookUp_147 (fun H locs hP hD hS => ?_)
            have hP : va_P (dC, dI) vwCl (XW ad cB cJ sizes tokens spans subject parts states1 (va_up table (pt_place (tk 4 n) (stateAt (n + 1)) (stateAt (pt_skip (tk 4) (sz 4) (n + 1) 1))) (i + 1)) stateAt fits sameAs (sz 4) kn sc1) H := hP
            have hD : va_D A (XW ad cB cJ sizes tokens spans subject parts states1 (va_up table (pt_place (tk 4 n) (stateAt (n + 1)) (stateAt (pt_skip (tk 4) (sz 4) (n + 1) 1))) (i + 1)) stateAt fits sameAs (sz 4) kn sc1) := hD
            refine lv_aload_n hx hb dX0_lookUp_148 rfl (lv_at hl 6 rfl) ?_
            refine va_get (D := (dC, dI)) (ci := 0) (v := .ref (ad 7)) (C := RX0) (T := TX0) (N := 13) hx hb hts in_X0 hown hK hP 0 rfl rfl 9 (by decide) (hts _ q40) (fun _ h9 => h9) rfl dX0_lookUp_149 ?_
            refine lv_iload hx hb dX0_lookUp_152 (lv_at hl 1 rfl) ?_
            refine xr_baldP hx hb hK hP 7 0 rfl rfl (k := pt_place (tk 4 n) (stateAt (n + 1)) (stateAt (pt_skip (tk 4) (sz 4) (n + 1) 1))) (hpl) (by decide) dX0_lookUp_154 ?_
            refine xr_conv (y := (nI i)) (by rw [va_up_s, pI_s]) ?_
            have hX := XTb_put (states := states1) (XTb_more htb hs1 hs3) h6 hf26 hs26 hi (fun q => Nat.lt_of_lt_of_le (hfs q) hs1) (fun q => Nat.lt_of_lt_of_le (hss q) hs1) (fun p hp k hk => by rw [hix]; exact (h_129 p hp k hk).trans (cbP_congr (fun q => by rw [hs3 _ (hfs q)]) (fun q => by rw [hs3 _ (hss q)])))
            exact xr_retWi ((states1, va_up table (pt_place (tk 4 n) (stateAt (n + 1)) (stateAt (pt_skip (tk 4) (sz 4) (n + 1) 1))) (i + 1), sc1)) hx hb hr hlk (⟨i, rfl, hi, fun p hp k hk => by show tb (states1 i) _ = true ↔ _; rw [hix]; exact (h_129 p hp k hk).trans (cbP_FT hL.1 h0 hn hF hS2 hp k), hs1, hs2, hs3, hX⟩) hP hK hD hS dX0_lookUp_155
end
section
set_option maxHeartbeats 4000000 in
set_option maxRecDepth 100000 in
/-- learn(): the tables -/
theorem mt_X0_learn (l : Launch) (dC : Nat → ClassId) (dI : Nat → Nat → Nat) (hz : Nat) {ad : Nat → Nat} {cB cJ : ClassId} {sizes tokens spans subject parts : Nat → Nat} {states : Nat → Int64} {table stateAt fits sameAs : Nat → Nat} {cnt kn sc : Nat} {sz : Nat → Nat} {tk : Nat → Nat → Nat} (hL : XL sizes tokens subject cnt sz tk) (hJ : XJ (spans, parts, states, table, stateAt, fits, sameAs, kn, sc) sz tk) : Met l yX0_learn (ws_ yX0_learn cX0_learn 4 (some .boolean)) ({ frames := 5, cells := 0, slots := 0, locals := 123 } : Room) (va_Pc [.ref (ad 0)] (xr_Pw (dC, dI) vwCl (XW ad cB cJ sizes tokens spans subject parts states table stateAt fits sameAs cnt kn sc) (tyX cB cJ) hz)) (va_Qi (fun (r : Int32) (u : XD) => xr_B r (pt_need (tk 4) (sz 4) = 0) ∧ XJ u sz tk ∧ (pt_need (tk 4) (sz 4) = 0 → XJk u)) (xr_Bw (dC, dI) vwCl (tyX cB cJ) (va_A (XW ad cB cJ sizes tokens spans subject parts states table stateAt fits sameAs cnt kn sc) hz) (fun u => XWd ad cB cJ sizes tokens subject cnt u)) (va_A (XW ad cB cJ sizes tokens spans subject parts states table stateAt fits sameAs cnt kn sc) hz)) 0 0 (va_A (XW ad cB cJ sizes tokens spans subject parts states table stateAt fits sameAs cnt kn sc) hz) := by
  refine Met.ofW (cc := cX0_learn) (maxL := 4) (ret := (some .boolean)) (by decide) rfl ?_
  intro p e s m args below meth c s₁ B hml hv
  obtain ⟨rfl, hsz, hP, hK, hD0⟩ := hv
  have hx := B.exec
  have hb := B.bytes
  have hr := B.returns
  have hlk := B.notSynchronized
  have hts := atoms_spec (ws := (ws_ yX0_learn cX0_learn 4 (some .boolean))) B.pre
  have hts : ∀ w ∈ lw_all, w.before _ s = true := fun w h => hts w (List.mem_cons_of_mem _ h)
  have hown : s.vm.findClass RX0 = some m.cls := findClass_of_methodNamed B.named
  subst hsz
  have hD := hD0.self (sz := s.heap.size)
  generalize hAe : va_A (XW ad cB cJ sizes tokens spans subject parts states table stateAt fits sameAs cnt kn sc) s.heap.size = A at hD ⊢
  have hA : ∀ q : Nat, s.heap.size ≤ q → A q := fun q h => by rw [← hAe]; exact Or.inr h
  have hS : va_S A s.heap s.heap [] := va_S.rf
  have hl := lv_entry ([.ref (ad 0)]) (n := 4) (Nat.le_of_ble_eq_true rfl)
  rw [lg_entry_eq]
  generalize (lg_sl ([.ref (ad 0)]) ++ List.replicate (4 - (lg_sl ([.ref (ad 0)])).length) Slot.unset).toArray = ls at hl ⊢
  have hl : lv_has ls 4 [(0, .ref (ad 0))] := hl
  have hJ0 := hJ
  obtain ⟨hk1, hkn⟩ := hJ
  obtain rfl : cnt = sz 4 := hL.2.2.2.1
  have hz := hL.1.2.1
  have hok := pt_wf_ok hL.1 (l := 4) (by decide)
  refine lv_aload_n hx hb dX0_learn_0 rfl (lv_at hl 0 rfl) ?_
  refine xr_cVi (rest := []) ⟨hx, hb, hml, hown, hts⟩ (mt_X0_whole l dC dI hL) (cwV 0 hts gV_X0_64 rfl rfl rfl hd_X0_whole ⟨Nat.le_of_ble_eq_true rfl, Nat.le_of_ble_eq_true rfl⟩) hK hP 0 0 rfl rfl rfl hl.1 rfl (Nat.le_of_ble_eq_true rfl) dX0_learn_1 ⟨Nat.zero_le _, Nat.zero_le _⟩ (fun r_1 h_1 => ?_)
  refine xr_ifneB (tgt := 9) hx hb h_1 dX0_learn_4 (by decide) (fun c_4 => ?_) (fun c_4 => ?_)
  · have h0 := c_4
    refine lv_aload_n hx hb dX0_learn_9 rfl (lv_at hl 0 rfl) ?_
    refine va_get (D := (dC, dI)) (ci := 0) (v := .int (nI kn)) (C := RX0) (T := TX0) (N := 13) hx hb hts in_X0 hown hK hP 0 rfl rfl 6 (by decide) (hts _ q37) (fun _ h9 => h9) rfl dX0_learn_10 ?_
    refine xr_if_eq (tgt := 18) hx hb dX0_learn_13 (by decide) (by omega) (fun c_13 => ?_) (fun c_13 => ?_)
    · skip
      refine lv_aload_n hx hb dX0_learn_18 rfl (lv_at hl 0 rfl) ?_
      refine lv_iconst (v := nI 1) hx hb dX0_learn_19 xc_1 ?_
      refine va_put (D := (dC, dI)) (ci := 0) (v := .int (nI 1)) (ty := .boolean) (C := RX0) (T := TX0) (N := 13) hx hb hts in_X0 tyX0 tyX0_ok nmX0 hown hK hP hD hS 0 rfl rfl 6 (by decide) (hts _ q37) (fun _ h9 => h9) rfl (by decide +kernel) rfl rfl (Nat.le_of_ble_eq_true rfl) dX0_learn_20 (fun H locs hP hD hS => ?_)
      have hP : va_P (dC, dI) vwCl (XW ad cB cJ sizes tokens spans subject parts states table stateAt fits sameAs (sz 4) 1 sc) H := hP
      have hD : va_D A (XW ad cB cJ sizes tokens spans subject parts states table stateAt fits sameAs (sz 4) 1 sc) := hD
      refine lv_iconst (v := nI 0) hx hb dX0_learn_23 xc_0 ?_
      refine lv_istore_n (lv' := [(1, .int (nI 0)), (0, .ref (ad 0))]) hx hb dX0_learn_24 rfl hl (by decide) rfl (fun ls hl => ?_)
      have key25 : ∀ (d_25 : Nat) (spans1 : Nat → Nat) (v : Nat) (ls : Array Slot) (H : Heap) (locs : List Loc), (v ≤ 4) → (XSp spans1 sz tk v) → (4 - v) < d_25 → va_P (dC, dI) vwCl (XW ad cB cJ sizes tokens spans1 subject parts states table stateAt fits sameAs (sz 4) 1 sc) H → va_D A (XW ad cB cJ sizes tokens spans1 subject parts states table stateAt fits sameAs (sz 4) 1 sc) → va_S A s.heap H locs → lv_has ls 4 [(0, .ref (ad 0)), (1, .int (nI v))] → W p l e (headSpec (ws_ yX0_learn cX0_learn 4 (some .boolean)) ({ frames := 5, cells := 0, slots := 0, locals := 123 } : Room)).room s m ([.ref (ad 0)] : List Value).toArray below meth c H locs 0 0 (MQ below (va_Qi (fun (r : Int32) (u : XD) => xr_B r (pt_need (tk 4) (sz 4) = 0) ∧ XJ u sz tk ∧ (pt_need (tk 4) (sz 4) = 0 → XJk u)) (xr_Bw (dC, dI) vwCl (tyX cB cJ) A (fun u => XWd ad cB cJ sizes tokens subject (sz 4) u)) A) ([.ref (ad 0)] : List Value).toArray s 0 0 A) (F0 m 25 ls []) := by
        intro d_25
        induction d_25 with
        | zero => intro spans1 v ls H locs hv hsp hd_25; exact absurd hd_25 (Nat.not_lt_zero _)
        | succ d_25 ih_25 =>
          intro spans1 v ls H locs hv hsp hd_25 hP hD hS hl
          refine lv_iload_n hx hb dX0_learn_25 rfl (lv_at hl 1 rfl) ?_
          refine lv_iconst (v := nI 4) hx hb dX0_learn_26 xc_4 ?_
          refine xr_icmp_ge (tgt := 41) hx hb dX0_learn_27 (by decide) (by omega) (by omega) (fun c_27 => ?_) (fun c_27 => ?_)
          · have hsp4 : XSp spans1 sz tk 4 := fun q hq => hsp q (by omega)
            refine lv_aload_n hx hb dX0_learn_41 rfl (lv_at hl 0 rfl) ?_
            refine va_get (D := (dC, dI)) (ci := 0) (v := .int (nI (sz 4))) (C := RX0) (T := TX0) (N := 13) hx hb hts in_X0 hown hK hP 0 rfl rfl 3 (by decide) (hts _ q34) (fun _ h9 => h9) rfl dX0_learn_42 ?_
            refine lv_iconst (v := nI 1) hx hb dX0_learn_45 xc_1 ?_
            refine xr_isubP hx hb dX0_learn_46 ?_
            refine lv_istore_n (lv' := [(1, .int (pI (sz 4))), (0, .ref (ad 0))]) hx hb dX0_learn_47 rfl hl (by decide) rfl (fun ls hl => ?_)
            have key48 : ∀ (d_48 : Nat) (parts1 : Nat → Nat) (k : Nat) (ls : Array Slot) (H : Heap) (locs : List Loc), (k ≤ sz 4) → (∀ i, k ≤ i → i < sz 4 → parts1 i = pt_skip (tk 4) (sz 4) i 1 - i) → k < d_48 → va_P (dC, dI) vwCl (XW ad cB cJ sizes tokens spans1 subject parts1 states table stateAt fits sameAs (sz 4) 1 sc) H → va_D A (XW ad cB cJ sizes tokens spans1 subject parts1 states table stateAt fits sameAs (sz 4) 1 sc) → va_S A s.heap H locs → lv_has ls 4 [(0, .ref (ad 0)), (1, .int (pI k))] → W p l e (headSpec (ws_ yX0_learn cX0_learn 4 (some .boolean)) ({ frames := 5, cells := 0, slots := 0, locals := 123 } : Room)).room s m ([.ref (ad 0)] : List Value).toArray below meth c H locs 0 0 (MQ below (va_Qi (fun (r : Int32) (u : XD) => xr_B r (pt_need (tk 4) (sz 4) = 0) ∧ XJ u sz tk ∧ (pt_need (tk 4) (sz 4) = 0 → XJk u)) (xr_Bw (dC, dI) vwCl (tyX cB cJ) A (fun u => XWd ad cB cJ sizes tokens subject (sz 4) u)) A) ([.ref (ad 0)] : List Value).toArray s 0 0 A) (F0 m 48 ls []) := by
              intro d_48
              induction d_48 with
              | zero => intro parts1 k ls H locs hk hpa hd_48; exact absurd hd_48 (Nat.not_lt_zero _)
              | succ d_48 ih_48 =>
                intro parts1 k ls H locs hk hpa hd_48 hP hD hS hl
                refine lv_iload_n hx hb dX0_learn_48 rfl (lv_at hl 1 rfl) ?_
                refine xr_if_ltP (tgt := 115) hx hb dX0_learn_49 (by decide) (by omega) (fun c_49 => ?_) (fun c_49 => ?_)
                · subst c_49
                  have hpa4 : ∀ i, i < sz 4 → parts1 i = pt_skip (tk 4) (sz 4) i 1 - i := fun i hi => hpa i (Nat.zero_le _) hi
                  refine lv_aload_n hx hb dX0_learn_115 rfl (lv_at hl 0 rfl) ?_
                  refine lv_iconst (v := nI 0) hx hb dX0_learn_116 xc_0 ?_
                  refine va_put (D := (dC, dI)) (ci := 0) (v := .int (nI 0)) (ty := .int) (C := RX0) (T := TX0) (N := 13) hx hb hts in_X0 tyX0 tyX0_ok nmX0 hown hK hP hD hS 0 rfl rfl 7 (by decide) (hts _ q38) (fun _ h9 => h9) rfl (by decide +kernel) rfl rfl (Nat.le_of_ble_eq_true rfl) dX0_learn_117 (fun H locs hP hD hS => ?_)
                  have hP : va_P (dC, dI) vwCl (XW ad cB cJ sizes tokens spans1 subject parts1 states table stateAt fits sameAs (sz 4) 1 0) H := hP
                  have hD : va_D A (XW ad cB cJ sizes tokens spans1 subject parts1 states table stateAt fits sameAs (sz 4) 1 0) := hD
                  refine lv_iconst (v := nI 0) hx hb dX0_learn_120 xc_0 ?_
                  refine lv_istore_n (lv' := [(1, .int (nI 0)), (0, .ref (ad 0))]) hx hb dX0_learn_121 rfl hl (by decide) rfl (fun ls hl => ?_)
                  have key122 : ∀ (d_122 : Nat) (table1 : Nat → Nat) (i : Nat) (ls : Array Slot) (H : Heap) (locs : List Loc), (i ≤ 1408) → (∀ x, x < i → table1 x = 0) → (1408 - i) < d_122 → va_P (dC, dI) vwCl (XW ad cB cJ sizes tokens spans1 subject parts1 states table1 stateAt fits sameAs (sz 4) 1 0) H → va_D A (XW ad cB cJ sizes tokens spans1 subject parts1 states table1 stateAt fits sameAs (sz 4) 1 0) → va_S A s.heap H locs → lv_has ls 4 [(0, .ref (ad 0)), (1, .int (nI i))] → W p l e (headSpec (ws_ yX0_learn cX0_learn 4 (some .boolean)) ({ frames := 5, cells := 0, slots := 0, locals := 123 } : Room)).room s m ([.ref (ad 0)] : List Value).toArray below meth c H locs 0 0 (MQ below (va_Qi (fun (r : Int32) (u : XD) => xr_B r (pt_need (tk 4) (sz 4) = 0) ∧ XJ u sz tk ∧ (pt_need (tk 4) (sz 4) = 0 → XJk u)) (xr_Bw (dC, dI) vwCl (tyX cB cJ) A (fun u => XWd ad cB cJ sizes tokens subject (sz 4) u)) A) ([.ref (ad 0)] : List Value).toArray s 0 0 A) (F0 m 122 ls []) := by
                    intro d_122
                    induction d_122 with
                    | zero => intro table1 i ls H locs hi ht0 hd_122; exact absurd hd_122 (Nat.not_lt_zero _)
                    | succ d_122 ih_122 =>
                      intro table1 i ls H locs hi ht0 hd_122 hP hD hS hl
                      refine lv_iload_n hx hb dX0_learn_122 rfl (lv_at hl 1 rfl) ?_
                      refine lv_sipush (v := nI 1408) hx hb dX0_learn_123 xs_1408 ?_
                      refine xr_icmp_ge (tgt := 142) hx hb dX0_learn_126 (by decide) (by omega) (by omega) (fun c_126 => ?_) (fun c_126 => ?_)
                      · have htb0 : XTb sz tk states table1 0 := XTb_0 (fun x hx => ht0 x (by omega))
                        refine lv_aload_n hx hb dX0_learn_142 rfl (lv_at hl 0 rfl) ?_
                        refine va_get (D := (dC, dI)) (ci := 0) (v := .int (nI (sz 4))) (C := RX0) (T := TX0) (N := 13) hx hb hts in_X0 hown hK hP 0 rfl rfl 3 (by decide) (hts _ q34) (fun _ h9 => h9) rfl dX0_learn_143 ?_
                        refine lv_iconst (v := nI 1) hx hb dX0_learn_146 xc_1 ?_
                        refine xr_isubP hx hb dX0_learn_147 ?_
                        refine lv_istore_n (lv' := [(1, .int (pI (sz 4))), (0, .ref (ad 0))]) hx hb dX0_learn_148 rfl hl (by decide) rfl (fun ls hl => ?_)
                        have key149 : ∀ (d_149 : Nat) (states1 : Nat → Int64) (table2 : Nat → Nat) (stateAt1 : Nat → Nat) (fits1 : Nat → Nat) (sc1 : Nat) (k : Nat) (ls : Array Slot) (H : Heap) (locs : List Loc), (k ≤ sz 4) → (sc1 + k ≤ sz 4) → (∀ m, k ≤ m → m < sz 4 → stateAt1 m < sc1) → (∀ m, k ≤ m → m < sz 4 → FTs sz tk m (states1 (stateAt1 m))) → (XTb sz tk states1 table2 sc1) → (∀ m, k ≤ m → m < sz 4 → fits1 m = pt_F sz tk m) → k < d_149 → va_P (dC, dI) vwCl (XW ad cB cJ sizes tokens spans1 subject parts1 states1 table2 stateAt1 fits1 sameAs (sz 4) 1 sc1) H → va_D A (XW ad cB cJ sizes tokens spans1 subject parts1 states1 table2 stateAt1 fits1 sameAs (sz 4) 1 sc1) → va_S A s.heap H locs → lv_has ls 4 [(0, .ref (ad 0)), (1, .int (pI k))] → W p l e (headSpec (ws_ yX0_learn cX0_learn 4 (some .boolean)) ({ frames := 5, cells := 0, slots := 0, locals := 123 } : Room)).room s m ([.ref (ad 0)] : List Value).toArray below meth c H locs 0 0 (MQ below (va_Qi (fun (r : Int32) (u : XD) => xr_B r (pt_need (tk 4) (sz 4) = 0) ∧ XJ u sz tk ∧ (pt_need (tk 4) (sz 4) = 0 → XJk u)) (xr_Bw (dC, dI) vwCl (tyX cB cJ) A (fun u => XWd ad cB cJ sizes tokens subject (sz 4) u)) A) ([.ref (ad 0)] : List Value).toArray s 0 0 A) (F0 m 149 ls []) := by
                          intro d_149
                          induction d_149 with
                          | zero => intro states1 table2 stateAt1 fits1 sc1 k ls H locs hk hs1 hst hbt htb hft hd_149; exact absurd hd_149 (Nat.not_lt_zero _)
                          | succ d_149 ih_149 =>
                            intro states1 table2 stateAt1 fits1 sc1 k ls H locs hk hs1 hst hbt htb hft hd_149 hP hD hS hl
                            refine lv_iload_n hx hb dX0_learn_149 rfl (lv_at hl 1 rfl) ?_
                            refine xr_if_ltP (tgt := 192) hx hb dX0_learn_150 (by decide) (by omega) (fun c_150 => ?_) (fun c_150 => ?_)
                            · subst c_150
                              have hft4 : ∀ i, i < sz 4 → fits1 i = pt_F sz tk i := fun i hi => hft i (Nat.zero_le _) hi
                              refine lv_aload_n hx hb dX0_learn_192 rfl (lv_at hl 0 rfl) ?_
                              refine va_get (D := (dC, dI)) (ci := 0) (v := .int (nI (sz 4))) (C := RX0) (T := TX0) (N := 13) hx hb hts in_X0 hown hK hP 0 rfl rfl 3 (by decide) (hts _ q34) (fun _ h9 => h9) rfl dX0_learn_193 ?_
                              refine lv_iconst (v := nI 1) hx hb dX0_learn_196 xc_1 ?_
                              refine xr_isubP hx hb dX0_learn_197 ?_
                              refine lv_istore_n (lv' := [(1, .int (pI (sz 4))), (0, .ref (ad 0))]) hx hb dX0_learn_198 rfl hl (by decide) rfl (fun ls hl => ?_)
                              have key199 : ∀ (d_199 : Nat) (sameAs1 : Nat → Nat) (k : Nat) (ls : Array Slot) (H : Heap) (locs : List Loc), (k ≤ sz 4) → (XSa sameAs1 sz tk k) → k < d_199 → va_P (dC, dI) vwCl (XW ad cB cJ sizes tokens spans1 subject parts1 states1 table2 stateAt1 fits1 sameAs1 (sz 4) 1 sc1) H → va_D A (XW ad cB cJ sizes tokens spans1 subject parts1 states1 table2 stateAt1 fits1 sameAs1 (sz 4) 1 sc1) → va_S A s.heap H locs → lv_has ls 4 [(0, .ref (ad 0)), (1, .int (pI k))] → W p l e (headSpec (ws_ yX0_learn cX0_learn 4 (some .boolean)) ({ frames := 5, cells := 0, slots := 0, locals := 123 } : Room)).room s m ([.ref (ad 0)] : List Value).toArray below meth c H locs 0 0 (MQ below (va_Qi (fun (r : Int32) (u : XD) => xr_B r (pt_need (tk 4) (sz 4) = 0) ∧ XJ u sz tk ∧ (pt_need (tk 4) (sz 4) = 0 → XJk u)) (xr_Bw (dC, dI) vwCl (tyX cB cJ) A (fun u => XWd ad cB cJ sizes tokens subject (sz 4) u)) A) ([.ref (ad 0)] : List Value).toArray s 0 0 A) (F0 m 199 ls []) := by
                                intro d_199
                                induction d_199 with
                                | zero => intro sameAs1 k ls H locs hk hsa hd_199; exact absurd hd_199 (Nat.not_lt_zero _)
                                | succ d_199 ih_199 =>
                                  intro sameAs1 k ls H locs hk hsa hd_199 hP hD hS hl
                                  refine lv_iload_n hx hb dX0_learn_199 rfl (lv_at hl 1 rfl) ?_
                                  refine xr_if_ltP (tgt := 265) hx hb dX0_learn_200 (by decide) (by omega) (fun c_200 => ?_) (fun c_200 => ?_)
                                  · subst c_200
                                    refine lv_iconst (v := nI 1) hx hb dX0_learn_265 xc_1 ?_
                                    exact xr_retWz ((spans1, parts1, states1, table2, stateAt1, fits1, sameAs1, 1, sc1)) hx hb hr hlk xr_nz1 (⟨xr_B1 c_4, XJ_1 (XK_mk hL.1 h0 hpa4 hft4 hsa), fun _ => rfl⟩) hP hK hD hS dX0_learn_266
                                  · obtain ⟨n, rfl⟩ : ∃ n, k = n + 1 := ⟨k - 1, by omega⟩
                                    rw [pI_s] at hl
                                    have hn : n < sz 4 := by omega
                                    refine lv_aload_n hx hb dX0_learn_203 rfl (lv_at hl 0 rfl) ?_
                                    refine va_get (D := (dC, dI)) (ci := 0) (v := .ref (ad 10)) (C := RX0) (T := TX0) (N := 13) hx hb hts in_X0 hown hK hP 0 rfl rfl 12 (by decide) (hts _ q43) (fun _ h9 => h9) rfl dX0_learn_204 ?_
                                    refine lv_iload_n hx hb dX0_learn_207 rfl (lv_at hl 1 rfl) ?_
                                    refine lv_iload_n hx hb dX0_learn_208 rfl (lv_at hl 1 rfl) ?_
                                    refine xr_i2b hx hb (by omega) dX0_learn_209 ?_
                                    refine xr_bast hx hb hK hP hD hS 10 0 rfl rfl (k := n) (v := n) (by omega) (by decide) (by omega) dX0_learn_210 (fun H locs hP hD hS => ?_)
                                    have hP : va_P (dC, dI) vwCl (XW ad cB cJ sizes tokens spans1 subject parts1 states1 table2 stateAt1 fits1 (va_up sameAs1 n n) (sz 4) 1 sc1) H := hP
                                    have hD : va_D A (XW ad cB cJ sizes tokens spans1 subject parts1 states1 table2 stateAt1 fits1 (va_up sameAs1 n n) (sz 4) 1 sc1) := hD
                                    refine lv_aload_n hx hb dX0_learn_211 rfl (lv_at hl 0 rfl) ?_
                                    refine va_get (D := (dC, dI)) (ci := 0) (v := .int (nI (sz 4))) (C := RX0) (T := TX0) (N := 13) hx hb hts in_X0 hown hK hP 0 rfl rfl 3 (by decide) (hts _ q34) (fun _ h9 => h9) rfl dX0_learn_212 ?_
                                    refine lv_iconst (v := nI 1) hx hb dX0_learn_215 xc_1 ?_
                                    refine xr_isub hx hb (by omega) dX0_learn_216 ?_
                                    refine lv_istore_n (lv' := [(2, .int (nI ((sz 4) - 1))), (0, .ref (ad 0)), (1, .int (nI n))]) hx hb dX0_learn_217 rfl hl (by decide) rfl (fun ls hl => ?_)
                                    have key218 : ∀ (d_218 : Nat) (sameAs2 : Nat → Nat) (mm : Nat) (ls : Array Slot) (H : Heap) (locs : List Loc), (n ≤ mm) → (mm < sz 4) → (XSi sameAs1 sameAs2 sz tk n mm) → mm < d_218 → va_P (dC, dI) vwCl (XW ad cB cJ sizes tokens spans1 subject parts1 states1 table2 stateAt1 fits1 sameAs2 (sz 4) 1 sc1) H → va_D A (XW ad cB cJ sizes tokens spans1 subject parts1 states1 table2 stateAt1 fits1 sameAs2 (sz 4) 1 sc1) → va_S A s.heap H locs → lv_has ls 4 [(0, .ref (ad 0)), (1, .int (nI n)), (2, .int (nI mm))] → W p l e (headSpec (ws_ yX0_learn cX0_learn 4 (some .boolean)) ({ frames := 5, cells := 0, slots := 0, locals := 123 } : Room)).room s m ([.ref (ad 0)] : List Value).toArray below meth c H locs 0 0 (MQ below (va_Qi (fun (r : Int32) (u : XD) => xr_B r (pt_need (tk 4) (sz 4) = 0) ∧ XJ u sz tk ∧ (pt_need (tk 4) (sz 4) = 0 → XJk u)) (xr_Bw (dC, dI) vwCl (tyX cB cJ) A (fun u => XWd ad cB cJ sizes tokens subject (sz 4) u)) A) ([.ref (ad 0)] : List Value).toArray s 0 0 A) (F0 m 218 ls []) := by
                                      intro d_218
                                      induction d_218 with
                                      | zero => intro sameAs2 mm ls H locs hmn hm4 hsi hd_218; exact absurd hd_218 (Nat.not_lt_zero _)
                                      | succ d_218 ih_218 =>
                                        intro sameAs2 mm ls H locs hmn hm4 hsi hd_218 hP hD hS hl
                                        refine lv_iload_n hx hb dX0_learn_218 rfl (lv_at hl 2 rfl) ?_
                                        refine lv_iload_n hx hb dX0_learn_219 rfl (lv_at hl 1 rfl) ?_
                                        refine xr_icmp_le (tgt := 259) hx hb dX0_learn_220 (by decide) (by omega) (by omega) (fun c_220 => ?_) (fun c_220 => ?_)
                                        · have em : mm = n := by omega
                                          rw [em] at hsi
                                          refine lv_iinc (v := (pI n)) (lv' := [(1, .int (pI n)), (0, .ref (ad 0)), (2, .int (nI mm))]) hx hb dX0_learn_259 hl (k := 1) rfl (xr_dec _) (by decide) rfl (fun ls hl => ?_)
                                          refine lv_goto (tgt := 199) hx hb dX0_learn_262 (by decide) ?_
                                          exact ih_199 sameAs2 n ls H locs (by omega) (XSi_end hL.1 h0 hn hsa hsi) (by omega) hP hD hS (lv_sub hl [1, 0] rfl)
                                        · have hlts := XSi_lt hsi hn (by omega) hsa
                                          have hb1 := hlts mm (by omega) hm4
                                          have hb2 := hlts n (Nat.le_refl _) hn
                                          refine lv_aload_n hx hb dX0_learn_223 rfl (lv_at hl 0 rfl) ?_
                                          refine va_get (D := (dC, dI)) (ci := 0) (v := .ref (ad 10)) (C := RX0) (T := TX0) (N := 13) hx hb hts in_X0 hown hK hP 0 rfl rfl 12 (by decide) (hts _ q43) (fun _ h9 => h9) rfl dX0_learn_224 ?_
                                          refine lv_iload_n hx hb dX0_learn_227 rfl (lv_at hl 1 rfl) ?_
                                          refine lv_aload_n hx hb dX0_learn_228 rfl (lv_at hl 0 rfl) ?_
                                          refine lv_iload_n hx hb dX0_learn_229 rfl (lv_at hl 1 rfl) ?_
                                          refine lv_iload_n hx hb dX0_learn_230 rfl (lv_at hl 2 rfl) ?_
                                          refine xr_cVi (rest := [.int (nI n), .ref (ad 10)]) ⟨hx, hb, hml, hown, hts⟩ (mt_X0_samePart l dC dI hL h0 hpa4 n mm c_220 hm4 (fun i h1 h2 => by have := hlts i (by omega) h2; omega)) (cwV 2 hts gV_X0_82 rfl rfl rfl hd_X0_samePart ⟨Nat.le_of_ble_eq_true rfl, Nat.le_of_ble_eq_true rfl⟩) hK hP 0 0 rfl rfl rfl hl.1 rfl (Nat.le_of_ble_eq_true rfl) dX0_learn_231 ⟨Nat.zero_le _, Nat.zero_le _⟩ (fun r_231 h_231 => ?_)
                                          rw [XSi_same hL.1 h0 hsi c_220 hm4 hsa] at h_231
                                          refine xr_ifeqB (tgt := 246) hx hb h_231 dX0_learn_234 (by decide) (fun c_234 => ?_) (fun c_234 => ?_)
                                          · skip
                                            refine lv_aload_n hx hb dX0_learn_246 rfl (lv_at hl 0 rfl) ?_
                                            refine va_get (D := (dC, dI)) (ci := 0) (v := .ref (ad 10)) (C := RX0) (T := TX0) (N := 13) hx hb hts in_X0 hown hK hP 0 rfl rfl 12 (by decide) (hts _ q43) (fun _ h9 => h9) rfl dX0_learn_247 ?_
                                            refine lv_iload_n hx hb dX0_learn_250 rfl (lv_at hl 1 rfl) ?_
                                            refine xr_bald hx hb hK hP 10 0 rfl rfl (k := n) (by omega) (by decide) dX0_learn_251 ?_
                                            refine xr_bast hx hb hK hP hD hS 10 0 rfl rfl (k := n) (v := sameAs2 n) (by omega) (by decide) (by omega) dX0_learn_252 (fun H locs hP hD hS => ?_)
                                            have hP : va_P (dC, dI) vwCl (XW ad cB cJ sizes tokens spans1 subject parts1 states1 table2 stateAt1 fits1 (va_up sameAs2 n (sameAs2 n)) (sz 4) 1 sc1) H := hP
                                            have hD : va_D A (XW ad cB cJ sizes tokens spans1 subject parts1 states1 table2 stateAt1 fits1 (va_up sameAs2 n (sameAs2 n)) (sz 4) 1 sc1) := hD
                                            refine lv_iinc (v := (nI (mm - 1))) (lv' := [(2, .int (nI (mm - 1))), (0, .ref (ad 0)), (1, .int (nI n))]) hx hb dX0_learn_253 hl (k := 2) rfl (xr_decp (by omega)) (by decide) rfl (fun ls hl => ?_)
                                            refine lv_goto (tgt := 218) hx hb dX0_learn_256 (by decide) ?_
                                            exact ih_218 (va_up sameAs2 n (sameAs2 n)) (mm - 1) ls H locs (by omega) (by omega) (XSi_no hsi c_220 c_234) (by omega) hP hD hS (lv_sub hl [1, 2, 0] rfl)
                                          · skip
                                            refine lv_aload_n hx hb dX0_learn_237 rfl (lv_at hl 0 rfl) ?_
                                            refine va_get (D := (dC, dI)) (ci := 0) (v := .ref (ad 10)) (C := RX0) (T := TX0) (N := 13) hx hb hts in_X0 hown hK hP 0 rfl rfl 12 (by decide) (hts _ q43) (fun _ h9 => h9) rfl dX0_learn_238 ?_
                                            refine lv_iload_n hx hb dX0_learn_241 rfl (lv_at hl 2 rfl) ?_
                                            refine xr_bald hx hb hK hP 10 0 rfl rfl (k := mm) (by omega) (by decide) dX0_learn_242 ?_
                                            refine lv_goto (tgt := 252) hx hb dX0_learn_243 (by decide) ?_
                                            refine xr_bast hx hb hK hP hD hS 10 0 rfl rfl (k := n) (v := sameAs2 mm) (by omega) (by decide) (by omega) dX0_learn_252 (fun H locs hP hD hS => ?_)
                                            have hP : va_P (dC, dI) vwCl (XW ad cB cJ sizes tokens spans1 subject parts1 states1 table2 stateAt1 fits1 (va_up sameAs2 n (sameAs2 mm)) (sz 4) 1 sc1) H := hP
                                            have hD : va_D A (XW ad cB cJ sizes tokens spans1 subject parts1 states1 table2 stateAt1 fits1 (va_up sameAs2 n (sameAs2 mm)) (sz 4) 1 sc1) := hD
                                            refine lv_iinc (v := (nI (mm - 1))) (lv' := [(2, .int (nI (mm - 1))), (0, .ref (ad 0)), (1, .int (nI n))]) hx hb dX0_learn_253 hl (k := 2) rfl (xr_decp (by omega)) (by decide) rfl (fun ls hl => ?_)
                                            refine lv_goto (tgt := 218) hx hb dX0_learn_256 (by decide) ?_
                                            exact ih_218 (va_up sameAs2 n (sameAs2 mm)) (mm - 1) ls H locs (by omega) (by omega) (XSi_yes hsi c_220 hm4 c_234) (by omega) hP hD hS (lv_sub hl [1, 2, 0] rfl)
                                    exact key218 _ (va_up sameAs1 n n) (sz 4 - 1) ls _ _ (by omega) (by omega) (⟨fun x hx => va_up_n _ _ hx, Or.inr ⟨va_up_s _ _ _, fun j h1 h2 => absurd h1 (by omega)⟩⟩) (Nat.lt_succ_self _) hP hD hS (lv_sub hl [1, 2, 0] rfl)
                              exact key199 _ sameAs (sz 4) ls _ _ (Nat.le_refl _) (⟨fun a h1 h2 => absurd h2 (by omega), fun a h1 h2 => absurd h2 (by omega)⟩) (Nat.lt_succ_self _) hP hD hS (lv_sub hl [1, 0] rfl)
                            · obtain ⟨n, rfl⟩ : ∃ n, k = n + 1 := ⟨k - 1, by omega⟩
                              rw [pI_s] at hl
                              have hn : n < sz 4 := by omega
                              refine lv_aload_n hx hb dX0_learn_153 rfl (lv_at hl 0 rfl) ?_
                              refine va_get (D := (dC, dI)) (ci := 0) (v := .ref (ad 8)) (C := RX0) (T := TX0) (N := 13) hx hb hts in_X0 hown hK hP 0 rfl rfl 10 (by decide) (hts _ q41) (fun _ h9 => h9) rfl dX0_learn_154 ?_
                              refine lv_iload_n hx hb dX0_learn_157 rfl (lv_at hl 1 rfl) ?_
                              refine lv_aload_n hx hb dX0_learn_158 rfl (lv_at hl 0 rfl) ?_
                              refine lv_iload_n hx hb dX0_learn_159 rfl (lv_at hl 1 rfl) ?_
                              refine xr_cVwi (wr := []) (rest := [.int (nI n), .ref (ad 8)]) ⟨hx, hb, hml, hown, hts⟩ (mt_X0_lookUp l dC dI _ hL h0 hsp4 n hn hpa4 (by omega) (fun m h1 h2 => hst m (by omega) h2) (fun m h1 h2 => hbt m (by omega) h2) htb) (cwV 1 hts gV_X0_75 rfl rfl rfl hd_X0_lookUp ⟨Nat.le_of_ble_eq_true rfl, Nat.le_of_ble_eq_true rfl⟩) hK hP hD hS hA [0, 1, 2, 3, 4, 5, 6, 7, 8, 9, 10] [] rfl rfl rfl (by decide) (by decide) (by decide) 0 0 rfl rfl rfl hl.1 rfl (Nat.le_of_ble_eq_true rfl) dX0_learn_160 ⟨Nat.zero_le _, Nat.zero_le _⟩ (fun r_160 u H locs h_160 hP hD hS => ?_)
                              obtain ⟨states2, table3, sc2⟩ := u
                              obtain ⟨i, rfl, hi, hfi, hc1, hc2, hc3, hc4⟩ := h_160
                              have hi : i < sc2 := hi
                              have hfi : FTs sz tk n (states2 i) := hfi
                              have hc1 : sc1 ≤ sc2 := hc1
                              have hc2 : sc2 ≤ sc1 + 1 := hc2
                              have hc3 : ∀ i, i < sc1 → states2 i = states1 i := hc3
                              have hc4 : XTb sz tk states2 table3 sc2 := hc4
                              have hP : va_P (dC, dI) vwCl (XW ad cB cJ sizes tokens spans1 subject parts1 states2 table3 stateAt1 fits1 sameAs (sz 4) 1 sc2) H := hP
                              have hD : va_D A (XW ad cB cJ sizes tokens spans1 subject parts1 states2 table3 stateAt1 fits1 sameAs (sz 4) 1 sc2) := hD
                              refine xr_i2b hx hb (by omega) dX0_learn_163 ?_
                              refine xr_bast hx hb hK hP hD hS 8 0 rfl rfl (k := n) (v := i) (by omega) (by decide) (by omega) dX0_learn_164 (fun H locs hP hD hS => ?_)
                              have hP : va_P (dC, dI) vwCl (XW ad cB cJ sizes tokens spans1 subject parts1 states2 table3 (va_up stateAt1 n i) fits1 sameAs (sz 4) 1 sc2) H := hP
                              have hD : va_D A (XW ad cB cJ sizes tokens spans1 subject parts1 states2 table3 (va_up stateAt1 n i) fits1 sameAs (sz 4) 1 sc2) := hD
                              refine lv_aload_n hx hb dX0_learn_165 rfl (lv_at hl 0 rfl) ?_
                              refine va_get (D := (dC, dI)) (ci := 0) (v := .ref (ad 9)) (C := RX0) (T := TX0) (N := 13) hx hb hts in_X0 hown hK hP 0 rfl rfl 11 (by decide) (hts _ q42) (fun _ h9 => h9) rfl dX0_learn_166 ?_
                              refine lv_iload_n hx hb dX0_learn_169 rfl (lv_at hl 1 rfl) ?_
                              refine lv_aload_n hx hb dX0_learn_170 rfl (lv_at hl 0 rfl) ?_
                              refine va_get (D := (dC, dI)) (ci := 0) (v := .ref (ad 6)) (C := RX0) (T := TX0) (N := 13) hx hb hts in_X0 hown hK hP 0 rfl rfl 8 (by decide) (hts _ q39) (fun _ h9 => h9) rfl dX0_learn_171 ?_
                              refine lv_aload_n hx hb dX0_learn_174 rfl (lv_at hl 0 rfl) ?_
                              refine va_get (D := (dC, dI)) (ci := 0) (v := .ref (ad 8)) (C := RX0) (T := TX0) (N := 13) hx hb hts in_X0 hown hK hP 0 rfl rfl 10 (by decide) (hts _ q41) (fun _ h9 => h9) rfl dX0_learn_175 ?_
                              refine lv_iload_n hx hb dX0_learn_178 rfl (lv_at hl 1 rfl) ?_
                              refine xr_bald hx hb hK hP 8 0 rfl rfl (k := n) (by omega) (by decide) dX0_learn_179 ?_
                              refine xr_conv (y := (nI i)) (by rw [va_up_s]) ?_
                              refine xr_lald hx hb hK hP 6 1 rfl rfl (k := i) (by omega) (by decide) dX0_learn_180 ?_
                              refine xr_cSi (rest := [.int (nI n), .ref (ad 9)]) ⟨hx, hb, hml, hown, hts⟩ (mt_X0_wholePatterns l (states2 i)) (va_cwS 1 hts gS_X0_78 rfl rfl rfl hd_X0_wholePatterns ⟨Nat.le_of_ble_eq_true rfl, Nat.le_of_ble_eq_true rfl⟩) rfl hl.1 rfl (Nat.le_of_ble_eq_true rfl) dX0_learn_181 ⟨Nat.zero_le _, Nat.zero_le _⟩ (fun r_181 h_181 => ?_)
                              rw [FTs_F hL.1 h0 hn hfi] at h_181
                              subst h_181
                              have hFl := pt_F_lt sz tk n
                              refine xr_i2b hx hb (by omega) dX0_learn_184 ?_
                              refine xr_bast hx hb hK hP hD hS 9 0 rfl rfl (k := n) (v := pt_F sz tk n) (by omega) (by decide) (by omega) dX0_learn_185 (fun H locs hP hD hS => ?_)
                              have hP : va_P (dC, dI) vwCl (XW ad cB cJ sizes tokens spans1 subject parts1 states2 table3 (va_up stateAt1 n i) (va_up fits1 n (pt_F sz tk n)) sameAs (sz 4) 1 sc2) H := hP
                              have hD : va_D A (XW ad cB cJ sizes tokens spans1 subject parts1 states2 table3 (va_up stateAt1 n i) (va_up fits1 n (pt_F sz tk n)) sameAs (sz 4) 1 sc2) := hD
                              refine lv_iinc (v := (pI n)) (lv' := [(1, .int (pI n)), (0, .ref (ad 0))]) hx hb dX0_learn_186 hl (k := 1) rfl (xr_dec _) (by decide) rfl (fun ls hl => ?_)
                              refine lv_goto (tgt := 149) hx hb dX0_learn_189 (by decide) ?_
                              exact ih_149 states2 table3 (va_up stateAt1 n i) (va_up fits1 n (pt_F sz tk n)) sc2 n ls H locs (by omega) (by omega) (fun m h1 h2 => by by_cases e : m = n; (rw [e, va_up_s]; exact hi); (rw [va_up_n _ _ e]; have := hst m (by omega) h2; omega)) (fun m h1 h2 => by by_cases e : m = n; (rw [e, va_up_s]; exact hfi); (rw [va_up_n _ _ e, hc3 _ (hst m (by omega) h2)]; exact hbt m (by omega) h2)) (hc4) (fun m h1 h2 => by by_cases e : m = n; (rw [e, va_up_s]); (rw [va_up_n _ _ e]; exact hft m (by omega) h2)) (by omega) hP hD hS (lv_sub hl [1, 0] rfl)
                        exact key149 _ states table1 stateAt fits 0 (sz 4) ls _ _ (Nat.le_refl _) (by omega) (fun m h1 h2 => absurd h2 (by omega)) (fun m h1 h2 => absurd h2 (by omega)) (htb0) (fun m h1 h2 => absurd h2 (by omega)) (Nat.lt_succ_self _) hP hD hS (lv_sub hl [1, 0] rfl)
                      · skip
                        refine lv_aload_n hx hb dX0_learn_129 rfl (lv_at hl 0 rfl) ?_
                        refine va_get (D := (dC, dI)) (ci := 0) (v := .ref (ad 7)) (C := RX0) (T := TX0) (N := 13) hx hb hts in_X0 hown hK hP 0 rfl rfl 9 (by decide) (hts _ q40) (fun _ h9 => h9) rfl dX0_learn_130 ?_
                        refine lv_iload_n hx hb dX0_learn_133 rfl (lv_at hl 1 rfl) ?_
                        refine lv_iconst (v := -1) hx hb dX0_learn_134 (by decide) ?_
                        refine xr_conv (y := (pI 0)) (pI_0.symm) ?_
                        refine xr_bastP hx hb hK hP hD hS 7 0 rfl rfl (k := i) (v := 0) (by omega) (by decide) (by omega) dX0_learn_135 (fun H locs hP hD hS => ?_)
                        have hP : va_P (dC, dI) vwCl (XW ad cB cJ sizes tokens spans1 subject parts1 states (va_up table1 i 0) stateAt fits sameAs (sz 4) 1 0) H := hP
                        have hD : va_D A (XW ad cB cJ sizes tokens spans1 subject parts1 states (va_up table1 i 0) stateAt fits sameAs (sz 4) 1 0) := hD
                        refine lv_iinc (v := (nI (i + 1))) (lv' := [(1, .int (nI (i + 1))), (0, .ref (ad 0))]) hx hb dX0_learn_136 hl (k := 1) rfl (xr_inc _) (by decide) rfl (fun ls hl => ?_)
                        refine lv_goto (tgt := 122) hx hb dX0_learn_139 (by decide) ?_
                        exact ih_122 (va_up table1 i 0) (i + 1) ls H locs (by omega) (fun x hx => by by_cases e : x = i; (rw [e, va_up_s]); (rw [va_up_n _ _ e]; exact ht0 x (by omega))) (by omega) hP hD hS (lv_sub hl [1, 0] rfl)
                  exact key122 _ table 0 ls _ _ (Nat.zero_le _) (fun x h => absurd h (Nat.not_lt_zero _)) (Nat.lt_succ_self _) hP hD hS (lv_sub hl [1, 0] rfl)
                · obtain ⟨n, rfl⟩ : ∃ n, k = n + 1 := ⟨k - 1, by omega⟩
                  rw [pI_s] at hl
                  have hn : n < sz 4 := by omega
                  have hs0 := pt_need_s (tk 4) n
                  have hn1 := hok n hn
                  have hle := pt_ar_le (tk 4 n)
                  have hski := pt_skip_in (tk 4) (n := sz 4) (i := n) 1 (by omega)
                  have hskj := pt_skip_in (tk 4) (n := sz 4) (i := n + 1) 1 (by omega)
                  refine lv_aload_n hx hb dX0_learn_52 rfl (lv_at hl 0 rfl) ?_
                  refine va_get (D := (dC, dI)) (ci := 0) (v := .ref (ad 4)) (C := RX0) (T := TX0) (N := 13) hx hb hts in_X0 hown hK hP 0 rfl rfl 4 (by decide) (hts _ q35) (fun _ h9 => h9) rfl dX0_learn_53 ?_
                  refine lv_iload_n hx hb dX0_learn_56 rfl (lv_at hl 1 rfl) ?_
                  refine xr_bald hx hb hK hP 4 0 rfl rfl (k := n) (by omega) (by decide) dX0_learn_57 ?_
                  refine xr_conv (y := (nI (tk 4 n))) (by rw [hL.2.2.2.2 n hn]) ?_
                  refine xr_cSi (rest := []) ⟨hx, hb, hml, hown, hts⟩ (mt_X0_arity l (tk 4 n) (pt_wf_7 hL.1 (by decide) hn)) (va_cwS 1 hts gS_X0_41 rfl rfl rfl hd_X0_arity ⟨Nat.le_of_ble_eq_true rfl, Nat.le_of_ble_eq_true rfl⟩) rfl hl.1 rfl (Nat.le_of_ble_eq_true rfl) dX0_learn_58 ⟨Nat.zero_le _, Nat.zero_le _⟩ (fun r_58 h_58 => ?_)
                  subst h_58
                  refine lv_istore_n (lv' := [(2, .int (nI (pt_ar (tk 4 n)))), (0, .ref (ad 0)), (1, .int (nI n))]) hx hb dX0_learn_61 rfl hl (by decide) rfl (fun ls hl => ?_)
                  refine lv_iload_n hx hb dX0_learn_62 rfl (lv_at hl 0 rfl) ?_
                  refine xr_if_le (tgt := 77) hx hb dX0_learn_63 (by decide) (by omega) (fun c_63 => ?_) (fun c_63 => ?_)
                  · skip
                    refine lv_iconst (v := nI 0) hx hb dX0_learn_77 xc_0 ?_
                    refine lv_istore_n (lv' := [(3, .int (nI 0)), (2, .int (nI (pt_ar (tk 4 n)))), (0, .ref (ad 0)), (1, .int (nI n))]) hx hb dX0_learn_78 rfl hl (by decide) rfl (fun ls hl => ?_)
                    refine lv_aload_n hx hb dX0_learn_79 rfl (lv_at hl 2 rfl) ?_
                    refine va_get (D := (dC, dI)) (ci := 0) (v := .ref (ad 5)) (C := RX0) (T := TX0) (N := 13) hx hb hts in_X0 hown hK hP 0 rfl rfl 5 (by decide) (hts _ q36) (fun _ h9 => h9) rfl dX0_learn_80 ?_
                    refine lv_iload_n hx hb dX0_learn_83 rfl (lv_at hl 3 rfl) ?_
                    refine lv_iconst (v := nI 1) hx hb dX0_learn_84 xc_1 ?_
                    refine lv_iload_n hx hb dX0_learn_85 rfl (lv_at hl 0 rfl) ?_
                    refine xr_iadd hx hb dX0_learn_86 ?_
                    refine lv_iload_n hx hb dX0_learn_87 rfl (lv_at hl 1 rfl) ?_
                    refine lv_iconst (v := nI 1) hx hb dX0_learn_88 xc_1 ?_
                    refine xr_icmp_le (tgt := 105) hx hb dX0_learn_89 (by decide) (by omega) (by omega) (fun c_89 => ?_) (fun c_89 => ?_)
                    · skip
                      refine lv_iconst (v := nI 0) hx hb dX0_learn_105 xc_0 ?_
                      refine xr_iadd hx hb dX0_learn_106 ?_
                      refine xr_conv (y := (nI (pt_skip (tk 4) (sz 4) n 1 - n))) (congrArg nI (by rw [pt_skip_a0 hn (by omega)]; omega)) ?_
                      refine xr_i2b hx hb (by omega) dX0_learn_107 ?_
                      refine xr_bast hx hb hK hP hD hS 5 0 rfl rfl (k := n) (v := pt_skip (tk 4) (sz 4) n 1 - n) (by omega) (by decide) (by omega) dX0_learn_108 (fun H locs hP hD hS => ?_)
                      have hP : va_P (dC, dI) vwCl (XW ad cB cJ sizes tokens spans1 subject (va_up parts1 n (pt_skip (tk 4) (sz 4) n 1 - n)) states table stateAt fits sameAs (sz 4) 1 sc) H := hP
                      have hD : va_D A (XW ad cB cJ sizes tokens spans1 subject (va_up parts1 n (pt_skip (tk 4) (sz 4) n 1 - n)) states table stateAt fits sameAs (sz 4) 1 sc) := hD
                      refine lv_iinc (v := (pI n)) (lv' := [(1, .int (pI n)), (3, .int (nI 0)), (2, .int (nI (pt_ar (tk 4 n)))), (0, .ref (ad 0))]) hx hb dX0_learn_109 hl (k := 3) rfl (xr_dec _) (by decide) rfl (fun ls hl => ?_)
                      refine lv_goto (tgt := 48) hx hb dX0_learn_112 (by decide) ?_
                      exact ih_48 (va_up parts1 n (pt_skip (tk 4) (sz 4) n 1 - n)) n ls H locs (by omega) (fun i h1 h2 => by by_cases e : i = n; (rw [e, va_up_s]); (rw [va_up_n _ _ e]; exact hpa i (by omega) h2)) (by omega) hP hD hS (lv_sub hl [3, 0] rfl)
                    · exact absurd c_89 (by omega)
                  · have hlt : n + 1 < sz 4 := pt_lt_of_need h0 (by omega) (by omega)
                    refine lv_aload_n hx hb dX0_learn_66 rfl (lv_at hl 1 rfl) ?_
                    refine va_get (D := (dC, dI)) (ci := 0) (v := .ref (ad 5)) (C := RX0) (T := TX0) (N := 13) hx hb hts in_X0 hown hK hP 0 rfl rfl 5 (by decide) (hts _ q36) (fun _ h9 => h9) rfl dX0_learn_67 ?_
                    refine lv_iload_n hx hb dX0_learn_70 rfl (lv_at hl 2 rfl) ?_
                    refine lv_iconst (v := nI 1) hx hb dX0_learn_71 xc_1 ?_
                    refine xr_iadd hx hb dX0_learn_72 ?_
                    refine xr_bald hx hb hK hP 5 0 rfl rfl (k := n + 1) (by omega) (by decide) dX0_learn_73 ?_
                    refine xr_conv (y := (nI (pt_skip (tk 4) (sz 4) (n + 1) 1 - (n + 1)))) (by rw [hpa (n + 1) (by omega) hlt]) ?_
                    refine lv_goto (tgt := 78) hx hb dX0_learn_74 (by decide) ?_
                    refine lv_istore_n (lv' := [(3, .int (nI (pt_skip (tk 4) (sz 4) (n + 1) 1 - (n + 1)))), (2, .int (nI (pt_ar (tk 4 n)))), (0, .ref (ad 0)), (1, .int (nI n))]) hx hb dX0_learn_78 rfl hl (by decide) rfl (fun ls hl => ?_)
                    refine lv_aload_n hx hb dX0_learn_79 rfl (lv_at hl 2 rfl) ?_
                    refine va_get (D := (dC, dI)) (ci := 0) (v := .ref (ad 5)) (C := RX0) (T := TX0) (N := 13) hx hb hts in_X0 hown hK hP 0 rfl rfl 5 (by decide) (hts _ q36) (fun _ h9 => h9) rfl dX0_learn_80 ?_
                    refine lv_iload_n hx hb dX0_learn_83 rfl (lv_at hl 3 rfl) ?_
                    refine lv_iconst (v := nI 1) hx hb dX0_learn_84 xc_1 ?_
                    refine lv_iload_n hx hb dX0_learn_85 rfl (lv_at hl 0 rfl) ?_
                    refine xr_iadd hx hb dX0_learn_86 ?_
                    refine lv_iload_n hx hb dX0_learn_87 rfl (lv_at hl 1 rfl) ?_
                    refine lv_iconst (v := nI 1) hx hb dX0_learn_88 xc_1 ?_
                    refine xr_icmp_le (tgt := 105) hx hb dX0_learn_89 (by decide) (by omega) (by omega) (fun c_89 => ?_) (fun c_89 => ?_)
                    · skip
                      refine lv_iconst (v := nI 0) hx hb dX0_learn_105 xc_0 ?_
                      refine xr_iadd hx hb dX0_learn_106 ?_
                      refine xr_conv (y := (nI (pt_skip (tk 4) (sz 4) n 1 - n))) (congrArg nI (by rw [pt_skip_a1 hn (by omega)]; omega)) ?_
                      refine xr_i2b hx hb (by omega) dX0_learn_107 ?_
                      refine xr_bast hx hb hK hP hD hS 5 0 rfl rfl (k := n) (v := pt_skip (tk 4) (sz 4) n 1 - n) (by omega) (by decide) (by omega) dX0_learn_108 (fun H locs hP hD hS => ?_)
                      have hP : va_P (dC, dI) vwCl (XW ad cB cJ sizes tokens spans1 subject (va_up parts1 n (pt_skip (tk 4) (sz 4) n 1 - n)) states table stateAt fits sameAs (sz 4) 1 sc) H := hP
                      have hD : va_D A (XW ad cB cJ sizes tokens spans1 subject (va_up parts1 n (pt_skip (tk 4) (sz 4) n 1 - n)) states table stateAt fits sameAs (sz 4) 1 sc) := hD
                      refine lv_iinc (v := (pI n)) (lv' := [(1, .int (pI n)), (3, .int (nI (pt_skip (tk 4) (sz 4) (n + 1) 1 - (n + 1)))), (2, .int (nI (pt_ar (tk 4 n)))), (0, .ref (ad 0))]) hx hb dX0_learn_109 hl (k := 3) rfl (xr_dec _) (by decide) rfl (fun ls hl => ?_)
                      refine lv_goto (tgt := 48) hx hb dX0_learn_112 (by decide) ?_
                      exact ih_48 (va_up parts1 n (pt_skip (tk 4) (sz 4) n 1 - n)) n ls H locs (by omega) (fun i h1 h2 => by by_cases e : i = n; (rw [e, va_up_s]); (rw [va_up_n _ _ e]; exact hpa i (by omega) h2)) (by omega) hP hD hS (lv_sub hl [3, 0] rfl)
                    · have hns := pt_need_skip' (i := n + 1) (o := 1) hok h0 (by omega) (by omega)
                      have hlt2 : pt_skip (tk 4) (sz 4) (n + 1) 1 < sz 4 := pt_lt_of_need h0 hskj.2 (by omega)
                      have hsk3 := pt_skip_in (tk 4) (n := sz 4) (i := pt_skip (tk 4) (sz 4) (n + 1) 1) 1 (by omega)
                      refine lv_aload_n hx hb dX0_learn_92 rfl (lv_at hl 2 rfl) ?_
                      refine va_get (D := (dC, dI)) (ci := 0) (v := .ref (ad 5)) (C := RX0) (T := TX0) (N := 13) hx hb hts in_X0 hown hK hP 0 rfl rfl 5 (by decide) (hts _ q36) (fun _ h9 => h9) rfl dX0_learn_93 ?_
                      refine lv_iload_n hx hb dX0_learn_96 rfl (lv_at hl 3 rfl) ?_
                      refine lv_iconst (v := nI 1) hx hb dX0_learn_97 xc_1 ?_
                      refine xr_iadd hx hb dX0_learn_98 ?_
                      refine lv_iload_n hx hb dX0_learn_99 rfl (lv_at hl 0 rfl) ?_
                      refine xr_iadd hx hb dX0_learn_100 ?_
                      refine xr_bald hx hb hK hP 5 0 rfl rfl (k := (n + 1) + (pt_skip (tk 4) (sz 4) (n + 1) 1 - (n + 1))) (by omega) (by decide) dX0_learn_101 ?_
                      refine xr_conv (y := (nI (pt_skip (tk 4) (sz 4) (pt_skip (tk 4) (sz 4) (n + 1) 1) 1 - (pt_skip (tk 4) (sz 4) (n + 1) 1)))) (by rw [show n + 1 + (pt_skip (tk 4) (sz 4) (n + 1) 1 - (n + 1)) = pt_skip (tk 4) (sz 4) (n + 1) 1 by omega, hpa (pt_skip (tk 4) (sz 4) (n + 1) 1) (by omega) hlt2]) ?_
                      refine lv_goto (tgt := 106) hx hb dX0_learn_102 (by decide) ?_
                      refine xr_iadd hx hb dX0_learn_106 ?_
                      refine xr_conv (y := (nI (pt_skip (tk 4) (sz 4) n 1 - n))) (congrArg nI (by rw [pt_skip_a2 hn (by omega)]; omega)) ?_
                      refine xr_i2b hx hb (by omega) dX0_learn_107 ?_
                      refine xr_bast hx hb hK hP hD hS 5 0 rfl rfl (k := n) (v := pt_skip (tk 4) (sz 4) n 1 - n) (by omega) (by decide) (by omega) dX0_learn_108 (fun H locs hP hD hS => ?_)
                      have hP : va_P (dC, dI) vwCl (XW ad cB cJ sizes tokens spans1 subject (va_up parts1 n (pt_skip (tk 4) (sz 4) n 1 - n)) states table stateAt fits sameAs (sz 4) 1 sc) H := hP
                      have hD : va_D A (XW ad cB cJ sizes tokens spans1 subject (va_up parts1 n (pt_skip (tk 4) (sz 4) n 1 - n)) states table stateAt fits sameAs (sz 4) 1 sc) := hD
                      refine lv_iinc (v := (pI n)) (lv' := [(1, .int (pI n)), (3, .int (nI (pt_skip (tk 4) (sz 4) (n + 1) 1 - (n + 1)))), (2, .int (nI (pt_ar (tk 4 n)))), (0, .ref (ad 0))]) hx hb dX0_learn_109 hl (k := 3) rfl (xr_dec _) (by decide) rfl (fun ls hl => ?_)
                      refine lv_goto (tgt := 48) hx hb dX0_learn_112 (by decide) ?_
                      exact ih_48 (va_up parts1 n (pt_skip (tk 4) (sz 4) n 1 - n)) n ls H locs (by omega) (fun i h1 h2 => by by_cases e : i = n; (rw [e, va_up_s]); (rw [va_up_n _ _ e]; exact hpa i (by omega) h2)) (by omega) hP hD hS (lv_sub hl [3, 0] rfl)
            exact key48 _ parts (sz 4) ls _ _ (Nat.le_refl _) (fun i h1 h2 => absurd h2 (by omega)) (Nat.lt_succ_self _) hP hD hS (lv_sub hl [1, 0] rfl)
          · skip
            refine lv_aload_n hx hb dX0_learn_30 rfl (lv_at hl 0 rfl) ?_
            refine lv_iload_n hx hb dX0_learn_31 rfl (lv_at hl 1 rfl) ?_
            refine xr_cVwv (wr := []) (rest := []) ⟨hx, hb, hml, hown, hts⟩ (mt_X0_measure l dC dI _ hL v c_27) (cwV 1 hts gV_X0_68 rfl rfl rfl hd_X0_measure ⟨Nat.le_of_ble_eq_true rfl, Nat.le_of_ble_eq_true rfl⟩) hK hP hD hS hA [0, 1, 2, 3, 4, 5, 6, 7, 8, 9, 10] [] rfl rfl rfl (by decide) (by decide) (by decide) 0 0 rfl rfl rfl hl.1 rfl (Nat.le_of_ble_eq_true rfl) dX0_learn_32 ⟨Nat.zero_le _, Nat.zero_le _⟩ (fun u H locs h_32 hP hD hS => ?_)
            obtain ⟨hm1, hm2⟩ := h_32
            have hP : va_P (dC, dI) vwCl (XW ad cB cJ sizes tokens u subject parts states table stateAt fits sameAs (sz 4) 1 sc) H := hP
            have hD : va_D A (XW ad cB cJ sizes tokens u subject parts states table stateAt fits sameAs (sz 4) 1 sc) := hD
            refine lv_iinc (v := (nI (v + 1))) (lv' := [(1, .int (nI (v + 1))), (0, .ref (ad 0))]) hx hb dX0_learn_35 hl (k := 1) rfl (xr_inc _) (by decide) rfl (fun ls hl => ?_)
            refine lv_goto (tgt := 25) hx hb dX0_learn_38 (by decide) ?_
            exact ih_25 u (v + 1) ls H locs (by omega) (fun q hq h0q k hk => by by_cases e : q = v; (subst e; exact hm1 h0q k hk); (have hz9 := hL.1.1 q (by omega); rw [hm2 _ (by omega)]; exact hsp q (by omega) h0q k hk)) (by omega) hP hD hS (lv_sub hl [1, 0] rfl)
      exact key25 _ spans 0 ls _ _ (Nat.zero_le _) (fun q hq => absurd hq (Nat.not_lt_zero _)) (Nat.lt_succ_self _) hP hD hS (lv_sub hl [1, 0] rfl)
    · skip
      refine lv_iconst (v := nI 1) hx hb dX0_learn_16 xc_1 ?_
      exact xr_retWz ((spans, parts, states, table, stateAt, fits, sameAs, kn, sc)) hx hb hr hlk xr_nz1 (⟨xr_B1 c_4, hJ0, fun _ => (show kn = 1 by omega)⟩) hP hK hD hS dX0_learn_17
  · skip
    refine lv_iconst (v := nI 0) hx hb dX0_learn_7 xc_0 ?_
    exact xr_retWz ((spans, parts, states, table, stateAt, fits, sameAs, kn, sc)) hx hb hr hlk xr_nz0 (⟨xr_B0 c_4, hJ0, fun q => absurd q c_4⟩) hP hK hD hS dX0_learn_8
end
section
/-! the plain law for the component's answers -/
theorem xr_Bif (b : Bool) : xr_B (nI (if b = true then 1 else 0)) (b = true) := by
  cases b with
  | true => exact xr_B1 rfl
  | false => exact xr_B0 (by decide)
theorem pt_fsbit {b : Nat → Bool} {j : Nat} (hj : j < 4) : (nI (pt_fs b 4) >>> (nI j &&& 31)) &&& nI 1 = nI (if b j = true then 1 else 0) := by
  have h := pt_fs_lt b 4
  rw [nI_bit (by omega) (by omega), pt_fs_bit b 4 hj]
theorem pt_Fbit {sz : Nat → Nat} {tk : Nat → Nat → Nat} {j k : Nat} (hj : j < 4) : (nI (pt_F sz tk k) >>> (nI j &&& 31)) &&& nI 1 = nI (if pt_ft sz tk j k = true then 1 else 0) := pt_fsbit (b := fun p => pt_ft sz tk p k) hj
theorem pt_fAbit {sz : Nat → Nat} {tk : Nat → Nat → Nat} {xn : Int32} {j : Nat} (hj : j < 4) : (nI (pt_fitsAt sz tk xn) >>> (nI j &&& 31)) &&& nI 1 = nI (if pt_fb sz tk xn j = true then 1 else 0) := by
  rw [pt_fitsAt_fs]
  exact pt_fsbit hj
theorem pt_node_ix {sz : Nat → Nat} {tk : Nat → Nat → Nat} {xn : Int32} (h25 : sz 4 ≤ 25) (h : ¬ pt_node sz tk xn) : pt_ix (sz 4) xn = none ∨ (¬ pt_need (tk 4) (sz 4) = 0 ∧ ∃ j, j < sz 4 ∧ pt_ix (sz 4) xn = some j) := by
  rcases pt_ix_cases (sz 4) (by omega) xn with ⟨q, -⟩ | ⟨j, hj, rfl, q⟩
  · exact Or.inl q
  · exact Or.inr ⟨fun z => h ⟨z, j, hj, rfl⟩, j, hj, q⟩
theorem pt_fitsAt_no {sz : Nat → Nat} {tk : Nat → Nat → Nat} {xn : Int32} (h25 : sz 4 ≤ 25) (h : ¬ pt_node sz tk xn) : pt_fitsAt sz tk xn = 0 := by
  unfold pt_fitsAt
  rcases pt_node_ix h25 h with q | ⟨q1, j, hj, q⟩
  · rw [q]
  · rw [q]; exact pt_F_nw q1
theorem pt_size_no {sz : Nat → Nat} {tk : Nat → Nat → Nat} {xn : Int32} (h25 : sz 4 ≤ 25) (h : ¬ pt_node sz tk xn) : pt_size sz tk xn = -1 := by
  unfold pt_size
  rcases pt_node_ix h25 h with q | ⟨q1, j, hj, q⟩
  · rw [q]
  · rw [q]
    show (if _ then _ else _) = _
    rw [if_neg q1]
theorem pt_lo31 (x : Int32) : x.toInt.toNat < 2147483648 := by
  have := x.toInt_lt
  omega
theorem pt_lo1 {x : Int32} (h : 0 ≤ x) : x = nI x.toInt.toNat := by
  have h1 := Int32.le_iff_toInt_le.mp h
  have h2 : (0 : Int32).toInt = 0 := by decide
  apply Int32.toInt_inj.mp
  rw [nI_toInt (pt_lo31 x)]
  omega
theorem pt_lo0 {x : Int32} (h : ¬ 0 ≤ x) : nI 0 = nI x.toInt.toNat := by
  have h1 : ¬ (0 : Int32).toInt ≤ x.toInt := fun q => h (Int32.le_iff_toInt_le.mpr q)
  have h2 : (0 : Int32).toInt = 0 := by decide
  congr 1
  omega
theorem pt_lay_snoc (f g : Nat → Nat) (n x i y : Nat) (h : pt_lay f g n x 0 i = some y) : pt_lay f g n (x + 1) 0 i = pt_lay f g n 1 x y := by
  rw [pt_lay_add, h, Option.bind_some, Nat.zero_add]
theorem pt_lay_snoc_g {f g : Nat → Nat} {n x i y : Nat} (h : pt_lay f g n x 0 i = some y) (h7 : f x = 7) : pt_lay f g n (x + 1) 0 i = some (pt_skip g n y 1) := by
  rw [pt_lay_snoc f g n x i y h, pt_lay_g h7]
  rfl
theorem pt_lay_snoc_t {f g : Nat → Nat} {n x i y : Nat} (h : pt_lay f g n x 0 i = some y) (h7 : ¬ f x = 7) (hy : y < n) (e : g y = f x) : pt_lay f g n (x + 1) 0 i = some (y + 1) := by
  rw [pt_lay_snoc f g n x i y h, pt_lay_t h7 hy e]
  rfl
theorem pt_lay_step_t {f g : Nat → Nat} {n d x y : Nat} (h7 : ¬ f x = 7) (h : (pt_lay f g n (d + 1) x y).isSome = true) : y < n ∧ g y = f x ∧ (pt_lay f g n d (x + 1) (y + 1)).isSome = true := by
  rw [pt_lay_s, if_neg h7] at h
  split at h
  · rename_i q; exact ⟨q.1, q.2, h⟩
  · cases h
theorem pt_lay_step_g {f g : Nat → Nat} {n d x y : Nat} (h7 : f x = 7) (h : (pt_lay f g n (d + 1) x y).isSome = true) : (pt_lay f g n d (x + 1) (pt_skip g n y 1)).isSome = true := by
  rw [pt_lay_g h7] at h
  exact h
/-- a gap of a pattern that fits lies at a node -/
theorem pt_lay_lt {sz : Nat → Nat} {tk : Nat → Nat → Nat} (hw : pt_wf sz tk) (h0 : pt_need (tk 4) (sz 4) = 0) {j i x y : Nat} (hj : j < 4) (hi : i < sz 4) (hx : x < sz j) (h : pt_lay (tk j) (tk 4) (sz 4) x 0 i = some y) : y < sz 4 := by
  have hof := pt_wf_ok hw (l := j) (by omega)
  have hog := pt_wf_ok hw (l := 4) (by decide)
  have h1 := hog i hi
  have h2 := hof x hx
  have e0 : pt_need (tk j) 0 = 1 := rfl
  obtain ⟨q1, q2⟩ := pt_lay_need hof hog h0 x 0 i y (by omega) (by omega) (by omega) h
  rw [Nat.zero_add] at q2
  exact pt_lt_of_need h0 q1 (by omega)
theorem pt_bitN (a v : Nat) : a / 2 ^ v % 2 = if a.testBit v = true then 1 else 0 := by
  rw [Nat.testBit_eq_decide_div_mod_eq]
  rcases Nat.mod_two_eq_zero_or_one (a / 2 ^ v) with h | h <;> simp [h]
theorem pt_setbit {a v : Nat} (ha : a < 65536) (hv : v < 16) : (a ||| 2 ^ v) < 65536 := by
  have h : 2 ^ v < 2 ^ 16 := Nat.pow_lt_pow_right (by decide) hv
  exact Nat.or_lt_two_pow (n := 16) ha h
theorem pt_setex {F : Nat → Nat} {a k : Nat} (h : ∀ v, v < 16 → a.testBit v = pt_ex (fun i => decide (F i = v)) k) : ∀ v, v < 16 → (a ||| 2 ^ F k).testBit v = pt_ex (fun i => decide (F i = v)) (k + 1) := by
  intro v hv
  rw [Nat.testBit_or, h v hv, Nat.testBit_two_pow, pt_ex_s]
theorem XK_kinds {sz : Nat → Nat} {tk : Nat → Nat → Nat} (h0 : pt_need (tk 4) (sz 4) = 0) : nI (pt_cn (fun v => pt_ex (fun n => decide (pt_F sz tk n = v)) (sz 4)) 16) = pt_kinds sz tk := by
  unfold pt_kinds
  rw [if_pos h0]
theorem XK_bare {sz : Nat → Nat} {tk : Nat → Nat → Nat} (h0 : pt_need (tk 4) (sz 4) = 0) : nI (pt_cn (fun n => decide (pt_F sz tk n = 0)) (sz 4)) = pt_bare sz tk := by
  unfold pt_bare
  rw [if_pos h0]
end
section
set_option maxHeartbeats 4000000 in
set_option maxRecDepth 100000 in
/-- isNode(n) -/
theorem mt_X0_isNode (l : Launch) (dC : Nat → ClassId) (dI : Nat → Nat → Nat) (hz : Nat) {ad : Nat → Nat} {cB cJ : ClassId} {sizes tokens spans subject parts : Nat → Nat} {states : Nat → Int64} {table stateAt fits sameAs : Nat → Nat} {cnt kn sc : Nat} {sz : Nat → Nat} {tk : Nat → Nat → Nat} (hL : XL sizes tokens subject cnt sz tk) (hJ : XJ (spans, parts, states, table, stateAt, fits, sameAs, kn, sc) sz tk) (xn : Int32) : Met l yX0_isNode (ws_ yX0_isNode cX0_isNode 2 (some .boolean)) ({ frames := 6, cells := 0, slots := 0, locals := 146 } : Room) (va_Pc [.ref (ad 0), .int xn] (xr_Pw (dC, dI) vwCl (XW ad cB cJ sizes tokens spans subject parts states table stateAt fits sameAs cnt kn sc) (tyX cB cJ) hz)) (va_Qi (fun (r : Int32) (u : XD) => xr_B r (pt_node sz tk xn) ∧ XJ u sz tk ∧ (pt_node sz tk xn → XJk u)) (xr_Bw (dC, dI) vwCl (tyX cB cJ) (va_A (XW ad cB cJ sizes tokens spans subject parts states table stateAt fits sameAs cnt kn sc) hz) (fun u => XWd ad cB cJ sizes tokens subject cnt u)) (va_A (XW ad cB cJ sizes tokens spans subject parts states table stateAt fits sameAs cnt kn sc) hz)) 0 0 (va_A (XW ad cB cJ sizes tokens spans subject parts states table stateAt fits sameAs cnt kn sc) hz) := by
  refine Met.ofW (cc := cX0_isNode) (maxL := 2) (ret := (some .boolean)) (by decide) rfl ?_
  intro p e s m args below meth c s₁ B hml hv
  obtain ⟨rfl, hsz, hP, hK, hD0⟩ := hv
  have hx := B.exec
  have hb := B.bytes
  have hr := B.returns
  have hlk := B.notSynchronized
  have hts := atoms_spec (ws := (ws_ yX0_isNode cX0_isNode 2 (some .boolean))) B.pre
  have hts : ∀ w ∈ lw_all, w.before _ s = true := fun w h => hts w (List.mem_cons_of_mem _ h)
  have hown : s.vm.findClass RX0 = some m.cls := findClass_of_methodNamed B.named
  subst hsz
  have hD := hD0.self (sz := s.heap.size)
  generalize hAe : va_A (XW ad cB cJ sizes tokens spans subject parts states table stateAt fits sameAs cnt kn sc) s.heap.size = A at hD ⊢
  have hA : ∀ q : Nat, s.heap.size ≤ q → A q := fun q h => by rw [← hAe]; exact Or.inr h
  have hS : va_S A s.heap s.heap [] := va_S.rf
  have hl := lv_entry ([.ref (ad 0), .int xn]) (n := 2) (Nat.le_of_ble_eq_true rfl)
  rw [lg_entry_eq]
  generalize (lg_sl ([.ref (ad 0), .int xn]) ++ List.replicate (2 - (lg_sl ([.ref (ad 0), .int xn])).length) Slot.unset).toArray = ls at hl ⊢
  have hl : lv_has ls 2 [(0, .ref (ad 0)), (1, .int xn)] := hl
  obtain rfl : cnt = sz 4 := hL.2.2.2.1
  have hz := hL.1.2.1
  refine lv_iload_n hx hb dX0_isNode_0 rfl (lv_at hl 1 rfl) ?_
  refine lv_if_lt (tgt := 23) hx hb dX0_isNode_1 (by decide) (fun c_1 => ?_) (fun c_1 => ?_)
  · skip
    refine lv_iconst (v := nI 0) hx hb dX0_isNode_23 xc_0 ?_
    exact xr_retWz ((spans, parts, states, table, stateAt, fits, sameAs, kn, sc)) hx hb hr hlk xr_nz0 (⟨xr_B0 (fun q => (pt_rngN' (sz 4) (by omega) (by first | exact Or.inl c_1 | exact Or.inr c_9)) q.2), hJ, fun q => absurd q.2 (pt_rngN' (sz 4) (by omega) (by first | exact Or.inl c_1 | exact Or.inr c_9))⟩) hP hK hD hS dX0_isNode_24
  · skip
    refine lv_iload_n hx hb dX0_isNode_4 rfl (lv_at hl 1 rfl) ?_
    refine lv_aload_n hx hb dX0_isNode_5 rfl (lv_at hl 0 rfl) ?_
    refine va_get (D := (dC, dI)) (ci := 0) (v := .int (nI (sz 4))) (C := RX0) (T := TX0) (N := 13) hx hb hts in_X0 hown hK hP 0 rfl rfl 3 (by decide) (hts _ q34) (fun _ h9 => h9) rfl dX0_isNode_6 ?_
    refine lv_icmp_ge (tgt := 23) hx hb dX0_isNode_9 (by decide) (fun c_9 => ?_) (fun c_9 => ?_)
    · skip
      refine lv_iconst (v := nI 0) hx hb dX0_isNode_23 xc_0 ?_
      exact xr_retWz ((spans, parts, states, table, stateAt, fits, sameAs, kn, sc)) hx hb hr hlk xr_nz0 (⟨xr_B0 (fun q => (pt_rngN' (sz 4) (by omega) (by first | exact Or.inl c_1 | exact Or.inr c_9)) q.2), hJ, fun q => absurd q.2 (pt_rngN' (sz 4) (by omega) (by first | exact Or.inl c_1 | exact Or.inr c_9))⟩) hP hK hD hS dX0_isNode_24
    · skip
      refine lv_aload_n hx hb dX0_isNode_12 rfl (lv_at hl 0 rfl) ?_
      refine xr_cVwi (wr := []) (rest := []) ⟨hx, hb, hml, hown, hts⟩ (mt_X0_learn l dC dI _ hL hJ) (cwV 0 hts gV_X0_103 rfl rfl rfl hd_X0_learn ⟨Nat.le_of_ble_eq_true rfl, Nat.le_of_ble_eq_true rfl⟩) hK hP hD hS hA [0, 1, 2, 3, 4, 5, 6, 7, 8, 9, 10] [] rfl rfl rfl (by decide) (by decide) (by decide) 0 0 rfl rfl rfl hl.1 rfl (Nat.le_of_ble_eq_true rfl) dX0_isNode_13 ⟨Nat.zero_le _, Nat.zero_le _⟩ (fun r_13 u H locs h_13 hP hD hS => ?_)
      obtain ⟨spans1, parts1, states1, table1, stateAt1, fits1, sameAs1, kn1, sc1⟩ := u
      have hP : va_P (dC, dI) vwCl (XW ad cB cJ sizes tokens spans1 subject parts1 states1 table1 stateAt1 fits1 sameAs1 (sz 4) kn1 sc1) H := hP
      have hD : va_D A (XW ad cB cJ sizes tokens spans1 subject parts1 states1 table1 stateAt1 fits1 sameAs1 (sz 4) kn1 sc1) := hD
      obtain ⟨hB, hJ1, hK1⟩ := h_13
      refine xr_ifeqB (tgt := 23) hx hb hB dX0_isNode_16 (by decide) (fun c_16 => ?_) (fun c_16 => ?_)
      · skip
        refine lv_iconst (v := nI 0) hx hb dX0_isNode_23 xc_0 ?_
        exact xr_retWz ((spans1, parts1, states1, table1, stateAt1, fits1, sameAs1, kn1, sc1)) hx hb hr hlk xr_nz0 (⟨xr_B0 (fun q => c_16 q.1), hJ1, fun q => absurd q.1 c_16⟩) hP hK hD hS dX0_isNode_24
      · skip
        refine lv_iconst (v := nI 1) hx hb dX0_isNode_19 xc_1 ?_
        refine lv_goto (tgt := 24) hx hb dX0_isNode_20 (by decide) ?_
        exact xr_retWz ((spans1, parts1, states1, table1, stateAt1, fits1, sameAs1, kn1, sc1)) hx hb hr hlk xr_nz1 (⟨xr_B1 ⟨c_16, pt_rng' (sz 4) (by omega) c_1 c_9⟩, hJ1, fun _ => hK1 c_16⟩) hP hK hD hS dX0_isNode_24

set_option maxHeartbeats 4000000 in
set_option maxRecDepth 100000 in
/-- fitsAt(n) -/
theorem mt_X0_fitsAt (l : Launch) (dC : Nat → ClassId) (dI : Nat → Nat → Nat) (hz : Nat) {ad : Nat → Nat} {cB cJ : ClassId} {sizes tokens spans subject parts : Nat → Nat} {states : Nat → Int64} {table stateAt fits sameAs : Nat → Nat} {cnt kn sc : Nat} {sz : Nat → Nat} {tk : Nat → Nat → Nat} (hL : XL sizes tokens subject cnt sz tk) (hJ : XJ (spans, parts, states, table, stateAt, fits, sameAs, kn, sc) sz tk) (xn : Int32) : Met l yX0_fitsAt (ws_ yX0_fitsAt cX0_fitsAt 2 (some .int)) ({ frames := 7, cells := 0, slots := 0, locals := 167 } : Room) (va_Pc [.ref (ad 0), .int xn] (xr_Pw (dC, dI) vwCl (XW ad cB cJ sizes tokens spans subject parts states table stateAt fits sameAs cnt kn sc) (tyX cB cJ) hz)) (va_Qi (fun (r : Int32) (u : XD) => r = nI (pt_fitsAt sz tk xn) ∧ XJ u sz tk ∧ (pt_node sz tk xn → XJk u)) (xr_Bw (dC, dI) vwCl (tyX cB cJ) (va_A (XW ad cB cJ sizes tokens spans subject parts states table stateAt fits sameAs cnt kn sc) hz) (fun u => XWd ad cB cJ sizes tokens subject cnt u)) (va_A (XW ad cB cJ sizes tokens spans subject parts states table stateAt fits sameAs cnt kn sc) hz)) 0 0 (va_A (XW ad cB cJ sizes tokens spans subject parts states table stateAt fits sameAs cnt kn sc) hz) := by
  refine Met.ofW (cc := cX0_fitsAt) (maxL := 2) (ret := (some .int)) (by decide) rfl ?_
  intro p e s m args below meth c s₁ B hml hv
  obtain ⟨rfl, hsz, hP, hK, hD0⟩ := hv
  have hx := B.exec
  have hb := B.bytes
  have hr := B.returns
  have hlk := B.notSynchronized
  have hts := atoms_spec (ws := (ws_ yX0_fitsAt cX0_fitsAt 2 (some .int))) B.pre
  have hts : ∀ w ∈ lw_all, w.before _ s = true := fun w h => hts w (List.mem_cons_of_mem _ h)
  have hown : s.vm.findClass RX0 = some m.cls := findClass_of_methodNamed B.named
  subst hsz
  have hD := hD0.self (sz := s.heap.size)
  generalize hAe : va_A (XW ad cB cJ sizes tokens spans subject parts states table stateAt fits sameAs cnt kn sc) s.heap.size = A at hD ⊢
  have hA : ∀ q : Nat, s.heap.size ≤ q → A q := fun q h => by rw [← hAe]; exact Or.inr h
  have hS : va_S A s.heap s.heap [] := va_S.rf
  have hl := lv_entry ([.ref (ad 0), .int xn]) (n := 2) (Nat.le_of_ble_eq_true rfl)
  rw [lg_entry_eq]
  generalize (lg_sl ([.ref (ad 0), .int xn]) ++ List.replicate (2 - (lg_sl ([.ref (ad 0), .int xn])).length) Slot.unset).toArray = ls at hl ⊢
  have hl : lv_has ls 2 [(0, .ref (ad 0)), (1, .int xn)] := hl
  obtain rfl : cnt = sz 4 := hL.2.2.2.1
  have hz := hL.1.2.1
  refine lv_aload_n hx hb dX0_fitsAt_0 rfl (lv_at hl 0 rfl) ?_
  refine lv_iload_n hx hb dX0_fitsAt_1 rfl (lv_at hl 1 rfl) ?_
  refine xr_cVwi (wr := []) (rest := []) ⟨hx, hb, hml, hown, hts⟩ (mt_X0_isNode l dC dI _ hL hJ xn) (cwV 1 hts gV_X0_106 rfl rfl rfl hd_X0_isNode ⟨Nat.le_of_ble_eq_true rfl, Nat.le_of_ble_eq_true rfl⟩) hK hP hD hS hA [0, 1, 2, 3, 4, 5, 6, 7, 8, 9, 10] [] rfl rfl rfl (by decide) (by decide) (by decide) 0 0 rfl rfl rfl hl.1 rfl (Nat.le_of_ble_eq_true rfl) dX0_fitsAt_2 ⟨Nat.zero_le _, Nat.zero_le _⟩ (fun r_2 u H locs h_2 hP hD hS => ?_)
  obtain ⟨spans1, parts1, states1, table1, stateAt1, fits1, sameAs1, kn1, sc1⟩ := u
  have hP : va_P (dC, dI) vwCl (XW ad cB cJ sizes tokens spans1 subject parts1 states1 table1 stateAt1 fits1 sameAs1 (sz 4) kn1 sc1) H := hP
  have hD : va_D A (XW ad cB cJ sizes tokens spans1 subject parts1 states1 table1 stateAt1 fits1 sameAs1 (sz 4) kn1 sc1) := hD
  obtain ⟨hB, hJ1, hK1⟩ := h_2
  refine xr_ifeqB (tgt := 17) hx hb hB dX0_fitsAt_5 (by decide) (fun c_5 => ?_) (fun c_5 => ?_)
  · skip
    refine lv_iconst (v := nI 0) hx hb dX0_fitsAt_17 xc_0 ?_
    exact xr_retWi ((spans1, parts1, states1, table1, stateAt1, fits1, sameAs1, kn1, sc1)) hx hb hr hlk (⟨by rw [pt_fitsAt_no hz c_5], hJ1, hK1⟩) hP hK hD hS dX0_fitsAt_18
  · have hnode := c_5
    obtain ⟨hwh, j, hj, rfl⟩ := c_5
    have hKK := hJ1.2 (hK1 hnode)
    refine lv_aload_n hx hb dX0_fitsAt_8 rfl (lv_at hl 0 rfl) ?_
    refine va_get (D := (dC, dI)) (ci := 0) (v := .ref (ad 9)) (C := RX0) (T := TX0) (N := 13) hx hb hts in_X0 hown hK hP 0 rfl rfl 11 (by decide) (hts _ q42) (fun _ h9 => h9) rfl dX0_fitsAt_9 ?_
    refine lv_iload_n hx hb dX0_fitsAt_12 rfl (lv_at hl 1 rfl) ?_
    refine xr_bald hx hb hK hP 9 0 rfl rfl (k := j) (by omega) (by decide) dX0_fitsAt_13 ?_
    refine xr_conv (y := (nI (pt_F sz tk j))) (by rw [hKK.2.2.1 j hj]) ?_
    refine lv_goto (tgt := 18) hx hb dX0_fitsAt_14 (by decide) ?_
    exact xr_retWi ((spans1, parts1, states1, table1, stateAt1, fits1, sameAs1, kn1, sc1)) hx hb hr hlk (⟨by rw [pt_fitsAt_nI hz (by omega)], hJ1, hK1⟩) hP hK hD hS dX0_fitsAt_18

set_option maxHeartbeats 4000000 in
set_option maxRecDepth 100000 in
/-- count(p) -/
theorem mt_X0_count (l : Launch) (dC : Nat → ClassId) (dI : Nat → Nat → Nat) (hz : Nat) {ad : Nat → Nat} {cB cJ : ClassId} {sizes tokens spans subject parts : Nat → Nat} {states : Nat → Int64} {table stateAt fits sameAs : Nat → Nat} {cnt kn sc : Nat} {sz : Nat → Nat} {tk : Nat → Nat → Nat} (hL : XL sizes tokens subject cnt sz tk) (hJ : XJ (spans, parts, states, table, stateAt, fits, sameAs, kn, sc) sz tk) (xp : Int32) : Met l yX0_count (ws_ yX0_count cX0_count 4 (some .int)) ({ frames := 8, cells := 0, slots := 0, locals := 188 } : Room) (va_Pc [.ref (ad 0), .int xp] (xr_Pw (dC, dI) vwCl (XW ad cB cJ sizes tokens spans subject parts states table stateAt fits sameAs cnt kn sc) (tyX cB cJ) hz)) (va_Qi (fun (r : Int32) (u : XD) => r = pt_count sz tk xp ∧ XJ u sz tk) (xr_Bw (dC, dI) vwCl (tyX cB cJ) (va_A (XW ad cB cJ sizes tokens spans subject parts states table stateAt fits sameAs cnt kn sc) hz) (fun u => XWd ad cB cJ sizes tokens subject cnt u)) (va_A (XW ad cB cJ sizes tokens spans subject parts states table stateAt fits sameAs cnt kn sc) hz)) 0 0 (va_A (XW ad cB cJ sizes tokens spans subject parts states table stateAt fits sameAs cnt kn sc) hz) := by
  refine Met.ofW (cc := cX0_count) (maxL := 4) (ret := (some .int)) (by decide) rfl ?_
  intro p e s m args below meth c s₁ B hml hv
  obtain ⟨rfl, hsz, hP, hK, hD0⟩ := hv
  have hx := B.exec
  have hb := B.bytes
  have hr := B.returns
  have hlk := B.notSynchronized
  have hts := atoms_spec (ws := (ws_ yX0_count cX0_count 4 (some .int))) B.pre
  have hts : ∀ w ∈ lw_all, w.before _ s = true := fun w h => hts w (List.mem_cons_of_mem _ h)
  have hown : s.vm.findClass RX0 = some m.cls := findClass_of_methodNamed B.named
  subst hsz
  have hD := hD0.self (sz := s.heap.size)
  generalize hAe : va_A (XW ad cB cJ sizes tokens spans subject parts states table stateAt fits sameAs cnt kn sc) s.heap.size = A at hD ⊢
  have hA : ∀ q : Nat, s.heap.size ≤ q → A q := fun q h => by rw [← hAe]; exact Or.inr h
  have hS : va_S A s.heap s.heap [] := va_S.rf
  have hl := lv_entry ([.ref (ad 0), .int xp]) (n := 4) (Nat.le_of_ble_eq_true rfl)
  rw [lg_entry_eq]
  generalize (lg_sl ([.ref (ad 0), .int xp]) ++ List.replicate (4 - (lg_sl ([.ref (ad 0), .int xp])).length) Slot.unset).toArray = ls at hl ⊢
  have hl : lv_has ls 4 [(0, .ref (ad 0)), (1, .int xp)] := hl
  obtain rfl : cnt = sz 4 := hL.2.2.2.1
  have hz := hL.1.2.1
  rcases pt_ix_cases 4 (by decide) xp with ⟨hn, -⟩ | ⟨j, hj, rfl, -⟩
  · skip
    refine lv_iconst (v := nI 0) hx hb dX0_count_0 xc_0 ?_
    refine lv_istore_n (lv' := [(2, .int (nI 0)), (0, .ref (ad 0)), (1, .int xp)]) hx hb dX0_count_1 rfl hl (by decide) rfl (fun ls hl => ?_)
    refine lv_iconst (v := nI 0) hx hb dX0_count_2 xc_0 ?_
    refine lv_istore_n (lv' := [(3, .int (nI 0)), (2, .int (nI 0)), (0, .ref (ad 0)), (1, .int xp)]) hx hb dX0_count_3 rfl hl (by decide) rfl (fun ls hl => ?_)
    refine lv_iload_n hx hb dX0_count_4 rfl (lv_at hl 0 rfl) ?_
    refine lv_aload_n hx hb dX0_count_5 rfl (lv_at hl 2 rfl) ?_
    refine va_get (D := (dC, dI)) (ci := 0) (v := .int (nI (sz 4))) (C := RX0) (T := TX0) (N := 13) hx hb hts in_X0 hown hK hP 0 rfl rfl 3 (by decide) (hts _ q34) (fun _ h9 => h9) rfl dX0_count_6 ?_
    refine xr_icmp_ge (tgt := 37) hx hb dX0_count_9 (by decide) (by omega) (by omega) (fun c_9 => ?_) (fun c_9 => ?_)
    · skip
      refine lv_iload_n hx hb dX0_count_37 rfl (lv_at hl 1 rfl) ?_
      exact xr_retWi ((spans, parts, states, table, stateAt, fits, sameAs, kn, sc)) hx hb hr hlk (⟨by unfold pt_count; rw [hn], hJ⟩) hP hK hD hS dX0_count_38
    · skip
      refine lv_iload_n hx hb dX0_count_12 rfl (lv_at hl 3 rfl) ?_
      refine xr_cSi (rest := []) ⟨hx, hb, hml, hown, hts⟩ (mt_X0_isPattern l xp) (va_cwS 1 hts gS_X0_49 rfl rfl rfl hd_X0_isPattern ⟨Nat.le_of_ble_eq_true rfl, Nat.le_of_ble_eq_true rfl⟩) rfl hl.1 rfl (Nat.le_of_ble_eq_true rfl) dX0_count_13 ⟨Nat.zero_le _, Nat.zero_le _⟩ (fun r_13 h_13 => ?_)
      refine xr_ifeqB (tgt := 37) hx hb h_13 dX0_count_16 (by decide) (fun c_16 => ?_) (fun c_16 => ?_)
      · skip
        refine lv_iload_n hx hb dX0_count_37 rfl (lv_at hl 1 rfl) ?_
        exact xr_retWi ((spans, parts, states, table, stateAt, fits, sameAs, kn, sc)) hx hb hr hlk (⟨by unfold pt_count; rw [hn], hJ⟩) hP hK hD hS dX0_count_38
      · exact absurd c_16 (pt_ix_none (by decide) hn)
  · skip
    refine lv_iconst (v := nI 0) hx hb dX0_count_0 xc_0 ?_
    refine lv_istore_n (lv' := [(2, .int (nI 0)), (0, .ref (ad 0)), (1, .int (nI j))]) hx hb dX0_count_1 rfl hl (by decide) rfl (fun ls hl => ?_)
    refine lv_iconst (v := nI 0) hx hb dX0_count_2 xc_0 ?_
    refine lv_istore_n (lv' := [(3, .int (nI 0)), (2, .int (nI 0)), (0, .ref (ad 0)), (1, .int (nI j))]) hx hb dX0_count_3 rfl hl (by decide) rfl (fun ls hl => ?_)
    have key4 : ∀ (d_4 : Nat) (spans1 : Nat → Nat) (parts1 : Nat → Nat) (states1 : Nat → Int64) (table1 : Nat → Nat) (stateAt1 : Nat → Nat) (fits1 : Nat → Nat) (sameAs1 : Nat → Nat) (kn1 : Nat) (sc1 : Nat) (k : Nat) (ls : Array Slot) (H : Heap) (locs : List Loc), (k ≤ sz 4) → (XJ (spans1, parts1, states1, table1, stateAt1, fits1, sameAs1, kn1, sc1) sz tk) → (sz 4 - k) < d_4 → va_P (dC, dI) vwCl (XW ad cB cJ sizes tokens spans1 subject parts1 states1 table1 stateAt1 fits1 sameAs1 (sz 4) kn1 sc1) H → va_D A (XW ad cB cJ sizes tokens spans1 subject parts1 states1 table1 stateAt1 fits1 sameAs1 (sz 4) kn1 sc1) → va_S A s.heap H locs → lv_has ls 4 [(0, .ref (ad 0)), (1, .int (nI j)), (2, .int (nI (pt_cn (fun n => pt_ft sz tk j n) k))), (3, .int (nI k))] → W p l e (headSpec (ws_ yX0_count cX0_count 4 (some .int)) ({ frames := 8, cells := 0, slots := 0, locals := 188 } : Room)).room s m ([.ref (ad 0), .int (nI j)] : List Value).toArray below meth c H locs 0 0 (MQ below (va_Qi (fun (r : Int32) (u : XD) => r = pt_count sz tk (nI j) ∧ XJ u sz tk) (xr_Bw (dC, dI) vwCl (tyX cB cJ) A (fun u => XWd ad cB cJ sizes tokens subject (sz 4) u)) A) ([.ref (ad 0), .int (nI j)] : List Value).toArray s 0 0 A) (F0 m 4 ls []) := by
      intro d_4
      induction d_4 with
      | zero => intro spans1 parts1 states1 table1 stateAt1 fits1 sameAs1 kn1 sc1 k ls H locs hk hJ1 hd_4; exact absurd hd_4 (Nat.not_lt_zero _)
      | succ d_4 ih_4 =>
        intro spans1 parts1 states1 table1 stateAt1 fits1 sameAs1 kn1 sc1 k ls H locs hk hJ1 hd_4 hP hD hS hl
        refine lv_iload_n hx hb dX0_count_4 rfl (lv_at hl 3 rfl) ?_
        refine lv_aload_n hx hb dX0_count_5 rfl (lv_at hl 0 rfl) ?_
        refine va_get (D := (dC, dI)) (ci := 0) (v := .int (nI (sz 4))) (C := RX0) (T := TX0) (N := 13) hx hb hts in_X0 hown hK hP 0 rfl rfl 3 (by decide) (hts _ q34) (fun _ h9 => h9) rfl dX0_count_6 ?_
        refine xr_icmp_ge (tgt := 37) hx hb dX0_count_9 (by decide) (by omega) (by omega) (fun c_9 => ?_) (fun c_9 => ?_)
        · skip
          refine lv_iload_n hx hb dX0_count_37 rfl (lv_at hl 2 rfl) ?_
          exact xr_retWi ((spans1, parts1, states1, table1, stateAt1, fits1, sameAs1, kn1, sc1)) hx hb hr hlk (⟨by unfold pt_count; rw [pt_ix_in hj (by decide), show k = sz 4 by omega], hJ1⟩) hP hK hD hS dX0_count_38
        · skip
          refine lv_iload_n hx hb dX0_count_12 rfl (lv_at hl 1 rfl) ?_
          refine xr_cSi (rest := []) ⟨hx, hb, hml, hown, hts⟩ (mt_X0_isPattern l (nI j)) (va_cwS 1 hts gS_X0_49 rfl rfl rfl hd_X0_isPattern ⟨Nat.le_of_ble_eq_true rfl, Nat.le_of_ble_eq_true rfl⟩) rfl hl.1 rfl (Nat.le_of_ble_eq_true rfl) dX0_count_13 ⟨Nat.zero_le _, Nat.zero_le _⟩ (fun r_13 h_13 => ?_)
          refine xr_ifeqB (tgt := 37) hx hb h_13 dX0_count_16 (by decide) (fun c_16 => ?_) (fun c_16 => ?_)
          · exact absurd ⟨j, hj, rfl⟩ c_16
          · skip
            refine lv_iload_n hx hb dX0_count_19 rfl (lv_at hl 2 rfl) ?_
            refine lv_aload_n hx hb dX0_count_20 rfl (lv_at hl 0 rfl) ?_
            refine lv_iload_n hx hb dX0_count_21 rfl (lv_at hl 3 rfl) ?_
            refine xr_cVwi (wr := []) (rest := [.int (nI (pt_cn (fun n => pt_ft sz tk j n) k))]) ⟨hx, hb, hml, hown, hts⟩ (mt_X0_fitsAt l dC dI _ hL hJ1 (nI k)) (cwV 1 hts gV_X0_109 rfl rfl rfl hd_X0_fitsAt ⟨Nat.le_of_ble_eq_true rfl, Nat.le_of_ble_eq_true rfl⟩) hK hP hD hS hA [0, 1, 2, 3, 4, 5, 6, 7, 8, 9, 10] [] rfl rfl rfl (by decide) (by decide) (by decide) 0 0 rfl rfl rfl hl.1 rfl (Nat.le_of_ble_eq_true rfl) dX0_count_22 ⟨Nat.zero_le _, Nat.zero_le _⟩ (fun r_22 u H locs h_22 hP hD hS => ?_)
            obtain ⟨spans2, parts2, states2, table2, stateAt2, fits2, sameAs2, kn2, sc2⟩ := u
            have hP : va_P (dC, dI) vwCl (XW ad cB cJ sizes tokens spans2 subject parts2 states2 table2 stateAt2 fits2 sameAs2 (sz 4) kn2 sc2) H := hP
            have hD : va_D A (XW ad cB cJ sizes tokens spans2 subject parts2 states2 table2 stateAt2 fits2 sameAs2 (sz 4) kn2 sc2) := hD
            obtain ⟨hfr, hJ2, hK2⟩ := h_22
            rw [pt_fitsAt_nI hz (by omega)] at hfr
            subst hfr
            refine lv_iload_n hx hb dX0_count_25 rfl (lv_at hl 1 rfl) ?_
            refine lv_ishr hx hb dX0_count_26 ?_
            refine lv_iconst (v := nI 1) hx hb dX0_count_27 xc_1 ?_
            refine lv_iand hx hb dX0_count_28 ?_
            refine xr_conv (y := (nI (if pt_ft sz tk j k = true then 1 else 0))) (pt_Fbit hj) ?_
            refine xr_iadd hx hb dX0_count_29 ?_
            refine xr_conv (y := (nI (pt_cn (fun n => pt_ft sz tk j n) (k + 1)))) (rfl) ?_
            refine lv_istore_n (lv' := [(2, .int (nI (pt_cn (fun n => pt_ft sz tk j n) (k + 1)))), (0, .ref (ad 0)), (1, .int (nI j)), (3, .int (nI k))]) hx hb dX0_count_30 rfl hl (by decide) rfl (fun ls hl => ?_)
            refine lv_iinc (v := (nI (k + 1))) (lv' := [(3, .int (nI (k + 1))), (2, .int (nI (pt_cn (fun n => pt_ft sz tk j n) (k + 1)))), (0, .ref (ad 0)), (1, .int (nI j))]) hx hb dX0_count_31 hl (k := 3) rfl (xr_inc _) (by decide) rfl (fun ls hl => ?_)
            refine lv_goto (tgt := 4) hx hb dX0_count_34 (by decide) ?_
            exact ih_4 spans2 parts2 states2 table2 stateAt2 fits2 sameAs2 kn2 sc2 (k + 1) ls H locs (by omega) (hJ2) (by omega) hP hD hS (lv_sub hl [2, 3, 1, 0] rfl)
    exact key4 _ spans parts states table stateAt fits sameAs kn sc 0 ls _ _ (Nat.zero_le _) (hJ) (Nat.lt_succ_self _) hP hD hS (lv_sub hl [2, 3, 1, 0] rfl)

set_option maxHeartbeats 4000000 in
set_option maxRecDepth 100000 in
/-- next(p, n) -/
theorem mt_X0_next (l : Launch) (dC : Nat → ClassId) (dI : Nat → Nat → Nat) (hz : Nat) {ad : Nat → Nat} {cB cJ : ClassId} {sizes tokens spans subject parts : Nat → Nat} {states : Nat → Int64} {table stateAt fits sameAs : Nat → Nat} {cnt kn sc : Nat} {sz : Nat → Nat} {tk : Nat → Nat → Nat} (hL : XL sizes tokens subject cnt sz tk) (hJ : XJ (spans, parts, states, table, stateAt, fits, sameAs, kn, sc) sz tk) (xp xn : Int32) : Met l yX0_next (ws_ yX0_next cX0_next 4 (some .int)) ({ frames := 8, cells := 0, slots := 0, locals := 188 } : Room) (va_Pc [.ref (ad 0), .int xp, .int xn] (xr_Pw (dC, dI) vwCl (XW ad cB cJ sizes tokens spans subject parts states table stateAt fits sameAs cnt kn sc) (tyX cB cJ) hz)) (va_Qi (fun (r : Int32) (u : XD) => r = pt_next sz tk xp xn ∧ XJ u sz tk) (xr_Bw (dC, dI) vwCl (tyX cB cJ) (va_A (XW ad cB cJ sizes tokens spans subject parts states table stateAt fits sameAs cnt kn sc) hz) (fun u => XWd ad cB cJ sizes tokens subject cnt u)) (va_A (XW ad cB cJ sizes tokens spans subject parts states table stateAt fits sameAs cnt kn sc) hz)) 0 0 (va_A (XW ad cB cJ sizes tokens spans subject parts states table stateAt fits sameAs cnt kn sc) hz) := by
  refine Met.ofW (cc := cX0_next) (maxL := 4) (ret := (some .int)) (by decide) rfl ?_
  intro p e s m args below meth c s₁ B hml hv
  obtain ⟨rfl, hsz, hP, hK, hD0⟩ := hv
  have hx := B.exec
  have hb := B.bytes
  have hr := B.returns
  have hlk := B.notSynchronized
  have hts := atoms_spec (ws := (ws_ yX0_next cX0_next 4 (some .int))) B.pre
  have hts : ∀ w ∈ lw_all, w.before _ s = true := fun w h => hts w (List.mem_cons_of_mem _ h)
  have hown : s.vm.findClass RX0 = some m.cls := findClass_of_methodNamed B.named
  subst hsz
  have hD := hD0.self (sz := s.heap.size)
  generalize hAe : va_A (XW ad cB cJ sizes tokens spans subject parts states table stateAt fits sameAs cnt kn sc) s.heap.size = A at hD ⊢
  have hA : ∀ q : Nat, s.heap.size ≤ q → A q := fun q h => by rw [← hAe]; exact Or.inr h
  have hS : va_S A s.heap s.heap [] := va_S.rf
  have hl := lv_entry ([.ref (ad 0), .int xp, .int xn]) (n := 4) (Nat.le_of_ble_eq_true rfl)
  rw [lg_entry_eq]
  generalize (lg_sl ([.ref (ad 0), .int xp, .int xn]) ++ List.replicate (4 - (lg_sl ([.ref (ad 0), .int xp, .int xn])).length) Slot.unset).toArray = ls at hl ⊢
  have hl : lv_has ls 4 [(0, .ref (ad 0)), (1, .int xp), (2, .int xn)] := hl
  obtain rfl : cnt = sz 4 := hL.2.2.2.1
  have hz := hL.1.2.1
  have hlo := pt_lo31 xn
  rcases pt_ix_cases 4 (by decide) xp with ⟨hn, -⟩ | ⟨j, hj, rfl, -⟩
  · skip
    refine lv_iload_n hx hb dX0_next_0 rfl (lv_at hl 2 rfl) ?_
    refine lv_if_ge (tgt := 8) hx hb dX0_next_1 (by decide) (fun c_1 => ?_) (fun c_1 => ?_)
    · skip
      refine lv_iload_n hx hb dX0_next_8 rfl (lv_at hl 2 rfl) ?_
      refine xr_conv (y := (nI (xn.toInt.toNat))) (pt_lo1 c_1) ?_
      refine lv_istore_n (lv' := [(3, .int (nI (xn.toInt.toNat))), (0, .ref (ad 0)), (1, .int xp), (2, .int xn)]) hx hb dX0_next_9 rfl hl (by decide) rfl (fun ls hl => ?_)
      refine lv_iload_n hx hb dX0_next_10 rfl (lv_at hl 0 rfl) ?_
      refine lv_aload_n hx hb dX0_next_11 rfl (lv_at hl 1 rfl) ?_
      refine va_get (D := (dC, dI)) (ci := 0) (v := .int (nI (sz 4))) (C := RX0) (T := TX0) (N := 13) hx hb hts in_X0 hown hK hP 0 rfl rfl 3 (by decide) (hts _ q34) (fun _ h9 => h9) rfl dX0_next_12 ?_
      refine xr_icmp_ge (tgt := 45) hx hb dX0_next_15 (by decide) (by omega) (by omega) (fun c_15 => ?_) (fun c_15 => ?_)
      · skip
        refine lv_iconst (v := -1) hx hb dX0_next_45 (by decide) ?_
        exact xr_retWi ((spans, parts, states, table, stateAt, fits, sameAs, kn, sc)) hx hb hr hlk (⟨by unfold pt_next; rw [hn], hJ⟩) hP hK hD hS dX0_next_46
      · skip
        refine lv_iload_n hx hb dX0_next_18 rfl (lv_at hl 2 rfl) ?_
        refine xr_cSi (rest := []) ⟨hx, hb, hml, hown, hts⟩ (mt_X0_isPattern l xp) (va_cwS 1 hts gS_X0_49 rfl rfl rfl hd_X0_isPattern ⟨Nat.le_of_ble_eq_true rfl, Nat.le_of_ble_eq_true rfl⟩) rfl hl.1 rfl (Nat.le_of_ble_eq_true rfl) dX0_next_19 ⟨Nat.zero_le _, Nat.zero_le _⟩ (fun r_19 h_19 => ?_)
        refine xr_ifeqB (tgt := 45) hx hb h_19 dX0_next_22 (by decide) (fun c_22 => ?_) (fun c_22 => ?_)
        · skip
          refine lv_iconst (v := -1) hx hb dX0_next_45 (by decide) ?_
          exact xr_retWi ((spans, parts, states, table, stateAt, fits, sameAs, kn, sc)) hx hb hr hlk (⟨by unfold pt_next; rw [hn], hJ⟩) hP hK hD hS dX0_next_46
        · exact absurd c_22 (pt_ix_none (by decide) hn)
    · skip
      refine lv_iconst (v := nI 0) hx hb dX0_next_4 xc_0 ?_
      refine lv_goto (tgt := 9) hx hb dX0_next_5 (by decide) ?_
      refine xr_conv (y := (nI (xn.toInt.toNat))) (pt_lo0 c_1) ?_
      refine lv_istore_n (lv' := [(3, .int (nI (xn.toInt.toNat))), (0, .ref (ad 0)), (1, .int xp), (2, .int xn)]) hx hb dX0_next_9 rfl hl (by decide) rfl (fun ls hl => ?_)
      refine lv_iload_n hx hb dX0_next_10 rfl (lv_at hl 0 rfl) ?_
      refine lv_aload_n hx hb dX0_next_11 rfl (lv_at hl 1 rfl) ?_
      refine va_get (D := (dC, dI)) (ci := 0) (v := .int (nI (sz 4))) (C := RX0) (T := TX0) (N := 13) hx hb hts in_X0 hown hK hP 0 rfl rfl 3 (by decide) (hts _ q34) (fun _ h9 => h9) rfl dX0_next_12 ?_
      refine xr_icmp_ge (tgt := 45) hx hb dX0_next_15 (by decide) (by omega) (by omega) (fun c_15 => ?_) (fun c_15 => ?_)
      · skip
        refine lv_iconst (v := -1) hx hb dX0_next_45 (by decide) ?_
        exact xr_retWi ((spans, parts, states, table, stateAt, fits, sameAs, kn, sc)) hx hb hr hlk (⟨by unfold pt_next; rw [hn], hJ⟩) hP hK hD hS dX0_next_46
      · skip
        refine lv_iload_n hx hb dX0_next_18 rfl (lv_at hl 2 rfl) ?_
        refine xr_cSi (rest := []) ⟨hx, hb, hml, hown, hts⟩ (mt_X0_isPattern l xp) (va_cwS 1 hts gS_X0_49 rfl rfl rfl hd_X0_isPattern ⟨Nat.le_of_ble_eq_true rfl, Nat.le_of_ble_eq_true rfl⟩) rfl hl.1 rfl (Nat.le_of_ble_eq_true rfl) dX0_next_19 ⟨Nat.zero_le _, Nat.zero_le _⟩ (fun r_19 h_19 => ?_)
        refine xr_ifeqB (tgt := 45) hx hb h_19 dX0_next_22 (by decide) (fun c_22 => ?_) (fun c_22 => ?_)
        · skip
          refine lv_iconst (v := -1) hx hb dX0_next_45 (by decide) ?_
          exact xr_retWi ((spans, parts, states, table, stateAt, fits, sameAs, kn, sc)) hx hb hr hlk (⟨by unfold pt_next; rw [hn], hJ⟩) hP hK hD hS dX0_next_46
        · exact absurd c_22 (pt_ix_none (by decide) hn)
  · skip
    refine lv_iload_n hx hb dX0_next_0 rfl (lv_at hl 2 rfl) ?_
    refine lv_if_ge (tgt := 8) hx hb dX0_next_1 (by decide) (fun c_1 => ?_) (fun c_1 => ?_)
    · skip
      refine lv_iload_n hx hb dX0_next_8 rfl (lv_at hl 2 rfl) ?_
      refine xr_conv (y := (nI (xn.toInt.toNat))) (pt_lo1 c_1) ?_
      refine lv_istore_n (lv' := [(3, .int (nI (xn.toInt.toNat))), (0, .ref (ad 0)), (1, .int (nI j)), (2, .int xn)]) hx hb dX0_next_9 rfl hl (by decide) rfl (fun ls hl => ?_)
      have key10 : ∀ (d_10 : Nat) (spans1 : Nat → Nat) (parts1 : Nat → Nat) (states1 : Nat → Int64) (table1 : Nat → Nat) (stateAt1 : Nat → Nat) (fits1 : Nat → Nat) (sameAs1 : Nat → Nat) (kn1 : Nat) (sc1 : Nat) (k : Nat) (ls : Array Slot) (H : Heap) (locs : List Loc), (k < 2147483648) → (xn.toInt.toNat ≤ k) → (∀ m : Nat, xn.toInt.toNat ≤ m → m < k → pt_ft sz tk j m = false) → (XJ (spans1, parts1, states1, table1, stateAt1, fits1, sameAs1, kn1, sc1) sz tk) → (sz 4 - k) < d_10 → va_P (dC, dI) vwCl (XW ad cB cJ sizes tokens spans1 subject parts1 states1 table1 stateAt1 fits1 sameAs1 (sz 4) kn1 sc1) H → va_D A (XW ad cB cJ sizes tokens spans1 subject parts1 states1 table1 stateAt1 fits1 sameAs1 (sz 4) kn1 sc1) → va_S A s.heap H locs → lv_has ls 4 [(0, .ref (ad 0)), (1, .int (nI j)), (2, .int xn), (3, .int (nI k))] → W p l e (headSpec (ws_ yX0_next cX0_next 4 (some .int)) ({ frames := 8, cells := 0, slots := 0, locals := 188 } : Room)).room s m ([.ref (ad 0), .int (nI j), .int xn] : List Value).toArray below meth c H locs 0 0 (MQ below (va_Qi (fun (r : Int32) (u : XD) => r = pt_next sz tk (nI j) xn ∧ XJ u sz tk) (xr_Bw (dC, dI) vwCl (tyX cB cJ) A (fun u => XWd ad cB cJ sizes tokens subject (sz 4) u)) A) ([.ref (ad 0), .int (nI j), .int xn] : List Value).toArray s 0 0 A) (F0 m 10 ls []) := by
        intro d_10
        induction d_10 with
        | zero => intro spans1 parts1 states1 table1 stateAt1 fits1 sameAs1 kn1 sc1 k ls H locs hk31 hlok hf hJ1 hd_10; exact absurd hd_10 (Nat.not_lt_zero _)
        | succ d_10 ih_10 =>
          intro spans1 parts1 states1 table1 stateAt1 fits1 sameAs1 kn1 sc1 k ls H locs hk31 hlok hf hJ1 hd_10 hP hD hS hl
          refine lv_iload_n hx hb dX0_next_10 rfl (lv_at hl 3 rfl) ?_
          refine lv_aload_n hx hb dX0_next_11 rfl (lv_at hl 0 rfl) ?_
          refine va_get (D := (dC, dI)) (ci := 0) (v := .int (nI (sz 4))) (C := RX0) (T := TX0) (N := 13) hx hb hts in_X0 hown hK hP 0 rfl rfl 3 (by decide) (hts _ q34) (fun _ h9 => h9) rfl dX0_next_12 ?_
          refine xr_icmp_ge (tgt := 45) hx hb dX0_next_15 (by decide) (by omega) (by omega) (fun c_15 => ?_) (fun c_15 => ?_)
          · skip
            refine lv_iconst (v := -1) hx hb dX0_next_45 (by decide) ?_
            exact xr_retWi ((spans1, parts1, states1, table1, stateAt1, fits1, sameAs1, kn1, sc1)) hx hb hr hlk (⟨by unfold pt_next; rw [pt_ix_in hj (by decide)]; exact (pt_first_none (b := (fun m => pt_ft sz tk j m)) _ _ (fun m h1 h2 => hf m h1 (by omega))).symm, hJ1⟩) hP hK hD hS dX0_next_46
          · skip
            refine lv_iload_n hx hb dX0_next_18 rfl (lv_at hl 1 rfl) ?_
            refine xr_cSi (rest := []) ⟨hx, hb, hml, hown, hts⟩ (mt_X0_isPattern l (nI j)) (va_cwS 1 hts gS_X0_49 rfl rfl rfl hd_X0_isPattern ⟨Nat.le_of_ble_eq_true rfl, Nat.le_of_ble_eq_true rfl⟩) rfl hl.1 rfl (Nat.le_of_ble_eq_true rfl) dX0_next_19 ⟨Nat.zero_le _, Nat.zero_le _⟩ (fun r_19 h_19 => ?_)
            refine xr_ifeqB (tgt := 45) hx hb h_19 dX0_next_22 (by decide) (fun c_22 => ?_) (fun c_22 => ?_)
            · exact absurd ⟨j, hj, rfl⟩ c_22
            · skip
              refine lv_aload_n hx hb dX0_next_25 rfl (lv_at hl 0 rfl) ?_
              refine lv_iload_n hx hb dX0_next_26 rfl (lv_at hl 3 rfl) ?_
              refine xr_cVwi (wr := []) (rest := []) ⟨hx, hb, hml, hown, hts⟩ (mt_X0_fitsAt l dC dI _ hL hJ1 (nI k)) (cwV 1 hts gV_X0_109 rfl rfl rfl hd_X0_fitsAt ⟨Nat.le_of_ble_eq_true rfl, Nat.le_of_ble_eq_true rfl⟩) hK hP hD hS hA [0, 1, 2, 3, 4, 5, 6, 7, 8, 9, 10] [] rfl rfl rfl (by decide) (by decide) (by decide) 0 0 rfl rfl rfl hl.1 rfl (Nat.le_of_ble_eq_true rfl) dX0_next_27 ⟨Nat.zero_le _, Nat.zero_le _⟩ (fun r_27 u H locs h_27 hP hD hS => ?_)
              obtain ⟨spans2, parts2, states2, table2, stateAt2, fits2, sameAs2, kn2, sc2⟩ := u
              have hP : va_P (dC, dI) vwCl (XW ad cB cJ sizes tokens spans2 subject parts2 states2 table2 stateAt2 fits2 sameAs2 (sz 4) kn2 sc2) H := hP
              have hD : va_D A (XW ad cB cJ sizes tokens spans2 subject parts2 states2 table2 stateAt2 fits2 sameAs2 (sz 4) kn2 sc2) := hD
              obtain ⟨hfr, hJ2, hK2⟩ := h_27
              rw [pt_fitsAt_nI hz (by omega)] at hfr
              subst hfr
              refine lv_iload_n hx hb dX0_next_30 rfl (lv_at hl 1 rfl) ?_
              refine lv_ishr hx hb dX0_next_31 ?_
              refine lv_iconst (v := nI 1) hx hb dX0_next_32 xc_1 ?_
              refine lv_iand hx hb dX0_next_33 ?_
              have hB34 := xr_Bif (pt_ft sz tk j k)
              refine xr_conv (y := (nI (if pt_ft sz tk j k = true then 1 else 0))) (pt_Fbit hj) ?_
              refine xr_ifeqB (tgt := 39) hx hb hB34 dX0_next_34 (by decide) (fun c_34 => ?_) (fun c_34 => ?_)
              · have hf1 : ∀ m : Nat, xn.toInt.toNat ≤ m → m < k + 1 → pt_ft sz tk j m = false := fun m h1 h2 => by by_cases e : m = k; (rw [e]; exact Bool.eq_false_iff.mpr c_34); exact hf m h1 (by omega)
                refine lv_iinc (v := (nI (k + 1))) (lv' := [(3, .int (nI (k + 1))), (0, .ref (ad 0)), (1, .int (nI j)), (2, .int xn)]) hx hb dX0_next_39 hl (k := 3) rfl (xr_inc _) (by decide) rfl (fun ls hl => ?_)
                refine lv_goto (tgt := 10) hx hb dX0_next_42 (by decide) ?_
                exact ih_10 spans2 parts2 states2 table2 stateAt2 fits2 sameAs2 kn2 sc2 (k + 1) ls H locs (by omega) (by omega) (hf1) (hJ2) (by omega) hP hD hS (lv_sub hl [1, 2, 3, 0] rfl)
              · skip
                refine lv_iload_n hx hb dX0_next_37 rfl (lv_at hl 3 rfl) ?_
                exact xr_retWi ((spans2, parts2, states2, table2, stateAt2, fits2, sameAs2, kn2, sc2)) hx hb hr hlk (⟨by unfold pt_next; rw [pt_ix_in hj (by decide)]; exact (pt_first_is (b := (fun m => pt_ft sz tk j m)) c_34 _ _ hlok (by omega) hf).symm, hJ2⟩) hP hK hD hS dX0_next_38
      exact key10 _ spans parts states table stateAt fits sameAs kn sc xn.toInt.toNat ls _ _ (hlo) (Nat.le_refl _) (fun m h1 h2 => absurd h2 (by omega)) (hJ) (Nat.lt_succ_self _) hP hD hS (lv_sub hl [1, 2, 3, 0] rfl)
    · skip
      refine lv_iconst (v := nI 0) hx hb dX0_next_4 xc_0 ?_
      refine lv_goto (tgt := 9) hx hb dX0_next_5 (by decide) ?_
      refine xr_conv (y := (nI (xn.toInt.toNat))) (pt_lo0 c_1) ?_
      refine lv_istore_n (lv' := [(3, .int (nI (xn.toInt.toNat))), (0, .ref (ad 0)), (1, .int (nI j)), (2, .int xn)]) hx hb dX0_next_9 rfl hl (by decide) rfl (fun ls hl => ?_)
      have key10 : ∀ (d_10 : Nat) (spans1 : Nat → Nat) (parts1 : Nat → Nat) (states1 : Nat → Int64) (table1 : Nat → Nat) (stateAt1 : Nat → Nat) (fits1 : Nat → Nat) (sameAs1 : Nat → Nat) (kn1 : Nat) (sc1 : Nat) (k : Nat) (ls : Array Slot) (H : Heap) (locs : List Loc), (k < 2147483648) → (xn.toInt.toNat ≤ k) → (∀ m : Nat, xn.toInt.toNat ≤ m → m < k → pt_ft sz tk j m = false) → (XJ (spans1, parts1, states1, table1, stateAt1, fits1, sameAs1, kn1, sc1) sz tk) → (sz 4 - k) < d_10 → va_P (dC, dI) vwCl (XW ad cB cJ sizes tokens spans1 subject parts1 states1 table1 stateAt1 fits1 sameAs1 (sz 4) kn1 sc1) H → va_D A (XW ad cB cJ sizes tokens spans1 subject parts1 states1 table1 stateAt1 fits1 sameAs1 (sz 4) kn1 sc1) → va_S A s.heap H locs → lv_has ls 4 [(0, .ref (ad 0)), (1, .int (nI j)), (2, .int xn), (3, .int (nI k))] → W p l e (headSpec (ws_ yX0_next cX0_next 4 (some .int)) ({ frames := 8, cells := 0, slots := 0, locals := 188 } : Room)).room s m ([.ref (ad 0), .int (nI j), .int xn] : List Value).toArray below meth c H locs 0 0 (MQ below (va_Qi (fun (r : Int32) (u : XD) => r = pt_next sz tk (nI j) xn ∧ XJ u sz tk) (xr_Bw (dC, dI) vwCl (tyX cB cJ) A (fun u => XWd ad cB cJ sizes tokens subject (sz 4) u)) A) ([.ref (ad 0), .int (nI j), .int xn] : List Value).toArray s 0 0 A) (F0 m 10 ls []) := by
        intro d_10
        induction d_10 with
        | zero => intro spans1 parts1 states1 table1 stateAt1 fits1 sameAs1 kn1 sc1 k ls H locs hk31 hlok hf hJ1 hd_10; exact absurd hd_10 (Nat.not_lt_zero _)
        | succ d_10 ih_10 =>
          intro spans1 parts1 states1 table1 stateAt1 fits1 sameAs1 kn1 sc1 k ls H locs hk31 hlok hf hJ1 hd_10 hP hD hS hl
          refine lv_iload_n hx hb dX0_next_10 rfl (lv_at hl 3 rfl) ?_
          refine lv_aload_n hx hb dX0_next_11 rfl (lv_at hl 0 rfl) ?_
          refine va_get (D := (dC, dI)) (ci := 0) (v := .int (nI (sz 4))) (C := RX0) (T := TX0) (N := 13) hx hb hts in_X0 hown hK hP 0 rfl rfl 3 (by decide) (hts _ q34) (fun _ h9 => h9) rfl dX0_next_12 ?_
          refine xr_icmp_ge (tgt := 45) hx hb dX0_next_15 (by decide) (by omega) (by omega) (fun c_15 => ?_) (fun c_15 => ?_)
          · skip
            refine lv_iconst (v := -1) hx hb dX0_next_45 (by decide) ?_
            exact xr_retWi ((spans1, parts1, states1, table1, stateAt1, fits1, sameAs1, kn1, sc1)) hx hb hr hlk (⟨by unfold pt_next; rw [pt_ix_in hj (by decide)]; exact (pt_first_none (b := (fun m => pt_ft sz tk j m)) _ _ (fun m h1 h2 => hf m h1 (by omega))).symm, hJ1⟩) hP hK hD hS dX0_next_46
          · skip
            refine lv_iload_n hx hb dX0_next_18 rfl (lv_at hl 1 rfl) ?_
            refine xr_cSi (rest := []) ⟨hx, hb, hml, hown, hts⟩ (mt_X0_isPattern l (nI j)) (va_cwS 1 hts gS_X0_49 rfl rfl rfl hd_X0_isPattern ⟨Nat.le_of_ble_eq_true rfl, Nat.le_of_ble_eq_true rfl⟩) rfl hl.1 rfl (Nat.le_of_ble_eq_true rfl) dX0_next_19 ⟨Nat.zero_le _, Nat.zero_le _⟩ (fun r_19 h_19 => ?_)
            refine xr_ifeqB (tgt := 45) hx hb h_19 dX0_next_22 (by decide) (fun c_22 => ?_) (fun c_22 => ?_)
            · exact absurd ⟨j, hj, rfl⟩ c_22
            · skip
              refine lv_aload_n hx hb dX0_next_25 rfl (lv_at hl 0 rfl) ?_
              refine lv_iload_n hx hb dX0_next_26 rfl (lv_at hl 3 rfl) ?_
              refine xr_cVwi (wr := []) (rest := []) ⟨hx, hb, hml, hown, hts⟩ (mt_X0_fitsAt l dC dI _ hL hJ1 (nI k)) (cwV 1 hts gV_X0_109 rfl rfl rfl hd_X0_fitsAt ⟨Nat.le_of_ble_eq_true rfl, Nat.le_of_ble_eq_true rfl⟩) hK hP hD hS hA [0, 1, 2, 3, 4, 5, 6, 7, 8, 9, 10] [] rfl rfl rfl (by decide) (by decide) (by decide) 0 0 rfl rfl rfl hl.1 rfl (Nat.le_of_ble_eq_true rfl) dX0_next_27 ⟨Nat.zero_le _, Nat.zero_le _⟩ (fun r_27 u H locs h_27 hP hD hS => ?_)
              obtain ⟨spans2, parts2, states2, table2, stateAt2, fits2, sameAs2, kn2, sc2⟩ := u
              have hP : va_P (dC, dI) vwCl (XW ad cB cJ sizes tokens spans2 subject parts2 states2 table2 stateAt2 fits2 sameAs2 (sz 4) kn2 sc2) H := hP
              have hD : va_D A (XW ad cB cJ sizes tokens spans2 subject parts2 states2 table2 stateAt2 fits2 sameAs2 (sz 4) kn2 sc2) := hD
              obtain ⟨hfr, hJ2, hK2⟩ := h_27
              rw [pt_fitsAt_nI hz (by omega)] at hfr
              subst hfr
              refine lv_iload_n hx hb dX0_next_30 rfl (lv_at hl 1 rfl) ?_
              refine lv_ishr hx hb dX0_next_31 ?_
              refine lv_iconst (v := nI 1) hx hb dX0_next_32 xc_1 ?_
              refine lv_iand hx hb dX0_next_33 ?_
              have hB34 := xr_Bif (pt_ft sz tk j k)
              refine xr_conv (y := (nI (if pt_ft sz tk j k = true then 1 else 0))) (pt_Fbit hj) ?_
              refine xr_ifeqB (tgt := 39) hx hb hB34 dX0_next_34 (by decide) (fun c_34 => ?_) (fun c_34 => ?_)
              · have hf1 : ∀ m : Nat, xn.toInt.toNat ≤ m → m < k + 1 → pt_ft sz tk j m = false := fun m h1 h2 => by by_cases e : m = k; (rw [e]; exact Bool.eq_false_iff.mpr c_34); exact hf m h1 (by omega)
                refine lv_iinc (v := (nI (k + 1))) (lv' := [(3, .int (nI (k + 1))), (0, .ref (ad 0)), (1, .int (nI j)), (2, .int xn)]) hx hb dX0_next_39 hl (k := 3) rfl (xr_inc _) (by decide) rfl (fun ls hl => ?_)
                refine lv_goto (tgt := 10) hx hb dX0_next_42 (by decide) ?_
                exact ih_10 spans2 parts2 states2 table2 stateAt2 fits2 sameAs2 kn2 sc2 (k + 1) ls H locs (by omega) (by omega) (hf1) (hJ2) (by omega) hP hD hS (lv_sub hl [1, 2, 3, 0] rfl)
              · skip
                refine lv_iload_n hx hb dX0_next_37 rfl (lv_at hl 3 rfl) ?_
                exact xr_retWi ((spans2, parts2, states2, table2, stateAt2, fits2, sameAs2, kn2, sc2)) hx hb hr hlk (⟨by unfold pt_next; rw [pt_ix_in hj (by decide)]; exact (pt_first_is (b := (fun m => pt_ft sz tk j m)) c_34 _ _ hlok (by omega) hf).symm, hJ2⟩) hP hK hD hS dX0_next_38
      exact key10 _ spans parts states table stateAt fits sameAs kn sc xn.toInt.toNat ls _ _ (hlo) (Nat.le_refl _) (fun m h1 h2 => absurd h2 (by omega)) (hJ) (Nat.lt_succ_self _) hP hD hS (lv_sub hl [1, 2, 3, 0] rfl)

set_option maxHeartbeats 4000000 in
set_option maxRecDepth 100000 in
/-- gapAt(p, n, k) -/
theorem mt_X0_gapAt (l : Launch) (dC : Nat → ClassId) (dI : Nat → Nat → Nat) (hz : Nat) {ad : Nat → Nat} {cB cJ : ClassId} {sizes tokens spans subject parts : Nat → Nat} {states : Nat → Int64} {table stateAt fits sameAs : Nat → Nat} {cnt kn sc : Nat} {sz : Nat → Nat} {tk : Nat → Nat → Nat} (hL : XL sizes tokens subject cnt sz tk) (hJ : XJ (spans, parts, states, table, stateAt, fits, sameAs, kn, sc) sz tk) (xp xn xk : Int32) : Met l yX0_gapAt (ws_ yX0_gapAt cX0_gapAt 7 (some .int)) ({ frames := 8, cells := 0, slots := 0, locals := 188 } : Room) (va_Pc [.ref (ad 0), .int xp, .int xn, .int xk] (xr_Pw (dC, dI) vwCl (XW ad cB cJ sizes tokens spans subject parts states table stateAt fits sameAs cnt kn sc) (tyX cB cJ) hz)) (va_Qi (fun (r : Int32) (u : XD) => r = pt_gapAt sz tk xp xn xk ∧ XJ u sz tk) (xr_Bw (dC, dI) vwCl (tyX cB cJ) (va_A (XW ad cB cJ sizes tokens spans subject parts states table stateAt fits sameAs cnt kn sc) hz) (fun u => XWd ad cB cJ sizes tokens subject cnt u)) (va_A (XW ad cB cJ sizes tokens spans subject parts states table stateAt fits sameAs cnt kn sc) hz)) 0 0 (va_A (XW ad cB cJ sizes tokens spans subject parts states table stateAt fits sameAs cnt kn sc) hz) := by
  refine Met.ofW (cc := cX0_gapAt) (maxL := 7) (ret := (some .int)) (by decide) rfl ?_
  intro p e s m args below meth c s₁ B hml hv
  obtain ⟨rfl, hsz, hP, hK, hD0⟩ := hv
  have hx := B.exec
  have hb := B.bytes
  have hr := B.returns
  have hlk := B.notSynchronized
  have hts := atoms_spec (ws := (ws_ yX0_gapAt cX0_gapAt 7 (some .int))) B.pre
  have hts : ∀ w ∈ lw_all, w.before _ s = true := fun w h => hts w (List.mem_cons_of_mem _ h)
  have hown : s.vm.findClass RX0 = some m.cls := findClass_of_methodNamed B.named
  subst hsz
  have hD := hD0.self (sz := s.heap.size)
  generalize hAe : va_A (XW ad cB cJ sizes tokens spans subject parts states table stateAt fits sameAs cnt kn sc) s.heap.size = A at hD ⊢
  have hA : ∀ q : Nat, s.heap.size ≤ q → A q := fun q h => by rw [← hAe]; exact Or.inr h
  have hS : va_S A s.heap s.heap [] := va_S.rf
  have hl := lv_entry ([.ref (ad 0), .int xp, .int xn, .int xk]) (n := 7) (Nat.le_of_ble_eq_true rfl)
  rw [lg_entry_eq]
  generalize (lg_sl ([.ref (ad 0), .int xp, .int xn, .int xk]) ++ List.replicate (7 - (lg_sl ([.ref (ad 0), .int xp, .int xn, .int xk])).length) Slot.unset).toArray = ls at hl ⊢
  have hl : lv_has ls 7 [(0, .ref (ad 0)), (1, .int xp), (2, .int xn), (3, .int xk)] := hl
  obtain rfl : cnt = sz 4 := hL.2.2.2.1
  have hz := hL.1.2.1
  refine lv_iload_n hx hb dX0_gapAt_0 rfl (lv_at hl 1 rfl) ?_
  refine xr_cSi (rest := []) ⟨hx, hb, hml, hown, hts⟩ (mt_X0_isPattern l xp) (va_cwS 1 hts gS_X0_49 rfl rfl rfl hd_X0_isPattern ⟨Nat.le_of_ble_eq_true rfl, Nat.le_of_ble_eq_true rfl⟩) rfl hl.1 rfl (Nat.le_of_ble_eq_true rfl) dX0_gapAt_1 ⟨Nat.zero_le _, Nat.zero_le _⟩ (fun r_1 h_1 => ?_)
  refine xr_ifeqB (tgt := 19) hx hb h_1 dX0_gapAt_4 (by decide) (fun c_4 => ?_) (fun c_4 => ?_)
  · skip
    refine lv_iconst (v := -1) hx hb dX0_gapAt_19 (by decide) ?_
    exact xr_retWi ((spans, parts, states, table, stateAt, fits, sameAs, kn, sc)) hx hb hr hlk (⟨by unfold pt_gapAt; rw [pt_ix_no (by decide) c_4], hJ⟩) hP hK hD hS dX0_gapAt_20
  · obtain ⟨j, hj, rfl⟩ := c_4
    refine lv_aload_n hx hb dX0_gapAt_7 rfl (lv_at hl 0 rfl) ?_
    refine lv_iload_n hx hb dX0_gapAt_8 rfl (lv_at hl 2 rfl) ?_
    refine xr_cVwi (wr := []) (rest := []) ⟨hx, hb, hml, hown, hts⟩ (mt_X0_fitsAt l dC dI _ hL hJ xn) (cwV 1 hts gV_X0_109 rfl rfl rfl hd_X0_fitsAt ⟨Nat.le_of_ble_eq_true rfl, Nat.le_of_ble_eq_true rfl⟩) hK hP hD hS hA [0, 1, 2, 3, 4, 5, 6, 7, 8, 9, 10] [] rfl rfl rfl (by decide) (by decide) (by decide) 0 0 rfl rfl rfl hl.1 rfl (Nat.le_of_ble_eq_true rfl) dX0_gapAt_9 ⟨Nat.zero_le _, Nat.zero_le _⟩ (fun r_9 u H locs h_9 hP hD hS => ?_)
    obtain ⟨spans1, parts1, states1, table1, stateAt1, fits1, sameAs1, kn1, sc1⟩ := u
    have hP : va_P (dC, dI) vwCl (XW ad cB cJ sizes tokens spans1 subject parts1 states1 table1 stateAt1 fits1 sameAs1 (sz 4) kn1 sc1) H := hP
    have hD : va_D A (XW ad cB cJ sizes tokens spans1 subject parts1 states1 table1 stateAt1 fits1 sameAs1 (sz 4) kn1 sc1) := hD
    obtain ⟨hfr, hJ1, hK1⟩ := h_9
    subst hfr
    refine lv_iload_n hx hb dX0_gapAt_12 rfl (lv_at hl 1 rfl) ?_
    refine lv_ishr hx hb dX0_gapAt_13 ?_
    refine lv_iconst (v := nI 1) hx hb dX0_gapAt_14 xc_1 ?_
    refine lv_iand hx hb dX0_gapAt_15 ?_
    have hB16 := xr_Bif (pt_fb sz tk xn j)
    refine xr_conv (y := (nI (if pt_fb sz tk xn j = true then 1 else 0))) (pt_fAbit hj) ?_
    refine xr_ifneB (tgt := 21) hx hb hB16 dX0_gapAt_16 (by decide) (fun c_16 => ?_) (fun c_16 => ?_)
    · obtain ⟨i, hi, rfl, hft⟩ := (pt_fb_iff hz).mp c_16
      have hz9 := hL.1.1 j hj
      obtain ⟨hft1, hft2, hft3, hft4⟩ := pt_ft_iff.mp hft
      have hKK := hJ1.2 (hK1 ⟨hft2, i, hi, rfl⟩)
      refine lv_iload_n hx hb dX0_gapAt_21 rfl (lv_at hl 2 rfl) ?_
      refine lv_istore (lv' := [(4, .int (nI i)), (0, .ref (ad 0)), (1, .int (nI j)), (2, .int (nI i)), (3, .int xk)]) hx hb dX0_gapAt_22 hl (by decide) rfl (fun ls hl => ?_)
      refine lv_iconst (v := nI 0) hx hb dX0_gapAt_24 xc_0 ?_
      refine lv_istore (lv' := [(5, .int (nI 0)), (4, .int (nI i)), (0, .ref (ad 0)), (1, .int (nI j)), (2, .int (nI i)), (3, .int xk)]) hx hb dX0_gapAt_25 hl (by decide) rfl (fun ls hl => ?_)
      refine lv_iconst (v := nI 0) hx hb dX0_gapAt_27 xc_0 ?_
      refine lv_istore (lv' := [(6, .int (nI 0)), (5, .int (nI 0)), (4, .int (nI i)), (0, .ref (ad 0)), (1, .int (nI j)), (2, .int (nI i)), (3, .int xk)]) hx hb dX0_gapAt_28 hl (by decide) rfl (fun ls hl => ?_)
      have hgp : pt_gapAt sz tk (nI j) (nI i) xk = pt_gp (tk j) (tk 4) (sz 4) i xk  (sz j) 0 := by unfold pt_gapAt; rw [pt_ix_in hj (by decide), pt_ix_in hi (by omega)]; show (if _ then _ else _) = _; rw [if_pos hft]
      have key30 : ∀ (d_30 : Nat) (x : Nat) (y : Nat) (ls : Array Slot) (H : Heap) (locs : List Loc), (x ≤ sz j) → (pt_lay (tk j) (tk 4) (sz 4) x 0 i = some y) → ((pt_lay (tk j) (tk 4) (sz 4) (sz j - x) x y).isSome = true) → (pt_gp (tk j) (tk 4) (sz 4) i xk (sz j) 0 = pt_gp (tk j) (tk 4) (sz 4) i xk (sz j - x) x) → (sz j - x) < d_30 → va_P (dC, dI) vwCl (XW ad cB cJ sizes tokens spans1 subject parts1 states1 table1 stateAt1 fits1 sameAs1 (sz 4) kn1 sc1) H → va_D A (XW ad cB cJ sizes tokens spans1 subject parts1 states1 table1 stateAt1 fits1 sameAs1 (sz 4) kn1 sc1) → va_S A s.heap H locs → lv_has ls 7 [(0, .ref (ad 0)), (1, .int (nI j)), (3, .int xk), (4, .int (nI y)), (5, .int (nI (pt_gaps (tk j) x))), (6, .int (nI x))] → W p l e (headSpec (ws_ yX0_gapAt cX0_gapAt 7 (some .int)) ({ frames := 8, cells := 0, slots := 0, locals := 188 } : Room)).room s m ([.ref (ad 0), .int (nI j), .int (nI i), .int xk] : List Value).toArray below meth c H locs 0 0 (MQ below (va_Qi (fun (r : Int32) (u : XD) => r = pt_gapAt sz tk (nI j) (nI i) xk ∧ XJ u sz tk) (xr_Bw (dC, dI) vwCl (tyX cB cJ) A (fun u => XWd ad cB cJ sizes tokens subject (sz 4) u)) A) ([.ref (ad 0), .int (nI j), .int (nI i), .int xk] : List Value).toArray s 0 0 A) (F0 m 30 ls []) := by
        intro d_30
        induction d_30 with
        | zero => intro x y ls H locs hx9 hlay hrest hs hd_30; exact absurd hd_30 (Nat.not_lt_zero _)
        | succ d_30 ih_30 =>
          intro x y ls H locs hx9 hlay hrest hs hd_30 hP hD hS hl
          refine lv_iload hx hb dX0_gapAt_30 (lv_at hl 5 rfl) ?_
          refine lv_aload_n hx hb dX0_gapAt_32 rfl (lv_at hl 0 rfl) ?_
          refine va_get (D := (dC, dI)) (ci := 0) (v := .ref (ad 1)) (C := RX0) (T := TX0) (N := 13) hx hb hts in_X0 hown hK hP 0 rfl rfl 0 (by decide) (hts _ q31) (fun _ h9 => h9) rfl dX0_gapAt_33 ?_
          refine lv_iload_n hx hb dX0_gapAt_36 rfl (lv_at hl 1 rfl) ?_
          refine xr_bald hx hb hK hP 1 0 rfl rfl (k := j) (hj) (by decide) dX0_gapAt_37 ?_
          refine xr_conv (y := (nI (sz j))) (by rw [hL.2.1 j hj]) ?_
          refine xr_icmp_ge (tgt := 94) hx hb dX0_gapAt_38 (by decide) (by omega) (by omega) (fun c_38 => ?_) (fun c_38 => ?_)
          · have e38 : sz j - x = 0 := by omega
            refine lv_iconst (v := -1) hx hb dX0_gapAt_94 (by decide) ?_
            exact xr_retWi ((spans1, parts1, states1, table1, stateAt1, fits1, sameAs1, kn1, sc1)) hx hb hr hlk (⟨by rw [hgp, hs, e38]; rfl, hJ1⟩) hP hK hD hS dX0_gapAt_95
          · have h7 := pt_wf_7 hL.1 (l := j) (by omega) c_38
            have ex : sz j - x = (sz j - (x + 1)) + 1 := by omega
            have hg := pt_gaps_le (tk j) x
            have hy4 := pt_lay_lt hL.1 hft2 hj hi c_38 hlay
            rw [ex] at hrest
            refine lv_aload_n hx hb dX0_gapAt_41 rfl (lv_at hl 0 rfl) ?_
            refine va_get (D := (dC, dI)) (ci := 0) (v := .ref (ad 2)) (C := RX0) (T := TX0) (N := 13) hx hb hts in_X0 hown hK hP 0 rfl rfl 1 (by decide) (hts _ q32) (fun _ h9 => h9) rfl dX0_gapAt_42 ?_
            refine lv_iload_n hx hb dX0_gapAt_45 rfl (lv_at hl 1 rfl) ?_
            refine lv_bipush (v := nI 9) hx hb dX0_gapAt_46 xb_9 ?_
            refine xr_imul hx hb dX0_gapAt_48 ?_
            refine lv_iload hx hb dX0_gapAt_49 (lv_at hl 5 rfl) ?_
            refine xr_iadd hx hb dX0_gapAt_51 ?_
            refine xr_bald hx hb hK hP 2 0 rfl rfl (k := (j * 9) + x) (by omega) (by decide) dX0_gapAt_52 ?_
            refine xr_conv (y := (nI (tk j x))) (by rw [hL.2.2.1 j hj x c_38]) ?_
            refine lv_bipush (v := nI 7) hx hb dX0_gapAt_53 xb_7 ?_
            refine xr_icmp_ne (tgt := 85) hx hb dX0_gapAt_55 (by decide) (by omega) (by omega) (fun c_55 => ?_) (fun c_55 => ?_)
            · skip
              refine lv_iinc (v := (nI (y + 1))) (lv' := [(4, .int (nI (y + 1))), (0, .ref (ad 0)), (1, .int (nI j)), (3, .int xk), (5, .int (nI (pt_gaps (tk j) x))), (6, .int (nI x))]) hx hb dX0_gapAt_85 hl (k := 3) rfl (xr_inc _) (by decide) rfl (fun ls hl => ?_)
              refine lv_iinc (v := (nI (x + 1))) (lv' := [(6, .int (nI (x + 1))), (4, .int (nI (y + 1))), (0, .ref (ad 0)), (1, .int (nI j)), (3, .int xk), (5, .int (nI (pt_gaps (tk j) x)))]) hx hb dX0_gapAt_88 hl (k := 5) rfl (xr_inc _) (by decide) rfl (fun ls hl => ?_)
              refine lv_goto (tgt := 30) hx hb dX0_gapAt_91 (by decide) ?_
              have hq := pt_lay_step_t c_55 hrest
              rw [show pt_gaps (tk j) x = pt_gaps (tk j) (x + 1) by rw [pt_gaps_s, if_neg c_55]; rfl] at hl
              exact ih_30 (x + 1) (y + 1) ls H locs (by omega) (pt_lay_snoc_t hlay c_55 hq.1 hq.2.1) (hq.2.2) (by rw [hs, ex, pt_gp_s _ _ _ _ _ _ _ (fun q => c_55 q.1)]) (by omega) hP hD hS (lv_sub hl [2, 3, 4, 1, 5, 0] rfl)
            · skip
              refine lv_iload hx hb dX0_gapAt_58 (lv_at hl 4 rfl) ?_
              refine lv_iload_n hx hb dX0_gapAt_60 rfl (lv_at hl 2 rfl) ?_
              refine lv_icmp_ne (tgt := 67) hx hb dX0_gapAt_61 (by decide) (fun c_61 => ?_) (fun c_61 => ?_)
              · skip
                refine lv_iinc (v := (nI (pt_gaps (tk j) x + 1))) (lv' := [(5, .int (nI (pt_gaps (tk j) x + 1))), (0, .ref (ad 0)), (1, .int (nI j)), (3, .int xk), (4, .int (nI y)), (6, .int (nI x))]) hx hb dX0_gapAt_67 hl (k := 4) rfl (xr_inc _) (by decide) rfl (fun ls hl => ?_)
                refine lv_iload hx hb dX0_gapAt_70 (lv_at hl 4 rfl) ?_
                refine lv_aload_n hx hb dX0_gapAt_72 rfl (lv_at hl 1 rfl) ?_
                refine va_get (D := (dC, dI)) (ci := 0) (v := .ref (ad 5)) (C := RX0) (T := TX0) (N := 13) hx hb hts in_X0 hown hK hP 0 rfl rfl 5 (by decide) (hts _ q36) (fun _ h9 => h9) rfl dX0_gapAt_73 ?_
                refine lv_iload hx hb dX0_gapAt_76 (lv_at hl 4 rfl) ?_
                refine xr_bald hx hb hK hP 5 0 rfl rfl (k := y) (by omega) (by decide) dX0_gapAt_78 ?_
                refine xr_conv (y := (nI (pt_skip (tk 4) (sz 4) y 1 - y))) (by rw [hKK.2.1 y hy4]) ?_
                refine xr_iadd hx hb dX0_gapAt_79 ?_
                refine xr_conv (y := (nI (pt_skip (tk 4) (sz 4) y 1))) (congrArg nI (by have := (pt_skip_in (tk 4) (n := sz 4) (i := y) 1 (by omega)).1; omega)) ?_
                refine lv_istore (lv' := [(4, .int (nI (pt_skip (tk 4) (sz 4) y 1))), (5, .int (nI (pt_gaps (tk j) x + 1))), (0, .ref (ad 0)), (1, .int (nI j)), (3, .int xk), (6, .int (nI x))]) hx hb dX0_gapAt_80 hl (by decide) rfl (fun ls hl => ?_)
                refine lv_goto (tgt := 88) hx hb dX0_gapAt_82 (by decide) ?_
                refine lv_iinc (v := (nI (x + 1))) (lv' := [(6, .int (nI (x + 1))), (4, .int (nI (pt_skip (tk 4) (sz 4) y 1))), (5, .int (nI (pt_gaps (tk j) x + 1))), (0, .ref (ad 0)), (1, .int (nI j)), (3, .int xk)]) hx hb dX0_gapAt_88 hl (k := 5) rfl (xr_inc _) (by decide) rfl (fun ls hl => ?_)
                refine lv_goto (tgt := 30) hx hb dX0_gapAt_91 (by decide) ?_
                rw [show pt_gaps (tk j) x + 1 = pt_gaps (tk j) (x + 1) by rw [pt_gaps_s, if_pos c_55]] at hl
                exact ih_30 (x + 1) (pt_skip (tk 4) (sz 4) y 1) ls H locs (by omega) (pt_lay_snoc_g hlay c_55) (pt_lay_step_g c_55 hrest) (by rw [hs, ex, pt_gp_s _ _ _ _ _ _ _ (fun q => c_61 q.2)]) (by omega) hP hD hS (lv_sub hl [3, 4, 5, 1, 2, 0] rfl)
              · skip
                refine lv_iload hx hb dX0_gapAt_64 (lv_at hl 3 rfl) ?_
                exact xr_retWi ((spans1, parts1, states1, table1, stateAt1, fits1, sameAs1, kn1, sc1)) hx hb hr hlk (⟨by rw [hgp, hs, ex, pt_gp_is c_55 c_61 hlay], hJ1⟩) hP hK hD hS dX0_gapAt_66
      exact key30 _ 0 i ls _ _ (Nat.zero_le _) (rfl) (hft4) (rfl) (Nat.lt_succ_self _) hP hD hS (lv_sub hl [3, 4, 6, 2, 1, 0] rfl)
    · skip
      refine lv_iconst (v := -1) hx hb dX0_gapAt_19 (by decide) ?_
      exact xr_retWi ((spans1, parts1, states1, table1, stateAt1, fits1, sameAs1, kn1, sc1)) hx hb hr hlk (⟨by unfold pt_gapAt; rw [pt_ix_in hj (by decide)]; unfold pt_fb at c_16; cases hxn : pt_ix (sz 4) xn with | none => rfl | some i => (rw [hxn] at c_16; show _ = if _ then _ else _; rw [if_neg c_16]), hJ1⟩) hP hK hD hS dX0_gapAt_20

set_option maxHeartbeats 4000000 in
set_option maxRecDepth 100000 in
/-- size(n) -/
theorem mt_X0_size (l : Launch) (dC : Nat → ClassId) (dI : Nat → Nat → Nat) (hz : Nat) {ad : Nat → Nat} {cB cJ : ClassId} {sizes tokens spans subject parts : Nat → Nat} {states : Nat → Int64} {table stateAt fits sameAs : Nat → Nat} {cnt kn sc : Nat} {sz : Nat → Nat} {tk : Nat → Nat → Nat} (hL : XL sizes tokens subject cnt sz tk) (hJ : XJ (spans, parts, states, table, stateAt, fits, sameAs, kn, sc) sz tk) (xn : Int32) : Met l yX0_size (ws_ yX0_size cX0_size 2 (some .int)) ({ frames := 7, cells := 0, slots := 0, locals := 167 } : Room) (va_Pc [.ref (ad 0), .int xn] (xr_Pw (dC, dI) vwCl (XW ad cB cJ sizes tokens spans subject parts states table stateAt fits sameAs cnt kn sc) (tyX cB cJ) hz)) (va_Qi (fun (r : Int32) (u : XD) => r = pt_size sz tk xn ∧ XJ u sz tk) (xr_Bw (dC, dI) vwCl (tyX cB cJ) (va_A (XW ad cB cJ sizes tokens spans subject parts states table stateAt fits sameAs cnt kn sc) hz) (fun u => XWd ad cB cJ sizes tokens subject cnt u)) (va_A (XW ad cB cJ sizes tokens spans subject parts states table stateAt fits sameAs cnt kn sc) hz)) 0 0 (va_A (XW ad cB cJ sizes tokens spans subject parts states table stateAt fits sameAs cnt kn sc) hz) := by
  refine Met.ofW (cc := cX0_size) (maxL := 2) (ret := (some .int)) (by decide) rfl ?_
  intro p e s m args below meth c s₁ B hml hv
  obtain ⟨rfl, hsz, hP, hK, hD0⟩ := hv
  have hx := B.exec
  have hb := B.bytes
  have hr := B.returns
  have hlk := B.notSynchronized
  have hts := atoms_spec (ws := (ws_ yX0_size cX0_size 2 (some .int))) B.pre
  have hts : ∀ w ∈ lw_all, w.before _ s = true := fun w h => hts w (List.mem_cons_of_mem _ h)
  have hown : s.vm.findClass RX0 = some m.cls := findClass_of_methodNamed B.named
  subst hsz
  have hD := hD0.self (sz := s.heap.size)
  generalize hAe : va_A (XW ad cB cJ sizes tokens spans subject parts states table stateAt fits sameAs cnt kn sc) s.heap.size = A at hD ⊢
  have hA : ∀ q : Nat, s.heap.size ≤ q → A q := fun q h => by rw [← hAe]; exact Or.inr h
  have hS : va_S A s.heap s.heap [] := va_S.rf
  have hl := lv_entry ([.ref (ad 0), .int xn]) (n := 2) (Nat.le_of_ble_eq_true rfl)
  rw [lg_entry_eq]
  generalize (lg_sl ([.ref (ad 0), .int xn]) ++ List.replicate (2 - (lg_sl ([.ref (ad 0), .int xn])).length) Slot.unset).toArray = ls at hl ⊢
  have hl : lv_has ls 2 [(0, .ref (ad 0)), (1, .int xn)] := hl
  obtain rfl : cnt = sz 4 := hL.2.2.2.1
  have hz := hL.1.2.1
  refine lv_aload_n hx hb dX0_size_0 rfl (lv_at hl 0 rfl) ?_
  refine lv_iload_n hx hb dX0_size_1 rfl (lv_at hl 1 rfl) ?_
  refine xr_cVwi (wr := []) (rest := []) ⟨hx, hb, hml, hown, hts⟩ (mt_X0_isNode l dC dI _ hL hJ xn) (cwV 1 hts gV_X0_106 rfl rfl rfl hd_X0_isNode ⟨Nat.le_of_ble_eq_true rfl, Nat.le_of_ble_eq_true rfl⟩) hK hP hD hS hA [0, 1, 2, 3, 4, 5, 6, 7, 8, 9, 10] [] rfl rfl rfl (by decide) (by decide) (by decide) 0 0 rfl rfl rfl hl.1 rfl (Nat.le_of_ble_eq_true rfl) dX0_size_2 ⟨Nat.zero_le _, Nat.zero_le _⟩ (fun r_2 u H locs h_2 hP hD hS => ?_)
  obtain ⟨spans1, parts1, states1, table1, stateAt1, fits1, sameAs1, kn1, sc1⟩ := u
  have hP : va_P (dC, dI) vwCl (XW ad cB cJ sizes tokens spans1 subject parts1 states1 table1 stateAt1 fits1 sameAs1 (sz 4) kn1 sc1) H := hP
  have hD : va_D A (XW ad cB cJ sizes tokens spans1 subject parts1 states1 table1 stateAt1 fits1 sameAs1 (sz 4) kn1 sc1) := hD
  obtain ⟨hB, hJ1, hK1⟩ := h_2
  refine xr_ifeqB (tgt := 17) hx hb hB dX0_size_5 (by decide) (fun c_5 => ?_) (fun c_5 => ?_)
  · skip
    refine lv_iconst (v := -1) hx hb dX0_size_17 (by decide) ?_
    exact xr_retWi ((spans1, parts1, states1, table1, stateAt1, fits1, sameAs1, kn1, sc1)) hx hb hr hlk (⟨by rw [pt_size_no hz c_5], hJ1⟩) hP hK hD hS dX0_size_18
  · have hnode := c_5
    obtain ⟨hwh, j, hj, rfl⟩ := c_5
    have hKK := hJ1.2 (hK1 hnode)
    refine lv_aload_n hx hb dX0_size_8 rfl (lv_at hl 0 rfl) ?_
    refine va_get (D := (dC, dI)) (ci := 0) (v := .ref (ad 5)) (C := RX0) (T := TX0) (N := 13) hx hb hts in_X0 hown hK hP 0 rfl rfl 5 (by decide) (hts _ q36) (fun _ h9 => h9) rfl dX0_size_9 ?_
    refine lv_iload_n hx hb dX0_size_12 rfl (lv_at hl 1 rfl) ?_
    refine xr_bald hx hb hK hP 5 0 rfl rfl (k := j) (by omega) (by decide) dX0_size_13 ?_
    refine xr_conv (y := (nI (pt_skip (tk 4) (sz 4) j 1 - j))) (by rw [hKK.2.1 j hj]) ?_
    refine lv_goto (tgt := 18) hx hb dX0_size_14 (by decide) ?_
    exact xr_retWi ((spans1, parts1, states1, table1, stateAt1, fits1, sameAs1, kn1, sc1)) hx hb hr hlk (⟨by rw [pt_size_in hwh hj (by omega)], hJ1⟩) hP hK hD hS dX0_size_18

set_option maxHeartbeats 4000000 in
set_option maxRecDepth 100000 in
/-- equal(m, n) -/
theorem mt_X0_equal (l : Launch) (dC : Nat → ClassId) (dI : Nat → Nat → Nat) (hz : Nat) {ad : Nat → Nat} {cB cJ : ClassId} {sizes tokens spans subject parts : Nat → Nat} {states : Nat → Int64} {table stateAt fits sameAs : Nat → Nat} {cnt kn sc : Nat} {sz : Nat → Nat} {tk : Nat → Nat → Nat} (hL : XL sizes tokens subject cnt sz tk) (hJ : XJ (spans, parts, states, table, stateAt, fits, sameAs, kn, sc) sz tk) (xm xn : Int32) : Met l yX0_equal (ws_ yX0_equal cX0_equal 3 (some .boolean)) ({ frames := 7, cells := 0, slots := 0, locals := 167 } : Room) (va_Pc [.ref (ad 0), .int xm, .int xn] (xr_Pw (dC, dI) vwCl (XW ad cB cJ sizes tokens spans subject parts states table stateAt fits sameAs cnt kn sc) (tyX cB cJ) hz)) (va_Qi (fun (r : Int32) (u : XD) => xr_B r (pt_equal sz tk xm xn) ∧ XJ u sz tk) (xr_Bw (dC, dI) vwCl (tyX cB cJ) (va_A (XW ad cB cJ sizes tokens spans subject parts states table stateAt fits sameAs cnt kn sc) hz) (fun u => XWd ad cB cJ sizes tokens subject cnt u)) (va_A (XW ad cB cJ sizes tokens spans subject parts states table stateAt fits sameAs cnt kn sc) hz)) 0 0 (va_A (XW ad cB cJ sizes tokens spans subject parts states table stateAt fits sameAs cnt kn sc) hz) := by
  refine Met.ofW (cc := cX0_equal) (maxL := 3) (ret := (some .boolean)) (by decide) rfl ?_
  intro p e s m args below meth c s₁ B hml hv
  obtain ⟨rfl, hsz, hP, hK, hD0⟩ := hv
  have hx := B.exec
  have hb := B.bytes
  have hr := B.returns
  have hlk := B.notSynchronized
  have hts := atoms_spec (ws := (ws_ yX0_equal cX0_equal 3 (some .boolean))) B.pre
  have hts : ∀ w ∈ lw_all, w.before _ s = true := fun w h => hts w (List.mem_cons_of_mem _ h)
  have hown : s.vm.findClass RX0 = some m.cls := findClass_of_methodNamed B.named
  subst hsz
  have hD := hD0.self (sz := s.heap.size)
  generalize hAe : va_A (XW ad cB cJ sizes tokens spans subject parts states table stateAt fits sameAs cnt kn sc) s.heap.size = A at hD ⊢
  have hA : ∀ q : Nat, s.heap.size ≤ q → A q := fun q h => by rw [← hAe]; exact Or.inr h
  have hS : va_S A s.heap s.heap [] := va_S.rf
  have hl := lv_entry ([.ref (ad 0), .int xm, .int xn]) (n := 3) (Nat.le_of_ble_eq_true rfl)
  rw [lg_entry_eq]
  generalize (lg_sl ([.ref (ad 0), .int xm, .int xn]) ++ List.replicate (3 - (lg_sl ([.ref (ad 0), .int xm, .int xn])).length) Slot.unset).toArray = ls at hl ⊢
  have hl : lv_has ls 3 [(0, .ref (ad 0)), (1, .int xm), (2, .int xn)] := hl
  obtain rfl : cnt = sz 4 := hL.2.2.2.1
  have hz := hL.1.2.1
  refine lv_aload_n hx hb dX0_equal_0 rfl (lv_at hl 0 rfl) ?_
  refine lv_iload_n hx hb dX0_equal_1 rfl (lv_at hl 1 rfl) ?_
  refine xr_cVwi (wr := []) (rest := []) ⟨hx, hb, hml, hown, hts⟩ (mt_X0_isNode l dC dI _ hL hJ xm) (cwV 1 hts gV_X0_106 rfl rfl rfl hd_X0_isNode ⟨Nat.le_of_ble_eq_true rfl, Nat.le_of_ble_eq_true rfl⟩) hK hP hD hS hA [0, 1, 2, 3, 4, 5, 6, 7, 8, 9, 10] [] rfl rfl rfl (by decide) (by decide) (by decide) 0 0 rfl rfl rfl hl.1 rfl (Nat.le_of_ble_eq_true rfl) dX0_equal_2 ⟨Nat.zero_le _, Nat.zero_le _⟩ (fun r_2 u H locs h_2 hP hD hS => ?_)
  obtain ⟨spans1, parts1, states1, table1, stateAt1, fits1, sameAs1, kn1, sc1⟩ := u
  have hP : va_P (dC, dI) vwCl (XW ad cB cJ sizes tokens spans1 subject parts1 states1 table1 stateAt1 fits1 sameAs1 (sz 4) kn1 sc1) H := hP
  have hD : va_D A (XW ad cB cJ sizes tokens spans1 subject parts1 states1 table1 stateAt1 fits1 sameAs1 (sz 4) kn1 sc1) := hD
  obtain ⟨hB, hJ1, hK1⟩ := h_2
  refine xr_ifeqB (tgt := 35) hx hb hB dX0_equal_5 (by decide) (fun c_5 => ?_) (fun c_5 => ?_)
  · skip
    refine lv_iconst (v := nI 0) hx hb dX0_equal_35 xc_0 ?_
    exact xr_retWz ((spans1, parts1, states1, table1, stateAt1, fits1, sameAs1, kn1, sc1)) hx hb hr hlk xr_nz0 (⟨xr_B0 (fun ⟨q0, a1, b1, qa, ea, _⟩ => c_5 ⟨q0, a1, qa, ea⟩), hJ1⟩) hP hK hD hS dX0_equal_36
  · obtain ⟨hwh, a, ha, rfl⟩ := c_5
    refine lv_aload_n hx hb dX0_equal_8 rfl (lv_at hl 0 rfl) ?_
    refine lv_iload_n hx hb dX0_equal_9 rfl (lv_at hl 2 rfl) ?_
    refine xr_cVwi (wr := []) (rest := []) ⟨hx, hb, hml, hown, hts⟩ (mt_X0_isNode l dC dI _ hL hJ1 xn) (cwV 1 hts gV_X0_106 rfl rfl rfl hd_X0_isNode ⟨Nat.le_of_ble_eq_true rfl, Nat.le_of_ble_eq_true rfl⟩) hK hP hD hS hA [0, 1, 2, 3, 4, 5, 6, 7, 8, 9, 10] [] rfl rfl rfl (by decide) (by decide) (by decide) 0 0 rfl rfl rfl hl.1 rfl (Nat.le_of_ble_eq_true rfl) dX0_equal_10 ⟨Nat.zero_le _, Nat.zero_le _⟩ (fun r_10 u H locs h_10 hP hD hS => ?_)
    obtain ⟨spans2, parts2, states2, table2, stateAt2, fits2, sameAs2, kn2, sc2⟩ := u
    have hP : va_P (dC, dI) vwCl (XW ad cB cJ sizes tokens spans2 subject parts2 states2 table2 stateAt2 fits2 sameAs2 (sz 4) kn2 sc2) H := hP
    have hD : va_D A (XW ad cB cJ sizes tokens spans2 subject parts2 states2 table2 stateAt2 fits2 sameAs2 (sz 4) kn2 sc2) := hD
    obtain ⟨hB2, hJ2, hK2⟩ := h_10
    refine xr_ifeqB (tgt := 35) hx hb hB2 dX0_equal_13 (by decide) (fun c_13 => ?_) (fun c_13 => ?_)
    · skip
      refine lv_iconst (v := nI 0) hx hb dX0_equal_35 xc_0 ?_
      exact xr_retWz ((spans2, parts2, states2, table2, stateAt2, fits2, sameAs2, kn2, sc2)) hx hb hr hlk xr_nz0 (⟨xr_B0 (fun ⟨q0, a1, b1, qa, ea, qb, eb, _⟩ => c_13 ⟨q0, b1, qb, eb⟩), hJ2⟩) hP hK hD hS dX0_equal_36
    · have hnode := c_13
      obtain ⟨-, b, hb4, rfl⟩ := c_13
      have hKK := hJ2.2 (hK2 hnode)
      have hs1 := hKK.2.2.2.1 a ha
      have hs2 := hKK.2.2.2.1 b hb4
      refine lv_aload_n hx hb dX0_equal_16 rfl (lv_at hl 0 rfl) ?_
      refine va_get (D := (dC, dI)) (ci := 0) (v := .ref (ad 10)) (C := RX0) (T := TX0) (N := 13) hx hb hts in_X0 hown hK hP 0 rfl rfl 12 (by decide) (hts _ q43) (fun _ h9 => h9) rfl dX0_equal_17 ?_
      refine lv_iload_n hx hb dX0_equal_20 rfl (lv_at hl 1 rfl) ?_
      refine xr_bald hx hb hK hP 10 0 rfl rfl (k := a) (by omega) (by decide) dX0_equal_21 ?_
      refine lv_aload_n hx hb dX0_equal_22 rfl (lv_at hl 0 rfl) ?_
      refine va_get (D := (dC, dI)) (ci := 0) (v := .ref (ad 10)) (C := RX0) (T := TX0) (N := 13) hx hb hts in_X0 hown hK hP 0 rfl rfl 12 (by decide) (hts _ q43) (fun _ h9 => h9) rfl dX0_equal_23 ?_
      refine lv_iload_n hx hb dX0_equal_26 rfl (lv_at hl 2 rfl) ?_
      refine xr_bald hx hb hK hP 10 0 rfl rfl (k := b) (by omega) (by decide) dX0_equal_27 ?_
      refine xr_icmp_ne (tgt := 35) hx hb dX0_equal_28 (by decide) (by omega) (by omega) (fun c_28 => ?_) (fun c_28 => ?_)
      · skip
        refine lv_iconst (v := nI 0) hx hb dX0_equal_35 xc_0 ?_
        exact xr_retWz ((spans2, parts2, states2, table2, stateAt2, fits2, sameAs2, kn2, sc2)) hx hb hr hlk xr_nz0 (⟨xr_B0 (fun ⟨q0, a1, b1, qa, ea, qb, eb, q⟩ => by have e1 := (nI_eq (by omega) (by omega)).mp ea; have e2 := (nI_eq (by omega) (by omega)).mp eb; subst e1; subst e2; exact c_28 ((hKK.2.2.2.2 a ha b hb4).mpr q)), hJ2⟩) hP hK hD hS dX0_equal_36
      · skip
        refine lv_iconst (v := nI 1) hx hb dX0_equal_31 xc_1 ?_
        refine lv_goto (tgt := 36) hx hb dX0_equal_32 (by decide) ?_
        exact xr_retWz ((spans2, parts2, states2, table2, stateAt2, fits2, sameAs2, kn2, sc2)) hx hb hr hlk xr_nz1 (⟨xr_B1 ⟨hwh, a, b, ha, rfl, hb4, rfl, (hKK.2.2.2.2 a ha b hb4).mp c_28⟩, hJ2⟩) hP hK hD hS dX0_equal_36

set_option maxHeartbeats 4000000 in
set_option maxRecDepth 100000 in
/-- kinds() -/
theorem mt_X0_kinds (l : Launch) (dC : Nat → ClassId) (dI : Nat → Nat → Nat) (hz : Nat) {ad : Nat → Nat} {cB cJ : ClassId} {sizes tokens spans subject parts : Nat → Nat} {states : Nat → Int64} {table stateAt fits sameAs : Nat → Nat} {cnt kn sc : Nat} {sz : Nat → Nat} {tk : Nat → Nat → Nat} (hL : XL sizes tokens subject cnt sz tk) (hJ : XJ (spans, parts, states, table, stateAt, fits, sameAs, kn, sc) sz tk) : Met l yX0_kinds (ws_ yX0_kinds cX0_kinds 4 (some .int)) ({ frames := 6, cells := 0, slots := 0, locals := 146 } : Room) (va_Pc [.ref (ad 0)] (xr_Pw (dC, dI) vwCl (XW ad cB cJ sizes tokens spans subject parts states table stateAt fits sameAs cnt kn sc) (tyX cB cJ) hz)) (va_Qi (fun (r : Int32) (u : XD) => r = pt_kinds sz tk ∧ XJ u sz tk) (xr_Bw (dC, dI) vwCl (tyX cB cJ) (va_A (XW ad cB cJ sizes tokens spans subject parts states table stateAt fits sameAs cnt kn sc) hz) (fun u => XWd ad cB cJ sizes tokens subject cnt u)) (va_A (XW ad cB cJ sizes tokens spans subject parts states table stateAt fits sameAs cnt kn sc) hz)) 0 0 (va_A (XW ad cB cJ sizes tokens spans subject parts states table stateAt fits sameAs cnt kn sc) hz) := by
  refine Met.ofW (cc := cX0_kinds) (maxL := 4) (ret := (some .int)) (by decide) rfl ?_
  intro p e s m args below meth c s₁ B hml hv
  obtain ⟨rfl, hsz, hP, hK, hD0⟩ := hv
  have hx := B.exec
  have hb := B.bytes
  have hr := B.returns
  have hlk := B.notSynchronized
  have hts := atoms_spec (ws := (ws_ yX0_kinds cX0_kinds 4 (some .int))) B.pre
  have hts : ∀ w ∈ lw_all, w.before _ s = true := fun w h => hts w (List.mem_cons_of_mem _ h)
  have hown : s.vm.findClass RX0 = some m.cls := findClass_of_methodNamed B.named
  subst hsz
  have hD := hD0.self (sz := s.heap.size)
  generalize hAe : va_A (XW ad cB cJ sizes tokens spans subject parts states table stateAt fits sameAs cnt kn sc) s.heap.size = A at hD ⊢
  have hA : ∀ q : Nat, s.heap.size ≤ q → A q := fun q h => by rw [← hAe]; exact Or.inr h
  have hS : va_S A s.heap s.heap [] := va_S.rf
  have hl := lv_entry ([.ref (ad 0)]) (n := 4) (Nat.le_of_ble_eq_true rfl)
  rw [lg_entry_eq]
  generalize (lg_sl ([.ref (ad 0)]) ++ List.replicate (4 - (lg_sl ([.ref (ad 0)])).length) Slot.unset).toArray = ls at hl ⊢
  have hl : lv_has ls 4 [(0, .ref (ad 0))] := hl
  obtain rfl : cnt = sz 4 := hL.2.2.2.1
  have hz := hL.1.2.1
  refine lv_aload_n hx hb dX0_kinds_0 rfl (lv_at hl 0 rfl) ?_
  refine xr_cVwi (wr := []) (rest := []) ⟨hx, hb, hml, hown, hts⟩ (mt_X0_learn l dC dI _ hL hJ) (cwV 0 hts gV_X0_103 rfl rfl rfl hd_X0_learn ⟨Nat.le_of_ble_eq_true rfl, Nat.le_of_ble_eq_true rfl⟩) hK hP hD hS hA [0, 1, 2, 3, 4, 5, 6, 7, 8, 9, 10] [] rfl rfl rfl (by decide) (by decide) (by decide) 0 0 rfl rfl rfl hl.1 rfl (Nat.le_of_ble_eq_true rfl) dX0_kinds_1 ⟨Nat.zero_le _, Nat.zero_le _⟩ (fun r_1 u H locs h_1 hP hD hS => ?_)
  obtain ⟨spans1, parts1, states1, table1, stateAt1, fits1, sameAs1, kn1, sc1⟩ := u
  have hP : va_P (dC, dI) vwCl (XW ad cB cJ sizes tokens spans1 subject parts1 states1 table1 stateAt1 fits1 sameAs1 (sz 4) kn1 sc1) H := hP
  have hD : va_D A (XW ad cB cJ sizes tokens spans1 subject parts1 states1 table1 stateAt1 fits1 sameAs1 (sz 4) kn1 sc1) := hD
  obtain ⟨hB, hJ1, hK1⟩ := h_1
  refine xr_ifneB (tgt := 9) hx hb hB dX0_kinds_4 (by decide) (fun c_4 => ?_) (fun c_4 => ?_)
  · have hKK := hJ1.2 (hK1 c_4)
    refine lv_iconst (v := nI 0) hx hb dX0_kinds_9 xc_0 ?_
    refine lv_istore_n (lv' := [(1, .int (nI 0)), (0, .ref (ad 0))]) hx hb dX0_kinds_10 rfl hl (by decide) rfl (fun ls hl => ?_)
    refine lv_iconst (v := nI 0) hx hb dX0_kinds_11 xc_0 ?_
    refine lv_istore_n (lv' := [(2, .int (nI 0)), (1, .int (nI 0)), (0, .ref (ad 0))]) hx hb dX0_kinds_12 rfl hl (by decide) rfl (fun ls hl => ?_)
    have key13 : ∀ (d_13 : Nat) (a : Nat) (k : Nat) (ls : Array Slot) (H : Heap) (locs : List Loc), (k ≤ sz 4) → (a < 65536) → (∀ v, v < 16 → a.testBit v = pt_ex (fun i => decide (pt_F sz tk i = v)) k) → (sz 4 - k) < d_13 → va_P (dC, dI) vwCl (XW ad cB cJ sizes tokens spans1 subject parts1 states1 table1 stateAt1 fits1 sameAs1 (sz 4) kn1 sc1) H → va_D A (XW ad cB cJ sizes tokens spans1 subject parts1 states1 table1 stateAt1 fits1 sameAs1 (sz 4) kn1 sc1) → va_S A s.heap H locs → lv_has ls 4 [(0, .ref (ad 0)), (1, .int (nI a)), (2, .int (nI k))] → W p l e (headSpec (ws_ yX0_kinds cX0_kinds 4 (some .int)) ({ frames := 6, cells := 0, slots := 0, locals := 146 } : Room)).room s m ([.ref (ad 0)] : List Value).toArray below meth c H locs 0 0 (MQ below (va_Qi (fun (r : Int32) (u : XD) => r = pt_kinds sz tk ∧ XJ u sz tk) (xr_Bw (dC, dI) vwCl (tyX cB cJ) A (fun u => XWd ad cB cJ sizes tokens subject (sz 4) u)) A) ([.ref (ad 0)] : List Value).toArray s 0 0 A) (F0 m 13 ls []) := by
      intro d_13
      induction d_13 with
      | zero => intro a k ls H locs hk ha haE hd_13; exact absurd hd_13 (Nat.not_lt_zero _)
      | succ d_13 ih_13 =>
        intro a k ls H locs hk ha haE hd_13 hP hD hS hl
        refine lv_iload_n hx hb dX0_kinds_13 rfl (lv_at hl 2 rfl) ?_
        refine lv_aload_n hx hb dX0_kinds_14 rfl (lv_at hl 0 rfl) ?_
        refine va_get (D := (dC, dI)) (ci := 0) (v := .int (nI (sz 4))) (C := RX0) (T := TX0) (N := 13) hx hb hts in_X0 hown hK hP 0 rfl rfl 3 (by decide) (hts _ q34) (fun _ h9 => h9) rfl dX0_kinds_15 ?_
        refine xr_icmp_ge (tgt := 38) hx hb dX0_kinds_18 (by decide) (by omega) (by omega) (fun c_18 => ?_) (fun c_18 => ?_)
        · have hek : k = sz 4 := by omega
          refine lv_iconst (v := nI 0) hx hb dX0_kinds_38 xc_0 ?_
          refine lv_istore_n (lv' := [(2, .int (nI 0)), (0, .ref (ad 0)), (1, .int (nI a))]) hx hb dX0_kinds_39 rfl hl (by decide) rfl (fun ls hl => ?_)
          refine lv_iconst (v := nI 0) hx hb dX0_kinds_40 xc_0 ?_
          refine lv_istore_n (lv' := [(3, .int (nI 0)), (2, .int (nI 0)), (0, .ref (ad 0)), (1, .int (nI a))]) hx hb dX0_kinds_41 rfl hl (by decide) rfl (fun ls hl => ?_)
          have key42 : ∀ (d_42 : Nat) (v : Nat) (ls : Array Slot) (H : Heap) (locs : List Loc), (v ≤ 16) → (16 - v) < d_42 → va_P (dC, dI) vwCl (XW ad cB cJ sizes tokens spans1 subject parts1 states1 table1 stateAt1 fits1 sameAs1 (sz 4) kn1 sc1) H → va_D A (XW ad cB cJ sizes tokens spans1 subject parts1 states1 table1 stateAt1 fits1 sameAs1 (sz 4) kn1 sc1) → va_S A s.heap H locs → lv_has ls 4 [(0, .ref (ad 0)), (1, .int (nI a)), (2, .int (nI (pt_cn (fun v => pt_ex (fun n => decide (pt_F sz tk n = v)) (sz 4)) v))), (3, .int (nI v))] → W p l e (headSpec (ws_ yX0_kinds cX0_kinds 4 (some .int)) ({ frames := 6, cells := 0, slots := 0, locals := 146 } : Room)).room s m ([.ref (ad 0)] : List Value).toArray below meth c H locs 0 0 (MQ below (va_Qi (fun (r : Int32) (u : XD) => r = pt_kinds sz tk ∧ XJ u sz tk) (xr_Bw (dC, dI) vwCl (tyX cB cJ) A (fun u => XWd ad cB cJ sizes tokens subject (sz 4) u)) A) ([.ref (ad 0)] : List Value).toArray s 0 0 A) (F0 m 42 ls []) := by
            intro d_42
            induction d_42 with
            | zero => intro v ls H locs hv hd_42; exact absurd hd_42 (Nat.not_lt_zero _)
            | succ d_42 ih_42 =>
              intro v ls H locs hv hd_42 hP hD hS hl
              refine lv_iload_n hx hb dX0_kinds_42 rfl (lv_at hl 3 rfl) ?_
              refine lv_bipush (v := nI 16) hx hb dX0_kinds_43 xb_16 ?_
              refine xr_icmp_ge (tgt := 62) hx hb dX0_kinds_45 (by decide) (by omega) (by omega) (fun c_45 => ?_) (fun c_45 => ?_)
              · skip
                refine lv_iload_n hx hb dX0_kinds_62 rfl (lv_at hl 2 rfl) ?_
                exact xr_retWi ((spans1, parts1, states1, table1, stateAt1, fits1, sameAs1, kn1, sc1)) hx hb hr hlk (⟨by rw [show v = 16 by omega]; exact XK_kinds c_4, hJ1⟩) hP hK hD hS dX0_kinds_63
              · skip
                refine lv_iload_n hx hb dX0_kinds_48 rfl (lv_at hl 2 rfl) ?_
                refine lv_iload_n hx hb dX0_kinds_49 rfl (lv_at hl 1 rfl) ?_
                refine lv_iload_n hx hb dX0_kinds_50 rfl (lv_at hl 3 rfl) ?_
                refine lv_ishr hx hb dX0_kinds_51 ?_
                refine lv_iconst (v := nI 1) hx hb dX0_kinds_52 xc_1 ?_
                refine lv_iand hx hb dX0_kinds_53 ?_
                refine xr_conv (y := (nI (if (fun v => pt_ex (fun n => decide (pt_F sz tk n = v)) (sz 4)) v = true then 1 else 0))) (by rw [nI_bit (by omega) (by omega), pt_bitN, haE v c_45, hek]) ?_
                refine xr_iadd hx hb dX0_kinds_54 ?_
                refine xr_conv (y := (nI (pt_cn (fun v => pt_ex (fun n => decide (pt_F sz tk n = v)) (sz 4)) (v + 1)))) (rfl) ?_
                refine lv_istore_n (lv' := [(2, .int (nI (pt_cn (fun v => pt_ex (fun n => decide (pt_F sz tk n = v)) (sz 4)) (v + 1)))), (0, .ref (ad 0)), (1, .int (nI a)), (3, .int (nI v))]) hx hb dX0_kinds_55 rfl hl (by decide) rfl (fun ls hl => ?_)
                refine lv_iinc (v := (nI (v + 1))) (lv' := [(3, .int (nI (v + 1))), (2, .int (nI (pt_cn (fun v => pt_ex (fun n => decide (pt_F sz tk n = v)) (sz 4)) (v + 1)))), (0, .ref (ad 0)), (1, .int (nI a))]) hx hb dX0_kinds_56 hl (k := 3) rfl (xr_inc _) (by decide) rfl (fun ls hl => ?_)
                refine lv_goto (tgt := 42) hx hb dX0_kinds_59 (by decide) ?_
                exact ih_42 (v + 1) ls H locs (by omega) (by omega) hP hD hS (lv_sub hl [2, 3, 1, 0] rfl)
          exact key42 _ 0 ls _ _ (Nat.zero_le _) (Nat.lt_succ_self _) hP hD hS (lv_sub hl [2, 3, 1, 0] rfl)
        · have hFl := pt_F_lt sz tk k
          refine lv_iload_n hx hb dX0_kinds_21 rfl (lv_at hl 1 rfl) ?_
          refine lv_iconst (v := nI 1) hx hb dX0_kinds_22 xc_1 ?_
          refine lv_aload_n hx hb dX0_kinds_23 rfl (lv_at hl 0 rfl) ?_
          refine va_get (D := (dC, dI)) (ci := 0) (v := .ref (ad 9)) (C := RX0) (T := TX0) (N := 13) hx hb hts in_X0 hown hK hP 0 rfl rfl 11 (by decide) (hts _ q42) (fun _ h9 => h9) rfl dX0_kinds_24 ?_
          refine lv_iload_n hx hb dX0_kinds_27 rfl (lv_at hl 2 rfl) ?_
          refine xr_bald hx hb hK hP 9 0 rfl rfl (k := k) (by omega) (by decide) dX0_kinds_28 ?_
          refine xr_conv (y := (nI (pt_F sz tk k))) (by rw [hKK.2.2.1 k c_18]) ?_
          refine lv_ishl hx hb dX0_kinds_29 ?_
          refine lv_ior hx hb dX0_kinds_30 ?_
          refine xr_conv (y := (nI (a ||| 2 ^ pt_F sz tk k))) (by rw [nI_shl1 (by omega), nx_or]) ?_
          refine lv_istore_n (lv' := [(1, .int (nI (a ||| 2 ^ pt_F sz tk k))), (0, .ref (ad 0)), (2, .int (nI k))]) hx hb dX0_kinds_31 rfl hl (by decide) rfl (fun ls hl => ?_)
          refine lv_iinc (v := (nI (k + 1))) (lv' := [(2, .int (nI (k + 1))), (1, .int (nI (a ||| 2 ^ pt_F sz tk k))), (0, .ref (ad 0))]) hx hb dX0_kinds_32 hl (k := 2) rfl (xr_inc _) (by decide) rfl (fun ls hl => ?_)
          refine lv_goto (tgt := 13) hx hb dX0_kinds_35 (by decide) ?_
          exact ih_13 (a ||| 2 ^ pt_F sz tk k) (k + 1) ls H locs (by omega) (pt_setbit ha hFl) (pt_setex haE) (by omega) hP hD hS (lv_sub hl [2, 1, 0] rfl)
    exact key13 _ 0 0 ls _ _ (Nat.zero_le _) (by decide) (fun v _ => Nat.zero_testBit v) (Nat.lt_succ_self _) hP hD hS (lv_sub hl [2, 1, 0] rfl)
  · skip
    refine lv_iconst (v := nI 0) hx hb dX0_kinds_7 xc_0 ?_
    exact xr_retWi ((spans1, parts1, states1, table1, stateAt1, fits1, sameAs1, kn1, sc1)) hx hb hr hlk (⟨by unfold pt_kinds; rw [if_neg c_4], hJ1⟩) hP hK hD hS dX0_kinds_8

set_option maxHeartbeats 4000000 in
set_option maxRecDepth 100000 in
/-- bare() -/
theorem mt_X0_bare (l : Launch) (dC : Nat → ClassId) (dI : Nat → Nat → Nat) (hz : Nat) {ad : Nat → Nat} {cB cJ : ClassId} {sizes tokens spans subject parts : Nat → Nat} {states : Nat → Int64} {table stateAt fits sameAs : Nat → Nat} {cnt kn sc : Nat} {sz : Nat → Nat} {tk : Nat → Nat → Nat} (hL : XL sizes tokens subject cnt sz tk) (hJ : XJ (spans, parts, states, table, stateAt, fits, sameAs, kn, sc) sz tk) : Met l yX0_bare (ws_ yX0_bare cX0_bare 3 (some .int)) ({ frames := 6, cells := 0, slots := 0, locals := 146 } : Room) (va_Pc [.ref (ad 0)] (xr_Pw (dC, dI) vwCl (XW ad cB cJ sizes tokens spans subject parts states table stateAt fits sameAs cnt kn sc) (tyX cB cJ) hz)) (va_Qi (fun (r : Int32) (u : XD) => r = pt_bare sz tk ∧ XJ u sz tk) (xr_Bw (dC, dI) vwCl (tyX cB cJ) (va_A (XW ad cB cJ sizes tokens spans subject parts states table stateAt fits sameAs cnt kn sc) hz) (fun u => XWd ad cB cJ sizes tokens subject cnt u)) (va_A (XW ad cB cJ sizes tokens spans subject parts states table stateAt fits sameAs cnt kn sc) hz)) 0 0 (va_A (XW ad cB cJ sizes tokens spans subject parts states table stateAt fits sameAs cnt kn sc) hz) := by
  refine Met.ofW (cc := cX0_bare) (maxL := 3) (ret := (some .int)) (by decide) rfl ?_
  intro p e s m args below meth c s₁ B hml hv
  obtain ⟨rfl, hsz, hP, hK, hD0⟩ := hv
  have hx := B.exec
  have hb := B.bytes
  have hr := B.returns
  have hlk := B.notSynchronized
  have hts := atoms_spec (ws := (ws_ yX0_bare cX0_bare 3 (some .int))) B.pre
  have hts : ∀ w ∈ lw_all, w.before _ s = true := fun w h => hts w (List.mem_cons_of_mem _ h)
  have hown : s.vm.findClass RX0 = some m.cls := findClass_of_methodNamed B.named
  subst hsz
  have hD := hD0.self (sz := s.heap.size)
  generalize hAe : va_A (XW ad cB cJ sizes tokens spans subject parts states table stateAt fits sameAs cnt kn sc) s.heap.size = A at hD ⊢
  have hA : ∀ q : Nat, s.heap.size ≤ q → A q := fun q h => by rw [← hAe]; exact Or.inr h
  have hS : va_S A s.heap s.heap [] := va_S.rf
  have hl := lv_entry ([.ref (ad 0)]) (n := 3) (Nat.le_of_ble_eq_true rfl)
  rw [lg_entry_eq]
  generalize (lg_sl ([.ref (ad 0)]) ++ List.replicate (3 - (lg_sl ([.ref (ad 0)])).length) Slot.unset).toArray = ls at hl ⊢
  have hl : lv_has ls 3 [(0, .ref (ad 0))] := hl
  obtain rfl : cnt = sz 4 := hL.2.2.2.1
  have hz := hL.1.2.1
  refine lv_aload_n hx hb dX0_bare_0 rfl (lv_at hl 0 rfl) ?_
  refine xr_cVwi (wr := []) (rest := []) ⟨hx, hb, hml, hown, hts⟩ (mt_X0_learn l dC dI _ hL hJ) (cwV 0 hts gV_X0_103 rfl rfl rfl hd_X0_learn ⟨Nat.le_of_ble_eq_true rfl, Nat.le_of_ble_eq_true rfl⟩) hK hP hD hS hA [0, 1, 2, 3, 4, 5, 6, 7, 8, 9, 10] [] rfl rfl rfl (by decide) (by decide) (by decide) 0 0 rfl rfl rfl hl.1 rfl (Nat.le_of_ble_eq_true rfl) dX0_bare_1 ⟨Nat.zero_le _, Nat.zero_le _⟩ (fun r_1 u H locs h_1 hP hD hS => ?_)
  obtain ⟨spans1, parts1, states1, table1, stateAt1, fits1, sameAs1, kn1, sc1⟩ := u
  have hP : va_P (dC, dI) vwCl (XW ad cB cJ sizes tokens spans1 subject parts1 states1 table1 stateAt1 fits1 sameAs1 (sz 4) kn1 sc1) H := hP
  have hD : va_D A (XW ad cB cJ sizes tokens spans1 subject parts1 states1 table1 stateAt1 fits1 sameAs1 (sz 4) kn1 sc1) := hD
  obtain ⟨hB, hJ1, hK1⟩ := h_1
  refine xr_ifneB (tgt := 9) hx hb hB dX0_bare_4 (by decide) (fun c_4 => ?_) (fun c_4 => ?_)
  · have hKK := hJ1.2 (hK1 c_4)
    refine lv_iconst (v := nI 0) hx hb dX0_bare_9 xc_0 ?_
    refine lv_istore_n (lv' := [(1, .int (nI 0)), (0, .ref (ad 0))]) hx hb dX0_bare_10 rfl hl (by decide) rfl (fun ls hl => ?_)
    refine lv_iconst (v := nI 0) hx hb dX0_bare_11 xc_0 ?_
    refine lv_istore_n (lv' := [(2, .int (nI 0)), (1, .int (nI 0)), (0, .ref (ad 0))]) hx hb dX0_bare_12 rfl hl (by decide) rfl (fun ls hl => ?_)
    have key13 : ∀ (d_13 : Nat) (k : Nat) (ls : Array Slot) (H : Heap) (locs : List Loc), (k ≤ sz 4) → (sz 4 - k) < d_13 → va_P (dC, dI) vwCl (XW ad cB cJ sizes tokens spans1 subject parts1 states1 table1 stateAt1 fits1 sameAs1 (sz 4) kn1 sc1) H → va_D A (XW ad cB cJ sizes tokens spans1 subject parts1 states1 table1 stateAt1 fits1 sameAs1 (sz 4) kn1 sc1) → va_S A s.heap H locs → lv_has ls 3 [(0, .ref (ad 0)), (1, .int (nI (pt_cn (fun n => decide (pt_F sz tk n = 0)) k))), (2, .int (nI k))] → W p l e (headSpec (ws_ yX0_bare cX0_bare 3 (some .int)) ({ frames := 6, cells := 0, slots := 0, locals := 146 } : Room)).room s m ([.ref (ad 0)] : List Value).toArray below meth c H locs 0 0 (MQ below (va_Qi (fun (r : Int32) (u : XD) => r = pt_bare sz tk ∧ XJ u sz tk) (xr_Bw (dC, dI) vwCl (tyX cB cJ) A (fun u => XWd ad cB cJ sizes tokens subject (sz 4) u)) A) ([.ref (ad 0)] : List Value).toArray s 0 0 A) (F0 m 13 ls []) := by
      intro d_13
      induction d_13 with
      | zero => intro k ls H locs hk hd_13; exact absurd hd_13 (Nat.not_lt_zero _)
      | succ d_13 ih_13 =>
        intro k ls H locs hk hd_13 hP hD hS hl
        refine lv_iload_n hx hb dX0_bare_13 rfl (lv_at hl 2 rfl) ?_
        refine lv_aload_n hx hb dX0_bare_14 rfl (lv_at hl 0 rfl) ?_
        refine va_get (D := (dC, dI)) (ci := 0) (v := .int (nI (sz 4))) (C := RX0) (T := TX0) (N := 13) hx hb hts in_X0 hown hK hP 0 rfl rfl 3 (by decide) (hts _ q34) (fun _ h9 => h9) rfl dX0_bare_15 ?_
        refine xr_icmp_ge (tgt := 44) hx hb dX0_bare_18 (by decide) (by omega) (by omega) (fun c_18 => ?_) (fun c_18 => ?_)
        · skip
          refine lv_iload_n hx hb dX0_bare_44 rfl (lv_at hl 1 rfl) ?_
          exact xr_retWi ((spans1, parts1, states1, table1, stateAt1, fits1, sameAs1, kn1, sc1)) hx hb hr hlk (⟨by rw [show k = sz 4 by omega]; exact XK_bare c_4, hJ1⟩) hP hK hD hS dX0_bare_45
        · have hFl := pt_F_lt sz tk k
          refine lv_iload_n hx hb dX0_bare_21 rfl (lv_at hl 1 rfl) ?_
          refine lv_aload_n hx hb dX0_bare_22 rfl (lv_at hl 0 rfl) ?_
          refine va_get (D := (dC, dI)) (ci := 0) (v := .ref (ad 9)) (C := RX0) (T := TX0) (N := 13) hx hb hts in_X0 hown hK hP 0 rfl rfl 11 (by decide) (hts _ q42) (fun _ h9 => h9) rfl dX0_bare_23 ?_
          refine lv_iload_n hx hb dX0_bare_26 rfl (lv_at hl 2 rfl) ?_
          refine xr_bald hx hb hK hP 9 0 rfl rfl (k := k) (by omega) (by decide) dX0_bare_27 ?_
          refine xr_conv (y := (nI (pt_F sz tk k))) (by rw [hKK.2.2.1 k c_18]) ?_
          refine xr_if_ne (tgt := 35) hx hb dX0_bare_28 (by decide) (by omega) (fun c_28 => ?_) (fun c_28 => ?_)
          · skip
            refine lv_iconst (v := nI 0) hx hb dX0_bare_35 xc_0 ?_
            refine xr_iadd hx hb dX0_bare_36 ?_
            refine xr_conv (y := (nI (pt_cn (fun n => decide (pt_F sz tk n = 0)) (k + 1)))) (by rw [pt_cn_s0 (b := fun n => decide (pt_F sz tk n = 0)) (by show ¬ decide (pt_F sz tk k = 0) = true; rw [decide_eq_true_eq]; omega)]; rfl) ?_
            refine lv_istore_n (lv' := [(1, .int (nI (pt_cn (fun n => decide (pt_F sz tk n = 0)) (k + 1)))), (0, .ref (ad 0)), (2, .int (nI k))]) hx hb dX0_bare_37 rfl hl (by decide) rfl (fun ls hl => ?_)
            refine lv_iinc (v := (nI (k + 1))) (lv' := [(2, .int (nI (k + 1))), (1, .int (nI (pt_cn (fun n => decide (pt_F sz tk n = 0)) (k + 1)))), (0, .ref (ad 0))]) hx hb dX0_bare_38 hl (k := 2) rfl (xr_inc _) (by decide) rfl (fun ls hl => ?_)
            refine lv_goto (tgt := 13) hx hb dX0_bare_41 (by decide) ?_
            exact ih_13 (k + 1) ls H locs (by omega) (by omega) hP hD hS (lv_sub hl [2, 1, 0] rfl)
          · skip
            refine lv_iconst (v := nI 1) hx hb dX0_bare_31 xc_1 ?_
            refine lv_goto (tgt := 36) hx hb dX0_bare_32 (by decide) ?_
            refine xr_iadd hx hb dX0_bare_36 ?_
            refine xr_conv (y := (nI (pt_cn (fun n => decide (pt_F sz tk n = 0)) (k + 1)))) (by rw [pt_cn_s1 (b := fun n => decide (pt_F sz tk n = 0)) (decide_eq_true c_28)]) ?_
            refine lv_istore_n (lv' := [(1, .int (nI (pt_cn (fun n => decide (pt_F sz tk n = 0)) (k + 1)))), (0, .ref (ad 0)), (2, .int (nI k))]) hx hb dX0_bare_37 rfl hl (by decide) rfl (fun ls hl => ?_)
            refine lv_iinc (v := (nI (k + 1))) (lv' := [(2, .int (nI (k + 1))), (1, .int (nI (pt_cn (fun n => decide (pt_F sz tk n = 0)) (k + 1)))), (0, .ref (ad 0))]) hx hb dX0_bare_38 hl (k := 2) rfl (xr_inc _) (by decide) rfl (fun ls hl => ?_)
            refine lv_goto (tgt := 13) hx hb dX0_bare_41 (by decide) ?_
            exact ih_13 (k + 1) ls H locs (by omega) (by omega) hP hD hS (lv_sub hl [2, 1, 0] rfl)
    exact key13 _ 0 ls _ _ (Nat.zero_le _) (Nat.lt_succ_self _) hP hD hS (lv_sub hl [2, 1, 0] rfl)
  · skip
    refine lv_iconst (v := nI 0) hx hb dX0_bare_7 xc_0 ?_
    exact xr_retWi ((spans1, parts1, states1, table1, stateAt1, fits1, sameAs1, kn1, sc1)) hx hb hr hlk (⟨by unfold pt_bare; rw [if_neg c_4], hJ1⟩) hP hK hD hS dX0_bare_8

set_option maxHeartbeats 4000000 in
set_option maxRecDepth 100000 in
/-- covers(p, q) -/
theorem mt_X0_covers (l : Launch) (dC : Nat → ClassId) (dI : Nat → Nat → Nat) (hz : Nat) {ad : Nat → Nat} {cB cJ : ClassId} {sizes tokens spans subject parts : Nat → Nat} {states : Nat → Int64} {table stateAt fits sameAs : Nat → Nat} {cnt kn sc : Nat} {sz : Nat → Nat} {tk : Nat → Nat → Nat} (hL : XL sizes tokens subject cnt sz tk) (hJ : XJ (spans, parts, states, table, stateAt, fits, sameAs, kn, sc) sz tk) (xp xq : Int32) : Met l yX0_covers (ws_ yX0_covers cX0_covers 6 (some .boolean)) ({ frames := 4, cells := 0, slots := 0, locals := 89 } : Room) (va_Pc [.ref (ad 0), .int xp, .int xq] (xr_Pw (dC, dI) vwCl (XW ad cB cJ sizes tokens spans subject parts states table stateAt fits sameAs cnt kn sc) (tyX cB cJ) hz)) (va_Qi (fun (r : Int32) (u : XD) => xr_B r (pt_covers sz tk xp xq) ∧ XJ u sz tk) (xr_Bw (dC, dI) vwCl (tyX cB cJ) (va_A (XW ad cB cJ sizes tokens spans subject parts states table stateAt fits sameAs cnt kn sc) hz) (fun u => XWd ad cB cJ sizes tokens subject cnt u)) (va_A (XW ad cB cJ sizes tokens spans subject parts states table stateAt fits sameAs cnt kn sc) hz)) 0 0 (va_A (XW ad cB cJ sizes tokens spans subject parts states table stateAt fits sameAs cnt kn sc) hz) := by
  refine Met.ofW (cc := cX0_covers) (maxL := 6) (ret := (some .boolean)) (by decide) rfl ?_
  intro p e s m args below meth c s₁ B hml hv
  obtain ⟨rfl, hsz, hP, hK, hD0⟩ := hv
  have hx := B.exec
  have hb := B.bytes
  have hr := B.returns
  have hlk := B.notSynchronized
  have hts := atoms_spec (ws := (ws_ yX0_covers cX0_covers 6 (some .boolean))) B.pre
  have hts : ∀ w ∈ lw_all, w.before _ s = true := fun w h => hts w (List.mem_cons_of_mem _ h)
  have hown : s.vm.findClass RX0 = some m.cls := findClass_of_methodNamed B.named
  subst hsz
  have hD := hD0.self (sz := s.heap.size)
  generalize hAe : va_A (XW ad cB cJ sizes tokens spans subject parts states table stateAt fits sameAs cnt kn sc) s.heap.size = A at hD ⊢
  have hA : ∀ q : Nat, s.heap.size ≤ q → A q := fun q h => by rw [← hAe]; exact Or.inr h
  have hS : va_S A s.heap s.heap [] := va_S.rf
  have hl := lv_entry ([.ref (ad 0), .int xp, .int xq]) (n := 6) (Nat.le_of_ble_eq_true rfl)
  rw [lg_entry_eq]
  generalize (lg_sl ([.ref (ad 0), .int xp, .int xq]) ++ List.replicate (6 - (lg_sl ([.ref (ad 0), .int xp, .int xq])).length) Slot.unset).toArray = ls at hl ⊢
  have hl : lv_has ls 6 [(0, .ref (ad 0)), (1, .int xp), (2, .int xq)] := hl
  obtain rfl : cnt = sz 4 := hL.2.2.2.1
  have hz := hL.1.2.1
  refine lv_aload_n hx hb dX0_covers_0 rfl (lv_at hl 0 rfl) ?_
  refine lv_iload_n hx hb dX0_covers_1 rfl (lv_at hl 1 rfl) ?_
  refine xr_cVi (rest := []) ⟨hx, hb, hml, hown, hts⟩ (mt_X0_complete l dC dI hL xp) (cwV 1 hts gV_X0_86 rfl rfl rfl hd_X0_complete ⟨Nat.le_of_ble_eq_true rfl, Nat.le_of_ble_eq_true rfl⟩) hK hP 0 0 rfl rfl rfl hl.1 rfl (Nat.le_of_ble_eq_true rfl) dX0_covers_2 ⟨Nat.zero_le _, Nat.zero_le _⟩ (fun r_2 h_2 => ?_)
  refine xr_ifeqB (tgt := 16) hx hb h_2 dX0_covers_5 (by decide) (fun c_5 => ?_) (fun c_5 => ?_)
  · skip
    refine lv_iconst (v := nI 0) hx hb dX0_covers_16 xc_0 ?_
    exact xr_retWz ((spans, parts, states, table, stateAt, fits, sameAs, kn, sc)) hx hb hr hlk xr_nz0 (⟨xr_B0 (fun ⟨a1, b1, q1, e1, q2, e2, q3, q4, q5⟩ => by first | exact c_5 ⟨a1, q1, e1, q3⟩ | exact c_13 ⟨b1, q2, e2, q4⟩), hJ⟩) hP hK hD hS dX0_covers_17
  · obtain ⟨a, ha, rfl, hna⟩ := c_5
    refine lv_aload_n hx hb dX0_covers_8 rfl (lv_at hl 0 rfl) ?_
    refine lv_iload_n hx hb dX0_covers_9 rfl (lv_at hl 2 rfl) ?_
    refine xr_cVi (rest := []) ⟨hx, hb, hml, hown, hts⟩ (mt_X0_complete l dC dI hL xq) (cwV 1 hts gV_X0_86 rfl rfl rfl hd_X0_complete ⟨Nat.le_of_ble_eq_true rfl, Nat.le_of_ble_eq_true rfl⟩) hK hP 0 0 rfl rfl rfl hl.1 rfl (Nat.le_of_ble_eq_true rfl) dX0_covers_10 ⟨Nat.zero_le _, Nat.zero_le _⟩ (fun r_10 h_10 => ?_)
    refine xr_ifneB (tgt := 18) hx hb h_10 dX0_covers_13 (by decide) (fun c_13 => ?_) (fun c_13 => ?_)
    · obtain ⟨b, hb4, rfl, hnb⟩ := c_13
      have hza := hL.1.1 a ha
      have hzb := hL.1.1 b hb4
      have hoa := pt_wf_ok hL.1 (l := a) (by omega)
      have hob := pt_wf_ok hL.1 (l := b) (by omega)
      refine lv_aload_n hx hb dX0_covers_18 rfl (lv_at hl 0 rfl) ?_
      refine lv_iload_n hx hb dX0_covers_19 rfl (lv_at hl 2 rfl) ?_
      refine xr_cVwv (wr := []) (rest := []) ⟨hx, hb, hml, hown, hts⟩ (mt_X0_measure l dC dI _ hL b hb4) (cwV 1 hts gV_X0_68 rfl rfl rfl hd_X0_measure ⟨Nat.le_of_ble_eq_true rfl, Nat.le_of_ble_eq_true rfl⟩) hK hP hD hS hA [0, 1, 2, 3, 4, 5, 6, 7, 8, 9, 10] [] rfl rfl rfl (by decide) (by decide) (by decide) 0 0 rfl rfl rfl hl.1 rfl (Nat.le_of_ble_eq_true rfl) dX0_covers_20 ⟨Nat.zero_le _, Nat.zero_le _⟩ (fun u H locs h_20 hP hD hS => ?_)
      obtain ⟨hm1, hm2⟩ := h_20
      have hm := hm1 hnb
      have hP : va_P (dC, dI) vwCl (XW ad cB cJ sizes tokens u subject parts states table stateAt fits sameAs (sz 4) kn sc) H := hP
      have hD : va_D A (XW ad cB cJ sizes tokens u subject parts states table stateAt fits sameAs (sz 4) kn sc) := hD
      refine lv_iconst (v := nI 0) hx hb dX0_covers_23 xc_0 ?_
      refine lv_istore_n (lv' := [(3, .int (nI 0)), (0, .ref (ad 0)), (1, .int (nI a)), (2, .int (nI b))]) hx hb dX0_covers_24 rfl hl (by decide) rfl (fun ls hl => ?_)
      refine lv_iconst (v := nI 0) hx hb dX0_covers_25 xc_0 ?_
      refine lv_istore (lv' := [(4, .int (nI 0)), (3, .int (nI 0)), (0, .ref (ad 0)), (1, .int (nI a)), (2, .int (nI b))]) hx hb dX0_covers_26 hl (by decide) rfl (fun ls hl => ?_)
      have key28 : ∀ (d_28 : Nat) (x : Nat) (y : Nat) (ls : Array Slot) (H : Heap) (locs : List Loc), (x ≤ sz a) → (y ≤ sz b) → (pt_need (tk b) y = pt_need (tk a) x) → (pt_lay (tk a) (tk b) (sz b) (sz a) 0 0 = pt_lay (tk a) (tk b) (sz b) (sz a - x) x y) → (sz a - x) < d_28 → va_P (dC, dI) vwCl (XW ad cB cJ sizes tokens u subject parts states table stateAt fits sameAs (sz 4) kn sc) H → va_D A (XW ad cB cJ sizes tokens u subject parts states table stateAt fits sameAs (sz 4) kn sc) → va_S A s.heap H locs → lv_has ls 6 [(0, .ref (ad 0)), (1, .int (nI a)), (2, .int (nI b)), (3, .int (nI y)), (4, .int (nI x))] → W p l e (headSpec (ws_ yX0_covers cX0_covers 6 (some .boolean)) ({ frames := 4, cells := 0, slots := 0, locals := 89 } : Room)).room s m ([.ref (ad 0), .int (nI a), .int (nI b)] : List Value).toArray below meth c H locs 0 0 (MQ below (va_Qi (fun (r : Int32) (u : XD) => xr_B r (pt_covers sz tk (nI a) (nI b)) ∧ XJ u sz tk) (xr_Bw (dC, dI) vwCl (tyX cB cJ) A (fun u => XWd ad cB cJ sizes tokens subject (sz 4) u)) A) ([.ref (ad 0), .int (nI a), .int (nI b)] : List Value).toArray s 0 0 A) (F0 m 28 ls []) := by
        intro d_28
        induction d_28 with
        | zero => intro x y ls H locs hx9 hy hny hs hd_28; exact absurd hd_28 (Nat.not_lt_zero _)
        | succ d_28 ih_28 =>
          intro x y ls H locs hx9 hy hny hs hd_28 hP hD hS hl
          refine lv_iload hx hb dX0_covers_28 (lv_at hl 4 rfl) ?_
          refine lv_aload_n hx hb dX0_covers_30 rfl (lv_at hl 0 rfl) ?_
          refine va_get (D := (dC, dI)) (ci := 0) (v := .ref (ad 1)) (C := RX0) (T := TX0) (N := 13) hx hb hts in_X0 hown hK hP 0 rfl rfl 0 (by decide) (hts _ q31) (fun _ h9 => h9) rfl dX0_covers_31 ?_
          refine lv_iload_n hx hb dX0_covers_34 rfl (lv_at hl 1 rfl) ?_
          refine xr_bald hx hb hK hP 1 0 rfl rfl (k := a) (ha) (by decide) dX0_covers_35 ?_
          refine xr_conv (y := (nI (sz a))) (by rw [hL.2.1 a ha]) ?_
          refine xr_icmp_ge (tgt := 107) hx hb dX0_covers_36 (by decide) (by omega) (by omega) (fun c_36 => ?_) (fun c_36 => ?_)
          · have e36 : sz a - x = 0 := by omega
            refine lv_iconst (v := nI 1) hx hb dX0_covers_107 xc_1 ?_
            exact xr_retWz ((u, parts, states, table, stateAt, fits, sameAs, kn, sc)) hx hb hr hlk xr_nz1 (⟨xr_B1 ⟨a, b, ha, rfl, hb4, rfl, hna, hnb, by rw [hs, e36]; rfl⟩, hJ⟩) hP hK hD hS dX0_covers_108
          · have h7 := pt_wf_7 hL.1 (l := a) (by omega) c_36
            have ex : sz a - x = (sz a - (x + 1)) + 1 := by omega
            have hna1 := hoa x c_36
            have hyb : y < sz b := pt_lt_of_need hnb hy (by omega)
            have h7b := pt_wf_7 hL.1 (l := b) (by omega) hyb
            have hsa := pt_need_s (tk a) x
            have hsb := pt_need_s (tk b) y
            have hki := pt_skip_in (tk b) (n := sz b) (i := y) 1 (by omega)
            have hkn := pt_need_skip' (i := y) (o := 1) hob hnb (by omega) (by omega)
            refine lv_aload_n hx hb dX0_covers_39 rfl (lv_at hl 0 rfl) ?_
            refine va_get (D := (dC, dI)) (ci := 0) (v := .ref (ad 2)) (C := RX0) (T := TX0) (N := 13) hx hb hts in_X0 hown hK hP 0 rfl rfl 1 (by decide) (hts _ q32) (fun _ h9 => h9) rfl dX0_covers_40 ?_
            refine lv_iload_n hx hb dX0_covers_43 rfl (lv_at hl 1 rfl) ?_
            refine lv_bipush (v := nI 9) hx hb dX0_covers_44 xb_9 ?_
            refine xr_imul hx hb dX0_covers_46 ?_
            refine lv_iload hx hb dX0_covers_47 (lv_at hl 4 rfl) ?_
            refine xr_iadd hx hb dX0_covers_49 ?_
            refine xr_bald hx hb hK hP 2 0 rfl rfl (k := (a * 9) + x) (by omega) (by decide) dX0_covers_50 ?_
            refine xr_conv (y := (nI (tk a x))) (by rw [hL.2.2.1 a ha x c_36]) ?_
            refine lv_istore (lv' := [(5, .int (nI (tk a x))), (0, .ref (ad 0)), (1, .int (nI a)), (2, .int (nI b)), (3, .int (nI y)), (4, .int (nI x))]) hx hb dX0_covers_51 hl (by decide) rfl (fun ls hl => ?_)
            refine lv_iload hx hb dX0_covers_53 (lv_at hl 0 rfl) ?_
            refine lv_bipush (v := nI 7) hx hb dX0_covers_55 xb_7 ?_
            refine xr_icmp_ne (tgt := 77) hx hb dX0_covers_57 (by decide) (by omega) (by omega) (fun c_57 => ?_) (fun c_57 => ?_)
            · skip
              refine lv_iload hx hb dX0_covers_77 (lv_at hl 0 rfl) ?_
              refine lv_aload_n hx hb dX0_covers_79 rfl (lv_at hl 1 rfl) ?_
              refine va_get (D := (dC, dI)) (ci := 0) (v := .ref (ad 2)) (C := RX0) (T := TX0) (N := 13) hx hb hts in_X0 hown hK hP 0 rfl rfl 1 (by decide) (hts _ q32) (fun _ h9 => h9) rfl dX0_covers_80 ?_
              refine lv_iload_n hx hb dX0_covers_83 rfl (lv_at hl 3 rfl) ?_
              refine lv_bipush (v := nI 9) hx hb dX0_covers_84 xb_9 ?_
              refine xr_imul hx hb dX0_covers_86 ?_
              refine lv_iload_n hx hb dX0_covers_87 rfl (lv_at hl 4 rfl) ?_
              refine xr_iadd hx hb dX0_covers_88 ?_
              refine xr_bald hx hb hK hP 2 0 rfl rfl (k := (b * 9) + y) (by omega) (by decide) dX0_covers_89 ?_
              refine xr_conv (y := (nI (tk b y))) (by rw [hL.2.2.1 b hb4 y hyb]) ?_
              refine xr_icmp_ne (tgt := 99) hx hb dX0_covers_90 (by decide) (by omega) (by omega) (fun c_90 => ?_) (fun c_90 => ?_)
              · skip
                refine lv_iconst (v := nI 0) hx hb dX0_covers_99 xc_0 ?_
                exact xr_retWz ((u, parts, states, table, stateAt, fits, sameAs, kn, sc)) hx hb hr hlk xr_nz0 (⟨xr_B0 (fun ⟨a1, b1, q1, e1, q2, e2, q3, q4, q5⟩ => by rw [← (nI_eq (by omega) (by omega)).mp e1, ← (nI_eq (by omega) (by omega)).mp e2, hs, ex, pt_lay_n c_57 (fun q => c_90 q.2.symm)] at q5; cases q5), hJ⟩) hP hK hD hS dX0_covers_100
              · skip
                refine lv_iinc (v := (nI (y + 1))) (lv' := [(3, .int (nI (y + 1))), (5, .int (nI (tk a x))), (0, .ref (ad 0)), (1, .int (nI a)), (2, .int (nI b)), (4, .int (nI x))]) hx hb dX0_covers_93 hl (k := 4) rfl (xr_inc _) (by decide) rfl (fun ls hl => ?_)
                refine lv_goto (tgt := 101) hx hb dX0_covers_96 (by decide) ?_
                refine lv_iinc (v := (nI (x + 1))) (lv' := [(4, .int (nI (x + 1))), (3, .int (nI (y + 1))), (5, .int (nI (tk a x))), (0, .ref (ad 0)), (1, .int (nI a)), (2, .int (nI b))]) hx hb dX0_covers_101 hl (k := 5) rfl (xr_inc _) (by decide) rfl (fun ls hl => ?_)
                refine lv_goto (tgt := 28) hx hb dX0_covers_104 (by decide) ?_
                exact ih_28 (x + 1) (y + 1) ls H locs (by omega) (by omega) (by rw [c_90] at hsa; omega) (by rw [hs, ex, pt_lay_t c_57 hyb c_90.symm]) (by omega) hP hD hS (lv_sub hl [3, 4, 5, 1, 0] rfl)
            · skip
              refine lv_iload_n hx hb dX0_covers_60 rfl (lv_at hl 4 rfl) ?_
              refine lv_aload_n hx hb dX0_covers_61 rfl (lv_at hl 1 rfl) ?_
              refine va_get (D := (dC, dI)) (ci := 0) (v := .ref (ad 3)) (C := RX0) (T := TX0) (N := 13) hx hb hts in_X0 hown hK hP 0 rfl rfl 2 (by decide) (hts _ q33) (fun _ h9 => h9) rfl dX0_covers_62 ?_
              refine lv_iload_n hx hb dX0_covers_65 rfl (lv_at hl 3 rfl) ?_
              refine lv_bipush (v := nI 9) hx hb dX0_covers_66 xb_9 ?_
              refine xr_imul hx hb dX0_covers_68 ?_
              refine lv_iload_n hx hb dX0_covers_69 rfl (lv_at hl 4 rfl) ?_
              refine xr_iadd hx hb dX0_covers_70 ?_
              refine xr_bald hx hb hK hP 3 0 rfl rfl (k := (b * 9) + y) (by omega) (by decide) dX0_covers_71 ?_
              refine xr_conv (y := (nI (pt_skip (tk b) (sz b) y 1 - y))) (by rw [hm y hyb]) ?_
              refine xr_iadd hx hb dX0_covers_72 ?_
              refine xr_conv (y := (nI (pt_skip (tk b) (sz b) y 1))) (congrArg nI (by omega)) ?_
              refine lv_istore_n (lv' := [(3, .int (nI (pt_skip (tk b) (sz b) y 1))), (5, .int (nI (tk a x))), (0, .ref (ad 0)), (1, .int (nI a)), (2, .int (nI b)), (4, .int (nI x))]) hx hb dX0_covers_73 rfl hl (by decide) rfl (fun ls hl => ?_)
              refine lv_goto (tgt := 101) hx hb dX0_covers_74 (by decide) ?_
              refine lv_iinc (v := (nI (x + 1))) (lv' := [(4, .int (nI (x + 1))), (3, .int (nI (pt_skip (tk b) (sz b) y 1))), (5, .int (nI (tk a x))), (0, .ref (ad 0)), (1, .int (nI a)), (2, .int (nI b))]) hx hb dX0_covers_101 hl (k := 5) rfl (xr_inc _) (by decide) rfl (fun ls hl => ?_)
              refine lv_goto (tgt := 28) hx hb dX0_covers_104 (by decide) ?_
              exact ih_28 (x + 1) (pt_skip (tk b) (sz b) y 1) ls H locs (by omega) (hki.2) (by rw [c_57, pt_ar_7] at hsa; omega) (by rw [hs, ex, pt_lay_g c_57]) (by omega) hP hD hS (lv_sub hl [3, 4, 5, 1, 0] rfl)
      exact key28 _ 0 0 ls _ _ (Nat.zero_le _) (Nat.zero_le _) (rfl) (rfl) (Nat.lt_succ_self _) hP hD hS (lv_sub hl [2, 3, 4, 1, 0] rfl)
    · skip
      refine lv_iconst (v := nI 0) hx hb dX0_covers_16 xc_0 ?_
      exact xr_retWz ((spans, parts, states, table, stateAt, fits, sameAs, kn, sc)) hx hb hr hlk xr_nz0 (⟨xr_B0 (fun ⟨a1, b1, q1, e1, q2, e2, q3, q4, q5⟩ => by first | exact c_5 ⟨a1, q1, e1, q3⟩ | exact c_13 ⟨b1, q2, e2, q4⟩), hJ⟩) hP hK hD hS dX0_covers_17
end
section
/-! the constructors -/
theorem xi_b (cA : ClassId) (n : Nat) : vp_cell cA (n, .inl (fN (fun _ => 0))) = arrV cA n (fun _ => defaultValue .byte) := by
  show arrV cA n (fun _ => .int (nI 0)) = arrV cA n (fun _ => .int 0)
  rw [nI_0]
theorem xi_i (cA : ClassId) (n : Nat) : vp_cell cA (n, .inl (fN (fun _ => 0))) = arrV cA n (fun _ => defaultValue .int) := by
  show arrV cA n (fun _ => .int (nI 0)) = arrV cA n (fun _ => .int 0)
  rw [nI_0]
theorem xi_p1 : pI 1 = 0 := by decide +kernel
theorem xi_P (cA : ClassId) (n : Nat) : vp_cell cA (n, .inl (fP (fun _ => 1))) = arrV cA n (fun _ => defaultValue .byte) := by
  show arrV cA n (fun _ => .int (pI 1)) = arrV cA n (fun _ => .int 0)
  rw [xi_p1]
theorem xi_l (cA : ClassId) (n : Nat) : vp_cell cA (n, .inr (.inl (fun _ => 0))) = arrV cA n (fun _ => defaultValue .long) := rfl
theorem xi_cls {D : va_G} {cl : List vw_C} {tys : List (ClassId × FieldType)} {s : State} (hK : va_K D cl tys s) (i j : Nat) {c1 c2 : ClassId} (h1 : tys[i]? = some (c1, .byte)) (h2 : tys[j]? = some (c2, .byte)) : c1 = c2 := by
  have a : s.vm.findClass _ = some c1 := (hK.2 i _ h1).2
  have b : s.vm.findClass _ = some c2 := (hK.2 j _ h2).2
  exact Option.some.inj (a.symm.trans b)
theorem xi_clsI {D : va_G} {cl : List vw_C} {tys : List (ClassId × FieldType)} {s : State} (hK : va_K D cl tys s) (i j : Nat) {c1 c2 : ClassId} (h1 : tys[i]? = some (c1, .int)) (h2 : tys[j]? = some (c2, .int)) : c1 = c2 := by
  have a : s.vm.findClass _ = some c1 := (hK.2 i _ h1).2
  have b : s.vm.findClass _ = some c2 := (hK.2 j _ h2).2
  exact Option.some.inj (a.symm.trans b)
abbrev xz : Nat → Nat := fun _ => 0
abbrev XW0 (ad : Nat → Nat) (cB cJ : ClassId) : va_W := XW ad cB cJ xz xz xz xz xz (fun _ => 0) (fun _ => 1) xz xz xz 0 0 0
abbrev MW0 (bd : Nat → Nat) (cI : ClassId) : va_W := MW bd cI xz xz
abbrev X0new (h : Nat) : va_W := [(h, .inr (0, [.null, .null, .null, .int (nI 0), .null, .null, .int (nI 0), .int (nI 0), .null, .null, .null, .null, .null]))]
abbrev X1new (h : Nat) : va_W := [(h, .inr (1, [.null, .null]))]
set_option maxHeartbeats 4000000 in
set_option maxRecDepth 100000 in
/-- the constructor: all is 0 -/
theorem mt_X0_init (l : Launch) (dC : Nat → ClassId) (dI : Nat → Nat → Nat) (h hz : Nat) : Met l yX0_init (ws_ yX0_init cX0_init 1 none) ({ frames := 1, cells := 10, slots := 1635, locals := 12 } : Room) (va_Pc [.ref h] (xr_Pw (dC, dI) vwCl (X0new h) [] hz)) (va_Qv (fun (_ : (Nat → Nat) × ClassId × ClassId) => True) (fun u t => u.1 0 = h ∧ va_P (dC, dI) vwCl (XW0 u.1 u.2.1 u.2.2) t.heap ∧ va_K (dC, dI) vwCl (tyX u.2.1 u.2.2) t ∧ va_D (va_A (X0new h) hz) (XW0 u.1 u.2.1 u.2.2)) (va_A (X0new h) hz)) 10 1635 (va_A (X0new h) hz) := by
  refine Met.ofW (cc := cX0_init) (maxL := 1) (ret := none) (by decide) rfl ?_
  intro p e s m args below meth c s₁ B hml hv
  obtain ⟨rfl, hsz, hP, hK, hD0⟩ := hv
  have hx := B.exec
  have hb := B.bytes
  have hr := B.returns
  have hlk := B.notSynchronized
  have hts := atoms_spec (ws := (ws_ yX0_init cX0_init 1 none)) B.pre
  have hts : ∀ w ∈ lw_all, w.before _ s = true := fun w h => hts w (List.mem_cons_of_mem _ h)
  have hown : s.vm.findClass RX0 = some m.cls := findClass_of_methodNamed B.named
  have hin : meth.name = "<init>" := (name_of_methodNamed B.named B.method).1
  subst hsz
  have hD := hD0.self (sz := s.heap.size)
  generalize hAe : va_A (X0new h) s.heap.size = A at hD ⊢
  have hA : ∀ q : Nat, s.heap.size ≤ q → A q := fun q h => by rw [← hAe]; exact Or.inr h
  have hS : va_S A s.heap s.heap [] := va_S.rf
  have hl := lv_entry ([.ref h]) (n := 1) (Nat.le_of_ble_eq_true rfl)
  rw [lg_entry_eq]
  generalize (lg_sl ([.ref h]) ++ List.replicate (1 - (lg_sl ([.ref h])).length) Slot.unset).toArray = ls at hl ⊢
  have hl : lv_has ls 1 [(0, .ref h)] := hl
  refine lv_aload_n hx hb dX0_init_0 rfl (lv_at hl 0 rfl) ?_
  refine W.objInit hx hb hown (hts _ q28) (hts _ q29) (hts _ q30) rfl (by rw [hml]; exact hl.1) rfl dX0_init_1 (Nat.le_of_ble_eq_true rfl) (Nat.le_of_ble_eq_true rfl) ?_
  refine W.eq (g2 := F0 m 4 ls []) rfl ?_
  refine lv_aload_n hx hb dX0_init_4 rfl (lv_at hl 0 rfl) ?_
  refine lv_iconst (v := 4) hx hb dX0_init_5 (by decide) ?_
  refine va_newa (atype := .byte) (ty := .byte) (a0 := (4, .inl (fN (fun _ => 0)))) (N' := 4) hx hb (hts _ q71) rfl hK hP hD hS hA (fun cA => xi_b cA 4) (by decide) (by decide) (by decide) (Nat.le_of_ble_eq_true rfl) (Nat.le_of_ble_eq_true rfl) dX0_init_6 (fun q1_ cN H hK hP hD hS => ?_)
  obtain ⟨cB, rfl⟩ : ∃ c : ClassId, c = cN := ⟨_, rfl⟩
  have hK : va_K (dC, dI) vwCl [(cB, .byte)] s := hK
  refine W.widen (k := 1) (n := 4) (by omega) (by omega) ?_
  have hP : va_P (dC, dI) vwCl ([(h, .inr (0, [.null, .null, .null, .int (nI 0), .null, .null, .int (nI 0), .int (nI 0), .null, .null, .null, .null, .null])), (q1_, .inl (cB, 4, .inl (fN xz)))]) H := hP
  have hD : va_D A ([(h, .inr (0, [.null, .null, .null, .int (nI 0), .null, .null, .int (nI 0), .int (nI 0), .null, .null, .null, .null, .null])), (q1_, .inl (cB, 4, .inl (fN xz)))]) := hD
  refine va_putF (D := (dC, dI)) (ci := 0) (v := .ref q1_) (ty := .array .byte) (C := RX0) (T := TX0) (N := 13) hx hb hts in_X0 tyX0 tyX0_ok nmX0 hown hK hP hD hS 0 rfl rfl 0 (by decide) (hts _ q31) (fun _ h9 => h9) rfl hin rfl (by decide +kernel) rfl rfl (Nat.le_of_ble_eq_true rfl) dX0_init_8 (fun H locs hP hD hS => ?_)
  have hP : va_P (dC, dI) vwCl ([(h, .inr (0, [.ref q1_, .null, .null, .int (nI 0), .null, .null, .int (nI 0), .int (nI 0), .null, .null, .null, .null, .null])), (q1_, .inl (cB, 4, .inl (fN xz)))]) H := hP
  have hD : va_D A ([(h, .inr (0, [.ref q1_, .null, .null, .int (nI 0), .null, .null, .int (nI 0), .int (nI 0), .null, .null, .null, .null, .null])), (q1_, .inl (cB, 4, .inl (fN xz)))]) := hD
  refine lv_aload_n hx hb dX0_init_11 rfl (lv_at hl 0 rfl) ?_
  refine lv_bipush (v := 36) hx hb dX0_init_12 (by decide) ?_
  refine va_newa (atype := .byte) (ty := .byte) (a0 := (36, .inl (fN (fun _ => 0)))) (N' := 36) hx hb (hts _ q71) rfl hK hP hD hS hA (fun cA => xi_b cA 36) (by decide) (by decide) (by decide) (Nat.le_of_ble_eq_true rfl) (Nat.le_of_ble_eq_true rfl) dX0_init_14 (fun q2_ cN H hK hP hD hS => ?_)
  obtain rfl := xi_cls hK 0 1 rfl rfl
  have hK := hK.sub (tys' := [(cB, .byte)]) [0] rfl
  refine W.widen (k := 2) (n := 40) (by omega) (by omega) ?_
  have hP : va_P (dC, dI) vwCl ([(h, .inr (0, [.ref q1_, .null, .null, .int (nI 0), .null, .null, .int (nI 0), .int (nI 0), .null, .null, .null, .null, .null])), (q1_, .inl (cB, 4, .inl (fN xz))), (q2_, .inl (cB, 36, .inl (fN xz)))]) H := hP
  have hD : va_D A ([(h, .inr (0, [.ref q1_, .null, .null, .int (nI 0), .null, .null, .int (nI 0), .int (nI 0), .null, .null, .null, .null, .null])), (q1_, .inl (cB, 4, .inl (fN xz))), (q2_, .inl (cB, 36, .inl (fN xz)))]) := hD
  refine va_putF (D := (dC, dI)) (ci := 0) (v := .ref q2_) (ty := .array .byte) (C := RX0) (T := TX0) (N := 13) hx hb hts in_X0 tyX0 tyX0_ok nmX0 hown hK hP hD hS 0 rfl rfl 1 (by decide) (hts _ q32) (fun _ h9 => h9) rfl hin rfl (by decide +kernel) rfl rfl (Nat.le_of_ble_eq_true rfl) dX0_init_16 (fun H locs hP hD hS => ?_)
  have hP : va_P (dC, dI) vwCl ([(h, .inr (0, [.ref q1_, .ref q2_, .null, .int (nI 0), .null, .null, .int (nI 0), .int (nI 0), .null, .null, .null, .null, .null])), (q1_, .inl (cB, 4, .inl (fN xz))), (q2_, .inl (cB, 36, .inl (fN xz)))]) H := hP
  have hD : va_D A ([(h, .inr (0, [.ref q1_, .ref q2_, .null, .int (nI 0), .null, .null, .int (nI 0), .int (nI 0), .null, .null, .null, .null, .null])), (q1_, .inl (cB, 4, .inl (fN xz))), (q2_, .inl (cB, 36, .inl (fN xz)))]) := hD
  refine lv_aload_n hx hb dX0_init_19 rfl (lv_at hl 0 rfl) ?_
  refine lv_bipush (v := 36) hx hb dX0_init_20 (by decide) ?_
  refine va_newa (atype := .byte) (ty := .byte) (a0 := (36, .inl (fN (fun _ => 0)))) (N' := 36) hx hb (hts _ q71) rfl hK hP hD hS hA (fun cA => xi_b cA 36) (by decide) (by decide) (by decide) (Nat.le_of_ble_eq_true rfl) (Nat.le_of_ble_eq_true rfl) dX0_init_22 (fun q3_ cN H hK hP hD hS => ?_)
  obtain rfl := xi_cls hK 0 1 rfl rfl
  have hK := hK.sub (tys' := [(cB, .byte)]) [0] rfl
  refine W.widen (k := 3) (n := 76) (by omega) (by omega) ?_
  have hP : va_P (dC, dI) vwCl ([(h, .inr (0, [.ref q1_, .ref q2_, .null, .int (nI 0), .null, .null, .int (nI 0), .int (nI 0), .null, .null, .null, .null, .null])), (q1_, .inl (cB, 4, .inl (fN xz))), (q2_, .inl (cB, 36, .inl (fN xz))), (q3_, .inl (cB, 36, .inl (fN xz)))]) H := hP
  have hD : va_D A ([(h, .inr (0, [.ref q1_, .ref q2_, .null, .int (nI 0), .null, .null, .int (nI 0), .int (nI 0), .null, .null, .null, .null, .null])), (q1_, .inl (cB, 4, .inl (fN xz))), (q2_, .inl (cB, 36, .inl (fN xz))), (q3_, .inl (cB, 36, .inl (fN xz)))]) := hD
  refine va_putF (D := (dC, dI)) (ci := 0) (v := .ref q3_) (ty := .array .byte) (C := RX0) (T := TX0) (N := 13) hx hb hts in_X0 tyX0 tyX0_ok nmX0 hown hK hP hD hS 0 rfl rfl 2 (by decide) (hts _ q33) (fun _ h9 => h9) rfl hin rfl (by decide +kernel) rfl rfl (Nat.le_of_ble_eq_true rfl) dX0_init_24 (fun H locs hP hD hS => ?_)
  have hP : va_P (dC, dI) vwCl ([(h, .inr (0, [.ref q1_, .ref q2_, .ref q3_, .int (nI 0), .null, .null, .int (nI 0), .int (nI 0), .null, .null, .null, .null, .null])), (q1_, .inl (cB, 4, .inl (fN xz))), (q2_, .inl (cB, 36, .inl (fN xz))), (q3_, .inl (cB, 36, .inl (fN xz)))]) H := hP
  have hD : va_D A ([(h, .inr (0, [.ref q1_, .ref q2_, .ref q3_, .int (nI 0), .null, .null, .int (nI 0), .int (nI 0), .null, .null, .null, .null, .null])), (q1_, .inl (cB, 4, .inl (fN xz))), (q2_, .inl (cB, 36, .inl (fN xz))), (q3_, .inl (cB, 36, .inl (fN xz)))]) := hD
  refine lv_aload_n hx hb dX0_init_27 rfl (lv_at hl 0 rfl) ?_
  refine lv_bipush (v := 25) hx hb dX0_init_28 (by decide) ?_
  refine va_newa (atype := .byte) (ty := .byte) (a0 := (25, .inl (fN (fun _ => 0)))) (N' := 25) hx hb (hts _ q71) rfl hK hP hD hS hA (fun cA => xi_b cA 25) (by decide) (by decide) (by decide) (Nat.le_of_ble_eq_true rfl) (Nat.le_of_ble_eq_true rfl) dX0_init_30 (fun q4_ cN H hK hP hD hS => ?_)
  obtain rfl := xi_cls hK 0 1 rfl rfl
  have hK := hK.sub (tys' := [(cB, .byte)]) [0] rfl
  refine W.widen (k := 4) (n := 101) (by omega) (by omega) ?_
  have hP : va_P (dC, dI) vwCl ([(h, .inr (0, [.ref q1_, .ref q2_, .ref q3_, .int (nI 0), .null, .null, .int (nI 0), .int (nI 0), .null, .null, .null, .null, .null])), (q1_, .inl (cB, 4, .inl (fN xz))), (q2_, .inl (cB, 36, .inl (fN xz))), (q3_, .inl (cB, 36, .inl (fN xz))), (q4_, .inl (cB, 25, .inl (fN xz)))]) H := hP
  have hD : va_D A ([(h, .inr (0, [.ref q1_, .ref q2_, .ref q3_, .int (nI 0), .null, .null, .int (nI 0), .int (nI 0), .null, .null, .null, .null, .null])), (q1_, .inl (cB, 4, .inl (fN xz))), (q2_, .inl (cB, 36, .inl (fN xz))), (q3_, .inl (cB, 36, .inl (fN xz))), (q4_, .inl (cB, 25, .inl (fN xz)))]) := hD
  refine va_putF (D := (dC, dI)) (ci := 0) (v := .ref q4_) (ty := .array .byte) (C := RX0) (T := TX0) (N := 13) hx hb hts in_X0 tyX0 tyX0_ok nmX0 hown hK hP hD hS 0 rfl rfl 4 (by decide) (hts _ q35) (fun _ h9 => h9) rfl hin rfl (by decide +kernel) rfl rfl (Nat.le_of_ble_eq_true rfl) dX0_init_32 (fun H locs hP hD hS => ?_)
  have hP : va_P (dC, dI) vwCl ([(h, .inr (0, [.ref q1_, .ref q2_, .ref q3_, .int (nI 0), .ref q4_, .null, .int (nI 0), .int (nI 0), .null, .null, .null, .null, .null])), (q1_, .inl (cB, 4, .inl (fN xz))), (q2_, .inl (cB, 36, .inl (fN xz))), (q3_, .inl (cB, 36, .inl (fN xz))), (q4_, .inl (cB, 25, .inl (fN xz)))]) H := hP
  have hD : va_D A ([(h, .inr (0, [.ref q1_, .ref q2_, .ref q3_, .int (nI 0), .ref q4_, .null, .int (nI 0), .int (nI 0), .null, .null, .null, .null, .null])), (q1_, .inl (cB, 4, .inl (fN xz))), (q2_, .inl (cB, 36, .inl (fN xz))), (q3_, .inl (cB, 36, .inl (fN xz))), (q4_, .inl (cB, 25, .inl (fN xz)))]) := hD
  refine lv_aload_n hx hb dX0_init_35 rfl (lv_at hl 0 rfl) ?_
  refine lv_bipush (v := 25) hx hb dX0_init_36 (by decide) ?_
  refine va_newa (atype := .byte) (ty := .byte) (a0 := (25, .inl (fN (fun _ => 0)))) (N' := 25) hx hb (hts _ q71) rfl hK hP hD hS hA (fun cA => xi_b cA 25) (by decide) (by decide) (by decide) (Nat.le_of_ble_eq_true rfl) (Nat.le_of_ble_eq_true rfl) dX0_init_38 (fun q5_ cN H hK hP hD hS => ?_)
  obtain rfl := xi_cls hK 0 1 rfl rfl
  have hK := hK.sub (tys' := [(cB, .byte)]) [0] rfl
  refine W.widen (k := 5) (n := 126) (by omega) (by omega) ?_
  have hP : va_P (dC, dI) vwCl ([(h, .inr (0, [.ref q1_, .ref q2_, .ref q3_, .int (nI 0), .ref q4_, .null, .int (nI 0), .int (nI 0), .null, .null, .null, .null, .null])), (q1_, .inl (cB, 4, .inl (fN xz))), (q2_, .inl (cB, 36, .inl (fN xz))), (q3_, .inl (cB, 36, .inl (fN xz))), (q4_, .inl (cB, 25, .inl (fN xz))), (q5_, .inl (cB, 25, .inl (fN xz)))]) H := hP
  have hD : va_D A ([(h, .inr (0, [.ref q1_, .ref q2_, .ref q3_, .int (nI 0), .ref q4_, .null, .int (nI 0), .int (nI 0), .null, .null, .null, .null, .null])), (q1_, .inl (cB, 4, .inl (fN xz))), (q2_, .inl (cB, 36, .inl (fN xz))), (q3_, .inl (cB, 36, .inl (fN xz))), (q4_, .inl (cB, 25, .inl (fN xz))), (q5_, .inl (cB, 25, .inl (fN xz)))]) := hD
  refine va_putF (D := (dC, dI)) (ci := 0) (v := .ref q5_) (ty := .array .byte) (C := RX0) (T := TX0) (N := 13) hx hb hts in_X0 tyX0 tyX0_ok nmX0 hown hK hP hD hS 0 rfl rfl 5 (by decide) (hts _ q36) (fun _ h9 => h9) rfl hin rfl (by decide +kernel) rfl rfl (Nat.le_of_ble_eq_true rfl) dX0_init_40 (fun H locs hP hD hS => ?_)
  have hP : va_P (dC, dI) vwCl ([(h, .inr (0, [.ref q1_, .ref q2_, .ref q3_, .int (nI 0), .ref q4_, .ref q5_, .int (nI 0), .int (nI 0), .null, .null, .null, .null, .null])), (q1_, .inl (cB, 4, .inl (fN xz))), (q2_, .inl (cB, 36, .inl (fN xz))), (q3_, .inl (cB, 36, .inl (fN xz))), (q4_, .inl (cB, 25, .inl (fN xz))), (q5_, .inl (cB, 25, .inl (fN xz)))]) H := hP
  have hD : va_D A ([(h, .inr (0, [.ref q1_, .ref q2_, .ref q3_, .int (nI 0), .ref q4_, .ref q5_, .int (nI 0), .int (nI 0), .null, .null, .null, .null, .null])), (q1_, .inl (cB, 4, .inl (fN xz))), (q2_, .inl (cB, 36, .inl (fN xz))), (q3_, .inl (cB, 36, .inl (fN xz))), (q4_, .inl (cB, 25, .inl (fN xz))), (q5_, .inl (cB, 25, .inl (fN xz)))]) := hD
  refine lv_aload_n hx hb dX0_init_43 rfl (lv_at hl 0 rfl) ?_
  refine lv_bipush (v := 26) hx hb dX0_init_44 (by decide) ?_
  refine va_newa (atype := .long) (ty := .long) (a0 := (26, .inr (.inl (fun _ => 0)))) (N' := 26) hx hb (hts _ q72) rfl hK hP hD hS hA (fun cA => xi_l cA 26) (by decide) (by decide) (by decide) (Nat.le_of_ble_eq_true rfl) (Nat.le_of_ble_eq_true rfl) dX0_init_46 (fun q6_ cN H hK hP hD hS => ?_)
  obtain ⟨cJ, rfl⟩ : ∃ c : ClassId, c = cN := ⟨_, rfl⟩
  have hK : va_K (dC, dI) vwCl [(cB, .byte), (cJ, .long)] s := hK
  refine W.widen (k := 6) (n := 152) (by omega) (by omega) ?_
  have hP : va_P (dC, dI) vwCl ([(h, .inr (0, [.ref q1_, .ref q2_, .ref q3_, .int (nI 0), .ref q4_, .ref q5_, .int (nI 0), .int (nI 0), .null, .null, .null, .null, .null])), (q1_, .inl (cB, 4, .inl (fN xz))), (q2_, .inl (cB, 36, .inl (fN xz))), (q3_, .inl (cB, 36, .inl (fN xz))), (q4_, .inl (cB, 25, .inl (fN xz))), (q5_, .inl (cB, 25, .inl (fN xz))), (q6_, .inl (cJ, 26, .inr (.inl (fun _ => 0))))]) H := hP
  have hD : va_D A ([(h, .inr (0, [.ref q1_, .ref q2_, .ref q3_, .int (nI 0), .ref q4_, .ref q5_, .int (nI 0), .int (nI 0), .null, .null, .null, .null, .null])), (q1_, .inl (cB, 4, .inl (fN xz))), (q2_, .inl (cB, 36, .inl (fN xz))), (q3_, .inl (cB, 36, .inl (fN xz))), (q4_, .inl (cB, 25, .inl (fN xz))), (q5_, .inl (cB, 25, .inl (fN xz))), (q6_, .inl (cJ, 26, .inr (.inl (fun _ => 0))))]) := hD
  refine va_putF (D := (dC, dI)) (ci := 0) (v := .ref q6_) (ty := .array .long) (C := RX0) (T := TX0) (N := 13) hx hb hts in_X0 tyX0 tyX0_ok nmX0 hown hK hP hD hS 0 rfl rfl 8 (by decide) (hts _ q39) (fun _ h9 => h9) rfl hin rfl (by decide +kernel) rfl rfl (Nat.le_of_ble_eq_true rfl) dX0_init_48 (fun H locs hP hD hS => ?_)
  have hP : va_P (dC, dI) vwCl ([(h, .inr (0, [.ref q1_, .ref q2_, .ref q3_, .int (nI 0), .ref q4_, .ref q5_, .int (nI 0), .int (nI 0), .ref q6_, .null, .null, .null, .null])), (q1_, .inl (cB, 4, .inl (fN xz))), (q2_, .inl (cB, 36, .inl (fN xz))), (q3_, .inl (cB, 36, .inl (fN xz))), (q4_, .inl (cB, 25, .inl (fN xz))), (q5_, .inl (cB, 25, .inl (fN xz))), (q6_, .inl (cJ, 26, .inr (.inl (fun _ => 0))))]) H := hP
  have hD : va_D A ([(h, .inr (0, [.ref q1_, .ref q2_, .ref q3_, .int (nI 0), .ref q4_, .ref q5_, .int (nI 0), .int (nI 0), .ref q6_, .null, .null, .null, .null])), (q1_, .inl (cB, 4, .inl (fN xz))), (q2_, .inl (cB, 36, .inl (fN xz))), (q3_, .inl (cB, 36, .inl (fN xz))), (q4_, .inl (cB, 25, .inl (fN xz))), (q5_, .inl (cB, 25, .inl (fN xz))), (q6_, .inl (cJ, 26, .inr (.inl (fun _ => 0))))]) := hD
  refine lv_aload_n hx hb dX0_init_51 rfl (lv_at hl 0 rfl) ?_
  refine lv_sipush (v := 1408) hx hb dX0_init_52 (by decide) ?_
  refine va_newa (atype := .byte) (ty := .byte) (a0 := (1408, .inl (fP (fun _ => 1)))) (N' := 1408) hx hb (hts _ q71) rfl hK hP hD hS hA (fun cA => xi_P cA 1408) (by decide) (by decide) (by decide) (Nat.le_of_ble_eq_true rfl) (Nat.le_of_ble_eq_true rfl) dX0_init_55 (fun q7_ cN H hK hP hD hS => ?_)
  obtain rfl := xi_cls hK 0 2 rfl rfl
  have hK := hK.sub (tys' := [(cB, .byte), (cJ, .long)]) [0, 1] rfl
  refine W.widen (k := 7) (n := 1560) (by omega) (by omega) ?_
  have hP : va_P (dC, dI) vwCl ([(h, .inr (0, [.ref q1_, .ref q2_, .ref q3_, .int (nI 0), .ref q4_, .ref q5_, .int (nI 0), .int (nI 0), .ref q6_, .null, .null, .null, .null])), (q1_, .inl (cB, 4, .inl (fN xz))), (q2_, .inl (cB, 36, .inl (fN xz))), (q3_, .inl (cB, 36, .inl (fN xz))), (q4_, .inl (cB, 25, .inl (fN xz))), (q5_, .inl (cB, 25, .inl (fN xz))), (q6_, .inl (cJ, 26, .inr (.inl (fun _ => 0)))), (q7_, .inl (cB, 1408, .inl (fP (fun _ => 1))))]) H := hP
  have hD : va_D A ([(h, .inr (0, [.ref q1_, .ref q2_, .ref q3_, .int (nI 0), .ref q4_, .ref q5_, .int (nI 0), .int (nI 0), .ref q6_, .null, .null, .null, .null])), (q1_, .inl (cB, 4, .inl (fN xz))), (q2_, .inl (cB, 36, .inl (fN xz))), (q3_, .inl (cB, 36, .inl (fN xz))), (q4_, .inl (cB, 25, .inl (fN xz))), (q5_, .inl (cB, 25, .inl (fN xz))), (q6_, .inl (cJ, 26, .inr (.inl (fun _ => 0)))), (q7_, .inl (cB, 1408, .inl (fP (fun _ => 1))))]) := hD
  refine va_putF (D := (dC, dI)) (ci := 0) (v := .ref q7_) (ty := .array .byte) (C := RX0) (T := TX0) (N := 13) hx hb hts in_X0 tyX0 tyX0_ok nmX0 hown hK hP hD hS 0 rfl rfl 9 (by decide) (hts _ q40) (fun _ h9 => h9) rfl hin rfl (by decide +kernel) rfl rfl (Nat.le_of_ble_eq_true rfl) dX0_init_57 (fun H locs hP hD hS => ?_)
  have hP : va_P (dC, dI) vwCl ([(h, .inr (0, [.ref q1_, .ref q2_, .ref q3_, .int (nI 0), .ref q4_, .ref q5_, .int (nI 0), .int (nI 0), .ref q6_, .ref q7_, .null, .null, .null])), (q1_, .inl (cB, 4, .inl (fN xz))), (q2_, .inl (cB, 36, .inl (fN xz))), (q3_, .inl (cB, 36, .inl (fN xz))), (q4_, .inl (cB, 25, .inl (fN xz))), (q5_, .inl (cB, 25, .inl (fN xz))), (q6_, .inl (cJ, 26, .inr (.inl (fun _ => 0)))), (q7_, .inl (cB, 1408, .inl (fP (fun _ => 1))))]) H := hP
  have hD : va_D A ([(h, .inr (0, [.ref q1_, .ref q2_, .ref q3_, .int (nI 0), .ref q4_, .ref q5_, .int (nI 0), .int (nI 0), .ref q6_, .ref q7_, .null, .null, .null])), (q1_, .inl (cB, 4, .inl (fN xz))), (q2_, .inl (cB, 36, .inl (fN xz))), (q3_, .inl (cB, 36, .inl (fN xz))), (q4_, .inl (cB, 25, .inl (fN xz))), (q5_, .inl (cB, 25, .inl (fN xz))), (q6_, .inl (cJ, 26, .inr (.inl (fun _ => 0)))), (q7_, .inl (cB, 1408, .inl (fP (fun _ => 1))))]) := hD
  refine lv_aload_n hx hb dX0_init_60 rfl (lv_at hl 0 rfl) ?_
  refine lv_bipush (v := 25) hx hb dX0_init_61 (by decide) ?_
  refine va_newa (atype := .byte) (ty := .byte) (a0 := (25, .inl (fN (fun _ => 0)))) (N' := 25) hx hb (hts _ q71) rfl hK hP hD hS hA (fun cA => xi_b cA 25) (by decide) (by decide) (by decide) (Nat.le_of_ble_eq_true rfl) (Nat.le_of_ble_eq_true rfl) dX0_init_63 (fun q8_ cN H hK hP hD hS => ?_)
  obtain rfl := xi_cls hK 0 2 rfl rfl
  have hK := hK.sub (tys' := [(cB, .byte), (cJ, .long)]) [0, 1] rfl
  refine W.widen (k := 8) (n := 1585) (by omega) (by omega) ?_
  have hP : va_P (dC, dI) vwCl ([(h, .inr (0, [.ref q1_, .ref q2_, .ref q3_, .int (nI 0), .ref q4_, .ref q5_, .int (nI 0), .int (nI 0), .ref q6_, .ref q7_, .null, .null, .null])), (q1_, .inl (cB, 4, .inl (fN xz))), (q2_, .inl (cB, 36, .inl (fN xz))), (q3_, .inl (cB, 36, .inl (fN xz))), (q4_, .inl (cB, 25, .inl (fN xz))), (q5_, .inl (cB, 25, .inl (fN xz))), (q6_, .inl (cJ, 26, .inr (.inl (fun _ => 0)))), (q7_, .inl (cB, 1408, .inl (fP (fun _ => 1)))), (q8_, .inl (cB, 25, .inl (fN xz)))]) H := hP
  have hD : va_D A ([(h, .inr (0, [.ref q1_, .ref q2_, .ref q3_, .int (nI 0), .ref q4_, .ref q5_, .int (nI 0), .int (nI 0), .ref q6_, .ref q7_, .null, .null, .null])), (q1_, .inl (cB, 4, .inl (fN xz))), (q2_, .inl (cB, 36, .inl (fN xz))), (q3_, .inl (cB, 36, .inl (fN xz))), (q4_, .inl (cB, 25, .inl (fN xz))), (q5_, .inl (cB, 25, .inl (fN xz))), (q6_, .inl (cJ, 26, .inr (.inl (fun _ => 0)))), (q7_, .inl (cB, 1408, .inl (fP (fun _ => 1)))), (q8_, .inl (cB, 25, .inl (fN xz)))]) := hD
  refine va_putF (D := (dC, dI)) (ci := 0) (v := .ref q8_) (ty := .array .byte) (C := RX0) (T := TX0) (N := 13) hx hb hts in_X0 tyX0 tyX0_ok nmX0 hown hK hP hD hS 0 rfl rfl 10 (by decide) (hts _ q41) (fun _ h9 => h9) rfl hin rfl (by decide +kernel) rfl rfl (Nat.le_of_ble_eq_true rfl) dX0_init_65 (fun H locs hP hD hS => ?_)
  have hP : va_P (dC, dI) vwCl ([(h, .inr (0, [.ref q1_, .ref q2_, .ref q3_, .int (nI 0), .ref q4_, .ref q5_, .int (nI 0), .int (nI 0), .ref q6_, .ref q7_, .ref q8_, .null, .null])), (q1_, .inl (cB, 4, .inl (fN xz))), (q2_, .inl (cB, 36, .inl (fN xz))), (q3_, .inl (cB, 36, .inl (fN xz))), (q4_, .inl (cB, 25, .inl (fN xz))), (q5_, .inl (cB, 25, .inl (fN xz))), (q6_, .inl (cJ, 26, .inr (.inl (fun _ => 0)))), (q7_, .inl (cB, 1408, .inl (fP (fun _ => 1)))), (q8_, .inl (cB, 25, .inl (fN xz)))]) H := hP
  have hD : va_D A ([(h, .inr (0, [.ref q1_, .ref q2_, .ref q3_, .int (nI 0), .ref q4_, .ref q5_, .int (nI 0), .int (nI 0), .ref q6_, .ref q7_, .ref q8_, .null, .null])), (q1_, .inl (cB, 4, .inl (fN xz))), (q2_, .inl (cB, 36, .inl (fN xz))), (q3_, .inl (cB, 36, .inl (fN xz))), (q4_, .inl (cB, 25, .inl (fN xz))), (q5_, .inl (cB, 25, .inl (fN xz))), (q6_, .inl (cJ, 26, .inr (.inl (fun _ => 0)))), (q7_, .inl (cB, 1408, .inl (fP (fun _ => 1)))), (q8_, .inl (cB, 25, .inl (fN xz)))]) := hD
  refine lv_aload_n hx hb dX0_init_68 rfl (lv_at hl 0 rfl) ?_
  refine lv_bipush (v := 25) hx hb dX0_init_69 (by decide) ?_
  refine va_newa (atype := .byte) (ty := .byte) (a0 := (25, .inl (fN (fun _ => 0)))) (N' := 25) hx hb (hts _ q71) rfl hK hP hD hS hA (fun cA => xi_b cA 25) (by decide) (by decide) (by decide) (Nat.le_of_ble_eq_true rfl) (Nat.le_of_ble_eq_true rfl) dX0_init_71 (fun q9_ cN H hK hP hD hS => ?_)
  obtain rfl := xi_cls hK 0 2 rfl rfl
  have hK := hK.sub (tys' := [(cB, .byte), (cJ, .long)]) [0, 1] rfl
  refine W.widen (k := 9) (n := 1610) (by omega) (by omega) ?_
  have hP : va_P (dC, dI) vwCl ([(h, .inr (0, [.ref q1_, .ref q2_, .ref q3_, .int (nI 0), .ref q4_, .ref q5_, .int (nI 0), .int (nI 0), .ref q6_, .ref q7_, .ref q8_, .null, .null])), (q1_, .inl (cB, 4, .inl (fN xz))), (q2_, .inl (cB, 36, .inl (fN xz))), (q3_, .inl (cB, 36, .inl (fN xz))), (q4_, .inl (cB, 25, .inl (fN xz))), (q5_, .inl (cB, 25, .inl (fN xz))), (q6_, .inl (cJ, 26, .inr (.inl (fun _ => 0)))), (q7_, .inl (cB, 1408, .inl (fP (fun _ => 1)))), (q8_, .inl (cB, 25, .inl (fN xz))), (q9_, .inl (cB, 25, .inl (fN xz)))]) H := hP
  have hD : va_D A ([(h, .inr (0, [.ref q1_, .ref q2_, .ref q3_, .int (nI 0), .ref q4_, .ref q5_, .int (nI 0), .int (nI 0), .ref q6_, .ref q7_, .ref q8_, .null, .null])), (q1_, .inl (cB, 4, .inl (fN xz))), (q2_, .inl (cB, 36, .inl (fN xz))), (q3_, .inl (cB, 36, .inl (fN xz))), (q4_, .inl (cB, 25, .inl (fN xz))), (q5_, .inl (cB, 25, .inl (fN xz))), (q6_, .inl (cJ, 26, .inr (.inl (fun _ => 0)))), (q7_, .inl (cB, 1408, .inl (fP (fun _ => 1)))), (q8_, .inl (cB, 25, .inl (fN xz))), (q9_, .inl (cB, 25, .inl (fN xz)))]) := hD
  refine va_putF (D := (dC, dI)) (ci := 0) (v := .ref q9_) (ty := .array .byte) (C := RX0) (T := TX0) (N := 13) hx hb hts in_X0 tyX0 tyX0_ok nmX0 hown hK hP hD hS 0 rfl rfl 11 (by decide) (hts _ q42) (fun _ h9 => h9) rfl hin rfl (by decide +kernel) rfl rfl (Nat.le_of_ble_eq_true rfl) dX0_init_73 (fun H locs hP hD hS => ?_)
  have hP : va_P (dC, dI) vwCl ([(h, .inr (0, [.ref q1_, .ref q2_, .ref q3_, .int (nI 0), .ref q4_, .ref q5_, .int (nI 0), .int (nI 0), .ref q6_, .ref q7_, .ref q8_, .ref q9_, .null])), (q1_, .inl (cB, 4, .inl (fN xz))), (q2_, .inl (cB, 36, .inl (fN xz))), (q3_, .inl (cB, 36, .inl (fN xz))), (q4_, .inl (cB, 25, .inl (fN xz))), (q5_, .inl (cB, 25, .inl (fN xz))), (q6_, .inl (cJ, 26, .inr (.inl (fun _ => 0)))), (q7_, .inl (cB, 1408, .inl (fP (fun _ => 1)))), (q8_, .inl (cB, 25, .inl (fN xz))), (q9_, .inl (cB, 25, .inl (fN xz)))]) H := hP
  have hD : va_D A ([(h, .inr (0, [.ref q1_, .ref q2_, .ref q3_, .int (nI 0), .ref q4_, .ref q5_, .int (nI 0), .int (nI 0), .ref q6_, .ref q7_, .ref q8_, .ref q9_, .null])), (q1_, .inl (cB, 4, .inl (fN xz))), (q2_, .inl (cB, 36, .inl (fN xz))), (q3_, .inl (cB, 36, .inl (fN xz))), (q4_, .inl (cB, 25, .inl (fN xz))), (q5_, .inl (cB, 25, .inl (fN xz))), (q6_, .inl (cJ, 26, .inr (.inl (fun _ => 0)))), (q7_, .inl (cB, 1408, .inl (fP (fun _ => 1)))), (q8_, .inl (cB, 25, .inl (fN xz))), (q9_, .inl (cB, 25, .inl (fN xz)))]) := hD
  refine lv_aload_n hx hb dX0_init_76 rfl (lv_at hl 0 rfl) ?_
  refine lv_bipush (v := 25) hx hb dX0_init_77 (by decide) ?_
  refine va_newa (atype := .byte) (ty := .byte) (a0 := (25, .inl (fN (fun _ => 0)))) (N' := 25) hx hb (hts _ q71) rfl hK hP hD hS hA (fun cA => xi_b cA 25) (by decide) (by decide) (by decide) (Nat.le_of_ble_eq_true rfl) (Nat.le_of_ble_eq_true rfl) dX0_init_79 (fun q10_ cN H hK hP hD hS => ?_)
  obtain rfl := xi_cls hK 0 2 rfl rfl
  have hK := hK.sub (tys' := [(cB, .byte), (cJ, .long)]) [0, 1] rfl
  refine W.widen (k := 10) (n := 1635) (by omega) (by omega) ?_
  have hP : va_P (dC, dI) vwCl ([(h, .inr (0, [.ref q1_, .ref q2_, .ref q3_, .int (nI 0), .ref q4_, .ref q5_, .int (nI 0), .int (nI 0), .ref q6_, .ref q7_, .ref q8_, .ref q9_, .null])), (q1_, .inl (cB, 4, .inl (fN xz))), (q2_, .inl (cB, 36, .inl (fN xz))), (q3_, .inl (cB, 36, .inl (fN xz))), (q4_, .inl (cB, 25, .inl (fN xz))), (q5_, .inl (cB, 25, .inl (fN xz))), (q6_, .inl (cJ, 26, .inr (.inl (fun _ => 0)))), (q7_, .inl (cB, 1408, .inl (fP (fun _ => 1)))), (q8_, .inl (cB, 25, .inl (fN xz))), (q9_, .inl (cB, 25, .inl (fN xz))), (q10_, .inl (cB, 25, .inl (fN xz)))]) H := hP
  have hD : va_D A ([(h, .inr (0, [.ref q1_, .ref q2_, .ref q3_, .int (nI 0), .ref q4_, .ref q5_, .int (nI 0), .int (nI 0), .ref q6_, .ref q7_, .ref q8_, .ref q9_, .null])), (q1_, .inl (cB, 4, .inl (fN xz))), (q2_, .inl (cB, 36, .inl (fN xz))), (q3_, .inl (cB, 36, .inl (fN xz))), (q4_, .inl (cB, 25, .inl (fN xz))), (q5_, .inl (cB, 25, .inl (fN xz))), (q6_, .inl (cJ, 26, .inr (.inl (fun _ => 0)))), (q7_, .inl (cB, 1408, .inl (fP (fun _ => 1)))), (q8_, .inl (cB, 25, .inl (fN xz))), (q9_, .inl (cB, 25, .inl (fN xz))), (q10_, .inl (cB, 25, .inl (fN xz)))]) := hD
  refine va_putF (D := (dC, dI)) (ci := 0) (v := .ref q10_) (ty := .array .byte) (C := RX0) (T := TX0) (N := 13) hx hb hts in_X0 tyX0 tyX0_ok nmX0 hown hK hP hD hS 0 rfl rfl 12 (by decide) (hts _ q43) (fun _ h9 => h9) rfl hin rfl (by decide +kernel) rfl rfl (Nat.le_of_ble_eq_true rfl) dX0_init_81 (fun H locs hP hD hS => ?_)
  have hP : va_P (dC, dI) vwCl ([(h, .inr (0, [.ref q1_, .ref q2_, .ref q3_, .int (nI 0), .ref q4_, .ref q5_, .int (nI 0), .int (nI 0), .ref q6_, .ref q7_, .ref q8_, .ref q9_, .ref q10_])), (q1_, .inl (cB, 4, .inl (fN xz))), (q2_, .inl (cB, 36, .inl (fN xz))), (q3_, .inl (cB, 36, .inl (fN xz))), (q4_, .inl (cB, 25, .inl (fN xz))), (q5_, .inl (cB, 25, .inl (fN xz))), (q6_, .inl (cJ, 26, .inr (.inl (fun _ => 0)))), (q7_, .inl (cB, 1408, .inl (fP (fun _ => 1)))), (q8_, .inl (cB, 25, .inl (fN xz))), (q9_, .inl (cB, 25, .inl (fN xz))), (q10_, .inl (cB, 25, .inl (fN xz)))]) H := hP
  have hD : va_D A ([(h, .inr (0, [.ref q1_, .ref q2_, .ref q3_, .int (nI 0), .ref q4_, .ref q5_, .int (nI 0), .int (nI 0), .ref q6_, .ref q7_, .ref q8_, .ref q9_, .ref q10_])), (q1_, .inl (cB, 4, .inl (fN xz))), (q2_, .inl (cB, 36, .inl (fN xz))), (q3_, .inl (cB, 36, .inl (fN xz))), (q4_, .inl (cB, 25, .inl (fN xz))), (q5_, .inl (cB, 25, .inl (fN xz))), (q6_, .inl (cJ, 26, .inr (.inl (fun _ => 0)))), (q7_, .inl (cB, 1408, .inl (fP (fun _ => 1)))), (q8_, .inl (cB, 25, .inl (fN xz))), (q9_, .inl (cB, 25, .inl (fN xz))), (q10_, .inl (cB, 25, .inl (fN xz)))]) := hD
  exact W.vret hx hb hr (fun t ht hW => ⟨⟨((fun i => [h, q1_, q2_, q3_, q4_, q5_, q6_, q7_, q8_, q9_, q10_].getD i 0), cB, cJ), rfl, trivial, rfl, by rw [ht]; exact hP, va_K.moved hW.alike hK, hD⟩, hS.F ht⟩) hS.2.2 dX0_init_84
set_option maxHeartbeats 4000000 in
set_option maxRecDepth 100000 in
/-- the constructor: all is 0 -/
theorem mt_X1_init (l : Launch) (dC : Nat → ClassId) (dI : Nat → Nat → Nat) (h hz : Nat) : Met l yX1_init (ws_ yX1_init cX1_init 1 none) ({ frames := 1, cells := 2, slots := 130, locals := 12 } : Room) (va_Pc [.ref h] (xr_Pw (dC, dI) vwCl (X1new h) [] hz)) (va_Qv (fun (_ : (Nat → Nat) × ClassId) => True) (fun u t => u.1 0 = h ∧ va_P (dC, dI) vwCl (MW0 u.1 u.2) t.heap ∧ va_K (dC, dI) vwCl (tyM u.2) t ∧ va_D (va_A (X1new h) hz) (MW0 u.1 u.2)) (va_A (X1new h) hz)) 2 130 (va_A (X1new h) hz) := by
  refine Met.ofW (cc := cX1_init) (maxL := 1) (ret := none) (by decide) rfl ?_
  intro p e s m args below meth c s₁ B hml hv
  obtain ⟨rfl, hsz, hP, hK, hD0⟩ := hv
  have hx := B.exec
  have hb := B.bytes
  have hr := B.returns
  have hlk := B.notSynchronized
  have hts := atoms_spec (ws := (ws_ yX1_init cX1_init 1 none)) B.pre
  have hts : ∀ w ∈ lw_all, w.before _ s = true := fun w h => hts w (List.mem_cons_of_mem _ h)
  have hown : s.vm.findClass RX1 = some m.cls := findClass_of_methodNamed B.named
  have hin : meth.name = "<init>" := (name_of_methodNamed B.named B.method).1
  subst hsz
  have hD := hD0.self (sz := s.heap.size)
  generalize hAe : va_A (X1new h) s.heap.size = A at hD ⊢
  have hA : ∀ q : Nat, s.heap.size ≤ q → A q := fun q h => by rw [← hAe]; exact Or.inr h
  have hS : va_S A s.heap s.heap [] := va_S.rf
  have hl := lv_entry ([.ref h]) (n := 1) (Nat.le_of_ble_eq_true rfl)
  rw [lg_entry_eq]
  generalize (lg_sl ([.ref h]) ++ List.replicate (1 - (lg_sl ([.ref h])).length) Slot.unset).toArray = ls at hl ⊢
  have hl : lv_has ls 1 [(0, .ref h)] := hl
  refine lv_aload_n hx hb dX1_init_0 rfl (lv_at hl 0 rfl) ?_
  refine W.objInit hx hb hown (hts _ q194) (hts _ q29) (hts _ q30) rfl (by rw [hml]; exact hl.1) rfl dX1_init_1 (Nat.le_of_ble_eq_true rfl) (Nat.le_of_ble_eq_true rfl) ?_
  refine W.eq (g2 := F0 m 4 ls []) rfl ?_
  refine lv_aload_n hx hb dX1_init_4 rfl (lv_at hl 0 rfl) ?_
  refine lv_iconst (v := 5) hx hb dX1_init_5 (by decide) ?_
  refine va_newa (atype := .int) (ty := .int) (a0 := (5, .inl (fN (fun _ => 0)))) (N' := 5) hx hb (hts _ q202) rfl hK hP hD hS hA (fun cA => xi_i cA 5) (by decide) (by decide) (by decide) (Nat.le_of_ble_eq_true rfl) (Nat.le_of_ble_eq_true rfl) dX1_init_6 (fun q1_ cN H hK hP hD hS => ?_)
  obtain ⟨cI, rfl⟩ : ∃ c : ClassId, c = cN := ⟨_, rfl⟩
  have hK : va_K (dC, dI) vwCl [(cI, .int)] s := hK
  refine W.widen (k := 1) (n := 5) (by omega) (by omega) ?_
  have hP : va_P (dC, dI) vwCl ([(h, .inr (1, [.null, .null])), (q1_, .inl (cI, 5, .inl (fN xz)))]) H := hP
  have hD : va_D A ([(h, .inr (1, [.null, .null])), (q1_, .inl (cI, 5, .inl (fN xz)))]) := hD
  refine va_put (D := (dC, dI)) (ci := 1) (v := .ref q1_) (ty := .array .int) (C := RX1) (T := TX1) (N := 2) hx hb hts in_X1 tyX1 tyX1_ok nmX1 hown hK hP hD hS 0 rfl rfl 0 (by decide) (hts _ q195) (fun _ h9 => h9) rfl (by decide +kernel) rfl rfl (Nat.le_of_ble_eq_true rfl) dX1_init_8 (fun H locs hP hD hS => ?_)
  have hP : va_P (dC, dI) vwCl ([(h, .inr (1, [.ref q1_, .null])), (q1_, .inl (cI, 5, .inl (fN xz)))]) H := hP
  have hD : va_D A ([(h, .inr (1, [.ref q1_, .null])), (q1_, .inl (cI, 5, .inl (fN xz)))]) := hD
  refine lv_aload_n hx hb dX1_init_11 rfl (lv_at hl 0 rfl) ?_
  refine lv_bipush (v := 125) hx hb dX1_init_12 (by decide) ?_
  refine va_newa (atype := .int) (ty := .int) (a0 := (125, .inl (fN (fun _ => 0)))) (N' := 125) hx hb (hts _ q202) rfl hK hP hD hS hA (fun cA => xi_i cA 125) (by decide) (by decide) (by decide) (Nat.le_of_ble_eq_true rfl) (Nat.le_of_ble_eq_true rfl) dX1_init_14 (fun q2_ cN H hK hP hD hS => ?_)
  obtain rfl := xi_clsI hK 0 1 rfl rfl
  have hK := hK.sub (tys' := [(cI, .int)]) [0] rfl
  refine W.widen (k := 2) (n := 130) (by omega) (by omega) ?_
  have hP : va_P (dC, dI) vwCl ([(h, .inr (1, [.ref q1_, .null])), (q1_, .inl (cI, 5, .inl (fN xz))), (q2_, .inl (cI, 125, .inl (fN xz)))]) H := hP
  have hD : va_D A ([(h, .inr (1, [.ref q1_, .null])), (q1_, .inl (cI, 5, .inl (fN xz))), (q2_, .inl (cI, 125, .inl (fN xz)))]) := hD
  refine va_put (D := (dC, dI)) (ci := 1) (v := .ref q2_) (ty := .array .int) (C := RX1) (T := TX1) (N := 2) hx hb hts in_X1 tyX1 tyX1_ok nmX1 hown hK hP hD hS 0 rfl rfl 1 (by decide) (hts _ q196) (fun _ h9 => h9) rfl (by decide +kernel) rfl rfl (Nat.le_of_ble_eq_true rfl) dX1_init_16 (fun H locs hP hD hS => ?_)
  have hP : va_P (dC, dI) vwCl ([(h, .inr (1, [.ref q1_, .ref q2_])), (q1_, .inl (cI, 5, .inl (fN xz))), (q2_, .inl (cI, 125, .inl (fN xz)))]) H := hP
  have hD : va_D A ([(h, .inr (1, [.ref q1_, .ref q2_])), (q1_, .inl (cI, 5, .inl (fN xz))), (q2_, .inl (cI, 125, .inl (fN xz)))]) := hD
  exact W.vret hx hb hr (fun t ht hW => ⟨⟨((fun i => [h, q1_, q2_].getD i 0), cI), rfl, trivial, rfl, by rw [ht]; exact hP, va_K.moved hW.alike hK, hD⟩, hS.F ht⟩) hS.2.2 dX1_init_19
end
section
/-! THE CLAIM OUT OF ONE WALK OF THE LAW'S BODY. Your part is whole_start (and what it stands on); all else here is the same for every law, but numbers. -/
def R_law : String := "PatternTablesLaw"
def lw_P (b : Addr) (xs : List Int32) (args : Array Value) (s : State) : Prop := args = #[.ref b] ∧ s.IntsAt b xs ∧ xs.length ≤ 256 ∧ (Jvm.Cond.and given_1 narrow_1).before args s = true
def lw_Q (_ : Array Value) (s : State) (o : Outcome) (t : State) : Prop := o = .returned (some (.int 1)) ∧ Framed s o t [] 600000 7290000
def lw_Z (below : List Frame) (a : Array Value) (s : State) : State → Prop := fun t => ∃ o, t.status = .running ∧ Ended t below o ∧ lw_Q a s o t
/-- the law's own end, with 1 on the stack, nothing written that was there before, its room as the claim has it -/
theorem lw_ret {p : Program} {l : Launch} {e : Env} {s : State} {m : MethodId} {below : List Frame} {meth : Method} {c : Code} {b : Nat} (hx : p.tables.exec = Jvm.exec) (hb : c.code = code) (hr : meth.sig.returnType = ret) (hlocks : meth.locks = false) {pc : Nat} {H : Heap} {ls : Array Slot} (hdg : decode code pc = .ok (.ireturn, 1)) : W p l e room_1 s m #[Value.ref b] below meth c H [] 600000 7290000 (lw_Z below #[Value.ref b] s) (F0 m pc ls [.int 1]) := by
  intro T hT X
  obtain ⟨fs, hret, hrun, hended, hW, hframe⟩ := X.leave (v := some (.int 1)) (hlocks := hlocks) (fun h => by rw [hr] at h; cases h)
  have hmeth' : T.vm.method? m = some meth := X.method'
  refine ⟨T.setFrames fs, ?_, .returned (some (.int 1)), hrun, hended, rfl, ⟨_, rfl⟩, hW, hframe⟩
  jvm_step X.here [X.here.top, hx, hb, hdg, hmeth', hr, ret, narrow_b1]
  (try refine ⟨rfl, ?_⟩); (try refine ⟨rfl, ?_⟩)
  first | (intro acts; rw [hret _ acts rfl rfl rfl]) | rw [hret _ _ rfl rfl rfl]
  exact Steps.refl _
/-- what holds at the law's entry: the machine, the code, the tables' words (any of lw_tbl by 'hts w (by decide +kernel)'), the script of L ints xs at the cell b, what the Statement gives of the start (any of its parts by flat_of_before) -/
def lw_At (p : Program) (s : State) (m : MethodId) (meth : Method) (c : Code) (b L : Nat) (xs : Nat → Int32) : Prop :=
  p.tables.exec = Jvm.exec ∧ c.code = code ∧ meth.sig.returnType = ret ∧ c.maxLocals = 4 ∧ s.vm.findClass R_law = some m.cls ∧ (∀ w ∈ lw_tbl, w.before #[Value.ref b] s = true) ∧ va_X b L xs s s.heap ∧ b < s.heap.size ∧ meth.locks = false ∧ (Jvm.Cond.and given_1 narrow_1).before #[Value.ref b] s = true
/-! the law's words of its own -/
abbrev lq_A (s : State) : Nat → Prop := fun q : Nat => s.heap.size ≤ q
/-- at pc, with nothing on the stack: from every world in which both objects hold the same lists, the law comes to its end with true -/
def lq_G (p : Program) (l : Launch) (e : Env) (s : State) (m : MethodId) (below : List Frame) (meth : Method) (c : Code) (b : Nat) (dC : Nat → ClassId) (dI : Nat → Nat → Nat) (ad bd : Nat → Nat) (cB cJ cI : ClassId) (ls : Array Slot) (pc : Nat) : Prop :=
  ∀ (sz : Nat → Nat) (tk : Nat → Nat → Nat) (u : XS) (v : (Nat → Nat) × (Nat → Nat)) (H : Heap) (locs : List Loc), XI u sz tk → MI v.1 v.2 sz tk → va_P (dC, dI) vwCl (XWs ad cB cJ u ++ MWs bd cI v) H → va_D (lq_A s) (XWs ad cB cJ u ++ MWs bd cI v) → va_S (lq_A s) s.heap H locs → W p l e room_1 s m #[Value.ref b] below meth c H locs 14 1780 (lw_Z below #[Value.ref b] s) (F0 m pc ls [])
theorem lq_sld {p : Program} {l : Launch} {e : Env} {R : Room} {s : State} {m : MethodId} {args : Array Value} {below : List Frame} {meth : Method} {c : Code} {H : Heap} {locs : List Loc} {cells slots : Nat} {Q : State → Prop} {cc : ByteArray} {pc : Nat} {ls : Array Slot} {rest : List Value} {A : Nat → Prop} {H0 : Heap} (hexec : p.tables.exec = Jvm.exec) (hb : c.code = cc) {b L : Nat} {xs : Nat → Int32} (hX : va_X b L xs s H0) (hbl : b < H0.size) (hbA : ¬ A b) (hS : va_S A H0 H locs) {k : Nat} (hL : L ≤ 256) (hk : k < L) (hdg : decode cc pc = .ok (.iaload, 1))
    (kk : W p l e R s m args below meth c H locs cells slots Q (F0 m (pc + 1) ls (.int (xs k) :: rest))) : W p l e R s m args below meth c H locs cells slots Q (F0 m pc ls (.int (nI k) :: .ref b :: rest)) := by
  refine va_sld hexec hb hX hbl hbA hS (vp_in_nI hk (by omega)) hdg ?_
  rw [nI_clamp (by omega)]
  exact kk
theorem lq_gt {i L : Nat} (hi : i ≤ 256) (hL : L ≤ 256) : Int32.ofNat L - nI 4 < nI i ↔ L < i + 4 := by
  have e : Int32.ofNat L = nI L := rfl
  rw [e, Int32.lt_iff_toInt_lt, pk_sub_toInt (by omega) (by omega), nI_toInt (by omega)]
  omega
theorem lq_inc (i : Nat) : nI i + Int32.ofInt 4 = nI (i + 4) := by rw [xc_4, nI_add]
theorem lq_15 (x : Int32) : ∃ j : Nat, j < 16 ∧ x &&& nI 15 = nI j := pk_andE x (m := nI 15) 4 (by decide +kernel)
end
section
/-! the cases of the law's switch: one call of each object, and their answers agree -/
set_option maxHeartbeats 4000000 in
set_option maxRecDepth 100000 in
theorem lq_c0 {p : Program} {l : Launch} {e : Env} {s : State} {m : MethodId} {below : List Frame} {meth : Method} {c : Code} {dC : Nat → ClassId} {dI : Nat → Nat → Nat} {b L : Nat} {xs : Nat → Int32} {ad bd : Nat → Nat} {cB cJ cI : ClassId} {ls : Array Slot} {i : Nat} (hL : L ≤ 256) (C0 : lw_At p s m meth c b L xs) (hKX : va_K (dC, dI) vwCl (tyX cB cJ) s) (hKM : va_K (dC, dI) vwCl (tyM cI) s) (hi : i + 4 ≤ L) (hl : lv_has ls 4 [(0, .ref b), (1, .ref (ad 0)), (2, .ref (bd 0)), (3, .int (nI i))]) (kk : lq_G p l e s m below meth c b dC dI ad bd cB cJ cI ls 473) : lq_G p l e s m below meth c b dC dI ad bd cB cJ cI ls 108 := by
  obtain ⟨hx, hb, hr, hml, hown, hts0, hX, hbl, hlocks, hgv⟩ := id C0
  have hts : ∀ w ∈ lw_all, w.before #[Value.ref b] s = true := fun w h => hts0 w (lw_all_tbl h)
  have hown : s.vm.findClass "PatternTablesLaw" = some m.cls := hown
  have hA : ∀ q : Nat, s.heap.size ≤ q → lq_A s q := fun _ h => h
  have hbA : ¬ lq_A s b := Nat.not_le.mpr hbl
  intro sz tk u v H locs hI hM hP hD hS
  obtain ⟨sizes, tokens, spans, subject, parts, states, table, stateAt, fits, sameAs, cnt, kn, sc⟩ := u
  obtain ⟨size, mtok⟩ := v
  have hP : va_P (dC, dI) vwCl (XW ad cB cJ sizes tokens spans subject parts states table stateAt fits sameAs cnt kn sc ++ MW bd cI size mtok) H := hP
  have hD : va_D (lq_A s) (XW ad cB cJ sizes tokens spans subject parts states table stateAt fits sameAs cnt kn sc ++ MW bd cI size mtok) := hD
  have hM : MI size mtok sz tk := hM
  refine lv_aload_n hx hb dL_law_108 rfl (lv_at hl 1 rfl) ?_
  refine lv_aload_n hx hb dL_law_109 rfl (lv_at hl 0 rfl) ?_
  refine lv_iload_n hx hb dL_law_110 rfl (lv_at hl 3 rfl) ?_
  refine lv_iconst (v := nI 1) hx hb dL_law_111 xc_1 ?_
  refine xr_iadd hx hb dL_law_112 ?_
  refine lq_sld hx hb hX hbl hbA hS hL (show i + 1 < L by omega) dL_law_113 ?_
  refine lv_aload_n hx hb dL_law_114 rfl (lv_at hl 0 rfl) ?_
  refine lv_iload_n hx hb dL_law_115 rfl (lv_at hl 3 rfl) ?_
  refine lv_iconst (v := nI 2) hx hb dL_law_116 xc_2 ?_
  refine xr_iadd hx hb dL_law_117 ?_
  refine lq_sld hx hb hX hbl hbA hS hL (show i + 2 < L by omega) dL_law_118 ?_
  refine xr_cVwi (wr := MW bd cI size mtok) (rest := []) ⟨hx, hb, hml, hown, hts⟩ (mt_X0_extend l dC dI _ hI (xs (i + 1)) (xs (i + 2))) (cwV 2 hts gV_L_13 rfl rfl rfl hd_X0_extend ⟨Nat.le_of_ble_eq_true rfl, Nat.le_of_ble_eq_true rfl⟩) hKX hP hD hS hA [0, 1, 2, 3, 4, 5, 6, 7, 8, 9, 10] [11, 12, 13] rfl rfl rfl (by decide) (by decide) (by decide) 0 0 rfl rfl rfl hl.1 rfl (Nat.le_of_ble_eq_true rfl) dL_law_119 ⟨Nat.le_of_ble_eq_true rfl, Nat.le_of_ble_eq_true rfl⟩ (fun r1 u H locs h1 hP hD hS => ?_)
  obtain ⟨sizes1, tokens1, spans1, subject1, parts1, states1, table1, stateAt1, fits1, sameAs1, cnt1, kn1, sc1⟩ := u
  obtain ⟨e1, hI1⟩ := h1
  have hP : va_P (dC, dI) vwCl (MW bd cI size mtok ++ XW ad cB cJ sizes1 tokens1 spans1 subject1 parts1 states1 table1 stateAt1 fits1 sameAs1 cnt1 kn1 sc1) H := hP
  have hD : va_D (lq_A s) (MW bd cI size mtok ++ XW ad cB cJ sizes1 tokens1 spans1 subject1 parts1 states1 table1 stateAt1 fits1 sameAs1 cnt1 kn1 sc1) := hD
  refine lv_aload_n hx hb dL_law_122 rfl (lv_at hl 2 rfl) ?_
  refine lv_aload_n hx hb dL_law_123 rfl (lv_at hl 0 rfl) ?_
  refine lv_iload_n hx hb dL_law_124 rfl (lv_at hl 3 rfl) ?_
  refine lv_iconst (v := nI 1) hx hb dL_law_125 xc_1 ?_
  refine xr_iadd hx hb dL_law_126 ?_
  refine lq_sld hx hb hX hbl hbA hS hL (show i + 1 < L by omega) dL_law_127 ?_
  refine lv_aload_n hx hb dL_law_128 rfl (lv_at hl 0 rfl) ?_
  refine lv_iload_n hx hb dL_law_129 rfl (lv_at hl 3 rfl) ?_
  refine lv_iconst (v := nI 2) hx hb dL_law_130 xc_2 ?_
  refine xr_iadd hx hb dL_law_131 ?_
  refine lq_sld hx hb hX hbl hbA hS hL (show i + 2 < L by omega) dL_law_132 ?_
  refine xr_cVwi (wr := XW ad cB cJ sizes1 tokens1 spans1 subject1 parts1 states1 table1 stateAt1 fits1 sameAs1 cnt1 kn1 sc1) (rest := [.int r1]) ⟨hx, hb, hml, hown, hts⟩ (mt_X1_extend l dC dI _ hM (xs (i + 1)) (xs (i + 2))) (cwV 2 hts gV_L_17 rfl rfl rfl hd_X1_extend ⟨Nat.le_of_ble_eq_true rfl, Nat.le_of_ble_eq_true rfl⟩) hKM hP hD hS hA [0, 1, 2] [3, 4, 5, 6, 7, 8, 9, 10, 11, 12, 13] rfl rfl rfl (by decide) (by decide) (by decide) 0 1 rfl rfl rfl hl.1 rfl (Nat.le_of_ble_eq_true rfl) dL_law_133 ⟨Nat.le_of_ble_eq_true rfl, Nat.le_of_ble_eq_true rfl⟩ (fun r2 v H locs h2 hP hD hS => ?_)
  obtain ⟨size1, mtok1⟩ := v
  obtain ⟨e2, hM1⟩ := h2
  have hP : va_P (dC, dI) vwCl (XW ad cB cJ sizes1 tokens1 spans1 subject1 parts1 states1 table1 stateAt1 fits1 sameAs1 cnt1 kn1 sc1 ++ MW bd cI size1 mtok1) H := hP
  have hD : va_D (lq_A s) (XW ad cB cJ sizes1 tokens1 spans1 subject1 parts1 states1 table1 stateAt1 fits1 sameAs1 cnt1 kn1 sc1 ++ MW bd cI size1 mtok1) := hD
  have er : r1 = r2 := e1.trans e2.symm
  refine lv_icmp_eq (tgt := 473) hx hb dL_law_136 (by decide) (fun _ => ?_) (fun q => absurd er q)
  exact kk _ _ (sizes1, tokens1, spans1, subject1, parts1, states1, table1, stateAt1, fits1, sameAs1, cnt1, kn1, sc1) (size1, mtok1) H locs hI1 hM1 hP hD hS
set_option maxHeartbeats 4000000 in
set_option maxRecDepth 100000 in
theorem lq_c1 {p : Program} {l : Launch} {e : Env} {s : State} {m : MethodId} {below : List Frame} {meth : Method} {c : Code} {dC : Nat → ClassId} {dI : Nat → Nat → Nat} {b L : Nat} {xs : Nat → Int32} {ad bd : Nat → Nat} {cB cJ cI : ClassId} {ls : Array Slot} {i : Nat} (hL : L ≤ 256) (C0 : lw_At p s m meth c b L xs) (hKX : va_K (dC, dI) vwCl (tyX cB cJ) s) (hKM : va_K (dC, dI) vwCl (tyM cI) s) (hi : i + 4 ≤ L) (hl : lv_has ls 4 [(0, .ref b), (1, .ref (ad 0)), (2, .ref (bd 0)), (3, .int (nI i))]) (kk : lq_G p l e s m below meth c b dC dI ad bd cB cJ cI ls 473) : lq_G p l e s m below meth c b dC dI ad bd cB cJ cI ls 141 := by
  obtain ⟨hx, hb, hr, hml, hown, hts0, hX, hbl, hlocks, hgv⟩ := id C0
  have hts : ∀ w ∈ lw_all, w.before #[Value.ref b] s = true := fun w h => hts0 w (lw_all_tbl h)
  have hown : s.vm.findClass "PatternTablesLaw" = some m.cls := hown
  have hA : ∀ q : Nat, s.heap.size ≤ q → lq_A s q := fun _ h => h
  have hbA : ¬ lq_A s b := Nat.not_le.mpr hbl
  intro sz tk u v H locs hI hM hP hD hS
  obtain ⟨sizes, tokens, spans, subject, parts, states, table, stateAt, fits, sameAs, cnt, kn, sc⟩ := u
  obtain ⟨size, mtok⟩ := v
  have hP : va_P (dC, dI) vwCl (XW ad cB cJ sizes tokens spans subject parts states table stateAt fits sameAs cnt kn sc ++ MW bd cI size mtok) H := hP
  have hD : va_D (lq_A s) (XW ad cB cJ sizes tokens spans subject parts states table stateAt fits sameAs cnt kn sc ++ MW bd cI size mtok) := hD
  have hM : MI size mtok sz tk := hM
  refine lv_aload_n hx hb dL_law_141 rfl (lv_at hl 1 rfl) ?_
  refine lv_aload_n hx hb dL_law_142 rfl (lv_at hl 0 rfl) ?_
  refine lv_iload_n hx hb dL_law_143 rfl (lv_at hl 3 rfl) ?_
  refine lv_iconst (v := nI 1) hx hb dL_law_144 xc_1 ?_
  refine xr_iadd hx hb dL_law_145 ?_
  refine lq_sld hx hb hX hbl hbA hS hL (show i + 1 < L by omega) dL_law_146 ?_
  refine xr_cVwi (wr := MW bd cI size mtok) (rest := []) ⟨hx, hb, hml, hown, hts⟩ (mt_X0_shorten l dC dI _ hI (xs (i + 1))) (cwV 1 hts gV_L_18 rfl rfl rfl hd_X0_shorten ⟨Nat.le_of_ble_eq_true rfl, Nat.le_of_ble_eq_true rfl⟩) hKX hP hD hS hA [0, 1, 2, 3, 4, 5, 6, 7, 8, 9, 10] [11, 12, 13] rfl rfl rfl (by decide) (by decide) (by decide) 0 0 rfl rfl rfl hl.1 rfl (Nat.le_of_ble_eq_true rfl) dL_law_147 ⟨Nat.le_of_ble_eq_true rfl, Nat.le_of_ble_eq_true rfl⟩ (fun r1 u H locs h1 hP hD hS => ?_)
  obtain ⟨sizes1, tokens1, spans1, subject1, parts1, states1, table1, stateAt1, fits1, sameAs1, cnt1, kn1, sc1⟩ := u
  obtain ⟨e1, hI1⟩ := h1
  have hP : va_P (dC, dI) vwCl (MW bd cI size mtok ++ XW ad cB cJ sizes1 tokens1 spans1 subject1 parts1 states1 table1 stateAt1 fits1 sameAs1 cnt1 kn1 sc1) H := hP
  have hD : va_D (lq_A s) (MW bd cI size mtok ++ XW ad cB cJ sizes1 tokens1 spans1 subject1 parts1 states1 table1 stateAt1 fits1 sameAs1 cnt1 kn1 sc1) := hD
  refine lv_aload_n hx hb dL_law_150 rfl (lv_at hl 2 rfl) ?_
  refine lv_aload_n hx hb dL_law_151 rfl (lv_at hl 0 rfl) ?_
  refine lv_iload_n hx hb dL_law_152 rfl (lv_at hl 3 rfl) ?_
  refine lv_iconst (v := nI 1) hx hb dL_law_153 xc_1 ?_
  refine xr_iadd hx hb dL_law_154 ?_
  refine lq_sld hx hb hX hbl hbA hS hL (show i + 1 < L by omega) dL_law_155 ?_
  refine xr_cVwi (wr := XW ad cB cJ sizes1 tokens1 spans1 subject1 parts1 states1 table1 stateAt1 fits1 sameAs1 cnt1 kn1 sc1) (rest := [.int r1]) ⟨hx, hb, hml, hown, hts⟩ (mt_X1_shorten l dC dI _ hM (xs (i + 1))) (cwV 1 hts gV_L_22 rfl rfl rfl hd_X1_shorten ⟨Nat.le_of_ble_eq_true rfl, Nat.le_of_ble_eq_true rfl⟩) hKM hP hD hS hA [0, 1, 2] [3, 4, 5, 6, 7, 8, 9, 10, 11, 12, 13] rfl rfl rfl (by decide) (by decide) (by decide) 0 1 rfl rfl rfl hl.1 rfl (Nat.le_of_ble_eq_true rfl) dL_law_156 ⟨Nat.le_of_ble_eq_true rfl, Nat.le_of_ble_eq_true rfl⟩ (fun r2 v H locs h2 hP hD hS => ?_)
  obtain ⟨size1, mtok1⟩ := v
  obtain ⟨e2, hM1⟩ := h2
  have hP : va_P (dC, dI) vwCl (XW ad cB cJ sizes1 tokens1 spans1 subject1 parts1 states1 table1 stateAt1 fits1 sameAs1 cnt1 kn1 sc1 ++ MW bd cI size1 mtok1) H := hP
  have hD : va_D (lq_A s) (XW ad cB cJ sizes1 tokens1 spans1 subject1 parts1 states1 table1 stateAt1 fits1 sameAs1 cnt1 kn1 sc1 ++ MW bd cI size1 mtok1) := hD
  have er : r1 = r2 := e1.trans e2.symm
  refine lv_icmp_eq (tgt := 473) hx hb dL_law_159 (by decide) (fun _ => ?_) (fun q => absurd er q)
  exact kk _ _ (sizes1, tokens1, spans1, subject1, parts1, states1, table1, stateAt1, fits1, sameAs1, cnt1, kn1, sc1) (size1, mtok1) H locs hI1 hM1 hP hD hS
set_option maxHeartbeats 4000000 in
set_option maxRecDepth 100000 in
theorem lq_c2 {p : Program} {l : Launch} {e : Env} {s : State} {m : MethodId} {below : List Frame} {meth : Method} {c : Code} {dC : Nat → ClassId} {dI : Nat → Nat → Nat} {b L : Nat} {xs : Nat → Int32} {ad bd : Nat → Nat} {cB cJ cI : ClassId} {ls : Array Slot} {i : Nat} (hL : L ≤ 256) (C0 : lw_At p s m meth c b L xs) (hKX : va_K (dC, dI) vwCl (tyX cB cJ) s) (hKM : va_K (dC, dI) vwCl (tyM cI) s) (hi : i + 4 ≤ L) (hl : lv_has ls 4 [(0, .ref b), (1, .ref (ad 0)), (2, .ref (bd 0)), (3, .int (nI i))]) (kk : lq_G p l e s m below meth c b dC dI ad bd cB cJ cI ls 473) : lq_G p l e s m below meth c b dC dI ad bd cB cJ cI ls 164 := by
  obtain ⟨hx, hb, hr, hml, hown, hts0, hX, hbl, hlocks, hgv⟩ := id C0
  have hts : ∀ w ∈ lw_all, w.before #[Value.ref b] s = true := fun w h => hts0 w (lw_all_tbl h)
  have hown : s.vm.findClass "PatternTablesLaw" = some m.cls := hown
  have hA : ∀ q : Nat, s.heap.size ≤ q → lq_A s q := fun _ h => h
  have hbA : ¬ lq_A s b := Nat.not_le.mpr hbl
  intro sz tk u v H locs hI hM hP hD hS
  obtain ⟨sizes, tokens, spans, subject, parts, states, table, stateAt, fits, sameAs, cnt, kn, sc⟩ := u
  obtain ⟨size, mtok⟩ := v
  have hP : va_P (dC, dI) vwCl (XW ad cB cJ sizes tokens spans subject parts states table stateAt fits sameAs cnt kn sc ++ MW bd cI size mtok) H := hP
  have hD : va_D (lq_A s) (XW ad cB cJ sizes tokens spans subject parts states table stateAt fits sameAs cnt kn sc ++ MW bd cI size mtok) := hD
  have hM : MI size mtok sz tk := hM
  refine lv_aload_n hx hb dL_law_164 rfl (lv_at hl 1 rfl) ?_
  refine lv_aload_n hx hb dL_law_165 rfl (lv_at hl 0 rfl) ?_
  refine lv_iload_n hx hb dL_law_166 rfl (lv_at hl 3 rfl) ?_
  refine lv_iconst (v := nI 1) hx hb dL_law_167 xc_1 ?_
  refine xr_iadd hx hb dL_law_168 ?_
  refine lq_sld hx hb hX hbl hbA hS hL (show i + 1 < L by omega) dL_law_169 ?_
  refine xr_cVwi (wr := MW bd cI size mtok) (rest := []) ⟨hx, hb, hml, hown, hts⟩ (mt_X0_grow l dC dI _ hI (xs (i + 1))) (cwV 1 hts gV_L_23 rfl rfl rfl hd_X0_grow ⟨Nat.le_of_ble_eq_true rfl, Nat.le_of_ble_eq_true rfl⟩) hKX hP hD hS hA [0, 1, 2, 3, 4, 5, 6, 7, 8, 9, 10] [11, 12, 13] rfl rfl rfl (by decide) (by decide) (by decide) 0 0 rfl rfl rfl hl.1 rfl (Nat.le_of_ble_eq_true rfl) dL_law_170 ⟨Nat.le_of_ble_eq_true rfl, Nat.le_of_ble_eq_true rfl⟩ (fun r1 u H locs h1 hP hD hS => ?_)
  obtain ⟨sizes1, tokens1, spans1, subject1, parts1, states1, table1, stateAt1, fits1, sameAs1, cnt1, kn1, sc1⟩ := u
  obtain ⟨e1, hI1⟩ := h1
  have hP : va_P (dC, dI) vwCl (MW bd cI size mtok ++ XW ad cB cJ sizes1 tokens1 spans1 subject1 parts1 states1 table1 stateAt1 fits1 sameAs1 cnt1 kn1 sc1) H := hP
  have hD : va_D (lq_A s) (MW bd cI size mtok ++ XW ad cB cJ sizes1 tokens1 spans1 subject1 parts1 states1 table1 stateAt1 fits1 sameAs1 cnt1 kn1 sc1) := hD
  refine lv_aload_n hx hb dL_law_173 rfl (lv_at hl 2 rfl) ?_
  refine lv_aload_n hx hb dL_law_174 rfl (lv_at hl 0 rfl) ?_
  refine lv_iload_n hx hb dL_law_175 rfl (lv_at hl 3 rfl) ?_
  refine lv_iconst (v := nI 1) hx hb dL_law_176 xc_1 ?_
  refine xr_iadd hx hb dL_law_177 ?_
  refine lq_sld hx hb hX hbl hbA hS hL (show i + 1 < L by omega) dL_law_178 ?_
  refine xr_cVwi (wr := XW ad cB cJ sizes1 tokens1 spans1 subject1 parts1 states1 table1 stateAt1 fits1 sameAs1 cnt1 kn1 sc1) (rest := [.int r1]) ⟨hx, hb, hml, hown, hts⟩ (mt_X1_grow l dC dI _ hM (xs (i + 1))) (cwV 1 hts gV_L_26 rfl rfl rfl hd_X1_grow ⟨Nat.le_of_ble_eq_true rfl, Nat.le_of_ble_eq_true rfl⟩) hKM hP hD hS hA [0, 1, 2] [3, 4, 5, 6, 7, 8, 9, 10, 11, 12, 13] rfl rfl rfl (by decide) (by decide) (by decide) 0 1 rfl rfl rfl hl.1 rfl (Nat.le_of_ble_eq_true rfl) dL_law_179 ⟨Nat.le_of_ble_eq_true rfl, Nat.le_of_ble_eq_true rfl⟩ (fun r2 v H locs h2 hP hD hS => ?_)
  obtain ⟨size1, mtok1⟩ := v
  obtain ⟨e2, hM1⟩ := h2
  have hP : va_P (dC, dI) vwCl (XW ad cB cJ sizes1 tokens1 spans1 subject1 parts1 states1 table1 stateAt1 fits1 sameAs1 cnt1 kn1 sc1 ++ MW bd cI size1 mtok1) H := hP
  have hD : va_D (lq_A s) (XW ad cB cJ sizes1 tokens1 spans1 subject1 parts1 states1 table1 stateAt1 fits1 sameAs1 cnt1 kn1 sc1 ++ MW bd cI size1 mtok1) := hD
  have er : r1 = r2 := e1.trans e2.symm
  refine lv_icmp_eq (tgt := 473) hx hb dL_law_182 (by decide) (fun _ => ?_) (fun q => absurd er q)
  exact kk _ _ (sizes1, tokens1, spans1, subject1, parts1, states1, table1, stateAt1, fits1, sameAs1, cnt1, kn1, sc1) (size1, mtok1) H locs hI1 hM1 hP hD hS
set_option maxHeartbeats 4000000 in
set_option maxRecDepth 100000 in
theorem lq_c3 {p : Program} {l : Launch} {e : Env} {s : State} {m : MethodId} {below : List Frame} {meth : Method} {c : Code} {dC : Nat → ClassId} {dI : Nat → Nat → Nat} {b L : Nat} {xs : Nat → Int32} {ad bd : Nat → Nat} {cB cJ cI : ClassId} {ls : Array Slot} {i : Nat} (hL : L ≤ 256) (C0 : lw_At p s m meth c b L xs) (hKX : va_K (dC, dI) vwCl (tyX cB cJ) s) (hKM : va_K (dC, dI) vwCl (tyM cI) s) (hi : i + 4 ≤ L) (hl : lv_has ls 4 [(0, .ref b), (1, .ref (ad 0)), (2, .ref (bd 0)), (3, .int (nI i))]) (kk : lq_G p l e s m below meth c b dC dI ad bd cB cJ cI ls 473) : lq_G p l e s m below meth c b dC dI ad bd cB cJ cI ls 187 := by
  obtain ⟨hx, hb, hr, hml, hown, hts0, hX, hbl, hlocks, hgv⟩ := id C0
  have hts : ∀ w ∈ lw_all, w.before #[Value.ref b] s = true := fun w h => hts0 w (lw_all_tbl h)
  have hown : s.vm.findClass "PatternTablesLaw" = some m.cls := hown
  have hA : ∀ q : Nat, s.heap.size ≤ q → lq_A s q := fun _ h => h
  have hbA : ¬ lq_A s b := Nat.not_le.mpr hbl
  intro sz tk u v H locs hI hM hP hD hS
  obtain ⟨sizes, tokens, spans, subject, parts, states, table, stateAt, fits, sameAs, cnt, kn, sc⟩ := u
  obtain ⟨size, mtok⟩ := v
  have hP : va_P (dC, dI) vwCl (XW ad cB cJ sizes tokens spans subject parts states table stateAt fits sameAs cnt kn sc ++ MW bd cI size mtok) H := hP
  have hD : va_D (lq_A s) (XW ad cB cJ sizes tokens spans subject parts states table stateAt fits sameAs cnt kn sc ++ MW bd cI size mtok) := hD
  have hM : MI size mtok sz tk := hM
  refine lv_aload_n hx hb dL_law_187 rfl (lv_at hl 1 rfl) ?_
  refine xr_cVwi (wr := MW bd cI size mtok) (rest := []) ⟨hx, hb, hml, hown, hts⟩ (mt_X0_prune l dC dI _ hI) (cwV 0 hts gV_L_27 rfl rfl rfl hd_X0_prune ⟨Nat.le_of_ble_eq_true rfl, Nat.le_of_ble_eq_true rfl⟩) hKX hP hD hS hA [0, 1, 2, 3, 4, 5, 6, 7, 8, 9, 10] [11, 12, 13] rfl rfl rfl (by decide) (by decide) (by decide) 0 0 rfl rfl rfl hl.1 rfl (Nat.le_of_ble_eq_true rfl) dL_law_188 ⟨Nat.le_of_ble_eq_true rfl, Nat.le_of_ble_eq_true rfl⟩ (fun r1 u H locs h1 hP hD hS => ?_)
  obtain ⟨sizes1, tokens1, spans1, subject1, parts1, states1, table1, stateAt1, fits1, sameAs1, cnt1, kn1, sc1⟩ := u
  obtain ⟨e1, hI1⟩ := h1
  have hP : va_P (dC, dI) vwCl (MW bd cI size mtok ++ XW ad cB cJ sizes1 tokens1 spans1 subject1 parts1 states1 table1 stateAt1 fits1 sameAs1 cnt1 kn1 sc1) H := hP
  have hD : va_D (lq_A s) (MW bd cI size mtok ++ XW ad cB cJ sizes1 tokens1 spans1 subject1 parts1 states1 table1 stateAt1 fits1 sameAs1 cnt1 kn1 sc1) := hD
  refine lv_aload_n hx hb dL_law_191 rfl (lv_at hl 2 rfl) ?_
  refine xr_cVwi (wr := XW ad cB cJ sizes1 tokens1 spans1 subject1 parts1 states1 table1 stateAt1 fits1 sameAs1 cnt1 kn1 sc1) (rest := [.int r1]) ⟨hx, hb, hml, hown, hts⟩ (mt_X1_prune l dC dI _ hM) (cwV 0 hts gV_L_31 rfl rfl rfl hd_X1_prune ⟨Nat.le_of_ble_eq_true rfl, Nat.le_of_ble_eq_true rfl⟩) hKM hP hD hS hA [0, 1, 2] [3, 4, 5, 6, 7, 8, 9, 10, 11, 12, 13] rfl rfl rfl (by decide) (by decide) (by decide) 0 1 rfl rfl rfl hl.1 rfl (Nat.le_of_ble_eq_true rfl) dL_law_192 ⟨Nat.le_of_ble_eq_true rfl, Nat.le_of_ble_eq_true rfl⟩ (fun r2 v H locs h2 hP hD hS => ?_)
  obtain ⟨size1, mtok1⟩ := v
  obtain ⟨e2, hM1⟩ := h2
  have hP : va_P (dC, dI) vwCl (XW ad cB cJ sizes1 tokens1 spans1 subject1 parts1 states1 table1 stateAt1 fits1 sameAs1 cnt1 kn1 sc1 ++ MW bd cI size1 mtok1) H := hP
  have hD : va_D (lq_A s) (XW ad cB cJ sizes1 tokens1 spans1 subject1 parts1 states1 table1 stateAt1 fits1 sameAs1 cnt1 kn1 sc1 ++ MW bd cI size1 mtok1) := hD
  have er : r1 = r2 := e1.trans e2.symm
  refine lv_icmp_eq (tgt := 473) hx hb dL_law_195 (by decide) (fun _ => ?_) (fun q => absurd er q)
  exact kk _ _ (sizes1, tokens1, spans1, subject1, parts1, states1, table1, stateAt1, fits1, sameAs1, cnt1, kn1, sc1) (size1, mtok1) H locs hI1 hM1 hP hD hS
set_option maxHeartbeats 4000000 in
set_option maxRecDepth 100000 in
theorem lq_c4 {p : Program} {l : Launch} {e : Env} {s : State} {m : MethodId} {below : List Frame} {meth : Method} {c : Code} {dC : Nat → ClassId} {dI : Nat → Nat → Nat} {b L : Nat} {xs : Nat → Int32} {ad bd : Nat → Nat} {cB cJ cI : ClassId} {ls : Array Slot} {i : Nat} (hL : L ≤ 256) (C0 : lw_At p s m meth c b L xs) (hKX : va_K (dC, dI) vwCl (tyX cB cJ) s) (hKM : va_K (dC, dI) vwCl (tyM cI) s) (hi : i + 4 ≤ L) (hl : lv_has ls 4 [(0, .ref b), (1, .ref (ad 0)), (2, .ref (bd 0)), (3, .int (nI i))]) (kk : lq_G p l e s m below meth c b dC dI ad bd cB cJ cI ls 473) : lq_G p l e s m below meth c b dC dI ad bd cB cJ cI ls 200 := by
  obtain ⟨hx, hb, hr, hml, hown, hts0, hX, hbl, hlocks, hgv⟩ := id C0
  have hts : ∀ w ∈ lw_all, w.before #[Value.ref b] s = true := fun w h => hts0 w (lw_all_tbl h)
  have hown : s.vm.findClass "PatternTablesLaw" = some m.cls := hown
  have hA : ∀ q : Nat, s.heap.size ≤ q → lq_A s q := fun _ h => h
  have hbA : ¬ lq_A s b := Nat.not_le.mpr hbl
  intro sz tk u v H locs hI hM hP hD hS
  obtain ⟨sizes, tokens, spans, subject, parts, states, table, stateAt, fits, sameAs, cnt, kn, sc⟩ := u
  obtain ⟨size, mtok⟩ := v
  have hP : va_P (dC, dI) vwCl (XW ad cB cJ sizes tokens spans subject parts states table stateAt fits sameAs cnt kn sc ++ MW bd cI size mtok) H := hP
  have hD : va_D (lq_A s) (XW ad cB cJ sizes tokens spans subject parts states table stateAt fits sameAs cnt kn sc ++ MW bd cI size mtok) := hD
  have hM : MI size mtok sz tk := hM
  refine lv_aload_n hx hb dL_law_200 rfl (lv_at hl 1 rfl) ?_
  refine lv_aload_n hx hb dL_law_201 rfl (lv_at hl 0 rfl) ?_
  refine lv_iload_n hx hb dL_law_202 rfl (lv_at hl 3 rfl) ?_
  refine lv_iconst (v := nI 1) hx hb dL_law_203 xc_1 ?_
  refine xr_iadd hx hb dL_law_204 ?_
  refine lq_sld hx hb hX hbl hbA hS hL (show i + 1 < L by omega) dL_law_205 ?_
  obtain ⟨hXL, hXJ⟩ := XI_J.mp hI
  have hPx := hP.sub (ws' := XW ad cB cJ sizes tokens spans subject parts states table stateAt fits sameAs cnt kn sc) [0, 1, 2, 3, 4, 5, 6, 7, 8, 9, 10] rfl
  refine xr_cVi (rest := []) ⟨hx, hb, hml, hown, hts⟩ (mt_X0_complete l dC dI hXL (xs (i + 1))) (cwV 1 hts gV_L_32 rfl rfl rfl hd_X0_complete ⟨Nat.le_of_ble_eq_true rfl, Nat.le_of_ble_eq_true rfl⟩) hKX hPx 0 0 rfl rfl rfl hl.1 rfl (Nat.le_of_ble_eq_true rfl) dL_law_206 ⟨Nat.le_of_ble_eq_true rfl, Nat.le_of_ble_eq_true rfl⟩ (fun r1 e1 => ?_)
  refine lv_aload_n hx hb dL_law_209 rfl (lv_at hl 2 rfl) ?_
  refine lv_aload_n hx hb dL_law_210 rfl (lv_at hl 0 rfl) ?_
  refine lv_iload_n hx hb dL_law_211 rfl (lv_at hl 3 rfl) ?_
  refine lv_iconst (v := nI 1) hx hb dL_law_212 xc_1 ?_
  refine xr_iadd hx hb dL_law_213 ?_
  refine lq_sld hx hb hX hbl hbA hS hL (show i + 1 < L by omega) dL_law_214 ?_
  have hPm := hP.sub (ws' := MW bd cI size mtok) [11, 12, 13] rfl
  refine xr_cVi (rest := [.int r1]) ⟨hx, hb, hml, hown, hts⟩ (mt_X1_complete l dC dI hM (xs (i + 1))) (cwV 1 hts gV_L_36 rfl rfl rfl hd_X1_complete ⟨Nat.le_of_ble_eq_true rfl, Nat.le_of_ble_eq_true rfl⟩) hKM hPm 0 1 rfl rfl rfl hl.1 rfl (Nat.le_of_ble_eq_true rfl) dL_law_215 ⟨Nat.le_of_ble_eq_true rfl, Nat.le_of_ble_eq_true rfl⟩ (fun r2 e2 => ?_)
  have er : r1 = r2 := xr_B.eq e1 e2 Iff.rfl
  refine lv_icmp_eq (tgt := 473) hx hb dL_law_218 (by decide) (fun _ => ?_) (fun q => absurd er q)
  exact kk sz tk (sizes, tokens, spans, subject, parts, states, table, stateAt, fits, sameAs, cnt, kn, sc) (size, mtok) H locs hI hM hP hD hS
set_option maxHeartbeats 4000000 in
set_option maxRecDepth 100000 in
theorem lq_c5 {p : Program} {l : Launch} {e : Env} {s : State} {m : MethodId} {below : List Frame} {meth : Method} {c : Code} {dC : Nat → ClassId} {dI : Nat → Nat → Nat} {b L : Nat} {xs : Nat → Int32} {ad bd : Nat → Nat} {cB cJ cI : ClassId} {ls : Array Slot} {i : Nat} (hL : L ≤ 256) (C0 : lw_At p s m meth c b L xs) (hKX : va_K (dC, dI) vwCl (tyX cB cJ) s) (hKM : va_K (dC, dI) vwCl (tyM cI) s) (hi : i + 4 ≤ L) (hl : lv_has ls 4 [(0, .ref b), (1, .ref (ad 0)), (2, .ref (bd 0)), (3, .int (nI i))]) (kk : lq_G p l e s m below meth c b dC dI ad bd cB cJ cI ls 473) : lq_G p l e s m below meth c b dC dI ad bd cB cJ cI ls 223 := by
  obtain ⟨hx, hb, hr, hml, hown, hts0, hX, hbl, hlocks, hgv⟩ := id C0
  have hts : ∀ w ∈ lw_all, w.before #[Value.ref b] s = true := fun w h => hts0 w (lw_all_tbl h)
  have hown : s.vm.findClass "PatternTablesLaw" = some m.cls := hown
  have hA : ∀ q : Nat, s.heap.size ≤ q → lq_A s q := fun _ h => h
  have hbA : ¬ lq_A s b := Nat.not_le.mpr hbl
  intro sz tk u v H locs hI hM hP hD hS
  obtain ⟨sizes, tokens, spans, subject, parts, states, table, stateAt, fits, sameAs, cnt, kn, sc⟩ := u
  obtain ⟨size, mtok⟩ := v
  have hP : va_P (dC, dI) vwCl (XW ad cB cJ sizes tokens spans subject parts states table stateAt fits sameAs cnt kn sc ++ MW bd cI size mtok) H := hP
  have hD : va_D (lq_A s) (XW ad cB cJ sizes tokens spans subject parts states table stateAt fits sameAs cnt kn sc ++ MW bd cI size mtok) := hD
  have hM : MI size mtok sz tk := hM
  refine lv_aload_n hx hb dL_law_223 rfl (lv_at hl 1 rfl) ?_
  obtain ⟨hXL, hXJ⟩ := XI_J.mp hI
  have hPx := hP.sub (ws' := XW ad cB cJ sizes tokens spans subject parts states table stateAt fits sameAs cnt kn sc) [0, 1, 2, 3, 4, 5, 6, 7, 8, 9, 10] rfl
  refine xr_cVi (rest := []) ⟨hx, hb, hml, hown, hts⟩ (mt_X0_whole l dC dI hXL) (cwV 0 hts gV_L_37 rfl rfl rfl hd_X0_whole ⟨Nat.le_of_ble_eq_true rfl, Nat.le_of_ble_eq_true rfl⟩) hKX hPx 0 0 rfl rfl rfl hl.1 rfl (Nat.le_of_ble_eq_true rfl) dL_law_224 ⟨Nat.le_of_ble_eq_true rfl, Nat.le_of_ble_eq_true rfl⟩ (fun r1 e1 => ?_)
  refine lv_aload_n hx hb dL_law_227 rfl (lv_at hl 2 rfl) ?_
  have hPm := hP.sub (ws' := MW bd cI size mtok) [11, 12, 13] rfl
  refine xr_cVi (rest := [.int r1]) ⟨hx, hb, hml, hown, hts⟩ (mt_X1_whole l dC dI hM) (cwV 0 hts gV_L_41 rfl rfl rfl hd_X1_whole ⟨Nat.le_of_ble_eq_true rfl, Nat.le_of_ble_eq_true rfl⟩) hKM hPm 0 1 rfl rfl rfl hl.1 rfl (Nat.le_of_ble_eq_true rfl) dL_law_228 ⟨Nat.le_of_ble_eq_true rfl, Nat.le_of_ble_eq_true rfl⟩ (fun r2 e2 => ?_)
  have er : r1 = r2 := xr_B.eq e1 e2 Iff.rfl
  refine lv_icmp_eq (tgt := 473) hx hb dL_law_231 (by decide) (fun _ => ?_) (fun q => absurd er q)
  exact kk sz tk (sizes, tokens, spans, subject, parts, states, table, stateAt, fits, sameAs, cnt, kn, sc) (size, mtok) H locs hI hM hP hD hS
set_option maxHeartbeats 4000000 in
set_option maxRecDepth 100000 in
theorem lq_c6 {p : Program} {l : Launch} {e : Env} {s : State} {m : MethodId} {below : List Frame} {meth : Method} {c : Code} {dC : Nat → ClassId} {dI : Nat → Nat → Nat} {b L : Nat} {xs : Nat → Int32} {ad bd : Nat → Nat} {cB cJ cI : ClassId} {ls : Array Slot} {i : Nat} (hL : L ≤ 256) (C0 : lw_At p s m meth c b L xs) (hKX : va_K (dC, dI) vwCl (tyX cB cJ) s) (hKM : va_K (dC, dI) vwCl (tyM cI) s) (hi : i + 4 ≤ L) (hl : lv_has ls 4 [(0, .ref b), (1, .ref (ad 0)), (2, .ref (bd 0)), (3, .int (nI i))]) (kk : lq_G p l e s m below meth c b dC dI ad bd cB cJ cI ls 473) : lq_G p l e s m below meth c b dC dI ad bd cB cJ cI ls 236 := by
  obtain ⟨hx, hb, hr, hml, hown, hts0, hX, hbl, hlocks, hgv⟩ := id C0
  have hts : ∀ w ∈ lw_all, w.before #[Value.ref b] s = true := fun w h => hts0 w (lw_all_tbl h)
  have hown : s.vm.findClass "PatternTablesLaw" = some m.cls := hown
  have hA : ∀ q : Nat, s.heap.size ≤ q → lq_A s q := fun _ h => h
  have hbA : ¬ lq_A s b := Nat.not_le.mpr hbl
  intro sz tk u v H locs hI hM hP hD hS
  obtain ⟨sizes, tokens, spans, subject, parts, states, table, stateAt, fits, sameAs, cnt, kn, sc⟩ := u
  obtain ⟨size, mtok⟩ := v
  have hP : va_P (dC, dI) vwCl (XW ad cB cJ sizes tokens spans subject parts states table stateAt fits sameAs cnt kn sc ++ MW bd cI size mtok) H := hP
  have hD : va_D (lq_A s) (XW ad cB cJ sizes tokens spans subject parts states table stateAt fits sameAs cnt kn sc ++ MW bd cI size mtok) := hD
  have hM : MI size mtok sz tk := hM
  refine lv_aload_n hx hb dL_law_236 rfl (lv_at hl 1 rfl) ?_
  refine lv_aload_n hx hb dL_law_237 rfl (lv_at hl 0 rfl) ?_
  refine lv_iload_n hx hb dL_law_238 rfl (lv_at hl 3 rfl) ?_
  refine lv_iconst (v := nI 1) hx hb dL_law_239 xc_1 ?_
  refine xr_iadd hx hb dL_law_240 ?_
  refine lq_sld hx hb hX hbl hbA hS hL (show i + 1 < L by omega) dL_law_241 ?_
  obtain ⟨hXL, hXJ⟩ := XI_J.mp hI
  refine xr_cVwi (wr := MW bd cI size mtok) (rest := []) ⟨hx, hb, hml, hown, hts⟩ (mt_X0_fitsAt l dC dI _ hXL hXJ (xs (i + 1))) (cwV 1 hts gV_L_42 rfl rfl rfl hd_X0_fitsAt ⟨Nat.le_of_ble_eq_true rfl, Nat.le_of_ble_eq_true rfl⟩) hKX hP hD hS hA [0, 1, 2, 3, 4, 5, 6, 7, 8, 9, 10] [11, 12, 13] rfl rfl rfl (by decide) (by decide) (by decide) 0 0 rfl rfl rfl hl.1 rfl (Nat.le_of_ble_eq_true rfl) dL_law_242 ⟨Nat.le_of_ble_eq_true rfl, Nat.le_of_ble_eq_true rfl⟩ (fun r1 u H locs h1 hP hD hS => ?_)
  obtain ⟨spans1, parts1, states1, table1, stateAt1, fits1, sameAs1, kn1, sc1⟩ := u
  obtain ⟨e1, hJ1, -⟩ := h1
  have hI1 : XI (sizes, tokens, spans1, subject, parts1, states1, table1, stateAt1, fits1, sameAs1, cnt, kn1, sc1) sz tk := XI_J.mpr ⟨hXL, hJ1⟩
  have hP : va_P (dC, dI) vwCl (MW bd cI size mtok ++ XW ad cB cJ sizes tokens spans1 subject parts1 states1 table1 stateAt1 fits1 sameAs1 cnt kn1 sc1) H := hP
  have hD : va_D (lq_A s) (MW bd cI size mtok ++ XW ad cB cJ sizes tokens spans1 subject parts1 states1 table1 stateAt1 fits1 sameAs1 cnt kn1 sc1) := hD
  refine lv_aload_n hx hb dL_law_245 rfl (lv_at hl 2 rfl) ?_
  refine lv_aload_n hx hb dL_law_246 rfl (lv_at hl 0 rfl) ?_
  refine lv_iload_n hx hb dL_law_247 rfl (lv_at hl 3 rfl) ?_
  refine lv_iconst (v := nI 1) hx hb dL_law_248 xc_1 ?_
  refine xr_iadd hx hb dL_law_249 ?_
  refine lq_sld hx hb hX hbl hbA hS hL (show i + 1 < L by omega) dL_law_250 ?_
  have hPm := hP.sub (ws' := MW bd cI size mtok) [0, 1, 2] rfl
  refine xr_cVi (rest := [.int r1]) ⟨hx, hb, hml, hown, hts⟩ (mt_X1_fitsAt l dC dI hM (xs (i + 1))) (cwV 1 hts gV_L_45 rfl rfl rfl hd_X1_fitsAt ⟨Nat.le_of_ble_eq_true rfl, Nat.le_of_ble_eq_true rfl⟩) hKM hPm 0 1 rfl rfl rfl hl.1 rfl (Nat.le_of_ble_eq_true rfl) dL_law_251 ⟨Nat.le_of_ble_eq_true rfl, Nat.le_of_ble_eq_true rfl⟩ (fun r2 e2 => ?_)
  have hP := hP.sub (ws' := XW ad cB cJ sizes tokens spans1 subject parts1 states1 table1 stateAt1 fits1 sameAs1 cnt kn1 sc1 ++ MW bd cI size mtok) [3, 4, 5, 6, 7, 8, 9, 10, 11, 12, 13, 0, 1, 2] rfl
  have hD := hD.sub (ws' := XW ad cB cJ sizes tokens spans1 subject parts1 states1 table1 stateAt1 fits1 sameAs1 cnt kn1 sc1 ++ MW bd cI size mtok) [3, 4, 5, 6, 7, 8, 9, 10, 11, 12, 13, 0, 1, 2] (by decide) rfl
  have er : r1 = r2 := e1.trans e2.symm
  refine lv_icmp_eq (tgt := 473) hx hb dL_law_254 (by decide) (fun _ => ?_) (fun q => absurd er q)
  exact kk sz tk (sizes, tokens, spans1, subject, parts1, states1, table1, stateAt1, fits1, sameAs1, cnt, kn1, sc1) (size, mtok) H locs hI1 hM hP hD hS
end
section
/-! the cases of the law's switch, the rest -/
set_option maxHeartbeats 4000000 in
set_option maxRecDepth 100000 in
theorem lq_c7 {p : Program} {l : Launch} {e : Env} {s : State} {m : MethodId} {below : List Frame} {meth : Method} {c : Code} {dC : Nat → ClassId} {dI : Nat → Nat → Nat} {b L : Nat} {xs : Nat → Int32} {ad bd : Nat → Nat} {cB cJ cI : ClassId} {ls : Array Slot} {i : Nat} (hL : L ≤ 256) (C0 : lw_At p s m meth c b L xs) (hKX : va_K (dC, dI) vwCl (tyX cB cJ) s) (hKM : va_K (dC, dI) vwCl (tyM cI) s) (hi : i + 4 ≤ L) (hl : lv_has ls 4 [(0, .ref b), (1, .ref (ad 0)), (2, .ref (bd 0)), (3, .int (nI i))]) (kk : lq_G p l e s m below meth c b dC dI ad bd cB cJ cI ls 473) : lq_G p l e s m below meth c b dC dI ad bd cB cJ cI ls 259 := by
  obtain ⟨hx, hb, hr, hml, hown, hts0, hX, hbl, hlocks, hgv⟩ := id C0
  have hts : ∀ w ∈ lw_all, w.before #[Value.ref b] s = true := fun w h => hts0 w (lw_all_tbl h)
  have hown : s.vm.findClass "PatternTablesLaw" = some m.cls := hown
  have hA : ∀ q : Nat, s.heap.size ≤ q → lq_A s q := fun _ h => h
  have hbA : ¬ lq_A s b := Nat.not_le.mpr hbl
  intro sz tk u v H locs hI hM hP hD hS
  obtain ⟨sizes, tokens, spans, subject, parts, states, table, stateAt, fits, sameAs, cnt, kn, sc⟩ := u
  obtain ⟨size, mtok⟩ := v
  have hP : va_P (dC, dI) vwCl (XW ad cB cJ sizes tokens spans subject parts states table stateAt fits sameAs cnt kn sc ++ MW bd cI size mtok) H := hP
  have hD : va_D (lq_A s) (XW ad cB cJ sizes tokens spans subject parts states table stateAt fits sameAs cnt kn sc ++ MW bd cI size mtok) := hD
  have hM : MI size mtok sz tk := hM
  refine lv_aload_n hx hb dL_law_259 rfl (lv_at hl 1 rfl) ?_
  refine lv_aload_n hx hb dL_law_260 rfl (lv_at hl 0 rfl) ?_
  refine lv_iload_n hx hb dL_law_261 rfl (lv_at hl 3 rfl) ?_
  refine lv_iconst (v := nI 1) hx hb dL_law_262 xc_1 ?_
  refine xr_iadd hx hb dL_law_263 ?_
  refine lq_sld hx hb hX hbl hbA hS hL (show i + 1 < L by omega) dL_law_264 ?_
  obtain ⟨hXL, hXJ⟩ := XI_J.mp hI
  refine xr_cVwi (wr := MW bd cI size mtok) (rest := []) ⟨hx, hb, hml, hown, hts⟩ (mt_X0_count l dC dI _ hXL hXJ (xs (i + 1))) (cwV 1 hts gV_L_46 rfl rfl rfl hd_X0_count ⟨Nat.le_of_ble_eq_true rfl, Nat.le_of_ble_eq_true rfl⟩) hKX hP hD hS hA [0, 1, 2, 3, 4, 5, 6, 7, 8, 9, 10] [11, 12, 13] rfl rfl rfl (by decide) (by decide) (by decide) 0 0 rfl rfl rfl hl.1 rfl (Nat.le_of_ble_eq_true rfl) dL_law_265 ⟨Nat.le_of_ble_eq_true rfl, Nat.le_of_ble_eq_true rfl⟩ (fun r1 u H locs h1 hP hD hS => ?_)
  obtain ⟨spans1, parts1, states1, table1, stateAt1, fits1, sameAs1, kn1, sc1⟩ := u
  obtain ⟨e1, hJ1⟩ := h1
  have hI1 : XI (sizes, tokens, spans1, subject, parts1, states1, table1, stateAt1, fits1, sameAs1, cnt, kn1, sc1) sz tk := XI_J.mpr ⟨hXL, hJ1⟩
  have hP : va_P (dC, dI) vwCl (MW bd cI size mtok ++ XW ad cB cJ sizes tokens spans1 subject parts1 states1 table1 stateAt1 fits1 sameAs1 cnt kn1 sc1) H := hP
  have hD : va_D (lq_A s) (MW bd cI size mtok ++ XW ad cB cJ sizes tokens spans1 subject parts1 states1 table1 stateAt1 fits1 sameAs1 cnt kn1 sc1) := hD
  refine lv_aload_n hx hb dL_law_268 rfl (lv_at hl 2 rfl) ?_
  refine lv_aload_n hx hb dL_law_269 rfl (lv_at hl 0 rfl) ?_
  refine lv_iload_n hx hb dL_law_270 rfl (lv_at hl 3 rfl) ?_
  refine lv_iconst (v := nI 1) hx hb dL_law_271 xc_1 ?_
  refine xr_iadd hx hb dL_law_272 ?_
  refine lq_sld hx hb hX hbl hbA hS hL (show i + 1 < L by omega) dL_law_273 ?_
  have hPm := hP.sub (ws' := MW bd cI size mtok) [0, 1, 2] rfl
  refine xr_cVi (rest := [.int r1]) ⟨hx, hb, hml, hown, hts⟩ (mt_X1_count l dC dI hM (xs (i + 1))) (cwV 1 hts gV_L_49 rfl rfl rfl hd_X1_count ⟨Nat.le_of_ble_eq_true rfl, Nat.le_of_ble_eq_true rfl⟩) hKM hPm 0 1 rfl rfl rfl hl.1 rfl (Nat.le_of_ble_eq_true rfl) dL_law_274 ⟨Nat.le_of_ble_eq_true rfl, Nat.le_of_ble_eq_true rfl⟩ (fun r2 e2 => ?_)
  have hP := hP.sub (ws' := XW ad cB cJ sizes tokens spans1 subject parts1 states1 table1 stateAt1 fits1 sameAs1 cnt kn1 sc1 ++ MW bd cI size mtok) [3, 4, 5, 6, 7, 8, 9, 10, 11, 12, 13, 0, 1, 2] rfl
  have hD := hD.sub (ws' := XW ad cB cJ sizes tokens spans1 subject parts1 states1 table1 stateAt1 fits1 sameAs1 cnt kn1 sc1 ++ MW bd cI size mtok) [3, 4, 5, 6, 7, 8, 9, 10, 11, 12, 13, 0, 1, 2] (by decide) rfl
  have er : r1 = r2 := e1.trans e2.symm
  refine lv_icmp_eq (tgt := 473) hx hb dL_law_277 (by decide) (fun _ => ?_) (fun q => absurd er q)
  exact kk sz tk (sizes, tokens, spans1, subject, parts1, states1, table1, stateAt1, fits1, sameAs1, cnt, kn1, sc1) (size, mtok) H locs hI1 hM hP hD hS
set_option maxHeartbeats 4000000 in
set_option maxRecDepth 100000 in
theorem lq_c8 {p : Program} {l : Launch} {e : Env} {s : State} {m : MethodId} {below : List Frame} {meth : Method} {c : Code} {dC : Nat → ClassId} {dI : Nat → Nat → Nat} {b L : Nat} {xs : Nat → Int32} {ad bd : Nat → Nat} {cB cJ cI : ClassId} {ls : Array Slot} {i : Nat} (hL : L ≤ 256) (C0 : lw_At p s m meth c b L xs) (hKX : va_K (dC, dI) vwCl (tyX cB cJ) s) (hKM : va_K (dC, dI) vwCl (tyM cI) s) (hi : i + 4 ≤ L) (hl : lv_has ls 4 [(0, .ref b), (1, .ref (ad 0)), (2, .ref (bd 0)), (3, .int (nI i))]) (kk : lq_G p l e s m below meth c b dC dI ad bd cB cJ cI ls 473) : lq_G p l e s m below meth c b dC dI ad bd cB cJ cI ls 282 := by
  obtain ⟨hx, hb, hr, hml, hown, hts0, hX, hbl, hlocks, hgv⟩ := id C0
  have hts : ∀ w ∈ lw_all, w.before #[Value.ref b] s = true := fun w h => hts0 w (lw_all_tbl h)
  have hown : s.vm.findClass "PatternTablesLaw" = some m.cls := hown
  have hA : ∀ q : Nat, s.heap.size ≤ q → lq_A s q := fun _ h => h
  have hbA : ¬ lq_A s b := Nat.not_le.mpr hbl
  intro sz tk u v H locs hI hM hP hD hS
  obtain ⟨sizes, tokens, spans, subject, parts, states, table, stateAt, fits, sameAs, cnt, kn, sc⟩ := u
  obtain ⟨size, mtok⟩ := v
  have hP : va_P (dC, dI) vwCl (XW ad cB cJ sizes tokens spans subject parts states table stateAt fits sameAs cnt kn sc ++ MW bd cI size mtok) H := hP
  have hD : va_D (lq_A s) (XW ad cB cJ sizes tokens spans subject parts states table stateAt fits sameAs cnt kn sc ++ MW bd cI size mtok) := hD
  have hM : MI size mtok sz tk := hM
  refine lv_aload_n hx hb dL_law_282 rfl (lv_at hl 1 rfl) ?_
  refine lv_aload_n hx hb dL_law_283 rfl (lv_at hl 0 rfl) ?_
  refine lv_iload_n hx hb dL_law_284 rfl (lv_at hl 3 rfl) ?_
  refine lv_iconst (v := nI 1) hx hb dL_law_285 xc_1 ?_
  refine xr_iadd hx hb dL_law_286 ?_
  refine lq_sld hx hb hX hbl hbA hS hL (show i + 1 < L by omega) dL_law_287 ?_
  refine lv_aload_n hx hb dL_law_288 rfl (lv_at hl 0 rfl) ?_
  refine lv_iload_n hx hb dL_law_289 rfl (lv_at hl 3 rfl) ?_
  refine lv_iconst (v := nI 2) hx hb dL_law_290 xc_2 ?_
  refine xr_iadd hx hb dL_law_291 ?_
  refine lq_sld hx hb hX hbl hbA hS hL (show i + 2 < L by omega) dL_law_292 ?_
  obtain ⟨hXL, hXJ⟩ := XI_J.mp hI
  refine xr_cVwi (wr := MW bd cI size mtok) (rest := []) ⟨hx, hb, hml, hown, hts⟩ (mt_X0_next l dC dI _ hXL hXJ (xs (i + 1)) (xs (i + 2))) (cwV 2 hts gV_L_50 rfl rfl rfl hd_X0_next ⟨Nat.le_of_ble_eq_true rfl, Nat.le_of_ble_eq_true rfl⟩) hKX hP hD hS hA [0, 1, 2, 3, 4, 5, 6, 7, 8, 9, 10] [11, 12, 13] rfl rfl rfl (by decide) (by decide) (by decide) 0 0 rfl rfl rfl hl.1 rfl (Nat.le_of_ble_eq_true rfl) dL_law_293 ⟨Nat.le_of_ble_eq_true rfl, Nat.le_of_ble_eq_true rfl⟩ (fun r1 u H locs h1 hP hD hS => ?_)
  obtain ⟨spans1, parts1, states1, table1, stateAt1, fits1, sameAs1, kn1, sc1⟩ := u
  obtain ⟨e1, hJ1⟩ := h1
  have hI1 : XI (sizes, tokens, spans1, subject, parts1, states1, table1, stateAt1, fits1, sameAs1, cnt, kn1, sc1) sz tk := XI_J.mpr ⟨hXL, hJ1⟩
  have hP : va_P (dC, dI) vwCl (MW bd cI size mtok ++ XW ad cB cJ sizes tokens spans1 subject parts1 states1 table1 stateAt1 fits1 sameAs1 cnt kn1 sc1) H := hP
  have hD : va_D (lq_A s) (MW bd cI size mtok ++ XW ad cB cJ sizes tokens spans1 subject parts1 states1 table1 stateAt1 fits1 sameAs1 cnt kn1 sc1) := hD
  refine lv_aload_n hx hb dL_law_296 rfl (lv_at hl 2 rfl) ?_
  refine lv_aload_n hx hb dL_law_297 rfl (lv_at hl 0 rfl) ?_
  refine lv_iload_n hx hb dL_law_298 rfl (lv_at hl 3 rfl) ?_
  refine lv_iconst (v := nI 1) hx hb dL_law_299 xc_1 ?_
  refine xr_iadd hx hb dL_law_300 ?_
  refine lq_sld hx hb hX hbl hbA hS hL (show i + 1 < L by omega) dL_law_301 ?_
  refine lv_aload_n hx hb dL_law_302 rfl (lv_at hl 0 rfl) ?_
  refine lv_iload_n hx hb dL_law_303 rfl (lv_at hl 3 rfl) ?_
  refine lv_iconst (v := nI 2) hx hb dL_law_304 xc_2 ?_
  refine xr_iadd hx hb dL_law_305 ?_
  refine lq_sld hx hb hX hbl hbA hS hL (show i + 2 < L by omega) dL_law_306 ?_
  have hPm := hP.sub (ws' := MW bd cI size mtok) [0, 1, 2] rfl
  refine xr_cVi (rest := [.int r1]) ⟨hx, hb, hml, hown, hts⟩ (mt_X1_next l dC dI hM (xs (i + 1)) (xs (i + 2))) (cwV 2 hts gV_L_53 rfl rfl rfl hd_X1_next ⟨Nat.le_of_ble_eq_true rfl, Nat.le_of_ble_eq_true rfl⟩) hKM hPm 0 1 rfl rfl rfl hl.1 rfl (Nat.le_of_ble_eq_true rfl) dL_law_307 ⟨Nat.le_of_ble_eq_true rfl, Nat.le_of_ble_eq_true rfl⟩ (fun r2 e2 => ?_)
  have hP := hP.sub (ws' := XW ad cB cJ sizes tokens spans1 subject parts1 states1 table1 stateAt1 fits1 sameAs1 cnt kn1 sc1 ++ MW bd cI size mtok) [3, 4, 5, 6, 7, 8, 9, 10, 11, 12, 13, 0, 1, 2] rfl
  have hD := hD.sub (ws' := XW ad cB cJ sizes tokens spans1 subject parts1 states1 table1 stateAt1 fits1 sameAs1 cnt kn1 sc1 ++ MW bd cI size mtok) [3, 4, 5, 6, 7, 8, 9, 10, 11, 12, 13, 0, 1, 2] (by decide) rfl
  have er : r1 = r2 := e1.trans e2.symm
  refine lv_icmp_eq (tgt := 473) hx hb dL_law_310 (by decide) (fun _ => ?_) (fun q => absurd er q)
  exact kk sz tk (sizes, tokens, spans1, subject, parts1, states1, table1, stateAt1, fits1, sameAs1, cnt, kn1, sc1) (size, mtok) H locs hI1 hM hP hD hS
set_option maxHeartbeats 4000000 in
set_option maxRecDepth 100000 in
theorem lq_c9 {p : Program} {l : Launch} {e : Env} {s : State} {m : MethodId} {below : List Frame} {meth : Method} {c : Code} {dC : Nat → ClassId} {dI : Nat → Nat → Nat} {b L : Nat} {xs : Nat → Int32} {ad bd : Nat → Nat} {cB cJ cI : ClassId} {ls : Array Slot} {i : Nat} (hL : L ≤ 256) (C0 : lw_At p s m meth c b L xs) (hKX : va_K (dC, dI) vwCl (tyX cB cJ) s) (hKM : va_K (dC, dI) vwCl (tyM cI) s) (hi : i + 4 ≤ L) (hl : lv_has ls 4 [(0, .ref b), (1, .ref (ad 0)), (2, .ref (bd 0)), (3, .int (nI i))]) (kk : lq_G p l e s m below meth c b dC dI ad bd cB cJ cI ls 473) : lq_G p l e s m below meth c b dC dI ad bd cB cJ cI ls 315 := by
  obtain ⟨hx, hb, hr, hml, hown, hts0, hX, hbl, hlocks, hgv⟩ := id C0
  have hts : ∀ w ∈ lw_all, w.before #[Value.ref b] s = true := fun w h => hts0 w (lw_all_tbl h)
  have hown : s.vm.findClass "PatternTablesLaw" = some m.cls := hown
  have hA : ∀ q : Nat, s.heap.size ≤ q → lq_A s q := fun _ h => h
  have hbA : ¬ lq_A s b := Nat.not_le.mpr hbl
  intro sz tk u v H locs hI hM hP hD hS
  obtain ⟨sizes, tokens, spans, subject, parts, states, table, stateAt, fits, sameAs, cnt, kn, sc⟩ := u
  obtain ⟨size, mtok⟩ := v
  have hP : va_P (dC, dI) vwCl (XW ad cB cJ sizes tokens spans subject parts states table stateAt fits sameAs cnt kn sc ++ MW bd cI size mtok) H := hP
  have hD : va_D (lq_A s) (XW ad cB cJ sizes tokens spans subject parts states table stateAt fits sameAs cnt kn sc ++ MW bd cI size mtok) := hD
  have hM : MI size mtok sz tk := hM
  refine lv_aload_n hx hb dL_law_315 rfl (lv_at hl 1 rfl) ?_
  refine lv_aload_n hx hb dL_law_316 rfl (lv_at hl 0 rfl) ?_
  refine lv_iload_n hx hb dL_law_317 rfl (lv_at hl 3 rfl) ?_
  refine lv_iconst (v := nI 1) hx hb dL_law_318 xc_1 ?_
  refine xr_iadd hx hb dL_law_319 ?_
  refine lq_sld hx hb hX hbl hbA hS hL (show i + 1 < L by omega) dL_law_320 ?_
  refine lv_aload_n hx hb dL_law_321 rfl (lv_at hl 0 rfl) ?_
  refine lv_iload_n hx hb dL_law_322 rfl (lv_at hl 3 rfl) ?_
  refine lv_iconst (v := nI 2) hx hb dL_law_323 xc_2 ?_
  refine xr_iadd hx hb dL_law_324 ?_
  refine lq_sld hx hb hX hbl hbA hS hL (show i + 2 < L by omega) dL_law_325 ?_
  refine lv_aload_n hx hb dL_law_326 rfl (lv_at hl 0 rfl) ?_
  refine lv_iload_n hx hb dL_law_327 rfl (lv_at hl 3 rfl) ?_
  refine lv_iconst (v := nI 3) hx hb dL_law_328 xc_3 ?_
  refine xr_iadd hx hb dL_law_329 ?_
  refine lq_sld hx hb hX hbl hbA hS hL (show i + 3 < L by omega) dL_law_330 ?_
  obtain ⟨hXL, hXJ⟩ := XI_J.mp hI
  refine xr_cVwi (wr := MW bd cI size mtok) (rest := []) ⟨hx, hb, hml, hown, hts⟩ (mt_X0_gapAt l dC dI _ hXL hXJ (xs (i + 1)) (xs (i + 2)) (xs (i + 3))) (cwV 3 hts gV_L_54 rfl rfl rfl hd_X0_gapAt ⟨Nat.le_of_ble_eq_true rfl, Nat.le_of_ble_eq_true rfl⟩) hKX hP hD hS hA [0, 1, 2, 3, 4, 5, 6, 7, 8, 9, 10] [11, 12, 13] rfl rfl rfl (by decide) (by decide) (by decide) 0 0 rfl rfl rfl hl.1 rfl (Nat.le_of_ble_eq_true rfl) dL_law_331 ⟨Nat.le_of_ble_eq_true rfl, Nat.le_of_ble_eq_true rfl⟩ (fun r1 u H locs h1 hP hD hS => ?_)
  obtain ⟨spans1, parts1, states1, table1, stateAt1, fits1, sameAs1, kn1, sc1⟩ := u
  obtain ⟨e1, hJ1⟩ := h1
  have hI1 : XI (sizes, tokens, spans1, subject, parts1, states1, table1, stateAt1, fits1, sameAs1, cnt, kn1, sc1) sz tk := XI_J.mpr ⟨hXL, hJ1⟩
  have hP : va_P (dC, dI) vwCl (MW bd cI size mtok ++ XW ad cB cJ sizes tokens spans1 subject parts1 states1 table1 stateAt1 fits1 sameAs1 cnt kn1 sc1) H := hP
  have hD : va_D (lq_A s) (MW bd cI size mtok ++ XW ad cB cJ sizes tokens spans1 subject parts1 states1 table1 stateAt1 fits1 sameAs1 cnt kn1 sc1) := hD
  refine lv_aload_n hx hb dL_law_334 rfl (lv_at hl 2 rfl) ?_
  refine lv_aload_n hx hb dL_law_335 rfl (lv_at hl 0 rfl) ?_
  refine lv_iload_n hx hb dL_law_336 rfl (lv_at hl 3 rfl) ?_
  refine lv_iconst (v := nI 1) hx hb dL_law_337 xc_1 ?_
  refine xr_iadd hx hb dL_law_338 ?_
  refine lq_sld hx hb hX hbl hbA hS hL (show i + 1 < L by omega) dL_law_339 ?_
  refine lv_aload_n hx hb dL_law_340 rfl (lv_at hl 0 rfl) ?_
  refine lv_iload_n hx hb dL_law_341 rfl (lv_at hl 3 rfl) ?_
  refine lv_iconst (v := nI 2) hx hb dL_law_342 xc_2 ?_
  refine xr_iadd hx hb dL_law_343 ?_
  refine lq_sld hx hb hX hbl hbA hS hL (show i + 2 < L by omega) dL_law_344 ?_
  refine lv_aload_n hx hb dL_law_345 rfl (lv_at hl 0 rfl) ?_
  refine lv_iload_n hx hb dL_law_346 rfl (lv_at hl 3 rfl) ?_
  refine lv_iconst (v := nI 3) hx hb dL_law_347 xc_3 ?_
  refine xr_iadd hx hb dL_law_348 ?_
  refine lq_sld hx hb hX hbl hbA hS hL (show i + 3 < L by omega) dL_law_349 ?_
  have hPm := hP.sub (ws' := MW bd cI size mtok) [0, 1, 2] rfl
  refine xr_cVi (rest := [.int r1]) ⟨hx, hb, hml, hown, hts⟩ (mt_X1_gapAt l dC dI hM (xs (i + 1)) (xs (i + 2)) (xs (i + 3))) (cwV 3 hts gV_L_58 rfl rfl rfl hd_X1_gapAt ⟨Nat.le_of_ble_eq_true rfl, Nat.le_of_ble_eq_true rfl⟩) hKM hPm 0 1 rfl rfl rfl hl.1 rfl (Nat.le_of_ble_eq_true rfl) dL_law_350 ⟨Nat.le_of_ble_eq_true rfl, Nat.le_of_ble_eq_true rfl⟩ (fun r2 e2 => ?_)
  have hP := hP.sub (ws' := XW ad cB cJ sizes tokens spans1 subject parts1 states1 table1 stateAt1 fits1 sameAs1 cnt kn1 sc1 ++ MW bd cI size mtok) [3, 4, 5, 6, 7, 8, 9, 10, 11, 12, 13, 0, 1, 2] rfl
  have hD := hD.sub (ws' := XW ad cB cJ sizes tokens spans1 subject parts1 states1 table1 stateAt1 fits1 sameAs1 cnt kn1 sc1 ++ MW bd cI size mtok) [3, 4, 5, 6, 7, 8, 9, 10, 11, 12, 13, 0, 1, 2] (by decide) rfl
  have er : r1 = r2 := e1.trans e2.symm
  refine lv_icmp_eq (tgt := 473) hx hb dL_law_353 (by decide) (fun _ => ?_) (fun q => absurd er q)
  exact kk sz tk (sizes, tokens, spans1, subject, parts1, states1, table1, stateAt1, fits1, sameAs1, cnt, kn1, sc1) (size, mtok) H locs hI1 hM hP hD hS
set_option maxHeartbeats 4000000 in
set_option maxRecDepth 100000 in
theorem lq_c10 {p : Program} {l : Launch} {e : Env} {s : State} {m : MethodId} {below : List Frame} {meth : Method} {c : Code} {dC : Nat → ClassId} {dI : Nat → Nat → Nat} {b L : Nat} {xs : Nat → Int32} {ad bd : Nat → Nat} {cB cJ cI : ClassId} {ls : Array Slot} {i : Nat} (hL : L ≤ 256) (C0 : lw_At p s m meth c b L xs) (hKX : va_K (dC, dI) vwCl (tyX cB cJ) s) (hKM : va_K (dC, dI) vwCl (tyM cI) s) (hi : i + 4 ≤ L) (hl : lv_has ls 4 [(0, .ref b), (1, .ref (ad 0)), (2, .ref (bd 0)), (3, .int (nI i))]) (kk : lq_G p l e s m below meth c b dC dI ad bd cB cJ cI ls 473) : lq_G p l e s m below meth c b dC dI ad bd cB cJ cI ls 358 := by
  obtain ⟨hx, hb, hr, hml, hown, hts0, hX, hbl, hlocks, hgv⟩ := id C0
  have hts : ∀ w ∈ lw_all, w.before #[Value.ref b] s = true := fun w h => hts0 w (lw_all_tbl h)
  have hown : s.vm.findClass "PatternTablesLaw" = some m.cls := hown
  have hA : ∀ q : Nat, s.heap.size ≤ q → lq_A s q := fun _ h => h
  have hbA : ¬ lq_A s b := Nat.not_le.mpr hbl
  intro sz tk u v H locs hI hM hP hD hS
  obtain ⟨sizes, tokens, spans, subject, parts, states, table, stateAt, fits, sameAs, cnt, kn, sc⟩ := u
  obtain ⟨size, mtok⟩ := v
  have hP : va_P (dC, dI) vwCl (XW ad cB cJ sizes tokens spans subject parts states table stateAt fits sameAs cnt kn sc ++ MW bd cI size mtok) H := hP
  have hD : va_D (lq_A s) (XW ad cB cJ sizes tokens spans subject parts states table stateAt fits sameAs cnt kn sc ++ MW bd cI size mtok) := hD
  have hM : MI size mtok sz tk := hM
  refine lv_aload_n hx hb dL_law_358 rfl (lv_at hl 1 rfl) ?_
  refine lv_aload_n hx hb dL_law_359 rfl (lv_at hl 0 rfl) ?_
  refine lv_iload_n hx hb dL_law_360 rfl (lv_at hl 3 rfl) ?_
  refine lv_iconst (v := nI 1) hx hb dL_law_361 xc_1 ?_
  refine xr_iadd hx hb dL_law_362 ?_
  refine lq_sld hx hb hX hbl hbA hS hL (show i + 1 < L by omega) dL_law_363 ?_
  obtain ⟨hXL, hXJ⟩ := XI_J.mp hI
  refine xr_cVwi (wr := MW bd cI size mtok) (rest := []) ⟨hx, hb, hml, hown, hts⟩ (mt_X0_size l dC dI _ hXL hXJ (xs (i + 1))) (cwV 1 hts gV_L_59 rfl rfl rfl hd_X0_size ⟨Nat.le_of_ble_eq_true rfl, Nat.le_of_ble_eq_true rfl⟩) hKX hP hD hS hA [0, 1, 2, 3, 4, 5, 6, 7, 8, 9, 10] [11, 12, 13] rfl rfl rfl (by decide) (by decide) (by decide) 0 0 rfl rfl rfl hl.1 rfl (Nat.le_of_ble_eq_true rfl) dL_law_364 ⟨Nat.le_of_ble_eq_true rfl, Nat.le_of_ble_eq_true rfl⟩ (fun r1 u H locs h1 hP hD hS => ?_)
  obtain ⟨spans1, parts1, states1, table1, stateAt1, fits1, sameAs1, kn1, sc1⟩ := u
  obtain ⟨e1, hJ1⟩ := h1
  have hI1 : XI (sizes, tokens, spans1, subject, parts1, states1, table1, stateAt1, fits1, sameAs1, cnt, kn1, sc1) sz tk := XI_J.mpr ⟨hXL, hJ1⟩
  have hP : va_P (dC, dI) vwCl (MW bd cI size mtok ++ XW ad cB cJ sizes tokens spans1 subject parts1 states1 table1 stateAt1 fits1 sameAs1 cnt kn1 sc1) H := hP
  have hD : va_D (lq_A s) (MW bd cI size mtok ++ XW ad cB cJ sizes tokens spans1 subject parts1 states1 table1 stateAt1 fits1 sameAs1 cnt kn1 sc1) := hD
  refine lv_aload_n hx hb dL_law_367 rfl (lv_at hl 2 rfl) ?_
  refine lv_aload_n hx hb dL_law_368 rfl (lv_at hl 0 rfl) ?_
  refine lv_iload_n hx hb dL_law_369 rfl (lv_at hl 3 rfl) ?_
  refine lv_iconst (v := nI 1) hx hb dL_law_370 xc_1 ?_
  refine xr_iadd hx hb dL_law_371 ?_
  refine lq_sld hx hb hX hbl hbA hS hL (show i + 1 < L by omega) dL_law_372 ?_
  have hPm := hP.sub (ws' := MW bd cI size mtok) [0, 1, 2] rfl
  refine xr_cVi (rest := [.int r1]) ⟨hx, hb, hml, hown, hts⟩ (mt_X1_size l dC dI hM (xs (i + 1))) (cwV 1 hts gV_L_62 rfl rfl rfl hd_X1_size ⟨Nat.le_of_ble_eq_true rfl, Nat.le_of_ble_eq_true rfl⟩) hKM hPm 0 1 rfl rfl rfl hl.1 rfl (Nat.le_of_ble_eq_true rfl) dL_law_373 ⟨Nat.le_of_ble_eq_true rfl, Nat.le_of_ble_eq_true rfl⟩ (fun r2 e2 => ?_)
  have hP := hP.sub (ws' := XW ad cB cJ sizes tokens spans1 subject parts1 states1 table1 stateAt1 fits1 sameAs1 cnt kn1 sc1 ++ MW bd cI size mtok) [3, 4, 5, 6, 7, 8, 9, 10, 11, 12, 13, 0, 1, 2] rfl
  have hD := hD.sub (ws' := XW ad cB cJ sizes tokens spans1 subject parts1 states1 table1 stateAt1 fits1 sameAs1 cnt kn1 sc1 ++ MW bd cI size mtok) [3, 4, 5, 6, 7, 8, 9, 10, 11, 12, 13, 0, 1, 2] (by decide) rfl
  have er : r1 = r2 := e1.trans e2.symm
  refine lv_icmp_eq (tgt := 473) hx hb dL_law_376 (by decide) (fun _ => ?_) (fun q => absurd er q)
  exact kk sz tk (sizes, tokens, spans1, subject, parts1, states1, table1, stateAt1, fits1, sameAs1, cnt, kn1, sc1) (size, mtok) H locs hI1 hM hP hD hS
set_option maxHeartbeats 4000000 in
set_option maxRecDepth 100000 in
theorem lq_c11 {p : Program} {l : Launch} {e : Env} {s : State} {m : MethodId} {below : List Frame} {meth : Method} {c : Code} {dC : Nat → ClassId} {dI : Nat → Nat → Nat} {b L : Nat} {xs : Nat → Int32} {ad bd : Nat → Nat} {cB cJ cI : ClassId} {ls : Array Slot} {i : Nat} (hL : L ≤ 256) (C0 : lw_At p s m meth c b L xs) (hKX : va_K (dC, dI) vwCl (tyX cB cJ) s) (hKM : va_K (dC, dI) vwCl (tyM cI) s) (hi : i + 4 ≤ L) (hl : lv_has ls 4 [(0, .ref b), (1, .ref (ad 0)), (2, .ref (bd 0)), (3, .int (nI i))]) (kk : lq_G p l e s m below meth c b dC dI ad bd cB cJ cI ls 473) : lq_G p l e s m below meth c b dC dI ad bd cB cJ cI ls 381 := by
  obtain ⟨hx, hb, hr, hml, hown, hts0, hX, hbl, hlocks, hgv⟩ := id C0
  have hts : ∀ w ∈ lw_all, w.before #[Value.ref b] s = true := fun w h => hts0 w (lw_all_tbl h)
  have hown : s.vm.findClass "PatternTablesLaw" = some m.cls := hown
  have hA : ∀ q : Nat, s.heap.size ≤ q → lq_A s q := fun _ h => h
  have hbA : ¬ lq_A s b := Nat.not_le.mpr hbl
  intro sz tk u v H locs hI hM hP hD hS
  obtain ⟨sizes, tokens, spans, subject, parts, states, table, stateAt, fits, sameAs, cnt, kn, sc⟩ := u
  obtain ⟨size, mtok⟩ := v
  have hP : va_P (dC, dI) vwCl (XW ad cB cJ sizes tokens spans subject parts states table stateAt fits sameAs cnt kn sc ++ MW bd cI size mtok) H := hP
  have hD : va_D (lq_A s) (XW ad cB cJ sizes tokens spans subject parts states table stateAt fits sameAs cnt kn sc ++ MW bd cI size mtok) := hD
  have hM : MI size mtok sz tk := hM
  refine lv_aload_n hx hb dL_law_381 rfl (lv_at hl 1 rfl) ?_
  refine lv_aload_n hx hb dL_law_382 rfl (lv_at hl 0 rfl) ?_
  refine lv_iload_n hx hb dL_law_383 rfl (lv_at hl 3 rfl) ?_
  refine lv_iconst (v := nI 1) hx hb dL_law_384 xc_1 ?_
  refine xr_iadd hx hb dL_law_385 ?_
  refine lq_sld hx hb hX hbl hbA hS hL (show i + 1 < L by omega) dL_law_386 ?_
  refine lv_aload_n hx hb dL_law_387 rfl (lv_at hl 0 rfl) ?_
  refine lv_iload_n hx hb dL_law_388 rfl (lv_at hl 3 rfl) ?_
  refine lv_iconst (v := nI 2) hx hb dL_law_389 xc_2 ?_
  refine xr_iadd hx hb dL_law_390 ?_
  refine lq_sld hx hb hX hbl hbA hS hL (show i + 2 < L by omega) dL_law_391 ?_
  obtain ⟨hXL, hXJ⟩ := XI_J.mp hI
  refine xr_cVwi (wr := MW bd cI size mtok) (rest := []) ⟨hx, hb, hml, hown, hts⟩ (mt_X0_equal l dC dI _ hXL hXJ (xs (i + 1)) (xs (i + 2))) (cwV 2 hts gV_L_63 rfl rfl rfl hd_X0_equal ⟨Nat.le_of_ble_eq_true rfl, Nat.le_of_ble_eq_true rfl⟩) hKX hP hD hS hA [0, 1, 2, 3, 4, 5, 6, 7, 8, 9, 10] [11, 12, 13] rfl rfl rfl (by decide) (by decide) (by decide) 0 0 rfl rfl rfl hl.1 rfl (Nat.le_of_ble_eq_true rfl) dL_law_392 ⟨Nat.le_of_ble_eq_true rfl, Nat.le_of_ble_eq_true rfl⟩ (fun r1 u H locs h1 hP hD hS => ?_)
  obtain ⟨spans1, parts1, states1, table1, stateAt1, fits1, sameAs1, kn1, sc1⟩ := u
  obtain ⟨e1, hJ1⟩ := h1
  have hI1 : XI (sizes, tokens, spans1, subject, parts1, states1, table1, stateAt1, fits1, sameAs1, cnt, kn1, sc1) sz tk := XI_J.mpr ⟨hXL, hJ1⟩
  have hP : va_P (dC, dI) vwCl (MW bd cI size mtok ++ XW ad cB cJ sizes tokens spans1 subject parts1 states1 table1 stateAt1 fits1 sameAs1 cnt kn1 sc1) H := hP
  have hD : va_D (lq_A s) (MW bd cI size mtok ++ XW ad cB cJ sizes tokens spans1 subject parts1 states1 table1 stateAt1 fits1 sameAs1 cnt kn1 sc1) := hD
  refine lv_aload_n hx hb dL_law_395 rfl (lv_at hl 2 rfl) ?_
  refine lv_aload_n hx hb dL_law_396 rfl (lv_at hl 0 rfl) ?_
  refine lv_iload_n hx hb dL_law_397 rfl (lv_at hl 3 rfl) ?_
  refine lv_iconst (v := nI 1) hx hb dL_law_398 xc_1 ?_
  refine xr_iadd hx hb dL_law_399 ?_
  refine lq_sld hx hb hX hbl hbA hS hL (show i + 1 < L by omega) dL_law_400 ?_
  refine lv_aload_n hx hb dL_law_401 rfl (lv_at hl 0 rfl) ?_
  refine lv_iload_n hx hb dL_law_402 rfl (lv_at hl 3 rfl) ?_
  refine lv_iconst (v := nI 2) hx hb dL_law_403 xc_2 ?_
  refine xr_iadd hx hb dL_law_404 ?_
  refine lq_sld hx hb hX hbl hbA hS hL (show i + 2 < L by omega) dL_law_405 ?_
  have hPm := hP.sub (ws' := MW bd cI size mtok) [0, 1, 2] rfl
  refine xr_cVi (rest := [.int r1]) ⟨hx, hb, hml, hown, hts⟩ (mt_X1_equal l dC dI hM (xs (i + 1)) (xs (i + 2))) (cwV 2 hts gV_L_67 rfl rfl rfl hd_X1_equal ⟨Nat.le_of_ble_eq_true rfl, Nat.le_of_ble_eq_true rfl⟩) hKM hPm 0 1 rfl rfl rfl hl.1 rfl (Nat.le_of_ble_eq_true rfl) dL_law_406 ⟨Nat.le_of_ble_eq_true rfl, Nat.le_of_ble_eq_true rfl⟩ (fun r2 e2 => ?_)
  have hP := hP.sub (ws' := XW ad cB cJ sizes tokens spans1 subject parts1 states1 table1 stateAt1 fits1 sameAs1 cnt kn1 sc1 ++ MW bd cI size mtok) [3, 4, 5, 6, 7, 8, 9, 10, 11, 12, 13, 0, 1, 2] rfl
  have hD := hD.sub (ws' := XW ad cB cJ sizes tokens spans1 subject parts1 states1 table1 stateAt1 fits1 sameAs1 cnt kn1 sc1 ++ MW bd cI size mtok) [3, 4, 5, 6, 7, 8, 9, 10, 11, 12, 13, 0, 1, 2] (by decide) rfl
  have er : r1 = r2 := xr_B.eq e1 e2 Iff.rfl
  refine lv_icmp_eq (tgt := 473) hx hb dL_law_409 (by decide) (fun _ => ?_) (fun q => absurd er q)
  exact kk sz tk (sizes, tokens, spans1, subject, parts1, states1, table1, stateAt1, fits1, sameAs1, cnt, kn1, sc1) (size, mtok) H locs hI1 hM hP hD hS
set_option maxHeartbeats 4000000 in
set_option maxRecDepth 100000 in
theorem lq_c12 {p : Program} {l : Launch} {e : Env} {s : State} {m : MethodId} {below : List Frame} {meth : Method} {c : Code} {dC : Nat → ClassId} {dI : Nat → Nat → Nat} {b L : Nat} {xs : Nat → Int32} {ad bd : Nat → Nat} {cB cJ cI : ClassId} {ls : Array Slot} {i : Nat} (hL : L ≤ 256) (C0 : lw_At p s m meth c b L xs) (hKX : va_K (dC, dI) vwCl (tyX cB cJ) s) (hKM : va_K (dC, dI) vwCl (tyM cI) s) (hi : i + 4 ≤ L) (hl : lv_has ls 4 [(0, .ref b), (1, .ref (ad 0)), (2, .ref (bd 0)), (3, .int (nI i))]) (kk : lq_G p l e s m below meth c b dC dI ad bd cB cJ cI ls 473) : lq_G p l e s m below meth c b dC dI ad bd cB cJ cI ls 414 := by
  obtain ⟨hx, hb, hr, hml, hown, hts0, hX, hbl, hlocks, hgv⟩ := id C0
  have hts : ∀ w ∈ lw_all, w.before #[Value.ref b] s = true := fun w h => hts0 w (lw_all_tbl h)
  have hown : s.vm.findClass "PatternTablesLaw" = some m.cls := hown
  have hA : ∀ q : Nat, s.heap.size ≤ q → lq_A s q := fun _ h => h
  have hbA : ¬ lq_A s b := Nat.not_le.mpr hbl
  intro sz tk u v H locs hI hM hP hD hS
  obtain ⟨sizes, tokens, spans, subject, parts, states, table, stateAt, fits, sameAs, cnt, kn, sc⟩ := u
  obtain ⟨size, mtok⟩ := v
  have hP : va_P (dC, dI) vwCl (XW ad cB cJ sizes tokens spans subject parts states table stateAt fits sameAs cnt kn sc ++ MW bd cI size mtok) H := hP
  have hD : va_D (lq_A s) (XW ad cB cJ sizes tokens spans subject parts states table stateAt fits sameAs cnt kn sc ++ MW bd cI size mtok) := hD
  have hM : MI size mtok sz tk := hM
  refine lv_aload_n hx hb dL_law_414 rfl (lv_at hl 1 rfl) ?_
  obtain ⟨hXL, hXJ⟩ := XI_J.mp hI
  refine xr_cVwi (wr := MW bd cI size mtok) (rest := []) ⟨hx, hb, hml, hown, hts⟩ (mt_X0_kinds l dC dI _ hXL hXJ) (cwV 0 hts gV_L_68 rfl rfl rfl hd_X0_kinds ⟨Nat.le_of_ble_eq_true rfl, Nat.le_of_ble_eq_true rfl⟩) hKX hP hD hS hA [0, 1, 2, 3, 4, 5, 6, 7, 8, 9, 10] [11, 12, 13] rfl rfl rfl (by decide) (by decide) (by decide) 0 0 rfl rfl rfl hl.1 rfl (Nat.le_of_ble_eq_true rfl) dL_law_415 ⟨Nat.le_of_ble_eq_true rfl, Nat.le_of_ble_eq_true rfl⟩ (fun r1 u H locs h1 hP hD hS => ?_)
  obtain ⟨spans1, parts1, states1, table1, stateAt1, fits1, sameAs1, kn1, sc1⟩ := u
  obtain ⟨e1, hJ1⟩ := h1
  have hI1 : XI (sizes, tokens, spans1, subject, parts1, states1, table1, stateAt1, fits1, sameAs1, cnt, kn1, sc1) sz tk := XI_J.mpr ⟨hXL, hJ1⟩
  have hP : va_P (dC, dI) vwCl (MW bd cI size mtok ++ XW ad cB cJ sizes tokens spans1 subject parts1 states1 table1 stateAt1 fits1 sameAs1 cnt kn1 sc1) H := hP
  have hD : va_D (lq_A s) (MW bd cI size mtok ++ XW ad cB cJ sizes tokens spans1 subject parts1 states1 table1 stateAt1 fits1 sameAs1 cnt kn1 sc1) := hD
  refine lv_aload_n hx hb dL_law_418 rfl (lv_at hl 2 rfl) ?_
  have hPm := hP.sub (ws' := MW bd cI size mtok) [0, 1, 2] rfl
  refine xr_cVi (rest := [.int r1]) ⟨hx, hb, hml, hown, hts⟩ (mt_X1_kinds l dC dI hM) (cwV 0 hts gV_L_71 rfl rfl rfl hd_X1_kinds ⟨Nat.le_of_ble_eq_true rfl, Nat.le_of_ble_eq_true rfl⟩) hKM hPm 0 1 rfl rfl rfl hl.1 rfl (Nat.le_of_ble_eq_true rfl) dL_law_419 ⟨Nat.le_of_ble_eq_true rfl, Nat.le_of_ble_eq_true rfl⟩ (fun r2 e2 => ?_)
  have hP := hP.sub (ws' := XW ad cB cJ sizes tokens spans1 subject parts1 states1 table1 stateAt1 fits1 sameAs1 cnt kn1 sc1 ++ MW bd cI size mtok) [3, 4, 5, 6, 7, 8, 9, 10, 11, 12, 13, 0, 1, 2] rfl
  have hD := hD.sub (ws' := XW ad cB cJ sizes tokens spans1 subject parts1 states1 table1 stateAt1 fits1 sameAs1 cnt kn1 sc1 ++ MW bd cI size mtok) [3, 4, 5, 6, 7, 8, 9, 10, 11, 12, 13, 0, 1, 2] (by decide) rfl
  have er : r1 = r2 := e1.trans e2.symm
  refine lv_icmp_eq (tgt := 473) hx hb dL_law_422 (by decide) (fun _ => ?_) (fun q => absurd er q)
  exact kk sz tk (sizes, tokens, spans1, subject, parts1, states1, table1, stateAt1, fits1, sameAs1, cnt, kn1, sc1) (size, mtok) H locs hI1 hM hP hD hS
set_option maxHeartbeats 4000000 in
set_option maxRecDepth 100000 in
theorem lq_c13 {p : Program} {l : Launch} {e : Env} {s : State} {m : MethodId} {below : List Frame} {meth : Method} {c : Code} {dC : Nat → ClassId} {dI : Nat → Nat → Nat} {b L : Nat} {xs : Nat → Int32} {ad bd : Nat → Nat} {cB cJ cI : ClassId} {ls : Array Slot} {i : Nat} (hL : L ≤ 256) (C0 : lw_At p s m meth c b L xs) (hKX : va_K (dC, dI) vwCl (tyX cB cJ) s) (hKM : va_K (dC, dI) vwCl (tyM cI) s) (hi : i + 4 ≤ L) (hl : lv_has ls 4 [(0, .ref b), (1, .ref (ad 0)), (2, .ref (bd 0)), (3, .int (nI i))]) (kk : lq_G p l e s m below meth c b dC dI ad bd cB cJ cI ls 473) : lq_G p l e s m below meth c b dC dI ad bd cB cJ cI ls 427 := by
  obtain ⟨hx, hb, hr, hml, hown, hts0, hX, hbl, hlocks, hgv⟩ := id C0
  have hts : ∀ w ∈ lw_all, w.before #[Value.ref b] s = true := fun w h => hts0 w (lw_all_tbl h)
  have hown : s.vm.findClass "PatternTablesLaw" = some m.cls := hown
  have hA : ∀ q : Nat, s.heap.size ≤ q → lq_A s q := fun _ h => h
  have hbA : ¬ lq_A s b := Nat.not_le.mpr hbl
  intro sz tk u v H locs hI hM hP hD hS
  obtain ⟨sizes, tokens, spans, subject, parts, states, table, stateAt, fits, sameAs, cnt, kn, sc⟩ := u
  obtain ⟨size, mtok⟩ := v
  have hP : va_P (dC, dI) vwCl (XW ad cB cJ sizes tokens spans subject parts states table stateAt fits sameAs cnt kn sc ++ MW bd cI size mtok) H := hP
  have hD : va_D (lq_A s) (XW ad cB cJ sizes tokens spans subject parts states table stateAt fits sameAs cnt kn sc ++ MW bd cI size mtok) := hD
  have hM : MI size mtok sz tk := hM
  refine lv_aload_n hx hb dL_law_427 rfl (lv_at hl 1 rfl) ?_
  refine lv_aload_n hx hb dL_law_428 rfl (lv_at hl 0 rfl) ?_
  refine lv_iload_n hx hb dL_law_429 rfl (lv_at hl 3 rfl) ?_
  refine lv_iconst (v := nI 1) hx hb dL_law_430 xc_1 ?_
  refine xr_iadd hx hb dL_law_431 ?_
  refine lq_sld hx hb hX hbl hbA hS hL (show i + 1 < L by omega) dL_law_432 ?_
  refine lv_aload_n hx hb dL_law_433 rfl (lv_at hl 0 rfl) ?_
  refine lv_iload_n hx hb dL_law_434 rfl (lv_at hl 3 rfl) ?_
  refine lv_iconst (v := nI 2) hx hb dL_law_435 xc_2 ?_
  refine xr_iadd hx hb dL_law_436 ?_
  refine lq_sld hx hb hX hbl hbA hS hL (show i + 2 < L by omega) dL_law_437 ?_
  obtain ⟨hXL, hXJ⟩ := XI_J.mp hI
  refine xr_cVwi (wr := MW bd cI size mtok) (rest := []) ⟨hx, hb, hml, hown, hts⟩ (mt_X0_covers l dC dI _ hXL hXJ (xs (i + 1)) (xs (i + 2))) (cwV 2 hts gV_L_72 rfl rfl rfl hd_X0_covers ⟨Nat.le_of_ble_eq_true rfl, Nat.le_of_ble_eq_true rfl⟩) hKX hP hD hS hA [0, 1, 2, 3, 4, 5, 6, 7, 8, 9, 10] [11, 12, 13] rfl rfl rfl (by decide) (by decide) (by decide) 0 0 rfl rfl rfl hl.1 rfl (Nat.le_of_ble_eq_true rfl) dL_law_438 ⟨Nat.le_of_ble_eq_true rfl, Nat.le_of_ble_eq_true rfl⟩ (fun r1 u H locs h1 hP hD hS => ?_)
  obtain ⟨spans1, parts1, states1, table1, stateAt1, fits1, sameAs1, kn1, sc1⟩ := u
  obtain ⟨e1, hJ1⟩ := h1
  have hI1 : XI (sizes, tokens, spans1, subject, parts1, states1, table1, stateAt1, fits1, sameAs1, cnt, kn1, sc1) sz tk := XI_J.mpr ⟨hXL, hJ1⟩
  have hP : va_P (dC, dI) vwCl (MW bd cI size mtok ++ XW ad cB cJ sizes tokens spans1 subject parts1 states1 table1 stateAt1 fits1 sameAs1 cnt kn1 sc1) H := hP
  have hD : va_D (lq_A s) (MW bd cI size mtok ++ XW ad cB cJ sizes tokens spans1 subject parts1 states1 table1 stateAt1 fits1 sameAs1 cnt kn1 sc1) := hD
  refine lv_aload_n hx hb dL_law_441 rfl (lv_at hl 2 rfl) ?_
  refine lv_aload_n hx hb dL_law_442 rfl (lv_at hl 0 rfl) ?_
  refine lv_iload_n hx hb dL_law_443 rfl (lv_at hl 3 rfl) ?_
  refine lv_iconst (v := nI 1) hx hb dL_law_444 xc_1 ?_
  refine xr_iadd hx hb dL_law_445 ?_
  refine lq_sld hx hb hX hbl hbA hS hL (show i + 1 < L by omega) dL_law_446 ?_
  refine lv_aload_n hx hb dL_law_447 rfl (lv_at hl 0 rfl) ?_
  refine lv_iload_n hx hb dL_law_448 rfl (lv_at hl 3 rfl) ?_
  refine lv_iconst (v := nI 2) hx hb dL_law_449 xc_2 ?_
  refine xr_iadd hx hb dL_law_450 ?_
  refine lq_sld hx hb hX hbl hbA hS hL (show i + 2 < L by omega) dL_law_451 ?_
  have hPm := hP.sub (ws' := MW bd cI size mtok) [0, 1, 2] rfl
  refine xr_cVi (rest := [.int r1]) ⟨hx, hb, hml, hown, hts⟩ (mt_X1_covers l dC dI hM (xs (i + 1)) (xs (i + 2))) (cwV 2 hts gV_L_75 rfl rfl rfl hd_X1_covers ⟨Nat.le_of_ble_eq_true rfl, Nat.le_of_ble_eq_true rfl⟩) hKM hPm 0 1 rfl rfl rfl hl.1 rfl (Nat.le_of_ble_eq_true rfl) dL_law_452 ⟨Nat.le_of_ble_eq_true rfl, Nat.le_of_ble_eq_true rfl⟩ (fun r2 e2 => ?_)
  have hP := hP.sub (ws' := XW ad cB cJ sizes tokens spans1 subject parts1 states1 table1 stateAt1 fits1 sameAs1 cnt kn1 sc1 ++ MW bd cI size mtok) [3, 4, 5, 6, 7, 8, 9, 10, 11, 12, 13, 0, 1, 2] rfl
  have hD := hD.sub (ws' := XW ad cB cJ sizes tokens spans1 subject parts1 states1 table1 stateAt1 fits1 sameAs1 cnt kn1 sc1 ++ MW bd cI size mtok) [3, 4, 5, 6, 7, 8, 9, 10, 11, 12, 13, 0, 1, 2] (by decide) rfl
  have er : r1 = r2 := xr_B.eq e1 e2 Iff.rfl
  refine lv_icmp_eq (tgt := 473) hx hb dL_law_455 (by decide) (fun _ => ?_) (fun q => absurd er q)
  exact kk sz tk (sizes, tokens, spans1, subject, parts1, states1, table1, stateAt1, fits1, sameAs1, cnt, kn1, sc1) (size, mtok) H locs hI1 hM hP hD hS
set_option maxHeartbeats 4000000 in
set_option maxRecDepth 100000 in
theorem lq_c14 {p : Program} {l : Launch} {e : Env} {s : State} {m : MethodId} {below : List Frame} {meth : Method} {c : Code} {dC : Nat → ClassId} {dI : Nat → Nat → Nat} {b L : Nat} {xs : Nat → Int32} {ad bd : Nat → Nat} {cB cJ cI : ClassId} {ls : Array Slot} {i : Nat} (hL : L ≤ 256) (C0 : lw_At p s m meth c b L xs) (hKX : va_K (dC, dI) vwCl (tyX cB cJ) s) (hKM : va_K (dC, dI) vwCl (tyM cI) s) (hi : i + 4 ≤ L) (hl : lv_has ls 4 [(0, .ref b), (1, .ref (ad 0)), (2, .ref (bd 0)), (3, .int (nI i))]) (kk : lq_G p l e s m below meth c b dC dI ad bd cB cJ cI ls 473) : lq_G p l e s m below meth c b dC dI ad bd cB cJ cI ls 460 := by
  obtain ⟨hx, hb, hr, hml, hown, hts0, hX, hbl, hlocks, hgv⟩ := id C0
  have hts : ∀ w ∈ lw_all, w.before #[Value.ref b] s = true := fun w h => hts0 w (lw_all_tbl h)
  have hown : s.vm.findClass "PatternTablesLaw" = some m.cls := hown
  have hA : ∀ q : Nat, s.heap.size ≤ q → lq_A s q := fun _ h => h
  have hbA : ¬ lq_A s b := Nat.not_le.mpr hbl
  intro sz tk u v H locs hI hM hP hD hS
  obtain ⟨sizes, tokens, spans, subject, parts, states, table, stateAt, fits, sameAs, cnt, kn, sc⟩ := u
  obtain ⟨size, mtok⟩ := v
  have hP : va_P (dC, dI) vwCl (XW ad cB cJ sizes tokens spans subject parts states table stateAt fits sameAs cnt kn sc ++ MW bd cI size mtok) H := hP
  have hD : va_D (lq_A s) (XW ad cB cJ sizes tokens spans subject parts states table stateAt fits sameAs cnt kn sc ++ MW bd cI size mtok) := hD
  have hM : MI size mtok sz tk := hM
  refine lv_aload_n hx hb dL_law_460 rfl (lv_at hl 1 rfl) ?_
  obtain ⟨hXL, hXJ⟩ := XI_J.mp hI
  refine xr_cVwi (wr := MW bd cI size mtok) (rest := []) ⟨hx, hb, hml, hown, hts⟩ (mt_X0_bare l dC dI _ hXL hXJ) (cwV 0 hts gV_L_76 rfl rfl rfl hd_X0_bare ⟨Nat.le_of_ble_eq_true rfl, Nat.le_of_ble_eq_true rfl⟩) hKX hP hD hS hA [0, 1, 2, 3, 4, 5, 6, 7, 8, 9, 10] [11, 12, 13] rfl rfl rfl (by decide) (by decide) (by decide) 0 0 rfl rfl rfl hl.1 rfl (Nat.le_of_ble_eq_true rfl) dL_law_461 ⟨Nat.le_of_ble_eq_true rfl, Nat.le_of_ble_eq_true rfl⟩ (fun r1 u H locs h1 hP hD hS => ?_)
  obtain ⟨spans1, parts1, states1, table1, stateAt1, fits1, sameAs1, kn1, sc1⟩ := u
  obtain ⟨e1, hJ1⟩ := h1
  have hI1 : XI (sizes, tokens, spans1, subject, parts1, states1, table1, stateAt1, fits1, sameAs1, cnt, kn1, sc1) sz tk := XI_J.mpr ⟨hXL, hJ1⟩
  have hP : va_P (dC, dI) vwCl (MW bd cI size mtok ++ XW ad cB cJ sizes tokens spans1 subject parts1 states1 table1 stateAt1 fits1 sameAs1 cnt kn1 sc1) H := hP
  have hD : va_D (lq_A s) (MW bd cI size mtok ++ XW ad cB cJ sizes tokens spans1 subject parts1 states1 table1 stateAt1 fits1 sameAs1 cnt kn1 sc1) := hD
  refine lv_aload_n hx hb dL_law_464 rfl (lv_at hl 2 rfl) ?_
  have hPm := hP.sub (ws' := MW bd cI size mtok) [0, 1, 2] rfl
  refine xr_cVi (rest := [.int r1]) ⟨hx, hb, hml, hown, hts⟩ (mt_X1_bare l dC dI hM) (cwV 0 hts gV_L_79 rfl rfl rfl hd_X1_bare ⟨Nat.le_of_ble_eq_true rfl, Nat.le_of_ble_eq_true rfl⟩) hKM hPm 0 1 rfl rfl rfl hl.1 rfl (Nat.le_of_ble_eq_true rfl) dL_law_465 ⟨Nat.le_of_ble_eq_true rfl, Nat.le_of_ble_eq_true rfl⟩ (fun r2 e2 => ?_)
  have hP := hP.sub (ws' := XW ad cB cJ sizes tokens spans1 subject parts1 states1 table1 stateAt1 fits1 sameAs1 cnt kn1 sc1 ++ MW bd cI size mtok) [3, 4, 5, 6, 7, 8, 9, 10, 11, 12, 13, 0, 1, 2] rfl
  have hD := hD.sub (ws' := XW ad cB cJ sizes tokens spans1 subject parts1 states1 table1 stateAt1 fits1 sameAs1 cnt kn1 sc1 ++ MW bd cI size mtok) [3, 4, 5, 6, 7, 8, 9, 10, 11, 12, 13, 0, 1, 2] (by decide) rfl
  have er : r1 = r2 := e1.trans e2.symm
  refine lv_icmp_eq (tgt := 473) hx hb dL_law_468 (by decide) (fun _ => ?_) (fun q => absurd er q)
  exact kk sz tk (sizes, tokens, spans1, subject, parts1, states1, table1, stateAt1, fits1, sameAs1, cnt, kn1, sc1) (size, mtok) H locs hI1 hM hP hD hS
end
section
/-! the law's loop -/
set_option maxHeartbeats 4000000 in
set_option maxRecDepth 100000 in
theorem lq_turn {p : Program} {l : Launch} {e : Env} {s : State} {m : MethodId} {below : List Frame} {meth : Method} {c : Code} {dC : Nat → ClassId} {dI : Nat → Nat → Nat} {b L : Nat} {xs : Nat → Int32} {ad bd : Nat → Nat} {cB cJ cI : ClassId} {ls : Array Slot} {i : Nat} (hL : L ≤ 256) (C0 : lw_At p s m meth c b L xs) (hKX : va_K (dC, dI) vwCl (tyX cB cJ) s) (hKM : va_K (dC, dI) vwCl (tyM cI) s) (hi : i + 4 ≤ L) (hl : lv_has ls 4 [(0, .ref b), (1, .ref (ad 0)), (2, .ref (bd 0)), (3, .int (nI i))]) (kk : lq_G p l e s m below meth c b dC dI ad bd cB cJ cI ls 473) : lq_G p l e s m below meth c b dC dI ad bd cB cJ cI ls 26 := by
  obtain ⟨hx, hb, hr, hml, hown, hts0, hX, hbl, hlocks, hgv⟩ := id C0
  have hts : ∀ w ∈ lw_all, w.before #[Value.ref b] s = true := fun w h => hts0 w (lw_all_tbl h)
  have hown : s.vm.findClass "PatternTablesLaw" = some m.cls := hown
  have hA : ∀ q : Nat, s.heap.size ≤ q → lq_A s q := fun _ h => h
  have hbA : ¬ lq_A s b := Nat.not_le.mpr hbl
  intro sz tk u v H locs hI hM hP hD hS
  refine lv_aload_n hx hb dL_law_26 rfl (lv_at hl 0 rfl) ?_
  refine lv_iload_n hx hb dL_law_27 rfl (lv_at hl 3 rfl) ?_
  refine lq_sld hx hb hX hbl hbA hS hL (show i < L by omega) dL_law_28 ?_
  refine lv_bipush (v := nI 15) hx hb dL_law_29 xb_15 ?_
  refine lv_iand hx hb dL_law_31 ?_
  obtain ⟨j, hj, ej⟩ := lq_15 (xs i)
  refine xr_conv (y := nI j) ej ?_
  rcases (show j = 0 ∨ j = 1 ∨ j = 2 ∨ j = 3 ∨ j = 4 ∨ j = 5 ∨ j = 6 ∨ j = 7 ∨ j = 8 ∨ j = 9 ∨ j = 10 ∨ j = 11 ∨ j = 12 ∨ j = 13 ∨ j = 14 ∨ j = 15 by omega) with rfl | rfl | rfl | rfl | rfl | rfl | rfl | rfl | rfl | rfl | rfl | rfl | rfl | rfl | rfl | rfl
  · refine lv_tableIn (off := 76) (tgt := 108) hx hb dL_law_32 (by decide +kernel) (by decide +kernel) (by decide +kernel) (by decide) ?_
    exact lq_c0 hL C0 hKX hKM hi hl kk sz tk u v H locs hI hM hP hD hS
  · refine lv_tableIn (off := 109) (tgt := 141) hx hb dL_law_32 (by decide +kernel) (by decide +kernel) (by decide +kernel) (by decide) ?_
    exact lq_c1 hL C0 hKX hKM hi hl kk sz tk u v H locs hI hM hP hD hS
  · refine lv_tableIn (off := 132) (tgt := 164) hx hb dL_law_32 (by decide +kernel) (by decide +kernel) (by decide +kernel) (by decide) ?_
    exact lq_c2 hL C0 hKX hKM hi hl kk sz tk u v H locs hI hM hP hD hS
  · refine lv_tableIn (off := 155) (tgt := 187) hx hb dL_law_32 (by decide +kernel) (by decide +kernel) (by decide +kernel) (by decide) ?_
    exact lq_c3 hL C0 hKX hKM hi hl kk sz tk u v H locs hI hM hP hD hS
  · refine lv_tableIn (off := 168) (tgt := 200) hx hb dL_law_32 (by decide +kernel) (by decide +kernel) (by decide +kernel) (by decide) ?_
    exact lq_c4 hL C0 hKX hKM hi hl kk sz tk u v H locs hI hM hP hD hS
  · refine lv_tableIn (off := 191) (tgt := 223) hx hb dL_law_32 (by decide +kernel) (by decide +kernel) (by decide +kernel) (by decide) ?_
    exact lq_c5 hL C0 hKX hKM hi hl kk sz tk u v H locs hI hM hP hD hS
  · refine lv_tableIn (off := 204) (tgt := 236) hx hb dL_law_32 (by decide +kernel) (by decide +kernel) (by decide +kernel) (by decide) ?_
    exact lq_c6 hL C0 hKX hKM hi hl kk sz tk u v H locs hI hM hP hD hS
  · refine lv_tableIn (off := 227) (tgt := 259) hx hb dL_law_32 (by decide +kernel) (by decide +kernel) (by decide +kernel) (by decide) ?_
    exact lq_c7 hL C0 hKX hKM hi hl kk sz tk u v H locs hI hM hP hD hS
  · refine lv_tableIn (off := 250) (tgt := 282) hx hb dL_law_32 (by decide +kernel) (by decide +kernel) (by decide +kernel) (by decide) ?_
    exact lq_c8 hL C0 hKX hKM hi hl kk sz tk u v H locs hI hM hP hD hS
  · refine lv_tableIn (off := 283) (tgt := 315) hx hb dL_law_32 (by decide +kernel) (by decide +kernel) (by decide +kernel) (by decide) ?_
    exact lq_c9 hL C0 hKX hKM hi hl kk sz tk u v H locs hI hM hP hD hS
  · refine lv_tableIn (off := 326) (tgt := 358) hx hb dL_law_32 (by decide +kernel) (by decide +kernel) (by decide +kernel) (by decide) ?_
    exact lq_c10 hL C0 hKX hKM hi hl kk sz tk u v H locs hI hM hP hD hS
  · refine lv_tableIn (off := 349) (tgt := 381) hx hb dL_law_32 (by decide +kernel) (by decide +kernel) (by decide +kernel) (by decide) ?_
    exact lq_c11 hL C0 hKX hKM hi hl kk sz tk u v H locs hI hM hP hD hS
  · refine lv_tableIn (off := 382) (tgt := 414) hx hb dL_law_32 (by decide +kernel) (by decide +kernel) (by decide +kernel) (by decide) ?_
    exact lq_c12 hL C0 hKX hKM hi hl kk sz tk u v H locs hI hM hP hD hS
  · refine lv_tableIn (off := 395) (tgt := 427) hx hb dL_law_32 (by decide +kernel) (by decide +kernel) (by decide +kernel) (by decide) ?_
    exact lq_c13 hL C0 hKX hKM hi hl kk sz tk u v H locs hI hM hP hD hS
  · refine lv_tableIn (off := 428) (tgt := 460) hx hb dL_law_32 (by decide +kernel) (by decide +kernel) (by decide +kernel) (by decide) ?_
    exact lq_c14 hL C0 hKX hKM hi hl kk sz tk u v H locs hI hM hP hD hS
  · refine lv_tableOut (tgt := 473) hx hb dL_law_32 (Or.inr (by decide +kernel)) (by decide) ?_
    exact kk sz tk u v H locs hI hM hP hD hS
set_option maxHeartbeats 4000000 in
set_option maxRecDepth 100000 in
theorem lq_loop {p : Program} {l : Launch} {e : Env} {s : State} {m : MethodId} {below : List Frame} {meth : Method} {c : Code} {dC : Nat → ClassId} {dI : Nat → Nat → Nat} {b L : Nat} {xs : Nat → Int32} {ad bd : Nat → Nat} {cB cJ cI : ClassId} (hL : L ≤ 256) (C0 : lw_At p s m meth c b L xs) (hKX : va_K (dC, dI) vwCl (tyX cB cJ) s) (hKM : va_K (dC, dI) vwCl (tyM cI) s) : ∀ (n i : Nat) (ls : Array Slot), i ≤ L → L + 1 ≤ i + n → lv_has ls 4 [(0, .ref b), (1, .ref (ad 0)), (2, .ref (bd 0)), (3, .int (nI i))] → lq_G p l e s m below meth c b dC dI ad bd cB cJ cI ls 18 := by
  obtain ⟨hx, hb, hr, hml, hown, hts0, hX, hbl, hlocks, hgv⟩ := id C0
  have hts : ∀ w ∈ lw_all, w.before #[Value.ref b] s = true := fun w h => hts0 w (lw_all_tbl h)
  have hown : s.vm.findClass "PatternTablesLaw" = some m.cls := hown
  have hA : ∀ q : Nat, s.heap.size ≤ q → lq_A s q := fun _ h => h
  have hbA : ¬ lq_A s b := Nat.not_le.mpr hbl
  intro n
  induction n with
  | zero =>
    intro i ls h1 h2
    exact absurd h2 (by omega)
  | succ n ih =>
    intro i ls hi hin hl sz tk u v H locs hI hM hP hD hS
    refine lv_iload_n hx hb dL_law_18 rfl (lv_at hl 3 rfl) ?_
    refine lv_aload_n hx hb dL_law_19 rfl (lv_at hl 0 rfl) ?_
    refine va_slen hx hb hX hbl hbA hS dL_law_20 ?_
    refine lv_iconst (v := nI 4) hx hb dL_law_21 xc_4 ?_
    refine lv_isub hx hb dL_law_22 ?_
    refine lv_icmp_gt (tgt := 479) hx hb dL_law_23 (by decide) (fun c23 => ?_) (fun c23 => ?_)
    · refine lv_iconst (v := 1) hx hb dL_law_479 (by decide) ?_
      refine va_forget (fun q hq => hS.2.2 q hq) ?_
      refine W.widen (k := 600000) (n := 7290000) (Nat.le_of_ble_eq_true rfl) (Nat.le_of_ble_eq_true rfl) ?_
      exact lw_ret hx hb hr hlocks dL_law_480
    · have h4 : i + 4 ≤ L := Nat.le_of_not_lt fun q => c23 ((lq_gt (by omega) hL).mpr q)
      have kk : lq_G p l e s m below meth c b dC dI ad bd cB cJ cI ls 473 := by
        intro sz tk u v H locs hI hM hP hD hS
        refine lv_iinc (v := nI (i + 4)) (lv' := [(3, .int (nI (i + 4))), (0, .ref b), (1, .ref (ad 0)), (2, .ref (bd 0))]) hx hb dL_law_473 hl (k := 3) rfl (lq_inc i) (by decide) rfl (fun ls hl => ?_)
        refine lv_goto (tgt := 18) hx hb dL_law_476 (by decide) ?_
        exact ih (i + 4) ls h4 (by omega) (lv_sub hl [1, 2, 3, 0] rfl) sz tk u v H locs hI hM hP hD hS
      exact lq_turn hL C0 hKX hKM h4 hl kk sz tk u v H locs hI hM hP hD hS
end
section
/-! the law's entry: both objects are made, and hold empty lists -/
theorem lq_new0 : ∀ j, j < 13 → defaultValue (tyX0 j) = vp_V [.null, .null, .null, .int (nI 0), .null, .null, .int (nI 0), .int (nI 0), .null, .null, .null, .null, .null] j := by
  rw [nI_0]
  intro j hj
  rcases (show j = 0 ∨ j = 1 ∨ j = 2 ∨ j = 3 ∨ j = 4 ∨ j = 5 ∨ j = 6 ∨ j = 7 ∨ j = 8 ∨ j = 9 ∨ j = 10 ∨ j = 11 ∨ j = 12 by omega) with rfl | rfl | rfl | rfl | rfl | rfl | rfl | rfl | rfl | rfl | rfl | rfl | rfl <;> rfl
theorem lq_new1 : ∀ j, j < 2 → defaultValue (tyX1 j) = vp_V [.null, .null] j := by
  intro j hj
  rcases (show j = 0 ∨ j = 1 by omega) with rfl | rfl <;> rfl
theorem lq_wf0 : pt_wf xz (fun _ _ => 0) := ⟨fun _ _ => Nat.zero_le _, Nat.zero_le _, fun _ _ _ h => absurd h (Nat.not_lt_zero _), fun _ _ _ h => absurd h (Nat.not_lt_zero _), fun _ h => absurd h (Nat.not_lt_zero _)⟩
theorem lq_XI0 : XI (xz, xz, xz, xz, xz, (fun _ => 0), (fun _ => 1), xz, xz, xz, 0, 0, 0) xz (fun _ _ => 0) := ⟨⟨lq_wf0, fun _ _ => rfl, fun _ _ _ h => absurd h (Nat.not_lt_zero _), rfl, fun _ h => absurd h (Nat.not_lt_zero _)⟩, Nat.zero_le _, fun h => absurd h (by decide)⟩
theorem lq_MI0 : MI xz xz xz (fun _ _ => 0) := ⟨lq_wf0, fun _ _ => rfl, fun _ _ _ h => absurd h (Nat.not_lt_zero _)⟩
set_option maxHeartbeats 4000000 in
set_option maxRecDepth 100000 in
/-- YOUR PART: from the entry, for every script of at most 256 ints, the law comes to its end with true -/
theorem whole_start {p : Program} {e : Env} {s : State} {m : MethodId} {below : List Frame} {meth : Method} {c : Code} (l : Launch) {b L : Nat} {xs : Nat → Int32} (hL : L ≤ 256) (C0 : lw_At p s m meth c b L xs) : W p l e room_1 s m #[Value.ref b] below meth c s.heap [] 0 0 (lw_Z below #[Value.ref b] s) (entryFrame m ([Value.ref b] : List Value).toArray 4) := by
  obtain ⟨hx, hb, hr, hml, hown, hts0, hX, hbl, hlocks, hgv⟩ := id C0
  have hts : ∀ w ∈ lw_all, w.before #[Value.ref b] s = true := fun w h => hts0 w (lw_all_tbl h)
  have hown : s.vm.findClass "PatternTablesLaw" = some m.cls := hown
  have hA : ∀ q : Nat, s.heap.size ≤ q → lq_A s q := fun _ h => h
  have hbA : ¬ lq_A s b := Nat.not_le.mpr hbl
  obtain ⟨c0, iS0, hKn0⟩ := u_known (C := RX0) (T := TX0) (N := 13) (n := 13) hts in_X0 (hts _ q24)
  obtain ⟨c1, iS1, hKn1⟩ := u_known (C := RX1) (T := TX1) (N := 2) (n := 2) hts in_X1 (hts _ q190)
  obtain ⟨dC, dI, hKc⟩ : ∃ (dC : Nat → ClassId) (dI : Nat → Nat → Nat), ∀ (k : Nat) (q : vw_C), vwCl[k]? = some q → u_Kn s q.1 q.2.1 q.2.2 (dC k) (dI k) := by
    refine ⟨fun k => if k = 0 then c0 else c1, fun k => if k = 0 then iS0 else iS1, ?_⟩
    intro k q hq
    match k, hq with
    | 0, hq => cases hq; exact hKn0
    | 1, hq => cases hq; exact hKn1
    | k + 2, hq => simp [vwCl] at hq
  have hS : va_S (lq_A s) s.heap s.heap [] := va_S.rf
  have hK : va_K (dC, dI) vwCl [] s := ⟨hKc, fun k q h => by simp at h⟩
  have hP : va_P (dC, dI) vwCl [] s.heap := fun k q h => by simp at h
  have hD : va_D (lq_A s) [] := ⟨fun i j p q h => by simp at h, fun k q h => by simp at h⟩
  have hl := lv_entry ([.ref b]) (n := 4) (Nat.le_of_ble_eq_true rfl)
  rw [lg_entry_eq]
  generalize (lg_sl ([.ref b]) ++ List.replicate (4 - (lg_sl ([.ref b])).length) Slot.unset).toArray = ls at hl ⊢
  have hl : lv_has ls 4 [(0, .ref b)] := hl
  refine va_new (ci := 0) (fs := [.null, .null, .null, .int (nI 0), .null, .null, .int (nI 0), .int (nI 0), .null, .null, .null, .null, .null]) (C := RX0) (T := TX0) (N := 13) hx hb hts in_X0 tyX0 tyX0_ok hown (hts _ q23) (hts _ q24) (hts _ q21) hK hP hD hS hA rfl lq_new0 (Nat.le_of_ble_eq_true rfl) (Nat.le_of_ble_eq_true rfl) dL_law_0 (fun q0 H hP hD hS => ?_)
  have hP : va_P (dC, dI) vwCl (X0new q0) H := hP
  have hD : va_D (lq_A s) (X0new q0) := hD
  refine W.widen (k := 1) (n := 13) (by omega) (by omega) ?_
  refine lv_dup hx hb dL_law_3 rfl ?_
  have hPc := hP
  have hDc := hD
  have hFc := va_free (wc := X0new q0) hD hS hA [0] rfl
  refine va_callv (va_runI (As := []) (rest := [.ref q0]) ⟨hx, hb, hml, hown, hts⟩ (mt_X0_init l dC dI q0 H.size) (cwI 0 hts (lw_meth q27) rfl rfl rfl (hts _ q21) (hts _ q25) (hts _ q26) rfl hd_X0_init ⟨Nat.le_of_ble_eq_true rfl, Nat.le_of_ble_eq_true rfl⟩) ⟨xr_blindW, fun U hU hW => ⟨rfl, by rw [hU], by rw [hU]; exact hPc, va_K.moved hW.alike hK, hDc.weaken (fun _ _ _ _ => trivial)⟩⟩ rfl rfl hl.1 rfl (lv_room (Nat.le_of_ble_eq_true rfl)) dL_law_4 ⟨Nat.le_of_ble_eq_true rfl, Nat.le_of_ble_eq_true rfl⟩) hS (fun q _ h => hFc q h) hFc (fun u t H1 locs ht hvm hw hB hz1 hk1 hS => ?_)
  obtain ⟨ad, cB, cJ⟩ := u
  obtain ⟨e0, hP1, hK1, hD1⟩ := hB
  have e0 : ad 0 = q0 := e0
  subst e0
  rw [ht] at hP1
  have hKX : va_K (dC, dI) vwCl (tyX cB cJ) s := va_K.moved hvm.symm hK1
  obtain ⟨hP, hD⟩ := va_join (wr := []) (w1 := XW0 ad cB cJ) hP hD [0] [] rfl rfl (by decide) (by decide) hk1 hFc hP1 hD1
  generalize H1 = H at hP hS ⊢
  have hP : va_P (dC, dI) vwCl (XW0 ad cB cJ) H := hP
  have hD : va_D (lq_A s) (XW0 ad cB cJ) := hD
  refine W.widen (k := 11) (n := 1648) (by omega) (by omega) ?_
  refine lv_astore_n (lv' := [(1, .ref (ad 0)), (0, .ref b)]) hx hb dL_law_7 rfl hl (by decide) rfl (fun ls hl => ?_)
  refine va_new (ci := 1) (fs := [.null, .null]) (C := RX1) (T := TX1) (N := 2) hx hb hts in_X1 tyX1 tyX1_ok hown (hts _ q189) (hts _ q190) (hts _ q22) hK hP hD hS hA rfl lq_new1 (Nat.le_of_ble_eq_true rfl) (Nat.le_of_ble_eq_true rfl) dL_law_8 (fun q0 H hP hD hS => ?_)
  have hP : va_P (dC, dI) vwCl (XW0 ad cB cJ ++ X1new q0) H := hP
  have hD : va_D (lq_A s) (XW0 ad cB cJ ++ X1new q0) := hD
  refine W.widen (k := 12) (n := 1650) (by omega) (by omega) ?_
  refine lv_dup hx hb dL_law_11 rfl ?_
  have hPc := hP.sub (ws' := X1new q0) [11] rfl
  have hDc := hD.sub (ws' := X1new q0) [11] (by decide) rfl
  have hFc := va_free (wc := X1new q0) hD hS hA [11] rfl
  refine va_callv (va_runI (As := []) (rest := [.ref q0]) ⟨hx, hb, hml, hown, hts⟩ (mt_X1_init l dC dI q0 H.size) (cwI 0 hts (lw_meth q193) rfl rfl rfl (hts _ q22) (hts _ q191) (hts _ q192) rfl hd_X1_init ⟨Nat.le_of_ble_eq_true rfl, Nat.le_of_ble_eq_true rfl⟩) ⟨xr_blindW, fun U hU hW => ⟨rfl, by rw [hU], by rw [hU]; exact hPc, va_K.moved hW.alike hK, hDc.weaken (fun _ _ _ _ => trivial)⟩⟩ rfl rfl hl.1 rfl (lv_room (Nat.le_of_ble_eq_true rfl)) dL_law_12 ⟨Nat.le_of_ble_eq_true rfl, Nat.le_of_ble_eq_true rfl⟩) hS (fun q _ h => hFc q h) hFc (fun u t H1 locs ht hvm hw hB hz1 hk1 hS => ?_)
  obtain ⟨bd, cI⟩ := u
  obtain ⟨e0, hP1, hK1, hD1⟩ := hB
  have e0 : bd 0 = q0 := e0
  subst e0
  rw [ht] at hP1
  have hKM : va_K (dC, dI) vwCl (tyM cI) s := va_K.moved hvm.symm hK1
  obtain ⟨hP, hD⟩ := va_join (wr := XW0 ad cB cJ) (w1 := MW0 bd cI) hP hD [11] [0, 1, 2, 3, 4, 5, 6, 7, 8, 9, 10] rfl rfl (by decide) (by decide) hk1 hFc hP1 hD1
  generalize H1 = H at hP hS ⊢
  refine W.widen (k := 14) (n := 1780) (by omega) (by omega) ?_
  refine lv_astore_n (lv' := [(2, .ref (bd 0)), (1, .ref (ad 0)), (0, .ref b)]) hx hb dL_law_15 rfl hl (by decide) rfl (fun ls hl => ?_)
  refine lv_iconst (v := nI 0) hx hb dL_law_16 xc_0 ?_
  refine lv_istore_n (lv' := [(3, .int (nI 0)), (2, .ref (bd 0)), (1, .ref (ad 0)), (0, .ref b)]) hx hb dL_law_17 rfl hl (by decide) rfl (fun ls hl => ?_)
  exact lq_loop hL C0 hKX hKM (L + 1) 0 ls (Nat.zero_le L) (by omega) (lv_sub hl [3, 2, 1, 0] rfl) xz (fun _ _ => 0) (xz, xz, xz, xz, xz, (fun _ => 0), (fun _ => 1), xz, xz, xz, 0, 0, 0) (xz, xz) _ _ lq_XI0 lq_MI0 hP hD hS
end
section
/-! THE CLAIM OUT OF THE WALK -/
set_option maxHeartbeats 4000000 in
theorem lw_walk (l : Launch) (b : Addr) (xs : List Int32) : MetFree l x (headSpec (Jvm.Cond.code x code maxLocals ret :: tables_1) room_1) (lw_P b xs) (fun _ _ _ _ _ => True) lw_Q := by
  refine MetFree.of_bodyS (code := code) (maxLocals := maxLocals) (ret := ret) (by decide) ?_ ?_
  · intro args s m h hn
    obtain ⟨meth, c, h1, h2, h3, h4, h5, h6, -, -⟩ := Cond.code_spec hn (atoms_spec (ws := Jvm.Cond.code x code maxLocals ret :: tables_1) h _ List.mem_cons_self)
    exact ⟨meth, c, h1, h2, h3, h4, h5, h6⟩
  · intro p e s m args below meth c s₁ B hml0 hP _
    obtain ⟨rfl, hx, hbd, hgv⟩ := hP
    obtain ⟨scr, harrAt, hlist, hof, hsmall⟩ := hx
    obtain ⟨hcb, hkn, -, -⟩ := State.arrayAt?_spec harrAt
    have hown : s.vm.findClass R_law = some m.cls := findClass_of_methodNamed B.named
    have hts0 : ∀ c ∈ (Jvm.Cond.code x code maxLocals ret :: tables_1), c.before #[Value.ref b] s = true := atoms_spec (ws := Jvm.Cond.code x code maxLocals ret :: tables_1) B.pre
    have hts : ∀ w ∈ lw_tbl, w.before #[Value.ref b] s = true := k2_hts_sels lw_privs (fun w hw => hts0 w (List.mem_cons_of_mem _ hw)) lw_privs_ok
    have hml : c.maxLocals = 4 := B.maxLocals_eq (hts0 _ List.mem_cons_self)
    have X₀ : Stand p l e room_1 s m #[Value.ref b] below meth c s₁ [] 0 0 := Stand.of_body B
    have hh0 : s₁.heap = s.heap := by rw [B.state]; rfl
    have hsz : scr.slots.size = xs.length := by rw [← Array.length_toList, hlist, List.length_map]
    have hval : ∀ j : Nat, j < xs.length → scr.slots[j]? = some (.int (xs.getD j 0)) := fun j hj => by
      rw [← Array.getElem?_toList, hlist]
      simp [hj]
    have hbl : b < s.heap.size := (Array.getElem?_eq_some_iff.mp hcb).1
    have hX : va_X b xs.length (fun j => xs.getD j 0) s s.heap := ⟨scr, hcb, hof, hkn, hsz, hval⟩
    have K : W p l e room_1 s m #[Value.ref b] below meth c s₁.heap [] 0 0 (lw_Z below #[Value.ref b] s) (entryFrame m ([Value.ref b] : List Value).toArray 4) := by
      rw [hh0]
      exact whole_start l hbd ⟨B.exec, B.bytes, B.returns, hml, hown, hts, hX, hbl, B.notSynchronized, hgv⟩
    obtain ⟨t, a1, o, b1, b2, b3⟩ := K s₁ rfl X₀
    exact ⟨t, o, a1, b1, b2, b3⟩
theorem lw_pre_spec {args : Array Value} {s : State} (h : (Jvm.Cond.and given_1 narrow_1).before args s = true) (hr : rest_1_c.before args s = true) : ∃ (b : Addr) (xs : List Int32), lw_P b xs args s := by
  have hs := flat_of_before _ h
  have hq := flat_of_before _ hr
  have hc : (Cond.count 1).before args s = true := hs _ (by decide +kernel)
  have harr : (Cond.arrayOf (.arg 0) .int).before args s = true := hs _ (by decide +kernel)
  have hle : (Cond.le (.length (.arg 0)) (.int 256)).before args s = true := hs _ (by decide +kernel)
  have hlen : (Cond.isInt (.length (.arg 0))).before args s = true := hq _ (by decide +kernel)
  have hall : (Cond.all (.arg 0) (.isInt (.elem (.arg 0) (.index 0)))).before args s = true := hq _ (by decide +kernel)
  obtain ⟨b, xs, hb, hx⟩ := State.ints_of_pre rfl harr hlen hall
  have hsm : xs.length < 2 ^ 31 := hx.choose_spec.2.2.2
  have hev : (Term.length (.arg 0)).eval args s none [] s = some (.int xs.length.toInt32) := hx.length_eval hb
  have hv := Cond.le_ints hev (show (Term.int 256).eval args s none [] s = some (.int 256) from rfl)
  have hd : xs.length.toInt32 ≤ 256 := by
    simpa [Cond.before, Cond.holds, hv] using hle
  have hN : xs.length ≤ 256 := (Int32.ofNat_le_ofNat hsm (by decide)).mp (show Int32.ofNat xs.length ≤ Int32.ofNat 256 from hd)
  exact ⟨b, xs, Cond.one_arg hc (show args[0]? = some (.ref b) from hb), hx, hN, h⟩
theorem lw_comes (l : Launch) : Comes l x (Jvm.Cond.code x code maxLocals ret :: tables_1) room_1 (fun tb e args s => Calls_1 tb e args s ∧ rest_1 tb e args s ∧ Pre_1 tb e args s)
    (fun _ _ args s o t => lw_Q args s o t) := by
  intro p e ha hc hk s m args below hf hfit hheap happ hpre
  obtain ⟨b, xs, hP⟩ := lw_pre_spec hpre.2.2 hpre.2.1
  obtain ⟨k, o, h1, h2, h3, hQ⟩ := lw_walk l b xs p e ha hc hk s m args below hf ((Spec.applies_iff_loose hf).mp happ).1 hP trivial
  exact ⟨k, o, h1, h2, h3, hQ⟩
theorem lw_frame {s t : State} {o : Outcome} {args : Array Value} (h : Framed s o t [] 600000 7290000) :
    Framed s o t (fieldLocs frame_1_writes args s ++ arrayLocs frame_1_arrays args s ++ staticLocs frame_1_statics s) 600000 7290000 := h
theorem lw_limb (L : Cond) (hL : ∀ (args : Array Value) (s t : State), L.after args s (.returned (some (.int 1))) t = true) :
    ArmFor flags0 classFile x code maxLocals ret World_1 tables_1 room_1 Calls_1 rest_1 Pre_1
      (fun tb e a s o t => postC L tb e a s o t ∧ Framed s o t (fieldLocs frame_1_writes a s ++ arrayLocs frame_1_arrays a s ++ staticLocs frame_1_statics s) 600000 7290000) := by
  intro l _ _ _ p e ha hc hk s m args below hf hfit hheap happ hpre
  obtain ⟨k, o, h1, h2, h3, rfl, hF⟩ := lw_comes l p e ha hc hk s m args below hf hfit hheap happ hpre
  exact ⟨k, _, h1, h2, h3, hL args s _, lw_frame hF⟩
theorem i_vc : Claimed_1_1 ∧ Claimed_1_2 := ⟨lw_limb limb_1_1 (fun args s t => by simp [limb_1_1, Cond.after, Cond.holds, Cond.value]), lw_limb limb_1_2 (fun args s t => Cond.after_iff.mpr (by
  first | (rw [show limb_1_2 = Cond.eq .result (.int 1) from rfl, Cond.eq_ints (x := 1) (y := 1) rfl rfl]; simp; done) | (simp [limb_1_2, Cond.value, Term.eval]; done)))⟩
end
