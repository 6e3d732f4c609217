section
-- ===== PART A: goes FIRST, ahead of the names: the tables' words, and 'selects' of the private methods out of them =====
/-- a private method of a class that the tables say can be made, by its rows of tables_1 -/
def lw_okq (q : MethodName × Nat) : Prop := (q.1.cls ≠ "java/lang/invoke/MethodHandle" ∧ q.1.cls ≠ "java/lang/invoke/VarHandle") ∧ Cond.instantiable q.1.cls q.2 ∈ tables_1 ∧ Cond.privateMethod q.1 ∈ tables_1 ∧ Cond.instanceMethod q.1 ∈ tables_1
set_option maxRecDepth 100000
theorem lw_t1 {w : Cond} (h : w ∈ tables_1_1) : w ∈ tables_1 := List.mem_append_left _ h
theorem lw_t2 {w : Cond} (h : w ∈ tables_1_2) : w ∈ tables_1 := List.mem_append_right _ h
theorem lw_p0 : lw_okq (⟨"ColumnStore", "closeColumn", "(II)V"⟩, 13) := ⟨⟨by decide +kernel, by decide +kernel⟩, lw_t1 (List.mem_of_getElem? (i := 4) rfl), lw_t1 (List.mem_of_getElem? (i := 58) rfl), lw_t1 (List.mem_of_getElem? (i := 59) rfl)⟩
theorem lw_p1 : lw_okq (⟨"ColumnStore", "addValue", "(I)V"⟩, 13) := ⟨⟨by decide +kernel, by decide +kernel⟩, lw_t1 (List.mem_of_getElem? (i := 4) rfl), lw_t1 (List.mem_of_getElem? (i := 62) rfl), lw_t1 (List.mem_of_getElem? (i := 63) rfl)⟩
theorem lw_p2 : lw_okq (⟨"ColumnStore", "writeRuns", "(II)V"⟩, 13) := ⟨⟨by decide +kernel, by decide +kernel⟩, lw_t1 (List.mem_of_getElem? (i := 4) rfl), lw_t1 (List.mem_of_getElem? (i := 69) rfl), lw_t1 (List.mem_of_getElem? (i := 70) rfl)⟩
theorem lw_p3 : lw_okq (⟨"ColumnStore", "writeDictionary", "(III)V"⟩, 13) := ⟨⟨by decide +kernel, by decide +kernel⟩, lw_t1 (List.mem_of_getElem? (i := 4) rfl), lw_t1 (List.mem_of_getElem? (i := 73) rfl), lw_t1 (List.mem_of_getElem? (i := 74) rfl)⟩
theorem lw_p4 : lw_okq (⟨"ColumnStore", "clearBits", "(II)V"⟩, 13) := ⟨⟨by decide +kernel, by decide +kernel⟩, lw_t1 (List.mem_of_getElem? (i := 4) rfl), lw_t1 (List.mem_of_getElem? (i := 77) rfl), lw_t1 (List.mem_of_getElem? (i := 78) rfl)⟩
theorem lw_p5 : lw_okq (⟨"ColumnStore", "putBits", "(IIII)V"⟩, 13) := ⟨⟨by decide +kernel, by decide +kernel⟩, lw_t1 (List.mem_of_getElem? (i := 4) rfl), lw_t1 (List.mem_of_getElem? (i := 81) rfl), lw_t1 (List.mem_of_getElem? (i := 82) rfl)⟩
theorem lw_p6 : lw_okq (⟨"ColumnStore", "writePacked", "(III)V"⟩, 13) := ⟨⟨by decide +kernel, by decide +kernel⟩, lw_t1 (List.mem_of_getElem? (i := 4) rfl), lw_t1 (List.mem_of_getElem? (i := 85) rfl), lw_t1 (List.mem_of_getElem? (i := 86) rfl)⟩
theorem lw_p7 : lw_okq (⟨"ColumnStore", "writePlain", "(II)V"⟩, 13) := ⟨⟨by decide +kernel, by decide +kernel⟩, lw_t1 (List.mem_of_getElem? (i := 4) rfl), lw_t1 (List.mem_of_getElem? (i := 89) rfl), lw_t1 (List.mem_of_getElem? (i := 90) rfl)⟩
theorem lw_p8 : lw_okq (⟨"ColumnStore", "passMask", "(I)I"⟩, 13) := ⟨⟨by decide +kernel, by decide +kernel⟩, lw_t1 (List.mem_of_getElem? (i := 4) rfl), lw_t1 (List.mem_of_getElem? (i := 112) rfl), lw_t1 (List.mem_of_getElem? (i := 113) rfl)⟩
theorem lw_p9 : lw_okq (⟨"ColumnStore", "rangeMask", "(IIII)I"⟩, 13) := ⟨⟨by decide +kernel, by decide +kernel⟩, lw_t1 (List.mem_of_getElem? (i := 4) rfl), lw_t1 (List.mem_of_getElem? (i := 116) rfl), lw_t1 (List.mem_of_getElem? (i := 117) rfl)⟩
theorem lw_p10 : lw_okq (⟨"ColumnStore", "isClosed", "(I)Z"⟩, 13) := ⟨⟨by decide +kernel, by decide +kernel⟩, lw_t1 (List.mem_of_getElem? (i := 4) rfl), lw_t1 (List.mem_of_getElem? (i := 120) rfl), lw_t1 (List.mem_of_getElem? (i := 121) rfl)⟩
theorem lw_p11 : lw_okq (⟨"ColumnStore", "runMask", "(III)I"⟩, 13) := ⟨⟨by decide +kernel, by decide +kernel⟩, lw_t1 (List.mem_of_getElem? (i := 4) rfl), lw_t1 (List.mem_of_getElem? (i := 125) rfl), lw_t1 (List.mem_of_getElem? (i := 126) rfl)⟩
theorem lw_p12 : lw_okq (⟨"ColumnStore", "dictionaryMask", "(III)I"⟩, 13) := ⟨⟨by decide +kernel, by decide +kernel⟩, lw_t1 (List.mem_of_getElem? (i := 4) rfl), lw_t1 (List.mem_of_getElem? (i := 129) rfl), lw_t1 (List.mem_of_getElem? (i := 130) rfl)⟩
theorem lw_p13 : lw_okq (⟨"ColumnStore", "indexBitsOf", "(I)I"⟩, 13) := ⟨⟨by decide +kernel, by decide +kernel⟩, lw_t1 (List.mem_of_getElem? (i := 4) rfl), lw_t1 (List.mem_of_getElem? (i := 133) rfl), lw_t1 (List.mem_of_getElem? (i := 134) rfl)⟩
theorem lw_p14 : lw_okq (⟨"ColumnStore", "getBits", "(III)I"⟩, 13) := ⟨⟨by decide +kernel, by decide +kernel⟩, lw_t1 (List.mem_of_getElem? (i := 4) rfl), lw_t1 (List.mem_of_getElem? (i := 137) rfl), lw_t1 (List.mem_of_getElem? (i := 138) rfl)⟩
theorem lw_p15 : lw_okq (⟨"ColumnStore", "valueIn", "(III)I"⟩, 13) := ⟨⟨by decide +kernel, by decide +kernel⟩, lw_t1 (List.mem_of_getElem? (i := 4) rfl), lw_t1 (List.mem_of_getElem? (i := 141) rfl), lw_t1 (List.mem_of_getElem? (i := 142) rfl)⟩
def lw_privs_1 : List (MethodName × Nat) := [(⟨"ColumnStore", "closeColumn", "(II)V"⟩, 13), (⟨"ColumnStore", "addValue", "(I)V"⟩, 13), (⟨"ColumnStore", "writeRuns", "(II)V"⟩, 13), (⟨"ColumnStore", "writeDictionary", "(III)V"⟩, 13), (⟨"ColumnStore", "clearBits", "(II)V"⟩, 13), (⟨"ColumnStore", "putBits", "(IIII)V"⟩, 13), (⟨"ColumnStore", "writePacked", "(III)V"⟩, 13), (⟨"ColumnStore", "writePlain", "(II)V"⟩, 13), (⟨"ColumnStore", "passMask", "(I)I"⟩, 13), (⟨"ColumnStore", "rangeMask", "(IIII)I"⟩, 13), (⟨"ColumnStore", "isClosed", "(I)Z"⟩, 13), (⟨"ColumnStore", "runMask", "(III)I"⟩, 13), (⟨"ColumnStore", "dictionaryMask", "(III)I"⟩, 13), (⟨"ColumnStore", "indexBitsOf", "(I)I"⟩, 13), (⟨"ColumnStore", "getBits", "(III)I"⟩, 13), (⟨"ColumnStore", "valueIn", "(III)I"⟩, 13)]
theorem lw_r1 : ∀ q ∈ lw_privs_1, lw_okq q := List.forall_mem_cons.mpr ⟨lw_p0, List.forall_mem_cons.mpr ⟨lw_p1, List.forall_mem_cons.mpr ⟨lw_p2, List.forall_mem_cons.mpr ⟨lw_p3, List.forall_mem_cons.mpr ⟨lw_p4, List.forall_mem_cons.mpr ⟨lw_p5, List.forall_mem_cons.mpr ⟨lw_p6, List.forall_mem_cons.mpr ⟨lw_p7, List.forall_mem_cons.mpr ⟨lw_p8, List.forall_mem_cons.mpr ⟨lw_p9, List.forall_mem_cons.mpr ⟨lw_p10, List.forall_mem_cons.mpr ⟨lw_p11, List.forall_mem_cons.mpr ⟨lw_p12, List.forall_mem_cons.mpr ⟨lw_p13, List.forall_mem_cons.mpr ⟨lw_p14, List.forall_mem_cons.mpr ⟨lw_p15, fun _ h => absurd h List.not_mem_nil⟩⟩⟩⟩⟩⟩⟩⟩⟩⟩⟩⟩⟩⟩⟩⟩
theorem lw_p16 : lw_okq (⟨"ColumnStore", "sumOf", "(III)J"⟩, 13) := ⟨⟨by decide +kernel, by decide +kernel⟩, lw_t1 (List.mem_of_getElem? (i := 4) rfl), lw_t1 (List.mem_of_getElem? (i := 152) rfl), lw_t1 (List.mem_of_getElem? (i := 153) rfl)⟩
theorem lw_p17 : lw_okq (⟨"ColumnStore", "mayBeat", "(IIZZI)Z"⟩, 13) := ⟨⟨by decide +kernel, by decide +kernel⟩, lw_t1 (List.mem_of_getElem? (i := 4) rfl), lw_t1 (List.mem_of_getElem? (i := 160) rfl), lw_t1 (List.mem_of_getElem? (i := 161) rfl)⟩
theorem lw_p18 : lw_okq (⟨"ColumnStoreModel", "passes", "(I)Z"⟩, 6) := ⟨⟨by decide +kernel, by decide +kernel⟩, lw_t1 (List.mem_of_getElem? (i := 183) rfl), lw_t1 (List.mem_of_getElem? (i := 231) rfl), lw_t1 (List.mem_of_getElem? (i := 232) rfl)⟩
theorem lw_p19 : lw_okq (⟨"ColumnStoreModel", "seen", "(II)Z"⟩, 6) := ⟨⟨by decide +kernel, by decide +kernel⟩, lw_t1 (List.mem_of_getElem? (i := 183) rfl), lw_t2 (List.mem_of_getElem? (i := 15) rfl), lw_t2 (List.mem_of_getElem? (i := 16) rfl)⟩
def lw_privs_2 : List (MethodName × Nat) := [(⟨"ColumnStore", "sumOf", "(III)J"⟩, 13), (⟨"ColumnStore", "mayBeat", "(IIZZI)Z"⟩, 13), (⟨"ColumnStoreModel", "passes", "(I)Z"⟩, 6), (⟨"ColumnStoreModel", "seen", "(II)Z"⟩, 6)]
theorem lw_r2 : ∀ q ∈ lw_privs_2, lw_okq q := List.forall_mem_cons.mpr ⟨lw_p16, List.forall_mem_cons.mpr ⟨lw_p17, List.forall_mem_cons.mpr ⟨lw_p18, List.forall_mem_cons.mpr ⟨lw_p19, fun _ h => absurd h List.not_mem_nil⟩⟩⟩⟩
def lw_privs : List (MethodName × Nat) := lw_privs_1 ++ (lw_privs_2)
def lw_tbl : List Cond := k2_sels lw_privs ++ tables_1
theorem lw_privs_ok : ∀ q ∈ lw_privs, lw_okq q := by
  show ∀ q ∈ lw_privs_1 ++ (lw_privs_2), lw_okq q
  exact List.forall_mem_append.mpr ⟨lw_r1, lw_r2⟩
-- ===== ONE list of words for every method: the tables' words that hold all through a run =====
def lw_all : List Cond := lw_tbl.filter goodWord
/-- a word of the tables by its place: claim/WORDS.tsv -/
theorem lw_w {w : Cond} (i : Nat) (h : lw_tbl[i]? = some w) (g : goodWord w = true) : w ∈ lw_all := List.mem_filter.mpr ⟨List.mem_of_getElem? h, g⟩
theorem lw_all_tbl {w : Cond} (h : w ∈ lw_all) : w ∈ lw_tbl := (List.mem_filter.mp h).1
theorem lw_self : GoodIn lw_all lw_all := fun w h => ⟨h, good_of_word (List.mem_filter.mp h).2⟩
/-- a class's field words, by their places -/
theorem lw_in (ws : List Cond) (ps : List Nat) (hp : ws = ps.filterMap (fun i => lw_tbl[i]?)) (hg : ws.all goodWord = true) : ∀ w ∈ ws, w ∈ lw_all := by
  intro w h
  have h1 := List.all_eq_true.mp hg w h
  rw [hp] at h
  obtain ⟨i, -, hi⟩ := List.mem_filterMap.mp h
  exact lw_w i hi h1
/-- the words of a contract for the method y with code b, L locals, answer r -/
abbrev ws_ (y : MethodName) (b : ByteArray) (L : Nat) (r : Option FieldType) : List Cond := Cond.code y b L r :: lw_all
theorem lw_meth {y : MethodName} {b : ByteArray} {L : Nat} {r : Option FieldType} (h : Cond.code y b L r ∈ lw_all) : GoodIn lw_all (ws_ y b L r) := by
  intro w hw
  rcases List.mem_cons.mp hw with e | e
  · rw [e]
    exact lw_self _ h
  · exact lw_self _ e
theorem lw_app {a c : List Cond} (ha : ∀ w ∈ a, w ∈ lw_all) (hc : GoodIn lw_all c) : GoodIn lw_all (a ++ c) := by
  intro w hw
  rcases List.mem_append.mp hw with e | e
  · exact lw_self w (ha w e)
  · exact hc w e
/-- what a call through an object asks: cwV n hts (lw_V ..) -/
theorem lw_V {own : String} {idx : Nat} {C : String} {y : MethodName} {b : ByteArray} {L : Nat} {r : Option FieldType} (h1 : Cond.methodLink own idx y ∈ lw_all) (h2 : Cond.instanceMethod y ∈ lw_all) (h3 : Cond.selects C y y ∈ lw_all) (h4 : Cond.initialized C ∈ lw_all) (h5 : Cond.code y b L r ∈ lw_all) : GoodIn lw_all (wsV own idx C y (ws_ y b L r)) := by
  refine lw_app ?_ (lw_meth h5)
  intro w hw
  simp only [List.mem_cons, List.not_mem_nil, or_false] at hw
  rcases hw with e | e | e | e
  · rw [e]; exact h1
  · rw [e]; exact h2
  · rw [e]; exact h3
  · rw [e]; exact h4
/-- what a static call asks: va_cwS n hts (lw_S ..) -/
theorem lw_S {own : String} {idx : Nat} {y : MethodName} {b : ByteArray} {L : Nat} {r : Option FieldType} (h1 : Cond.methodLink own idx y ∈ lw_all) (h2 : Cond.static y ∈ lw_all) (h3 : Cond.initialized y.cls ∈ lw_all) (h4 : Cond.code y b L r ∈ lw_all) : GoodIn lw_all (va_wsS own idx y (ws_ y b L r)) := by
  refine lw_app ?_ (lw_meth h4)
  intro w hw
  simp only [List.mem_cons, List.not_mem_nil, or_false] at hw
  rcases hw with e | e | e
  · rw [e]; exact h1
  · rw [e]; exact h2
  · rw [e]; exact h3
/-- the words of a contract for a method WITH HANDLERS (hh: its table) -/
abbrev wsW_ (y : MethodName) (b : ByteArray) (L : Nat) (r : Option FieldType) (hh : List (Nat × Nat × Nat × Nat)) : List Cond := Cond.codeWith y b L r hh :: lw_all
theorem lw_methW {y : MethodName} {b : ByteArray} {L : Nat} {r : Option FieldType} {hh : List (Nat × Nat × Nat × Nat)} (h : Cond.codeWith y b L r hh ∈ lw_all) : GoodIn lw_all (wsW_ y b L r hh) := by
  intro w hw
  rcases List.mem_cons.mp hw with e | e
  · rw [e]
    exact lw_self _ h
  · exact lw_self _ e
/-- any list of words by their places (lw_in), good -/
theorem lw_good {ws : List Cond} (h : ∀ w ∈ ws, w ∈ lw_all) : GoodIn lw_all ws := fun w hw => lw_self w (h w hw)
/-- what a call of a method with handlers asks: vx_cwVW n hts (lw_VW ..), vx_cwSW n hts (lw_SW ..) -/
theorem lw_VW {own : String} {idx : Nat} {C : String} {y : MethodName} {b : ByteArray} {L : Nat} {r : Option FieldType} {hh : List (Nat × Nat × Nat × Nat)} (h1 : Cond.methodLink own idx y ∈ lw_all) (h2 : Cond.instanceMethod y ∈ lw_all) (h3 : Cond.selects C y y ∈ lw_all) (h4 : Cond.initialized C ∈ lw_all) (h5 : Cond.codeWith y b L r hh ∈ lw_all) : GoodIn lw_all (wsV own idx C y (wsW_ y b L r hh)) := by
  refine lw_app ?_ (lw_methW h5)
  intro w hw
  simp only [List.mem_cons, List.not_mem_nil, or_false] at hw
  rcases hw with e | e | e | e
  · rw [e]; exact h1
  · rw [e]; exact h2
  · rw [e]; exact h3
  · rw [e]; exact h4
theorem lw_SW {own : String} {idx : Nat} {y : MethodName} {b : ByteArray} {L : Nat} {r : Option FieldType} {hh : List (Nat × Nat × Nat × Nat)} (h1 : Cond.methodLink own idx y ∈ lw_all) (h2 : Cond.static y ∈ lw_all) (h3 : Cond.initialized y.cls ∈ lw_all) (h4 : Cond.codeWith y b L r hh ∈ lw_all) : GoodIn lw_all (va_wsS own idx y (wsW_ y b L r hh)) := by
  refine lw_app ?_ (lw_methW h4)
  intro w hw
  simp only [List.mem_cons, List.not_mem_nil, or_false] at hw
  rcases hw with e | e | e
  · rw [e]; exact h1
  · rw [e]; exact h2
  · rw [e]; exact h3
/-- a word by its place in its run of the tables -/
theorem lw_at {r : List Cond} (hr : ∀ w ∈ r, w ∈ lw_tbl) {w : Cond} (i : Nat) (h : r[i]? = some w) : w ∈ lw_tbl := hr w (List.mem_of_getElem? h)
theorem lw_g {w : Cond} (h : w ∈ lw_tbl) (g : goodWord w = true) : w ∈ lw_all := List.mem_filter.mpr ⟨h, g⟩
theorem lw_ms : ∀ w ∈ k2_sels lw_privs, w ∈ lw_tbl := fun w h => show w ∈ k2_sels lw_privs ++ tables_1 from List.mem_append_left _ h
theorem lw_m1 : ∀ w ∈ tables_1_1, w ∈ lw_tbl := fun w h => show w ∈ k2_sels lw_privs ++ tables_1 from List.mem_append_right (k2_sels lw_privs) (show w ∈ tables_1 from List.mem_append_left _ h)
theorem lw_m2 : ∀ w ∈ tables_1_2, w ∈ lw_tbl := fun w h => show w ∈ k2_sels lw_privs ++ tables_1 from List.mem_append_right (k2_sels lw_privs) (show w ∈ tables_1 from List.mem_append_right _ h)
theorem qs0 : (Cond.selects "ColumnStore" ⟨"ColumnStore", "closeColumn", "(II)V"⟩ ⟨"ColumnStore", "closeColumn", "(II)V"⟩) ∈ lw_all := lw_g (lw_at lw_ms 0 rfl) rfl
theorem qs1 : (Cond.selects "ColumnStore" ⟨"ColumnStore", "addValue", "(I)V"⟩ ⟨"ColumnStore", "addValue", "(I)V"⟩) ∈ lw_all := lw_g (lw_at lw_ms 1 rfl) rfl
theorem qs2 : (Cond.selects "ColumnStore" ⟨"ColumnStore", "writeRuns", "(II)V"⟩ ⟨"ColumnStore", "writeRuns", "(II)V"⟩) ∈ lw_all := lw_g (lw_at lw_ms 2 rfl) rfl
theorem qs3 : (Cond.selects "ColumnStore" ⟨"ColumnStore", "writeDictionary", "(III)V"⟩ ⟨"ColumnStore", "writeDictionary", "(III)V"⟩) ∈ lw_all := lw_g (lw_at lw_ms 3 rfl) rfl
theorem qs4 : (Cond.selects "ColumnStore" ⟨"ColumnStore", "clearBits", "(II)V"⟩ ⟨"ColumnStore", "clearBits", "(II)V"⟩) ∈ lw_all := lw_g (lw_at lw_ms 4 rfl) rfl
theorem qs5 : (Cond.selects "ColumnStore" ⟨"ColumnStore", "putBits", "(IIII)V"⟩ ⟨"ColumnStore", "putBits", "(IIII)V"⟩) ∈ lw_all := lw_g (lw_at lw_ms 5 rfl) rfl
theorem qs6 : (Cond.selects "ColumnStore" ⟨"ColumnStore", "writePacked", "(III)V"⟩ ⟨"ColumnStore", "writePacked", "(III)V"⟩) ∈ lw_all := lw_g (lw_at lw_ms 6 rfl) rfl
theorem qs7 : (Cond.selects "ColumnStore" ⟨"ColumnStore", "writePlain", "(II)V"⟩ ⟨"ColumnStore", "writePlain", "(II)V"⟩) ∈ lw_all := lw_g (lw_at lw_ms 7 rfl) rfl
theorem qs8 : (Cond.selects "ColumnStore" ⟨"ColumnStore", "passMask", "(I)I"⟩ ⟨"ColumnStore", "passMask", "(I)I"⟩) ∈ lw_all := lw_g (lw_at lw_ms 8 rfl) rfl
theorem qs9 : (Cond.selects "ColumnStore" ⟨"ColumnStore", "rangeMask", "(IIII)I"⟩ ⟨"ColumnStore", "rangeMask", "(IIII)I"⟩) ∈ lw_all := lw_g (lw_at lw_ms 9 rfl) rfl
theorem qs10 : (Cond.selects "ColumnStore" ⟨"ColumnStore", "isClosed", "(I)Z"⟩ ⟨"ColumnStore", "isClosed", "(I)Z"⟩) ∈ lw_all := lw_g (lw_at lw_ms 10 rfl) rfl
theorem qs11 : (Cond.selects "ColumnStore" ⟨"ColumnStore", "runMask", "(III)I"⟩ ⟨"ColumnStore", "runMask", "(III)I"⟩) ∈ lw_all := lw_g (lw_at lw_ms 11 rfl) rfl
theorem qs12 : (Cond.selects "ColumnStore" ⟨"ColumnStore", "dictionaryMask", "(III)I"⟩ ⟨"ColumnStore", "dictionaryMask", "(III)I"⟩) ∈ lw_all := lw_g (lw_at lw_ms 12 rfl) rfl
theorem qs13 : (Cond.selects "ColumnStore" ⟨"ColumnStore", "indexBitsOf", "(I)I"⟩ ⟨"ColumnStore", "indexBitsOf", "(I)I"⟩) ∈ lw_all := lw_g (lw_at lw_ms 13 rfl) rfl
theorem qs14 : (Cond.selects "ColumnStore" ⟨"ColumnStore", "getBits", "(III)I"⟩ ⟨"ColumnStore", "getBits", "(III)I"⟩) ∈ lw_all := lw_g (lw_at lw_ms 14 rfl) rfl
theorem qs15 : (Cond.selects "ColumnStore" ⟨"ColumnStore", "valueIn", "(III)I"⟩ ⟨"ColumnStore", "valueIn", "(III)I"⟩) ∈ lw_all := lw_g (lw_at lw_ms 15 rfl) rfl
theorem qs16 : (Cond.selects "ColumnStore" ⟨"ColumnStore", "sumOf", "(III)J"⟩ ⟨"ColumnStore", "sumOf", "(III)J"⟩) ∈ lw_all := lw_g (lw_at lw_ms 16 rfl) rfl
theorem qs17 : (Cond.selects "ColumnStore" ⟨"ColumnStore", "mayBeat", "(IIZZI)Z"⟩ ⟨"ColumnStore", "mayBeat", "(IIZZI)Z"⟩) ∈ lw_all := lw_g (lw_at lw_ms 17 rfl) rfl
theorem qs18 : (Cond.selects "ColumnStoreModel" ⟨"ColumnStoreModel", "passes", "(I)Z"⟩ ⟨"ColumnStoreModel", "passes", "(I)Z"⟩) ∈ lw_all := lw_g (lw_at lw_ms 18 rfl) rfl
theorem qs19 : (Cond.selects "ColumnStoreModel" ⟨"ColumnStoreModel", "seen", "(II)Z"⟩ ⟨"ColumnStoreModel", "seen", "(II)Z"⟩) ∈ lw_all := lw_g (lw_at lw_ms 19 rfl) rfl
end
section
/-! ColumnStore -/
set_option maxRecDepth 100000
def RX0 : String := "ColumnStore"
def TX0 : u_T := fun k => match k with
  | 0 => ("ColumnStore", "rows", "I", false)
  | 1 => ("ColumnStore", "open", "[I", true)
  | 2 => ("ColumnStore", "liveMask", "[I", true)
  | 3 => ("ColumnStore", "form", "[I", true)
  | 4 => ("ColumnStore", "low", "[I", true)
  | 5 => ("ColumnStore", "high", "[I", true)
  | 6 => ("ColumnStore", "size", "[I", true)
  | 7 => ("ColumnStore", "words", "[I", true)
  | 8 => ("ColumnStore", "ranged", "[Z", true)
  | 9 => ("ColumnStore", "rangeLow", "[I", true)
  | 10 => ("ColumnStore", "rangeHigh", "[I", true)
  | 11 => ("ColumnStore", "valueCount", "I", false)
  | _ => ("ColumnStore", "values", "[I", true)
def tyX0 : Nat → FieldType := fun k => match k with
  | 0 => .int
  | 1 => .array .int
  | 2 => .array .int
  | 3 => .array .int
  | 4 => .array .int
  | 5 => .array .int
  | 6 => .array .int
  | 7 => .array .int
  | 8 => .array .boolean
  | 9 => .array .int
  | 10 => .array .int
  | 11 => .int
  | _ => .array .int
abbrev wsX00 : List Cond := u_ws RX0 TX0 13
set_option maxRecDepth 100000 in
theorem nmX0 : ∀ a, a < 13 → ∀ b, b < 13 → a ≠ b → (TX0 a).2.1 ≠ (TX0 b).2.1 := by decide +kernel
set_option maxRecDepth 100000 in
theorem tyX0_ok : ∀ k, k < 13 → parseFieldDescriptor (TX0 k).2.2.1 = some (tyX0 k) := by decide +kernel
abbrev cX0_init : ByteArray := prog_1_method_1_code
def yX0_init : MethodName := ⟨RX0, "<init>", "()V"⟩
theorem dX0_init_0 : decode cX0_init 0 = .ok (.aload_n 0, 1) := by decide +kernel
theorem dX0_init_1 : decode cX0_init 1 = .ok (.invokespecial 1, 3) := by decide +kernel
theorem dX0_init_4 : decode cX0_init 4 = .ok (.aload_n 0, 1) := by decide +kernel
theorem dX0_init_5 : decode cX0_init 5 = .ok (.bipush 48, 2) := by decide +kernel
theorem dX0_init_7 : decode cX0_init 7 = .ok (.newarray .int, 2) := by decide +kernel
theorem dX0_init_9 : decode cX0_init 9 = .ok (.putfield 7, 3) := by decide +kernel
theorem dX0_init_12 : decode cX0_init 12 = .ok (.aload_n 0, 1) := by decide +kernel
theorem dX0_init_13 : decode cX0_init 13 = .ok (.iconst 5, 1) := by decide +kernel
theorem dX0_init_14 : decode cX0_init 14 = .ok (.newarray .int, 2) := by decide +kernel
theorem dX0_init_16 : decode cX0_init 16 = .ok (.putfield 13, 3) := by decide +kernel
theorem dX0_init_19 : decode cX0_init 19 = .ok (.aload_n 0, 1) := by decide +kernel
theorem dX0_init_20 : decode cX0_init 20 = .ok (.bipush 12, 2) := by decide +kernel
theorem dX0_init_22 : decode cX0_init 22 = .ok (.newarray .int, 2) := by decide +kernel
theorem dX0_init_24 : decode cX0_init 24 = .ok (.putfield 16, 3) := by decide +kernel
theorem dX0_init_27 : decode cX0_init 27 = .ok (.aload_n 0, 1) := by decide +kernel
theorem dX0_init_28 : decode cX0_init 28 = .ok (.bipush 12, 2) := by decide +kernel
theorem dX0_init_30 : decode cX0_init 30 = .ok (.newarray .int, 2) := by decide +kernel
theorem dX0_init_32 : decode cX0_init 32 = .ok (.putfield 19, 3) := by decide +kernel
theorem dX0_init_35 : decode cX0_init 35 = .ok (.aload_n 0, 1) := by decide +kernel
theorem dX0_init_36 : decode cX0_init 36 = .ok (.bipush 12, 2) := by decide +kernel
theorem dX0_init_38 : decode cX0_init 38 = .ok (.newarray .int, 2) := by decide +kernel
theorem dX0_init_40 : decode cX0_init 40 = .ok (.putfield 22, 3) := by decide +kernel
theorem dX0_init_43 : decode cX0_init 43 = .ok (.aload_n 0, 1) := by decide +kernel
theorem dX0_init_44 : decode cX0_init 44 = .ok (.bipush 12, 2) := by decide +kernel
theorem dX0_init_46 : decode cX0_init 46 = .ok (.newarray .int, 2) := by decide +kernel
theorem dX0_init_48 : decode cX0_init 48 = .ok (.putfield 25, 3) := by decide +kernel
theorem dX0_init_51 : decode cX0_init 51 = .ok (.aload_n 0, 1) := by decide +kernel
theorem dX0_init_52 : decode cX0_init 52 = .ok (.sipush 420, 3) := by decide +kernel
theorem dX0_init_55 : decode cX0_init 55 = .ok (.newarray .int, 2) := by decide +kernel
theorem dX0_init_57 : decode cX0_init 57 = .ok (.putfield 28, 3) := by decide +kernel
theorem dX0_init_60 : decode cX0_init 60 = .ok (.aload_n 0, 1) := by decide +kernel
theorem dX0_init_61 : decode cX0_init 61 = .ok (.iconst 3, 1) := by decide +kernel
theorem dX0_init_62 : decode cX0_init 62 = .ok (.newarray .boolean, 2) := by decide +kernel
theorem dX0_init_64 : decode cX0_init 64 = .ok (.putfield 31, 3) := by decide +kernel
theorem dX0_init_67 : decode cX0_init 67 = .ok (.aload_n 0, 1) := by decide +kernel
theorem dX0_init_68 : decode cX0_init 68 = .ok (.iconst 3, 1) := by decide +kernel
theorem dX0_init_69 : decode cX0_init 69 = .ok (.newarray .int, 2) := by decide +kernel
theorem dX0_init_71 : decode cX0_init 71 = .ok (.putfield 35, 3) := by decide +kernel
theorem dX0_init_74 : decode cX0_init 74 = .ok (.aload_n 0, 1) := by decide +kernel
theorem dX0_init_75 : decode cX0_init 75 = .ok (.iconst 3, 1) := by decide +kernel
theorem dX0_init_76 : decode cX0_init 76 = .ok (.newarray .int, 2) := by decide +kernel
theorem dX0_init_78 : decode cX0_init 78 = .ok (.putfield 38, 3) := by decide +kernel
theorem dX0_init_81 : decode cX0_init 81 = .ok (.aload_n 0, 1) := by decide +kernel
theorem dX0_init_82 : decode cX0_init 82 = .ok (.bipush 64, 2) := by decide +kernel
theorem dX0_init_84 : decode cX0_init 84 = .ok (.newarray .int, 2) := by decide +kernel
theorem dX0_init_86 : decode cX0_init 86 = .ok (.putfield 41, 3) := by decide +kernel
theorem dX0_init_89 : decode cX0_init 89 = .ok (.return_, 1) := by decide +kernel
abbrev cX0_append : ByteArray := prog_1_method_2_code
def yX0_append : MethodName := ⟨RX0, "append", "(III)I"⟩
theorem dX0_append_0 : decode cX0_append 0 = .ok (.aload_n 0, 1) := by decide +kernel
theorem dX0_append_1 : decode cX0_append 1 = .ok (.getfield 44, 3) := by decide +kernel
theorem dX0_append_4 : decode cX0_append 4 = .ok (.bipush 64, 2) := by decide +kernel
theorem dX0_append_6 : decode cX0_append 6 = .ok (.if_icmp .lt 5, 3) := by decide +kernel
theorem dX0_append_9 : decode cX0_append 9 = .ok (.iconst (-1), 1) := by decide +kernel
theorem dX0_append_10 : decode cX0_append 10 = .ok (.ireturn, 1) := by decide +kernel
theorem dX0_append_11 : decode cX0_append 11 = .ok (.aload_n 0, 1) := by decide +kernel
theorem dX0_append_12 : decode cX0_append 12 = .ok (.getfield 44, 3) := by decide +kernel
theorem dX0_append_15 : decode cX0_append 15 = .ok (.bipush 15, 2) := by decide +kernel
theorem dX0_append_17 : decode cX0_append 17 = .ok (.iand, 1) := by decide +kernel
theorem dX0_append_18 : decode cX0_append 18 = .ok (.istore 4, 2) := by decide +kernel
theorem dX0_append_20 : decode cX0_append 20 = .ok (.aload_n 0, 1) := by decide +kernel
theorem dX0_append_21 : decode cX0_append 21 = .ok (.getfield 7, 3) := by decide +kernel
theorem dX0_append_24 : decode cX0_append 24 = .ok (.iload 4, 2) := by decide +kernel
theorem dX0_append_26 : decode cX0_append 26 = .ok (.iload_n 1, 1) := by decide +kernel
theorem dX0_append_27 : decode cX0_append 27 = .ok (.iastore, 1) := by decide +kernel
theorem dX0_append_28 : decode cX0_append 28 = .ok (.aload_n 0, 1) := by decide +kernel
theorem dX0_append_29 : decode cX0_append 29 = .ok (.getfield 7, 3) := by decide +kernel
theorem dX0_append_32 : decode cX0_append 32 = .ok (.bipush 16, 2) := by decide +kernel
theorem dX0_append_34 : decode cX0_append 34 = .ok (.iload 4, 2) := by decide +kernel
theorem dX0_append_36 : decode cX0_append 36 = .ok (.iadd, 1) := by decide +kernel
theorem dX0_append_37 : decode cX0_append 37 = .ok (.iload_n 2, 1) := by decide +kernel
theorem dX0_append_38 : decode cX0_append 38 = .ok (.iastore, 1) := by decide +kernel
theorem dX0_append_39 : decode cX0_append 39 = .ok (.aload_n 0, 1) := by decide +kernel
theorem dX0_append_40 : decode cX0_append 40 = .ok (.getfield 7, 3) := by decide +kernel
theorem dX0_append_43 : decode cX0_append 43 = .ok (.bipush 32, 2) := by decide +kernel
theorem dX0_append_45 : decode cX0_append 45 = .ok (.iload 4, 2) := by decide +kernel
theorem dX0_append_47 : decode cX0_append 47 = .ok (.iadd, 1) := by decide +kernel
theorem dX0_append_48 : decode cX0_append 48 = .ok (.iload_n 3, 1) := by decide +kernel
theorem dX0_append_49 : decode cX0_append 49 = .ok (.iastore, 1) := by decide +kernel
theorem dX0_append_50 : decode cX0_append 50 = .ok (.aload_n 0, 1) := by decide +kernel
theorem dX0_append_51 : decode cX0_append 51 = .ok (.getfield 13, 3) := by decide +kernel
theorem dX0_append_54 : decode cX0_append 54 = .ok (.aload_n 0, 1) := by decide +kernel
theorem dX0_append_55 : decode cX0_append 55 = .ok (.getfield 44, 3) := by decide +kernel
theorem dX0_append_58 : decode cX0_append 58 = .ok (.iconst 4, 1) := by decide +kernel
theorem dX0_append_59 : decode cX0_append 59 = .ok (.ishr, 1) := by decide +kernel
theorem dX0_append_60 : decode cX0_append 60 = .ok (.dup2, 1) := by decide +kernel
theorem dX0_append_61 : decode cX0_append 61 = .ok (.iaload, 1) := by decide +kernel
theorem dX0_append_62 : decode cX0_append 62 = .ok (.iconst 1, 1) := by decide +kernel
theorem dX0_append_63 : decode cX0_append 63 = .ok (.iload 4, 2) := by decide +kernel
theorem dX0_append_65 : decode cX0_append 65 = .ok (.ishl, 1) := by decide +kernel
theorem dX0_append_66 : decode cX0_append 66 = .ok (.ior, 1) := by decide +kernel
theorem dX0_append_67 : decode cX0_append 67 = .ok (.iastore, 1) := by decide +kernel
theorem dX0_append_68 : decode cX0_append 68 = .ok (.aload_n 0, 1) := by decide +kernel
theorem dX0_append_69 : decode cX0_append 69 = .ok (.dup, 1) := by decide +kernel
theorem dX0_append_70 : decode cX0_append 70 = .ok (.getfield 44, 3) := by decide +kernel
theorem dX0_append_73 : decode cX0_append 73 = .ok (.iconst 1, 1) := by decide +kernel
theorem dX0_append_74 : decode cX0_append 74 = .ok (.iadd, 1) := by decide +kernel
theorem dX0_append_75 : decode cX0_append 75 = .ok (.putfield 44, 3) := by decide +kernel
theorem dX0_append_78 : decode cX0_append 78 = .ok (.iload 4, 2) := by decide +kernel
theorem dX0_append_80 : decode cX0_append 80 = .ok (.bipush 15, 2) := by decide +kernel
theorem dX0_append_82 : decode cX0_append 82 = .ok (.if_icmp .ne 41, 3) := by decide +kernel
theorem dX0_append_85 : decode cX0_append 85 = .ok (.iconst 0, 1) := by decide +kernel
theorem dX0_append_86 : decode cX0_append 86 = .ok (.istore 5, 2) := by decide +kernel
theorem dX0_append_88 : decode cX0_append 88 = .ok (.iload 5, 2) := by decide +kernel
theorem dX0_append_90 : decode cX0_append 90 = .ok (.iconst 3, 1) := by decide +kernel
theorem dX0_append_91 : decode cX0_append 91 = .ok (.if_icmp .ge 32, 3) := by decide +kernel
theorem dX0_append_94 : decode cX0_append 94 = .ok (.aload_n 0, 1) := by decide +kernel
theorem dX0_append_95 : decode cX0_append 95 = .ok (.iconst 3, 1) := by decide +kernel
theorem dX0_append_96 : decode cX0_append 96 = .ok (.aload_n 0, 1) := by decide +kernel
theorem dX0_append_97 : decode cX0_append 97 = .ok (.getfield 44, 3) := by decide +kernel
theorem dX0_append_100 : decode cX0_append 100 = .ok (.bipush 16, 2) := by decide +kernel
theorem dX0_append_102 : decode cX0_append 102 = .ok (.isub, 1) := by decide +kernel
theorem dX0_append_103 : decode cX0_append 103 = .ok (.iconst 4, 1) := by decide +kernel
theorem dX0_append_104 : decode cX0_append 104 = .ok (.ishr, 1) := by decide +kernel
theorem dX0_append_105 : decode cX0_append 105 = .ok (.imul, 1) := by decide +kernel
theorem dX0_append_106 : decode cX0_append 106 = .ok (.iload 5, 2) := by decide +kernel
theorem dX0_append_108 : decode cX0_append 108 = .ok (.iadd, 1) := by decide +kernel
theorem dX0_append_109 : decode cX0_append 109 = .ok (.bipush 16, 2) := by decide +kernel
theorem dX0_append_111 : decode cX0_append 111 = .ok (.iload 5, 2) := by decide +kernel
theorem dX0_append_113 : decode cX0_append 113 = .ok (.imul, 1) := by decide +kernel
theorem dX0_append_114 : decode cX0_append 114 = .ok (.invokevirtual 48, 3) := by decide +kernel
theorem dX0_append_117 : decode cX0_append 117 = .ok (.iinc 5 1, 3) := by decide +kernel
theorem dX0_append_120 : decode cX0_append 120 = .ok (.goto (-32), 3) := by decide +kernel
theorem dX0_append_123 : decode cX0_append 123 = .ok (.aload_n 0, 1) := by decide +kernel
theorem dX0_append_124 : decode cX0_append 124 = .ok (.getfield 44, 3) := by decide +kernel
theorem dX0_append_127 : decode cX0_append 127 = .ok (.iconst 1, 1) := by decide +kernel
theorem dX0_append_128 : decode cX0_append 128 = .ok (.isub, 1) := by decide +kernel
theorem dX0_append_129 : decode cX0_append 129 = .ok (.ireturn, 1) := by decide +kernel
abbrev cX0_closeColumn : ByteArray := prog_1_method_18_code
def yX0_closeColumn : MethodName := ⟨RX0, "closeColumn", "(II)V"⟩
theorem dX0_closeColumn_0 : decode cX0_closeColumn 0 = .ok (.aload_n 0, 1) := by decide +kernel
theorem dX0_closeColumn_1 : decode cX0_closeColumn 1 = .ok (.getfield 19, 3) := by decide +kernel
theorem dX0_closeColumn_4 : decode cX0_closeColumn 4 = .ok (.iload_n 1, 1) := by decide +kernel
theorem dX0_closeColumn_5 : decode cX0_closeColumn 5 = .ok (.aload_n 0, 1) := by decide +kernel
theorem dX0_closeColumn_6 : decode cX0_closeColumn 6 = .ok (.getfield 7, 3) := by decide +kernel
theorem dX0_closeColumn_9 : decode cX0_closeColumn 9 = .ok (.iload_n 2, 1) := by decide +kernel
theorem dX0_closeColumn_10 : decode cX0_closeColumn 10 = .ok (.iaload, 1) := by decide +kernel
theorem dX0_closeColumn_11 : decode cX0_closeColumn 11 = .ok (.iastore, 1) := by decide +kernel
theorem dX0_closeColumn_12 : decode cX0_closeColumn 12 = .ok (.aload_n 0, 1) := by decide +kernel
theorem dX0_closeColumn_13 : decode cX0_closeColumn 13 = .ok (.getfield 22, 3) := by decide +kernel
theorem dX0_closeColumn_16 : decode cX0_closeColumn 16 = .ok (.iload_n 1, 1) := by decide +kernel
theorem dX0_closeColumn_17 : decode cX0_closeColumn 17 = .ok (.aload_n 0, 1) := by decide +kernel
theorem dX0_closeColumn_18 : decode cX0_closeColumn 18 = .ok (.getfield 7, 3) := by decide +kernel
theorem dX0_closeColumn_21 : decode cX0_closeColumn 21 = .ok (.iload_n 2, 1) := by decide +kernel
theorem dX0_closeColumn_22 : decode cX0_closeColumn 22 = .ok (.iaload, 1) := by decide +kernel
theorem dX0_closeColumn_23 : decode cX0_closeColumn 23 = .ok (.iastore, 1) := by decide +kernel
theorem dX0_closeColumn_24 : decode cX0_closeColumn 24 = .ok (.iconst 1, 1) := by decide +kernel
theorem dX0_closeColumn_25 : decode cX0_closeColumn 25 = .ok (.istore_n 3, 1) := by decide +kernel
theorem dX0_closeColumn_26 : decode cX0_closeColumn 26 = .ok (.aload_n 0, 1) := by decide +kernel
theorem dX0_closeColumn_27 : decode cX0_closeColumn 27 = .ok (.iconst 0, 1) := by decide +kernel
theorem dX0_closeColumn_28 : decode cX0_closeColumn 28 = .ok (.putfield 79, 3) := by decide +kernel
theorem dX0_closeColumn_31 : decode cX0_closeColumn 31 = .ok (.iconst 0, 1) := by decide +kernel
theorem dX0_closeColumn_32 : decode cX0_closeColumn 32 = .ok (.istore 4, 2) := by decide +kernel
theorem dX0_closeColumn_34 : decode cX0_closeColumn 34 = .ok (.iload 4, 2) := by decide +kernel
theorem dX0_closeColumn_36 : decode cX0_closeColumn 36 = .ok (.bipush 16, 2) := by decide +kernel
theorem dX0_closeColumn_38 : decode cX0_closeColumn 38 = .ok (.if_icmp .ge 111, 3) := by decide +kernel
theorem dX0_closeColumn_41 : decode cX0_closeColumn 41 = .ok (.aload_n 0, 1) := by decide +kernel
theorem dX0_closeColumn_42 : decode cX0_closeColumn 42 = .ok (.getfield 7, 3) := by decide +kernel
theorem dX0_closeColumn_45 : decode cX0_closeColumn 45 = .ok (.iload_n 2, 1) := by decide +kernel
theorem dX0_closeColumn_46 : decode cX0_closeColumn 46 = .ok (.iload 4, 2) := by decide +kernel
theorem dX0_closeColumn_48 : decode cX0_closeColumn 48 = .ok (.iadd, 1) := by decide +kernel
theorem dX0_closeColumn_49 : decode cX0_closeColumn 49 = .ok (.iaload, 1) := by decide +kernel
theorem dX0_closeColumn_50 : decode cX0_closeColumn 50 = .ok (.istore 5, 2) := by decide +kernel
theorem dX0_closeColumn_52 : decode cX0_closeColumn 52 = .ok (.aload_n 0, 1) := by decide +kernel
theorem dX0_closeColumn_53 : decode cX0_closeColumn 53 = .ok (.getfield 19, 3) := by decide +kernel
theorem dX0_closeColumn_56 : decode cX0_closeColumn 56 = .ok (.iload_n 1, 1) := by decide +kernel
theorem dX0_closeColumn_57 : decode cX0_closeColumn 57 = .ok (.iload 5, 2) := by decide +kernel
theorem dX0_closeColumn_59 : decode cX0_closeColumn 59 = .ok (.aload_n 0, 1) := by decide +kernel
theorem dX0_closeColumn_60 : decode cX0_closeColumn 60 = .ok (.getfield 19, 3) := by decide +kernel
theorem dX0_closeColumn_63 : decode cX0_closeColumn 63 = .ok (.iload_n 1, 1) := by decide +kernel
theorem dX0_closeColumn_64 : decode cX0_closeColumn 64 = .ok (.iaload, 1) := by decide +kernel
theorem dX0_closeColumn_65 : decode cX0_closeColumn 65 = .ok (.if_icmp .ge 8, 3) := by decide +kernel
theorem dX0_closeColumn_68 : decode cX0_closeColumn 68 = .ok (.iload 5, 2) := by decide +kernel
theorem dX0_closeColumn_70 : decode cX0_closeColumn 70 = .ok (.goto 9, 3) := by decide +kernel
theorem dX0_closeColumn_73 : decode cX0_closeColumn 73 = .ok (.aload_n 0, 1) := by decide +kernel
theorem dX0_closeColumn_74 : decode cX0_closeColumn 74 = .ok (.getfield 19, 3) := by decide +kernel
theorem dX0_closeColumn_77 : decode cX0_closeColumn 77 = .ok (.iload_n 1, 1) := by decide +kernel
theorem dX0_closeColumn_78 : decode cX0_closeColumn 78 = .ok (.iaload, 1) := by decide +kernel
theorem dX0_closeColumn_79 : decode cX0_closeColumn 79 = .ok (.iastore, 1) := by decide +kernel
theorem dX0_closeColumn_80 : decode cX0_closeColumn 80 = .ok (.aload_n 0, 1) := by decide +kernel
theorem dX0_closeColumn_81 : decode cX0_closeColumn 81 = .ok (.getfield 22, 3) := by decide +kernel
theorem dX0_closeColumn_84 : decode cX0_closeColumn 84 = .ok (.iload_n 1, 1) := by decide +kernel
theorem dX0_closeColumn_85 : decode cX0_closeColumn 85 = .ok (.iload 5, 2) := by decide +kernel
theorem dX0_closeColumn_87 : decode cX0_closeColumn 87 = .ok (.aload_n 0, 1) := by decide +kernel
theorem dX0_closeColumn_88 : decode cX0_closeColumn 88 = .ok (.getfield 22, 3) := by decide +kernel
theorem dX0_closeColumn_91 : decode cX0_closeColumn 91 = .ok (.iload_n 1, 1) := by decide +kernel
theorem dX0_closeColumn_92 : decode cX0_closeColumn 92 = .ok (.iaload, 1) := by decide +kernel
theorem dX0_closeColumn_93 : decode cX0_closeColumn 93 = .ok (.if_icmp .le 8, 3) := by decide +kernel
theorem dX0_closeColumn_96 : decode cX0_closeColumn 96 = .ok (.iload 5, 2) := by decide +kernel
theorem dX0_closeColumn_98 : decode cX0_closeColumn 98 = .ok (.goto 9, 3) := by decide +kernel
theorem dX0_closeColumn_101 : decode cX0_closeColumn 101 = .ok (.aload_n 0, 1) := by decide +kernel
theorem dX0_closeColumn_102 : decode cX0_closeColumn 102 = .ok (.getfield 22, 3) := by decide +kernel
theorem dX0_closeColumn_105 : decode cX0_closeColumn 105 = .ok (.iload_n 1, 1) := by decide +kernel
theorem dX0_closeColumn_106 : decode cX0_closeColumn 106 = .ok (.iaload, 1) := by decide +kernel
theorem dX0_closeColumn_107 : decode cX0_closeColumn 107 = .ok (.iastore, 1) := by decide +kernel
theorem dX0_closeColumn_108 : decode cX0_closeColumn 108 = .ok (.iload_n 3, 1) := by decide +kernel
theorem dX0_closeColumn_109 : decode cX0_closeColumn 109 = .ok (.iload 4, 2) := by decide +kernel
theorem dX0_closeColumn_111 : decode cX0_closeColumn 111 = .ok (.ifCond .le 23, 3) := by decide +kernel
theorem dX0_closeColumn_114 : decode cX0_closeColumn 114 = .ok (.aload_n 0, 1) := by decide +kernel
theorem dX0_closeColumn_115 : decode cX0_closeColumn 115 = .ok (.getfield 7, 3) := by decide +kernel
theorem dX0_closeColumn_118 : decode cX0_closeColumn 118 = .ok (.iload_n 2, 1) := by decide +kernel
theorem dX0_closeColumn_119 : decode cX0_closeColumn 119 = .ok (.iload 4, 2) := by decide +kernel
theorem dX0_closeColumn_121 : decode cX0_closeColumn 121 = .ok (.iadd, 1) := by decide +kernel
theorem dX0_closeColumn_122 : decode cX0_closeColumn 122 = .ok (.iconst 1, 1) := by decide +kernel
theorem dX0_closeColumn_123 : decode cX0_closeColumn 123 = .ok (.isub, 1) := by decide +kernel
theorem dX0_closeColumn_124 : decode cX0_closeColumn 124 = .ok (.iaload, 1) := by decide +kernel
theorem dX0_closeColumn_125 : decode cX0_closeColumn 125 = .ok (.iload 5, 2) := by decide +kernel
theorem dX0_closeColumn_127 : decode cX0_closeColumn 127 = .ok (.if_icmp .eq 7, 3) := by decide +kernel
theorem dX0_closeColumn_130 : decode cX0_closeColumn 130 = .ok (.iconst 1, 1) := by decide +kernel
theorem dX0_closeColumn_131 : decode cX0_closeColumn 131 = .ok (.goto 4, 3) := by decide +kernel
theorem dX0_closeColumn_134 : decode cX0_closeColumn 134 = .ok (.iconst 0, 1) := by decide +kernel
theorem dX0_closeColumn_135 : decode cX0_closeColumn 135 = .ok (.iadd, 1) := by decide +kernel
theorem dX0_closeColumn_136 : decode cX0_closeColumn 136 = .ok (.istore_n 3, 1) := by decide +kernel
theorem dX0_closeColumn_137 : decode cX0_closeColumn 137 = .ok (.aload_n 0, 1) := by decide +kernel
theorem dX0_closeColumn_138 : decode cX0_closeColumn 138 = .ok (.iload 5, 2) := by decide +kernel
theorem dX0_closeColumn_140 : decode cX0_closeColumn 140 = .ok (.invokevirtual 82, 3) := by decide +kernel
theorem dX0_closeColumn_143 : decode cX0_closeColumn 143 = .ok (.iinc 4 1, 3) := by decide +kernel
theorem dX0_closeColumn_146 : decode cX0_closeColumn 146 = .ok (.goto (-112), 3) := by decide +kernel
theorem dX0_closeColumn_149 : decode cX0_closeColumn 149 = .ok (.aload_n 0, 1) := by decide +kernel
theorem dX0_closeColumn_150 : decode cX0_closeColumn 150 = .ok (.getfield 22, 3) := by decide +kernel
theorem dX0_closeColumn_153 : decode cX0_closeColumn 153 = .ok (.iload_n 1, 1) := by decide +kernel
theorem dX0_closeColumn_154 : decode cX0_closeColumn 154 = .ok (.iaload, 1) := by decide +kernel
theorem dX0_closeColumn_155 : decode cX0_closeColumn 155 = .ok (.aload_n 0, 1) := by decide +kernel
theorem dX0_closeColumn_156 : decode cX0_closeColumn 156 = .ok (.getfield 19, 3) := by decide +kernel
theorem dX0_closeColumn_159 : decode cX0_closeColumn 159 = .ok (.iload_n 1, 1) := by decide +kernel
theorem dX0_closeColumn_160 : decode cX0_closeColumn 160 = .ok (.iaload, 1) := by decide +kernel
theorem dX0_closeColumn_161 : decode cX0_closeColumn 161 = .ok (.isub, 1) := by decide +kernel
theorem dX0_closeColumn_162 : decode cX0_closeColumn 162 = .ok (.invokestatic 86, 3) := by decide +kernel
theorem dX0_closeColumn_165 : decode cX0_closeColumn 165 = .ok (.istore 4, 2) := by decide +kernel
theorem dX0_closeColumn_167 : decode cX0_closeColumn 167 = .ok (.aload_n 0, 1) := by decide +kernel
theorem dX0_closeColumn_168 : decode cX0_closeColumn 168 = .ok (.getfield 79, 3) := by decide +kernel
theorem dX0_closeColumn_171 : decode cX0_closeColumn 171 = .ok (.iconst 1, 1) := by decide +kernel
theorem dX0_closeColumn_172 : decode cX0_closeColumn 172 = .ok (.isub, 1) := by decide +kernel
theorem dX0_closeColumn_173 : decode cX0_closeColumn 173 = .ok (.invokestatic 86, 3) := by decide +kernel
theorem dX0_closeColumn_176 : decode cX0_closeColumn 176 = .ok (.istore 5, 2) := by decide +kernel
theorem dX0_closeColumn_178 : decode cX0_closeColumn 178 = .ok (.iload 4, 2) := by decide +kernel
theorem dX0_closeColumn_180 : decode cX0_closeColumn 180 = .ok (.iconst 1, 1) := by decide +kernel
theorem dX0_closeColumn_181 : decode cX0_closeColumn 181 = .ok (.iadd, 1) := by decide +kernel
theorem dX0_closeColumn_182 : decode cX0_closeColumn 182 = .ok (.iconst 1, 1) := by decide +kernel
theorem dX0_closeColumn_183 : decode cX0_closeColumn 183 = .ok (.ishr, 1) := by decide +kernel
theorem dX0_closeColumn_184 : decode cX0_closeColumn 184 = .ok (.istore 6, 2) := by decide +kernel
theorem dX0_closeColumn_186 : decode cX0_closeColumn 186 = .ok (.aload_n 0, 1) := by decide +kernel
theorem dX0_closeColumn_187 : decode cX0_closeColumn 187 = .ok (.getfield 79, 3) := by decide +kernel
theorem dX0_closeColumn_190 : decode cX0_closeColumn 190 = .ok (.iload 5, 2) := by decide +kernel
theorem dX0_closeColumn_192 : decode cX0_closeColumn 192 = .ok (.iconst 1, 1) := by decide +kernel
theorem dX0_closeColumn_193 : decode cX0_closeColumn 193 = .ok (.iadd, 1) := by decide +kernel
theorem dX0_closeColumn_194 : decode cX0_closeColumn 194 = .ok (.iconst 1, 1) := by decide +kernel
theorem dX0_closeColumn_195 : decode cX0_closeColumn 195 = .ok (.ishr, 1) := by decide +kernel
theorem dX0_closeColumn_196 : decode cX0_closeColumn 196 = .ok (.iadd, 1) := by decide +kernel
theorem dX0_closeColumn_197 : decode cX0_closeColumn 197 = .ok (.istore 7, 2) := by decide +kernel
theorem dX0_closeColumn_199 : decode cX0_closeColumn 199 = .ok (.iconst 2, 1) := by decide +kernel
theorem dX0_closeColumn_200 : decode cX0_closeColumn 200 = .ok (.iload_n 3, 1) := by decide +kernel
theorem dX0_closeColumn_201 : decode cX0_closeColumn 201 = .ok (.imul, 1) := by decide +kernel
theorem dX0_closeColumn_202 : decode cX0_closeColumn 202 = .ok (.iload 6, 2) := by decide +kernel
theorem dX0_closeColumn_204 : decode cX0_closeColumn 204 = .ok (.if_icmp .gt 20, 3) := by decide +kernel
theorem dX0_closeColumn_207 : decode cX0_closeColumn 207 = .ok (.iconst 2, 1) := by decide +kernel
theorem dX0_closeColumn_208 : decode cX0_closeColumn 208 = .ok (.iload_n 3, 1) := by decide +kernel
theorem dX0_closeColumn_209 : decode cX0_closeColumn 209 = .ok (.imul, 1) := by decide +kernel
theorem dX0_closeColumn_210 : decode cX0_closeColumn 210 = .ok (.iload 7, 2) := by decide +kernel
theorem dX0_closeColumn_212 : decode cX0_closeColumn 212 = .ok (.if_icmp .gt 12, 3) := by decide +kernel
theorem dX0_closeColumn_215 : decode cX0_closeColumn 215 = .ok (.aload_n 0, 1) := by decide +kernel
theorem dX0_closeColumn_216 : decode cX0_closeColumn 216 = .ok (.iload_n 1, 1) := by decide +kernel
theorem dX0_closeColumn_217 : decode cX0_closeColumn 217 = .ok (.iload_n 2, 1) := by decide +kernel
theorem dX0_closeColumn_218 : decode cX0_closeColumn 218 = .ok (.invokevirtual 89, 3) := by decide +kernel
theorem dX0_closeColumn_221 : decode cX0_closeColumn 221 = .ok (.goto 45, 3) := by decide +kernel
theorem dX0_closeColumn_224 : decode cX0_closeColumn 224 = .ok (.iload 7, 2) := by decide +kernel
theorem dX0_closeColumn_226 : decode cX0_closeColumn 226 = .ok (.iload 6, 2) := by decide +kernel
theorem dX0_closeColumn_228 : decode cX0_closeColumn 228 = .ok (.if_icmp .ge 14, 3) := by decide +kernel
theorem dX0_closeColumn_231 : decode cX0_closeColumn 231 = .ok (.aload_n 0, 1) := by decide +kernel
theorem dX0_closeColumn_232 : decode cX0_closeColumn 232 = .ok (.iload_n 1, 1) := by decide +kernel
theorem dX0_closeColumn_233 : decode cX0_closeColumn 233 = .ok (.iload_n 2, 1) := by decide +kernel
theorem dX0_closeColumn_234 : decode cX0_closeColumn 234 = .ok (.iload 5, 2) := by decide +kernel
theorem dX0_closeColumn_236 : decode cX0_closeColumn 236 = .ok (.invokevirtual 92, 3) := by decide +kernel
theorem dX0_closeColumn_239 : decode cX0_closeColumn 239 = .ok (.goto 27, 3) := by decide +kernel
theorem dX0_closeColumn_242 : decode cX0_closeColumn 242 = .ok (.iload 4, 2) := by decide +kernel
theorem dX0_closeColumn_244 : decode cX0_closeColumn 244 = .ok (.bipush 32, 2) := by decide +kernel
theorem dX0_closeColumn_246 : decode cX0_closeColumn 246 = .ok (.if_icmp .ge 14, 3) := by decide +kernel
theorem dX0_closeColumn_249 : decode cX0_closeColumn 249 = .ok (.aload_n 0, 1) := by decide +kernel
theorem dX0_closeColumn_250 : decode cX0_closeColumn 250 = .ok (.iload_n 1, 1) := by decide +kernel
theorem dX0_closeColumn_251 : decode cX0_closeColumn 251 = .ok (.iload_n 2, 1) := by decide +kernel
theorem dX0_closeColumn_252 : decode cX0_closeColumn 252 = .ok (.iload 4, 2) := by decide +kernel
theorem dX0_closeColumn_254 : decode cX0_closeColumn 254 = .ok (.invokevirtual 96, 3) := by decide +kernel
theorem dX0_closeColumn_257 : decode cX0_closeColumn 257 = .ok (.goto 9, 3) := by decide +kernel
theorem dX0_closeColumn_260 : decode cX0_closeColumn 260 = .ok (.aload_n 0, 1) := by decide +kernel
theorem dX0_closeColumn_261 : decode cX0_closeColumn 261 = .ok (.iload_n 1, 1) := by decide +kernel
theorem dX0_closeColumn_262 : decode cX0_closeColumn 262 = .ok (.iload_n 2, 1) := by decide +kernel
theorem dX0_closeColumn_263 : decode cX0_closeColumn 263 = .ok (.invokevirtual 99, 3) := by decide +kernel
theorem dX0_closeColumn_266 : decode cX0_closeColumn 266 = .ok (.return_, 1) := by decide +kernel
abbrev cX0_addValue : ByteArray := prog_1_method_17_code
def yX0_addValue : MethodName := ⟨RX0, "addValue", "(I)V"⟩
theorem dX0_addValue_0 : decode cX0_addValue 0 = .ok (.iconst 0, 1) := by decide +kernel
theorem dX0_addValue_1 : decode cX0_addValue 1 = .ok (.istore_n 2, 1) := by decide +kernel
theorem dX0_addValue_2 : decode cX0_addValue 2 = .ok (.aload_n 0, 1) := by decide +kernel
theorem dX0_addValue_3 : decode cX0_addValue 3 = .ok (.getfield 79, 3) := by decide +kernel
theorem dX0_addValue_6 : decode cX0_addValue 6 = .ok (.istore_n 3, 1) := by decide +kernel
theorem dX0_addValue_7 : decode cX0_addValue 7 = .ok (.iconst 0, 1) := by decide +kernel
theorem dX0_addValue_8 : decode cX0_addValue 8 = .ok (.istore 4, 2) := by decide +kernel
theorem dX0_addValue_10 : decode cX0_addValue 10 = .ok (.iload 4, 2) := by decide +kernel
theorem dX0_addValue_12 : decode cX0_addValue 12 = .ok (.bipush 7, 2) := by decide +kernel
theorem dX0_addValue_14 : decode cX0_addValue 14 = .ok (.if_icmp .ge 43, 3) := by decide +kernel
theorem dX0_addValue_17 : decode cX0_addValue 17 = .ok (.iload_n 2, 1) := by decide +kernel
theorem dX0_addValue_18 : decode cX0_addValue 18 = .ok (.iload_n 3, 1) := by decide +kernel
theorem dX0_addValue_19 : decode cX0_addValue 19 = .ok (.if_icmp .ge 38, 3) := by decide +kernel
theorem dX0_addValue_22 : decode cX0_addValue 22 = .ok (.iload_n 2, 1) := by decide +kernel
theorem dX0_addValue_23 : decode cX0_addValue 23 = .ok (.iload_n 3, 1) := by decide +kernel
theorem dX0_addValue_24 : decode cX0_addValue 24 = .ok (.iadd, 1) := by decide +kernel
theorem dX0_addValue_25 : decode cX0_addValue 25 = .ok (.iconst 2, 1) := by decide +kernel
theorem dX0_addValue_26 : decode cX0_addValue 26 = .ok (.idiv, 1) := by decide +kernel
theorem dX0_addValue_27 : decode cX0_addValue 27 = .ok (.istore 5, 2) := by decide +kernel
theorem dX0_addValue_29 : decode cX0_addValue 29 = .ok (.aload_n 0, 1) := by decide +kernel
theorem dX0_addValue_30 : decode cX0_addValue 30 = .ok (.getfield 41, 3) := by decide +kernel
theorem dX0_addValue_33 : decode cX0_addValue 33 = .ok (.iload 5, 2) := by decide +kernel
theorem dX0_addValue_35 : decode cX0_addValue 35 = .ok (.iaload, 1) := by decide +kernel
theorem dX0_addValue_36 : decode cX0_addValue 36 = .ok (.iload_n 1, 1) := by decide +kernel
theorem dX0_addValue_37 : decode cX0_addValue 37 = .ok (.if_icmp .ge 11, 3) := by decide +kernel
theorem dX0_addValue_40 : decode cX0_addValue 40 = .ok (.iload 5, 2) := by decide +kernel
theorem dX0_addValue_42 : decode cX0_addValue 42 = .ok (.iconst 1, 1) := by decide +kernel
theorem dX0_addValue_43 : decode cX0_addValue 43 = .ok (.iadd, 1) := by decide +kernel
theorem dX0_addValue_44 : decode cX0_addValue 44 = .ok (.istore_n 2, 1) := by decide +kernel
theorem dX0_addValue_45 : decode cX0_addValue 45 = .ok (.goto 6, 3) := by decide +kernel
theorem dX0_addValue_48 : decode cX0_addValue 48 = .ok (.iload 5, 2) := by decide +kernel
theorem dX0_addValue_50 : decode cX0_addValue 50 = .ok (.istore_n 3, 1) := by decide +kernel
theorem dX0_addValue_51 : decode cX0_addValue 51 = .ok (.iinc 4 1, 3) := by decide +kernel
theorem dX0_addValue_54 : decode cX0_addValue 54 = .ok (.goto (-44), 3) := by decide +kernel
theorem dX0_addValue_57 : decode cX0_addValue 57 = .ok (.iload_n 2, 1) := by decide +kernel
theorem dX0_addValue_58 : decode cX0_addValue 58 = .ok (.aload_n 0, 1) := by decide +kernel
theorem dX0_addValue_59 : decode cX0_addValue 59 = .ok (.getfield 79, 3) := by decide +kernel
theorem dX0_addValue_62 : decode cX0_addValue 62 = .ok (.if_icmp .ge 14, 3) := by decide +kernel
theorem dX0_addValue_65 : decode cX0_addValue 65 = .ok (.aload_n 0, 1) := by decide +kernel
theorem dX0_addValue_66 : decode cX0_addValue 66 = .ok (.getfield 41, 3) := by decide +kernel
theorem dX0_addValue_69 : decode cX0_addValue 69 = .ok (.iload_n 2, 1) := by decide +kernel
theorem dX0_addValue_70 : decode cX0_addValue 70 = .ok (.iaload, 1) := by decide +kernel
theorem dX0_addValue_71 : decode cX0_addValue 71 = .ok (.iload_n 1, 1) := by decide +kernel
theorem dX0_addValue_72 : decode cX0_addValue 72 = .ok (.if_icmp .ne 4, 3) := by decide +kernel
theorem dX0_addValue_75 : decode cX0_addValue 75 = .ok (.return_, 1) := by decide +kernel
theorem dX0_addValue_76 : decode cX0_addValue 76 = .ok (.aload_n 0, 1) := by decide +kernel
theorem dX0_addValue_77 : decode cX0_addValue 77 = .ok (.getfield 79, 3) := by decide +kernel
theorem dX0_addValue_80 : decode cX0_addValue 80 = .ok (.istore 4, 2) := by decide +kernel
theorem dX0_addValue_82 : decode cX0_addValue 82 = .ok (.iload 4, 2) := by decide +kernel
theorem dX0_addValue_84 : decode cX0_addValue 84 = .ok (.iload_n 2, 1) := by decide +kernel
theorem dX0_addValue_85 : decode cX0_addValue 85 = .ok (.if_icmp .le 25, 3) := by decide +kernel
theorem dX0_addValue_88 : decode cX0_addValue 88 = .ok (.aload_n 0, 1) := by decide +kernel
theorem dX0_addValue_89 : decode cX0_addValue 89 = .ok (.getfield 41, 3) := by decide +kernel
theorem dX0_addValue_92 : decode cX0_addValue 92 = .ok (.iload 4, 2) := by decide +kernel
theorem dX0_addValue_94 : decode cX0_addValue 94 = .ok (.aload_n 0, 1) := by decide +kernel
theorem dX0_addValue_95 : decode cX0_addValue 95 = .ok (.getfield 41, 3) := by decide +kernel
theorem dX0_addValue_98 : decode cX0_addValue 98 = .ok (.iload 4, 2) := by decide +kernel
theorem dX0_addValue_100 : decode cX0_addValue 100 = .ok (.iconst 1, 1) := by decide +kernel
theorem dX0_addValue_101 : decode cX0_addValue 101 = .ok (.isub, 1) := by decide +kernel
theorem dX0_addValue_102 : decode cX0_addValue 102 = .ok (.iaload, 1) := by decide +kernel
theorem dX0_addValue_103 : decode cX0_addValue 103 = .ok (.iastore, 1) := by decide +kernel
theorem dX0_addValue_104 : decode cX0_addValue 104 = .ok (.iinc 4 (-1), 3) := by decide +kernel
theorem dX0_addValue_107 : decode cX0_addValue 107 = .ok (.goto (-25), 3) := by decide +kernel
theorem dX0_addValue_110 : decode cX0_addValue 110 = .ok (.aload_n 0, 1) := by decide +kernel
theorem dX0_addValue_111 : decode cX0_addValue 111 = .ok (.getfield 41, 3) := by decide +kernel
theorem dX0_addValue_114 : decode cX0_addValue 114 = .ok (.iload_n 2, 1) := by decide +kernel
theorem dX0_addValue_115 : decode cX0_addValue 115 = .ok (.iload_n 1, 1) := by decide +kernel
theorem dX0_addValue_116 : decode cX0_addValue 116 = .ok (.iastore, 1) := by decide +kernel
theorem dX0_addValue_117 : decode cX0_addValue 117 = .ok (.aload_n 0, 1) := by decide +kernel
theorem dX0_addValue_118 : decode cX0_addValue 118 = .ok (.dup, 1) := by decide +kernel
theorem dX0_addValue_119 : decode cX0_addValue 119 = .ok (.getfield 79, 3) := by decide +kernel
theorem dX0_addValue_122 : decode cX0_addValue 122 = .ok (.iconst 1, 1) := by decide +kernel
theorem dX0_addValue_123 : decode cX0_addValue 123 = .ok (.iadd, 1) := by decide +kernel
theorem dX0_addValue_124 : decode cX0_addValue 124 = .ok (.putfield 79, 3) := by decide +kernel
theorem dX0_addValue_127 : decode cX0_addValue 127 = .ok (.return_, 1) := by decide +kernel
abbrev cX0_bitsFor : ByteArray := prog_1_method_19_code
def yX0_bitsFor : MethodName := ⟨RX0, "bitsFor", "(I)I"⟩
theorem dX0_bitsFor_0 : decode cX0_bitsFor 0 = .ok (.iconst 0, 1) := by decide +kernel
theorem dX0_bitsFor_1 : decode cX0_bitsFor 1 = .ok (.istore_n 1, 1) := by decide +kernel
theorem dX0_bitsFor_2 : decode cX0_bitsFor 2 = .ok (.iconst 0, 1) := by decide +kernel
theorem dX0_bitsFor_3 : decode cX0_bitsFor 3 = .ok (.istore_n 2, 1) := by decide +kernel
theorem dX0_bitsFor_4 : decode cX0_bitsFor 4 = .ok (.iload_n 2, 1) := by decide +kernel
theorem dX0_bitsFor_5 : decode cX0_bitsFor 5 = .ok (.bipush 32, 2) := by decide +kernel
theorem dX0_bitsFor_7 : decode cX0_bitsFor 7 = .ok (.if_icmp .ge 25, 3) := by decide +kernel
theorem dX0_bitsFor_10 : decode cX0_bitsFor 10 = .ok (.iload_n 0, 1) := by decide +kernel
theorem dX0_bitsFor_11 : decode cX0_bitsFor 11 = .ok (.iload_n 2, 1) := by decide +kernel
theorem dX0_bitsFor_12 : decode cX0_bitsFor 12 = .ok (.iushr, 1) := by decide +kernel
theorem dX0_bitsFor_13 : decode cX0_bitsFor 13 = .ok (.iconst 1, 1) := by decide +kernel
theorem dX0_bitsFor_14 : decode cX0_bitsFor 14 = .ok (.iand, 1) := by decide +kernel
theorem dX0_bitsFor_15 : decode cX0_bitsFor 15 = .ok (.ifCond .eq 9, 3) := by decide +kernel
theorem dX0_bitsFor_18 : decode cX0_bitsFor 18 = .ok (.iload_n 2, 1) := by decide +kernel
theorem dX0_bitsFor_19 : decode cX0_bitsFor 19 = .ok (.iconst 1, 1) := by decide +kernel
theorem dX0_bitsFor_20 : decode cX0_bitsFor 20 = .ok (.iadd, 1) := by decide +kernel
theorem dX0_bitsFor_21 : decode cX0_bitsFor 21 = .ok (.goto 4, 3) := by decide +kernel
theorem dX0_bitsFor_24 : decode cX0_bitsFor 24 = .ok (.iload_n 1, 1) := by decide +kernel
theorem dX0_bitsFor_25 : decode cX0_bitsFor 25 = .ok (.istore_n 1, 1) := by decide +kernel
theorem dX0_bitsFor_26 : decode cX0_bitsFor 26 = .ok (.iinc 2 1, 3) := by decide +kernel
theorem dX0_bitsFor_29 : decode cX0_bitsFor 29 = .ok (.goto (-25), 3) := by decide +kernel
theorem dX0_bitsFor_32 : decode cX0_bitsFor 32 = .ok (.iload_n 1, 1) := by decide +kernel
theorem dX0_bitsFor_33 : decode cX0_bitsFor 33 = .ok (.ireturn, 1) := by decide +kernel
abbrev cX0_writeRuns : ByteArray := prog_1_method_20_code
def yX0_writeRuns : MethodName := ⟨RX0, "writeRuns", "(II)V"⟩
theorem dX0_writeRuns_0 : decode cX0_writeRuns 0 = .ok (.aload_n 0, 1) := by decide +kernel
theorem dX0_writeRuns_1 : decode cX0_writeRuns 1 = .ok (.getfield 16, 3) := by decide +kernel
theorem dX0_writeRuns_4 : decode cX0_writeRuns 4 = .ok (.iload_n 1, 1) := by decide +kernel
theorem dX0_writeRuns_5 : decode cX0_writeRuns 5 = .ok (.iconst 1, 1) := by decide +kernel
theorem dX0_writeRuns_6 : decode cX0_writeRuns 6 = .ok (.iastore, 1) := by decide +kernel
theorem dX0_writeRuns_7 : decode cX0_writeRuns 7 = .ok (.iconst 0, 1) := by decide +kernel
theorem dX0_writeRuns_8 : decode cX0_writeRuns 8 = .ok (.istore_n 3, 1) := by decide +kernel
theorem dX0_writeRuns_9 : decode cX0_writeRuns 9 = .ok (.iconst 0, 1) := by decide +kernel
theorem dX0_writeRuns_10 : decode cX0_writeRuns 10 = .ok (.istore 4, 2) := by decide +kernel
theorem dX0_writeRuns_12 : decode cX0_writeRuns 12 = .ok (.iload 4, 2) := by decide +kernel
theorem dX0_writeRuns_14 : decode cX0_writeRuns 14 = .ok (.bipush 16, 2) := by decide +kernel
theorem dX0_writeRuns_16 : decode cX0_writeRuns 16 = .ok (.if_icmp .ge 100, 3) := by decide +kernel
theorem dX0_writeRuns_19 : decode cX0_writeRuns 19 = .ok (.iload 4, 2) := by decide +kernel
theorem dX0_writeRuns_21 : decode cX0_writeRuns 21 = .ok (.ifCond .eq 26, 3) := by decide +kernel
theorem dX0_writeRuns_24 : decode cX0_writeRuns 24 = .ok (.aload_n 0, 1) := by decide +kernel
theorem dX0_writeRuns_25 : decode cX0_writeRuns 25 = .ok (.getfield 7, 3) := by decide +kernel
theorem dX0_writeRuns_28 : decode cX0_writeRuns 28 = .ok (.iload_n 2, 1) := by decide +kernel
theorem dX0_writeRuns_29 : decode cX0_writeRuns 29 = .ok (.iload 4, 2) := by decide +kernel
theorem dX0_writeRuns_31 : decode cX0_writeRuns 31 = .ok (.iadd, 1) := by decide +kernel
theorem dX0_writeRuns_32 : decode cX0_writeRuns 32 = .ok (.iaload, 1) := by decide +kernel
theorem dX0_writeRuns_33 : decode cX0_writeRuns 33 = .ok (.aload_n 0, 1) := by decide +kernel
theorem dX0_writeRuns_34 : decode cX0_writeRuns 34 = .ok (.getfield 7, 3) := by decide +kernel
theorem dX0_writeRuns_37 : decode cX0_writeRuns 37 = .ok (.iload_n 2, 1) := by decide +kernel
theorem dX0_writeRuns_38 : decode cX0_writeRuns 38 = .ok (.iload 4, 2) := by decide +kernel
theorem dX0_writeRuns_40 : decode cX0_writeRuns 40 = .ok (.iadd, 1) := by decide +kernel
theorem dX0_writeRuns_41 : decode cX0_writeRuns 41 = .ok (.iconst 1, 1) := by decide +kernel
theorem dX0_writeRuns_42 : decode cX0_writeRuns 42 = .ok (.isub, 1) := by decide +kernel
theorem dX0_writeRuns_43 : decode cX0_writeRuns 43 = .ok (.iaload, 1) := by decide +kernel
theorem dX0_writeRuns_44 : decode cX0_writeRuns 44 = .ok (.if_icmp .eq 44, 3) := by decide +kernel
theorem dX0_writeRuns_47 : decode cX0_writeRuns 47 = .ok (.aload_n 0, 1) := by decide +kernel
theorem dX0_writeRuns_48 : decode cX0_writeRuns 48 = .ok (.getfield 28, 3) := by decide +kernel
theorem dX0_writeRuns_51 : decode cX0_writeRuns 51 = .ok (.bipush 34, 2) := by decide +kernel
theorem dX0_writeRuns_53 : decode cX0_writeRuns 53 = .ok (.iload_n 1, 1) := by decide +kernel
theorem dX0_writeRuns_54 : decode cX0_writeRuns 54 = .ok (.imul, 1) := by decide +kernel
theorem dX0_writeRuns_55 : decode cX0_writeRuns 55 = .ok (.iconst 2, 1) := by decide +kernel
theorem dX0_writeRuns_56 : decode cX0_writeRuns 56 = .ok (.iload_n 3, 1) := by decide +kernel
theorem dX0_writeRuns_57 : decode cX0_writeRuns 57 = .ok (.imul, 1) := by decide +kernel
theorem dX0_writeRuns_58 : decode cX0_writeRuns 58 = .ok (.iadd, 1) := by decide +kernel
theorem dX0_writeRuns_59 : decode cX0_writeRuns 59 = .ok (.aload_n 0, 1) := by decide +kernel
theorem dX0_writeRuns_60 : decode cX0_writeRuns 60 = .ok (.getfield 7, 3) := by decide +kernel
theorem dX0_writeRuns_63 : decode cX0_writeRuns 63 = .ok (.iload_n 2, 1) := by decide +kernel
theorem dX0_writeRuns_64 : decode cX0_writeRuns 64 = .ok (.iload 4, 2) := by decide +kernel
theorem dX0_writeRuns_66 : decode cX0_writeRuns 66 = .ok (.iadd, 1) := by decide +kernel
theorem dX0_writeRuns_67 : decode cX0_writeRuns 67 = .ok (.iaload, 1) := by decide +kernel
theorem dX0_writeRuns_68 : decode cX0_writeRuns 68 = .ok (.iastore, 1) := by decide +kernel
theorem dX0_writeRuns_69 : decode cX0_writeRuns 69 = .ok (.aload_n 0, 1) := by decide +kernel
theorem dX0_writeRuns_70 : decode cX0_writeRuns 70 = .ok (.getfield 28, 3) := by decide +kernel
theorem dX0_writeRuns_73 : decode cX0_writeRuns 73 = .ok (.bipush 34, 2) := by decide +kernel
theorem dX0_writeRuns_75 : decode cX0_writeRuns 75 = .ok (.iload_n 1, 1) := by decide +kernel
theorem dX0_writeRuns_76 : decode cX0_writeRuns 76 = .ok (.imul, 1) := by decide +kernel
theorem dX0_writeRuns_77 : decode cX0_writeRuns 77 = .ok (.iconst 2, 1) := by decide +kernel
theorem dX0_writeRuns_78 : decode cX0_writeRuns 78 = .ok (.iload_n 3, 1) := by decide +kernel
theorem dX0_writeRuns_79 : decode cX0_writeRuns 79 = .ok (.imul, 1) := by decide +kernel
theorem dX0_writeRuns_80 : decode cX0_writeRuns 80 = .ok (.iadd, 1) := by decide +kernel
theorem dX0_writeRuns_81 : decode cX0_writeRuns 81 = .ok (.iconst 1, 1) := by decide +kernel
theorem dX0_writeRuns_82 : decode cX0_writeRuns 82 = .ok (.iadd, 1) := by decide +kernel
theorem dX0_writeRuns_83 : decode cX0_writeRuns 83 = .ok (.iconst 0, 1) := by decide +kernel
theorem dX0_writeRuns_84 : decode cX0_writeRuns 84 = .ok (.iastore, 1) := by decide +kernel
theorem dX0_writeRuns_85 : decode cX0_writeRuns 85 = .ok (.iinc 3 1, 3) := by decide +kernel
theorem dX0_writeRuns_88 : decode cX0_writeRuns 88 = .ok (.aload_n 0, 1) := by decide +kernel
theorem dX0_writeRuns_89 : decode cX0_writeRuns 89 = .ok (.getfield 28, 3) := by decide +kernel
theorem dX0_writeRuns_92 : decode cX0_writeRuns 92 = .ok (.bipush 34, 2) := by decide +kernel
theorem dX0_writeRuns_94 : decode cX0_writeRuns 94 = .ok (.iload_n 1, 1) := by decide +kernel
theorem dX0_writeRuns_95 : decode cX0_writeRuns 95 = .ok (.imul, 1) := by decide +kernel
theorem dX0_writeRuns_96 : decode cX0_writeRuns 96 = .ok (.iconst 2, 1) := by decide +kernel
theorem dX0_writeRuns_97 : decode cX0_writeRuns 97 = .ok (.iload_n 3, 1) := by decide +kernel
theorem dX0_writeRuns_98 : decode cX0_writeRuns 98 = .ok (.imul, 1) := by decide +kernel
theorem dX0_writeRuns_99 : decode cX0_writeRuns 99 = .ok (.iadd, 1) := by decide +kernel
theorem dX0_writeRuns_100 : decode cX0_writeRuns 100 = .ok (.iconst 1, 1) := by decide +kernel
theorem dX0_writeRuns_101 : decode cX0_writeRuns 101 = .ok (.isub, 1) := by decide +kernel
theorem dX0_writeRuns_102 : decode cX0_writeRuns 102 = .ok (.dup2, 1) := by decide +kernel
theorem dX0_writeRuns_103 : decode cX0_writeRuns 103 = .ok (.iaload, 1) := by decide +kernel
theorem dX0_writeRuns_104 : decode cX0_writeRuns 104 = .ok (.iconst 1, 1) := by decide +kernel
theorem dX0_writeRuns_105 : decode cX0_writeRuns 105 = .ok (.iload 4, 2) := by decide +kernel
theorem dX0_writeRuns_107 : decode cX0_writeRuns 107 = .ok (.ishl, 1) := by decide +kernel
theorem dX0_writeRuns_108 : decode cX0_writeRuns 108 = .ok (.ior, 1) := by decide +kernel
theorem dX0_writeRuns_109 : decode cX0_writeRuns 109 = .ok (.iastore, 1) := by decide +kernel
theorem dX0_writeRuns_110 : decode cX0_writeRuns 110 = .ok (.iinc 4 1, 3) := by decide +kernel
theorem dX0_writeRuns_113 : decode cX0_writeRuns 113 = .ok (.goto (-101), 3) := by decide +kernel
theorem dX0_writeRuns_116 : decode cX0_writeRuns 116 = .ok (.aload_n 0, 1) := by decide +kernel
theorem dX0_writeRuns_117 : decode cX0_writeRuns 117 = .ok (.getfield 25, 3) := by decide +kernel
theorem dX0_writeRuns_120 : decode cX0_writeRuns 120 = .ok (.iload_n 1, 1) := by decide +kernel
theorem dX0_writeRuns_121 : decode cX0_writeRuns 121 = .ok (.iload_n 3, 1) := by decide +kernel
theorem dX0_writeRuns_122 : decode cX0_writeRuns 122 = .ok (.iastore, 1) := by decide +kernel
theorem dX0_writeRuns_123 : decode cX0_writeRuns 123 = .ok (.return_, 1) := by decide +kernel
end
section
set_option maxRecDepth 100000
abbrev cX0_writeDictionary : ByteArray := prog_1_method_21_code
def yX0_writeDictionary : MethodName := ⟨RX0, "writeDictionary", "(III)V"⟩
theorem dX0_writeDictionary_0 : decode cX0_writeDictionary 0 = .ok (.aload_n 0, 1) := by decide +kernel
theorem dX0_writeDictionary_1 : decode cX0_writeDictionary 1 = .ok (.getfield 16, 3) := by decide +kernel
theorem dX0_writeDictionary_4 : decode cX0_writeDictionary 4 = .ok (.iload_n 1, 1) := by decide +kernel
theorem dX0_writeDictionary_5 : decode cX0_writeDictionary 5 = .ok (.iconst 2, 1) := by decide +kernel
theorem dX0_writeDictionary_6 : decode cX0_writeDictionary 6 = .ok (.iastore, 1) := by decide +kernel
theorem dX0_writeDictionary_7 : decode cX0_writeDictionary 7 = .ok (.aload_n 0, 1) := by decide +kernel
theorem dX0_writeDictionary_8 : decode cX0_writeDictionary 8 = .ok (.getfield 25, 3) := by decide +kernel
theorem dX0_writeDictionary_11 : decode cX0_writeDictionary 11 = .ok (.iload_n 1, 1) := by decide +kernel
theorem dX0_writeDictionary_12 : decode cX0_writeDictionary 12 = .ok (.aload_n 0, 1) := by decide +kernel
theorem dX0_writeDictionary_13 : decode cX0_writeDictionary 13 = .ok (.getfield 79, 3) := by decide +kernel
theorem dX0_writeDictionary_16 : decode cX0_writeDictionary 16 = .ok (.iastore, 1) := by decide +kernel
theorem dX0_writeDictionary_17 : decode cX0_writeDictionary 17 = .ok (.iconst 0, 1) := by decide +kernel
theorem dX0_writeDictionary_18 : decode cX0_writeDictionary 18 = .ok (.istore 4, 2) := by decide +kernel
theorem dX0_writeDictionary_20 : decode cX0_writeDictionary 20 = .ok (.iload 4, 2) := by decide +kernel
theorem dX0_writeDictionary_22 : decode cX0_writeDictionary 22 = .ok (.aload_n 0, 1) := by decide +kernel
theorem dX0_writeDictionary_23 : decode cX0_writeDictionary 23 = .ok (.getfield 79, 3) := by decide +kernel
theorem dX0_writeDictionary_26 : decode cX0_writeDictionary 26 = .ok (.if_icmp .ge 28, 3) := by decide +kernel
theorem dX0_writeDictionary_29 : decode cX0_writeDictionary 29 = .ok (.aload_n 0, 1) := by decide +kernel
theorem dX0_writeDictionary_30 : decode cX0_writeDictionary 30 = .ok (.getfield 28, 3) := by decide +kernel
theorem dX0_writeDictionary_33 : decode cX0_writeDictionary 33 = .ok (.bipush 34, 2) := by decide +kernel
theorem dX0_writeDictionary_35 : decode cX0_writeDictionary 35 = .ok (.iload_n 1, 1) := by decide +kernel
theorem dX0_writeDictionary_36 : decode cX0_writeDictionary 36 = .ok (.imul, 1) := by decide +kernel
theorem dX0_writeDictionary_37 : decode cX0_writeDictionary 37 = .ok (.iload 4, 2) := by decide +kernel
theorem dX0_writeDictionary_39 : decode cX0_writeDictionary 39 = .ok (.iadd, 1) := by decide +kernel
theorem dX0_writeDictionary_40 : decode cX0_writeDictionary 40 = .ok (.aload_n 0, 1) := by decide +kernel
theorem dX0_writeDictionary_41 : decode cX0_writeDictionary 41 = .ok (.getfield 41, 3) := by decide +kernel
theorem dX0_writeDictionary_44 : decode cX0_writeDictionary 44 = .ok (.iload 4, 2) := by decide +kernel
theorem dX0_writeDictionary_46 : decode cX0_writeDictionary 46 = .ok (.iaload, 1) := by decide +kernel
theorem dX0_writeDictionary_47 : decode cX0_writeDictionary 47 = .ok (.iastore, 1) := by decide +kernel
theorem dX0_writeDictionary_48 : decode cX0_writeDictionary 48 = .ok (.iinc 4 1, 3) := by decide +kernel
theorem dX0_writeDictionary_51 : decode cX0_writeDictionary 51 = .ok (.goto (-31), 3) := by decide +kernel
theorem dX0_writeDictionary_54 : decode cX0_writeDictionary 54 = .ok (.aload_n 0, 1) := by decide +kernel
theorem dX0_writeDictionary_55 : decode cX0_writeDictionary 55 = .ok (.bipush 34, 2) := by decide +kernel
theorem dX0_writeDictionary_57 : decode cX0_writeDictionary 57 = .ok (.iload_n 1, 1) := by decide +kernel
theorem dX0_writeDictionary_58 : decode cX0_writeDictionary 58 = .ok (.imul, 1) := by decide +kernel
theorem dX0_writeDictionary_59 : decode cX0_writeDictionary 59 = .ok (.aload_n 0, 1) := by decide +kernel
theorem dX0_writeDictionary_60 : decode cX0_writeDictionary 60 = .ok (.getfield 79, 3) := by decide +kernel
theorem dX0_writeDictionary_63 : decode cX0_writeDictionary 63 = .ok (.iadd, 1) := by decide +kernel
theorem dX0_writeDictionary_64 : decode cX0_writeDictionary 64 = .ok (.iload_n 3, 1) := by decide +kernel
theorem dX0_writeDictionary_65 : decode cX0_writeDictionary 65 = .ok (.invokevirtual 102, 3) := by decide +kernel
theorem dX0_writeDictionary_68 : decode cX0_writeDictionary 68 = .ok (.iconst 0, 1) := by decide +kernel
theorem dX0_writeDictionary_69 : decode cX0_writeDictionary 69 = .ok (.istore 4, 2) := by decide +kernel
theorem dX0_writeDictionary_71 : decode cX0_writeDictionary 71 = .ok (.iload 4, 2) := by decide +kernel
theorem dX0_writeDictionary_73 : decode cX0_writeDictionary 73 = .ok (.bipush 16, 2) := by decide +kernel
theorem dX0_writeDictionary_75 : decode cX0_writeDictionary 75 = .ok (.if_icmp .ge 76, 3) := by decide +kernel
theorem dX0_writeDictionary_78 : decode cX0_writeDictionary 78 = .ok (.iconst 0, 1) := by decide +kernel
theorem dX0_writeDictionary_79 : decode cX0_writeDictionary 79 = .ok (.istore 5, 2) := by decide +kernel
theorem dX0_writeDictionary_81 : decode cX0_writeDictionary 81 = .ok (.iconst 0, 1) := by decide +kernel
theorem dX0_writeDictionary_82 : decode cX0_writeDictionary 82 = .ok (.istore 6, 2) := by decide +kernel
theorem dX0_writeDictionary_84 : decode cX0_writeDictionary 84 = .ok (.iload 6, 2) := by decide +kernel
theorem dX0_writeDictionary_86 : decode cX0_writeDictionary 86 = .ok (.aload_n 0, 1) := by decide +kernel
theorem dX0_writeDictionary_87 : decode cX0_writeDictionary 87 = .ok (.getfield 79, 3) := by decide +kernel
theorem dX0_writeDictionary_90 : decode cX0_writeDictionary 90 = .ok (.if_icmp .ge 37, 3) := by decide +kernel
theorem dX0_writeDictionary_93 : decode cX0_writeDictionary 93 = .ok (.aload_n 0, 1) := by decide +kernel
theorem dX0_writeDictionary_94 : decode cX0_writeDictionary 94 = .ok (.getfield 41, 3) := by decide +kernel
theorem dX0_writeDictionary_97 : decode cX0_writeDictionary 97 = .ok (.iload 6, 2) := by decide +kernel
theorem dX0_writeDictionary_99 : decode cX0_writeDictionary 99 = .ok (.iaload, 1) := by decide +kernel
theorem dX0_writeDictionary_100 : decode cX0_writeDictionary 100 = .ok (.aload_n 0, 1) := by decide +kernel
theorem dX0_writeDictionary_101 : decode cX0_writeDictionary 101 = .ok (.getfield 7, 3) := by decide +kernel
theorem dX0_writeDictionary_104 : decode cX0_writeDictionary 104 = .ok (.iload_n 2, 1) := by decide +kernel
theorem dX0_writeDictionary_105 : decode cX0_writeDictionary 105 = .ok (.iload 4, 2) := by decide +kernel
theorem dX0_writeDictionary_107 : decode cX0_writeDictionary 107 = .ok (.iadd, 1) := by decide +kernel
theorem dX0_writeDictionary_108 : decode cX0_writeDictionary 108 = .ok (.iaload, 1) := by decide +kernel
theorem dX0_writeDictionary_109 : decode cX0_writeDictionary 109 = .ok (.if_icmp .ne 8, 3) := by decide +kernel
theorem dX0_writeDictionary_112 : decode cX0_writeDictionary 112 = .ok (.iload 6, 2) := by decide +kernel
theorem dX0_writeDictionary_114 : decode cX0_writeDictionary 114 = .ok (.goto 5, 3) := by decide +kernel
theorem dX0_writeDictionary_117 : decode cX0_writeDictionary 117 = .ok (.iload 5, 2) := by decide +kernel
theorem dX0_writeDictionary_119 : decode cX0_writeDictionary 119 = .ok (.istore 5, 2) := by decide +kernel
theorem dX0_writeDictionary_121 : decode cX0_writeDictionary 121 = .ok (.iinc 6 1, 3) := by decide +kernel
theorem dX0_writeDictionary_124 : decode cX0_writeDictionary 124 = .ok (.goto (-40), 3) := by decide +kernel
theorem dX0_writeDictionary_127 : decode cX0_writeDictionary 127 = .ok (.aload_n 0, 1) := by decide +kernel
theorem dX0_writeDictionary_128 : decode cX0_writeDictionary 128 = .ok (.bipush 34, 2) := by decide +kernel
theorem dX0_writeDictionary_130 : decode cX0_writeDictionary 130 = .ok (.iload_n 1, 1) := by decide +kernel
theorem dX0_writeDictionary_131 : decode cX0_writeDictionary 131 = .ok (.imul, 1) := by decide +kernel
theorem dX0_writeDictionary_132 : decode cX0_writeDictionary 132 = .ok (.aload_n 0, 1) := by decide +kernel
theorem dX0_writeDictionary_133 : decode cX0_writeDictionary 133 = .ok (.getfield 79, 3) := by decide +kernel
theorem dX0_writeDictionary_136 : decode cX0_writeDictionary 136 = .ok (.iadd, 1) := by decide +kernel
theorem dX0_writeDictionary_137 : decode cX0_writeDictionary 137 = .ok (.iload_n 3, 1) := by decide +kernel
theorem dX0_writeDictionary_138 : decode cX0_writeDictionary 138 = .ok (.iload 4, 2) := by decide +kernel
theorem dX0_writeDictionary_140 : decode cX0_writeDictionary 140 = .ok (.iload 5, 2) := by decide +kernel
theorem dX0_writeDictionary_142 : decode cX0_writeDictionary 142 = .ok (.invokevirtual 105, 3) := by decide +kernel
theorem dX0_writeDictionary_145 : decode cX0_writeDictionary 145 = .ok (.iinc 4 1, 3) := by decide +kernel
theorem dX0_writeDictionary_148 : decode cX0_writeDictionary 148 = .ok (.goto (-77), 3) := by decide +kernel
theorem dX0_writeDictionary_151 : decode cX0_writeDictionary 151 = .ok (.return_, 1) := by decide +kernel
abbrev cX0_clearBits : ByteArray := prog_1_method_24_code
def yX0_clearBits : MethodName := ⟨RX0, "clearBits", "(II)V"⟩
theorem dX0_clearBits_0 : decode cX0_clearBits 0 = .ok (.iconst 0, 1) := by decide +kernel
theorem dX0_clearBits_1 : decode cX0_clearBits 1 = .ok (.istore_n 3, 1) := by decide +kernel
theorem dX0_clearBits_2 : decode cX0_clearBits 2 = .ok (.iconst 2, 1) := by decide +kernel
theorem dX0_clearBits_3 : decode cX0_clearBits 3 = .ok (.iload_n 3, 1) := by decide +kernel
theorem dX0_clearBits_4 : decode cX0_clearBits 4 = .ok (.imul, 1) := by decide +kernel
theorem dX0_clearBits_5 : decode cX0_clearBits 5 = .ok (.iload_n 2, 1) := by decide +kernel
theorem dX0_clearBits_6 : decode cX0_clearBits 6 = .ok (.if_icmp .ge 18, 3) := by decide +kernel
theorem dX0_clearBits_9 : decode cX0_clearBits 9 = .ok (.aload_n 0, 1) := by decide +kernel
theorem dX0_clearBits_10 : decode cX0_clearBits 10 = .ok (.getfield 28, 3) := by decide +kernel
theorem dX0_clearBits_13 : decode cX0_clearBits 13 = .ok (.iload_n 1, 1) := by decide +kernel
theorem dX0_clearBits_14 : decode cX0_clearBits 14 = .ok (.iload_n 3, 1) := by decide +kernel
theorem dX0_clearBits_15 : decode cX0_clearBits 15 = .ok (.iadd, 1) := by decide +kernel
theorem dX0_clearBits_16 : decode cX0_clearBits 16 = .ok (.iconst 0, 1) := by decide +kernel
theorem dX0_clearBits_17 : decode cX0_clearBits 17 = .ok (.iastore, 1) := by decide +kernel
theorem dX0_clearBits_18 : decode cX0_clearBits 18 = .ok (.iinc 3 1, 3) := by decide +kernel
theorem dX0_clearBits_21 : decode cX0_clearBits 21 = .ok (.goto (-19), 3) := by decide +kernel
theorem dX0_clearBits_24 : decode cX0_clearBits 24 = .ok (.return_, 1) := by decide +kernel
abbrev cX0_putBits : ByteArray := prog_1_method_25_code
def yX0_putBits : MethodName := ⟨RX0, "putBits", "(IIII)V"⟩
theorem dX0_putBits_0 : decode cX0_putBits 0 = .ok (.iload_n 2, 1) := by decide +kernel
theorem dX0_putBits_1 : decode cX0_putBits 1 = .ok (.iload_n 3, 1) := by decide +kernel
theorem dX0_putBits_2 : decode cX0_putBits 2 = .ok (.imul, 1) := by decide +kernel
theorem dX0_putBits_3 : decode cX0_putBits 3 = .ok (.istore 5, 2) := by decide +kernel
theorem dX0_putBits_5 : decode cX0_putBits 5 = .ok (.iload_n 2, 1) := by decide +kernel
theorem dX0_putBits_6 : decode cX0_putBits 6 = .ok (.ifCond .ne 4, 3) := by decide +kernel
theorem dX0_putBits_9 : decode cX0_putBits 9 = .ok (.return_, 1) := by decide +kernel
theorem dX0_putBits_10 : decode cX0_putBits 10 = .ok (.aload_n 0, 1) := by decide +kernel
theorem dX0_putBits_11 : decode cX0_putBits 11 = .ok (.getfield 28, 3) := by decide +kernel
theorem dX0_putBits_14 : decode cX0_putBits 14 = .ok (.iload_n 1, 1) := by decide +kernel
theorem dX0_putBits_15 : decode cX0_putBits 15 = .ok (.iload 5, 2) := by decide +kernel
theorem dX0_putBits_17 : decode cX0_putBits 17 = .ok (.iconst 5, 1) := by decide +kernel
theorem dX0_putBits_18 : decode cX0_putBits 18 = .ok (.ishr, 1) := by decide +kernel
theorem dX0_putBits_19 : decode cX0_putBits 19 = .ok (.iadd, 1) := by decide +kernel
theorem dX0_putBits_20 : decode cX0_putBits 20 = .ok (.dup2, 1) := by decide +kernel
theorem dX0_putBits_21 : decode cX0_putBits 21 = .ok (.iaload, 1) := by decide +kernel
theorem dX0_putBits_22 : decode cX0_putBits 22 = .ok (.iload 4, 2) := by decide +kernel
theorem dX0_putBits_24 : decode cX0_putBits 24 = .ok (.iload 5, 2) := by decide +kernel
theorem dX0_putBits_26 : decode cX0_putBits 26 = .ok (.bipush 31, 2) := by decide +kernel
theorem dX0_putBits_28 : decode cX0_putBits 28 = .ok (.iand, 1) := by decide +kernel
theorem dX0_putBits_29 : decode cX0_putBits 29 = .ok (.ishl, 1) := by decide +kernel
theorem dX0_putBits_30 : decode cX0_putBits 30 = .ok (.ior, 1) := by decide +kernel
theorem dX0_putBits_31 : decode cX0_putBits 31 = .ok (.iastore, 1) := by decide +kernel
theorem dX0_putBits_32 : decode cX0_putBits 32 = .ok (.iload 5, 2) := by decide +kernel
theorem dX0_putBits_34 : decode cX0_putBits 34 = .ok (.bipush 31, 2) := by decide +kernel
theorem dX0_putBits_36 : decode cX0_putBits 36 = .ok (.iand, 1) := by decide +kernel
theorem dX0_putBits_37 : decode cX0_putBits 37 = .ok (.iload_n 2, 1) := by decide +kernel
theorem dX0_putBits_38 : decode cX0_putBits 38 = .ok (.iadd, 1) := by decide +kernel
theorem dX0_putBits_39 : decode cX0_putBits 39 = .ok (.bipush 32, 2) := by decide +kernel
theorem dX0_putBits_41 : decode cX0_putBits 41 = .ok (.if_icmp .le 30, 3) := by decide +kernel
theorem dX0_putBits_44 : decode cX0_putBits 44 = .ok (.aload_n 0, 1) := by decide +kernel
theorem dX0_putBits_45 : decode cX0_putBits 45 = .ok (.getfield 28, 3) := by decide +kernel
theorem dX0_putBits_48 : decode cX0_putBits 48 = .ok (.iload_n 1, 1) := by decide +kernel
theorem dX0_putBits_49 : decode cX0_putBits 49 = .ok (.iload 5, 2) := by decide +kernel
theorem dX0_putBits_51 : decode cX0_putBits 51 = .ok (.iconst 5, 1) := by decide +kernel
theorem dX0_putBits_52 : decode cX0_putBits 52 = .ok (.ishr, 1) := by decide +kernel
theorem dX0_putBits_53 : decode cX0_putBits 53 = .ok (.iadd, 1) := by decide +kernel
theorem dX0_putBits_54 : decode cX0_putBits 54 = .ok (.iconst 1, 1) := by decide +kernel
theorem dX0_putBits_55 : decode cX0_putBits 55 = .ok (.iadd, 1) := by decide +kernel
theorem dX0_putBits_56 : decode cX0_putBits 56 = .ok (.dup2, 1) := by decide +kernel
theorem dX0_putBits_57 : decode cX0_putBits 57 = .ok (.iaload, 1) := by decide +kernel
theorem dX0_putBits_58 : decode cX0_putBits 58 = .ok (.iload 4, 2) := by decide +kernel
theorem dX0_putBits_60 : decode cX0_putBits 60 = .ok (.bipush 32, 2) := by decide +kernel
theorem dX0_putBits_62 : decode cX0_putBits 62 = .ok (.iload 5, 2) := by decide +kernel
theorem dX0_putBits_64 : decode cX0_putBits 64 = .ok (.bipush 31, 2) := by decide +kernel
theorem dX0_putBits_66 : decode cX0_putBits 66 = .ok (.iand, 1) := by decide +kernel
theorem dX0_putBits_67 : decode cX0_putBits 67 = .ok (.isub, 1) := by decide +kernel
theorem dX0_putBits_68 : decode cX0_putBits 68 = .ok (.iushr, 1) := by decide +kernel
theorem dX0_putBits_69 : decode cX0_putBits 69 = .ok (.ior, 1) := by decide +kernel
theorem dX0_putBits_70 : decode cX0_putBits 70 = .ok (.iastore, 1) := by decide +kernel
theorem dX0_putBits_71 : decode cX0_putBits 71 = .ok (.return_, 1) := by decide +kernel
abbrev cX0_writePacked : ByteArray := prog_1_method_22_code
def yX0_writePacked : MethodName := ⟨RX0, "writePacked", "(III)V"⟩
theorem dX0_writePacked_0 : decode cX0_writePacked 0 = .ok (.aload_n 0, 1) := by decide +kernel
theorem dX0_writePacked_1 : decode cX0_writePacked 1 = .ok (.getfield 16, 3) := by decide +kernel
theorem dX0_writePacked_4 : decode cX0_writePacked 4 = .ok (.iload_n 1, 1) := by decide +kernel
theorem dX0_writePacked_5 : decode cX0_writePacked 5 = .ok (.iconst 3, 1) := by decide +kernel
theorem dX0_writePacked_6 : decode cX0_writePacked 6 = .ok (.iastore, 1) := by decide +kernel
theorem dX0_writePacked_7 : decode cX0_writePacked 7 = .ok (.aload_n 0, 1) := by decide +kernel
theorem dX0_writePacked_8 : decode cX0_writePacked 8 = .ok (.getfield 25, 3) := by decide +kernel
theorem dX0_writePacked_11 : decode cX0_writePacked 11 = .ok (.iload_n 1, 1) := by decide +kernel
theorem dX0_writePacked_12 : decode cX0_writePacked 12 = .ok (.iload_n 3, 1) := by decide +kernel
theorem dX0_writePacked_13 : decode cX0_writePacked 13 = .ok (.iastore, 1) := by decide +kernel
theorem dX0_writePacked_14 : decode cX0_writePacked 14 = .ok (.aload_n 0, 1) := by decide +kernel
theorem dX0_writePacked_15 : decode cX0_writePacked 15 = .ok (.bipush 34, 2) := by decide +kernel
theorem dX0_writePacked_17 : decode cX0_writePacked 17 = .ok (.iload_n 1, 1) := by decide +kernel
theorem dX0_writePacked_18 : decode cX0_writePacked 18 = .ok (.imul, 1) := by decide +kernel
theorem dX0_writePacked_19 : decode cX0_writePacked 19 = .ok (.iload_n 3, 1) := by decide +kernel
theorem dX0_writePacked_20 : decode cX0_writePacked 20 = .ok (.invokevirtual 102, 3) := by decide +kernel
theorem dX0_writePacked_23 : decode cX0_writePacked 23 = .ok (.iconst 0, 1) := by decide +kernel
theorem dX0_writePacked_24 : decode cX0_writePacked 24 = .ok (.istore 4, 2) := by decide +kernel
theorem dX0_writePacked_26 : decode cX0_writePacked 26 = .ok (.iload 4, 2) := by decide +kernel
theorem dX0_writePacked_28 : decode cX0_writePacked 28 = .ok (.bipush 16, 2) := by decide +kernel
theorem dX0_writePacked_30 : decode cX0_writePacked 30 = .ok (.if_icmp .ge 36, 3) := by decide +kernel
theorem dX0_writePacked_33 : decode cX0_writePacked 33 = .ok (.aload_n 0, 1) := by decide +kernel
theorem dX0_writePacked_34 : decode cX0_writePacked 34 = .ok (.bipush 34, 2) := by decide +kernel
theorem dX0_writePacked_36 : decode cX0_writePacked 36 = .ok (.iload_n 1, 1) := by decide +kernel
theorem dX0_writePacked_37 : decode cX0_writePacked 37 = .ok (.imul, 1) := by decide +kernel
theorem dX0_writePacked_38 : decode cX0_writePacked 38 = .ok (.iload_n 3, 1) := by decide +kernel
theorem dX0_writePacked_39 : decode cX0_writePacked 39 = .ok (.iload 4, 2) := by decide +kernel
theorem dX0_writePacked_41 : decode cX0_writePacked 41 = .ok (.aload_n 0, 1) := by decide +kernel
theorem dX0_writePacked_42 : decode cX0_writePacked 42 = .ok (.getfield 7, 3) := by decide +kernel
theorem dX0_writePacked_45 : decode cX0_writePacked 45 = .ok (.iload_n 2, 1) := by decide +kernel
theorem dX0_writePacked_46 : decode cX0_writePacked 46 = .ok (.iload 4, 2) := by decide +kernel
theorem dX0_writePacked_48 : decode cX0_writePacked 48 = .ok (.iadd, 1) := by decide +kernel
theorem dX0_writePacked_49 : decode cX0_writePacked 49 = .ok (.iaload, 1) := by decide +kernel
theorem dX0_writePacked_50 : decode cX0_writePacked 50 = .ok (.aload_n 0, 1) := by decide +kernel
theorem dX0_writePacked_51 : decode cX0_writePacked 51 = .ok (.getfield 19, 3) := by decide +kernel
theorem dX0_writePacked_54 : decode cX0_writePacked 54 = .ok (.iload_n 1, 1) := by decide +kernel
theorem dX0_writePacked_55 : decode cX0_writePacked 55 = .ok (.iaload, 1) := by decide +kernel
theorem dX0_writePacked_56 : decode cX0_writePacked 56 = .ok (.isub, 1) := by decide +kernel
theorem dX0_writePacked_57 : decode cX0_writePacked 57 = .ok (.invokevirtual 105, 3) := by decide +kernel
theorem dX0_writePacked_60 : decode cX0_writePacked 60 = .ok (.iinc 4 1, 3) := by decide +kernel
theorem dX0_writePacked_63 : decode cX0_writePacked 63 = .ok (.goto (-37), 3) := by decide +kernel
theorem dX0_writePacked_66 : decode cX0_writePacked 66 = .ok (.return_, 1) := by decide +kernel
abbrev cX0_writePlain : ByteArray := prog_1_method_23_code
def yX0_writePlain : MethodName := ⟨RX0, "writePlain", "(II)V"⟩
theorem dX0_writePlain_0 : decode cX0_writePlain 0 = .ok (.aload_n 0, 1) := by decide +kernel
theorem dX0_writePlain_1 : decode cX0_writePlain 1 = .ok (.getfield 16, 3) := by decide +kernel
theorem dX0_writePlain_4 : decode cX0_writePlain 4 = .ok (.iload_n 1, 1) := by decide +kernel
theorem dX0_writePlain_5 : decode cX0_writePlain 5 = .ok (.iconst 0, 1) := by decide +kernel
theorem dX0_writePlain_6 : decode cX0_writePlain 6 = .ok (.iastore, 1) := by decide +kernel
theorem dX0_writePlain_7 : decode cX0_writePlain 7 = .ok (.iconst 0, 1) := by decide +kernel
theorem dX0_writePlain_8 : decode cX0_writePlain 8 = .ok (.istore_n 3, 1) := by decide +kernel
theorem dX0_writePlain_9 : decode cX0_writePlain 9 = .ok (.iload_n 3, 1) := by decide +kernel
theorem dX0_writePlain_10 : decode cX0_writePlain 10 = .ok (.bipush 16, 2) := by decide +kernel
theorem dX0_writePlain_12 : decode cX0_writePlain 12 = .ok (.if_icmp .ge 28, 3) := by decide +kernel
theorem dX0_writePlain_15 : decode cX0_writePlain 15 = .ok (.aload_n 0, 1) := by decide +kernel
theorem dX0_writePlain_16 : decode cX0_writePlain 16 = .ok (.getfield 28, 3) := by decide +kernel
theorem dX0_writePlain_19 : decode cX0_writePlain 19 = .ok (.bipush 34, 2) := by decide +kernel
theorem dX0_writePlain_21 : decode cX0_writePlain 21 = .ok (.iload_n 1, 1) := by decide +kernel
theorem dX0_writePlain_22 : decode cX0_writePlain 22 = .ok (.imul, 1) := by decide +kernel
theorem dX0_writePlain_23 : decode cX0_writePlain 23 = .ok (.iload_n 3, 1) := by decide +kernel
theorem dX0_writePlain_24 : decode cX0_writePlain 24 = .ok (.iadd, 1) := by decide +kernel
theorem dX0_writePlain_25 : decode cX0_writePlain 25 = .ok (.aload_n 0, 1) := by decide +kernel
theorem dX0_writePlain_26 : decode cX0_writePlain 26 = .ok (.getfield 7, 3) := by decide +kernel
theorem dX0_writePlain_29 : decode cX0_writePlain 29 = .ok (.iload_n 2, 1) := by decide +kernel
theorem dX0_writePlain_30 : decode cX0_writePlain 30 = .ok (.iload_n 3, 1) := by decide +kernel
theorem dX0_writePlain_31 : decode cX0_writePlain 31 = .ok (.iadd, 1) := by decide +kernel
theorem dX0_writePlain_32 : decode cX0_writePlain 32 = .ok (.iaload, 1) := by decide +kernel
theorem dX0_writePlain_33 : decode cX0_writePlain 33 = .ok (.iastore, 1) := by decide +kernel
theorem dX0_writePlain_34 : decode cX0_writePlain 34 = .ok (.iinc 3 1, 3) := by decide +kernel
theorem dX0_writePlain_37 : decode cX0_writePlain 37 = .ok (.goto (-28), 3) := by decide +kernel
theorem dX0_writePlain_40 : decode cX0_writePlain 40 = .ok (.return_, 1) := by decide +kernel
abbrev cX0_strike : ByteArray := prog_1_method_3_code
def yX0_strike : MethodName := ⟨RX0, "strike", "(I)I"⟩
theorem dX0_strike_0 : decode cX0_strike 0 = .ok (.iload_n 1, 1) := by decide +kernel
theorem dX0_strike_1 : decode cX0_strike 1 = .ok (.ifCond .lt 29, 3) := by decide +kernel
theorem dX0_strike_4 : decode cX0_strike 4 = .ok (.iload_n 1, 1) := by decide +kernel
theorem dX0_strike_5 : decode cX0_strike 5 = .ok (.aload_n 0, 1) := by decide +kernel
theorem dX0_strike_6 : decode cX0_strike 6 = .ok (.getfield 44, 3) := by decide +kernel
theorem dX0_strike_9 : decode cX0_strike 9 = .ok (.if_icmp .ge 21, 3) := by decide +kernel
theorem dX0_strike_12 : decode cX0_strike 12 = .ok (.aload_n 0, 1) := by decide +kernel
theorem dX0_strike_13 : decode cX0_strike 13 = .ok (.getfield 13, 3) := by decide +kernel
theorem dX0_strike_16 : decode cX0_strike 16 = .ok (.iload_n 1, 1) := by decide +kernel
theorem dX0_strike_17 : decode cX0_strike 17 = .ok (.iconst 4, 1) := by decide +kernel
theorem dX0_strike_18 : decode cX0_strike 18 = .ok (.ishr, 1) := by decide +kernel
theorem dX0_strike_19 : decode cX0_strike 19 = .ok (.iaload, 1) := by decide +kernel
theorem dX0_strike_20 : decode cX0_strike 20 = .ok (.iload_n 1, 1) := by decide +kernel
theorem dX0_strike_21 : decode cX0_strike 21 = .ok (.bipush 15, 2) := by decide +kernel
theorem dX0_strike_23 : decode cX0_strike 23 = .ok (.iand, 1) := by decide +kernel
theorem dX0_strike_24 : decode cX0_strike 24 = .ok (.iushr, 1) := by decide +kernel
theorem dX0_strike_25 : decode cX0_strike 25 = .ok (.iconst 1, 1) := by decide +kernel
theorem dX0_strike_26 : decode cX0_strike 26 = .ok (.iand, 1) := by decide +kernel
theorem dX0_strike_27 : decode cX0_strike 27 = .ok (.ifCond .ne 5, 3) := by decide +kernel
theorem dX0_strike_30 : decode cX0_strike 30 = .ok (.iconst (-1), 1) := by decide +kernel
theorem dX0_strike_31 : decode cX0_strike 31 = .ok (.ireturn, 1) := by decide +kernel
theorem dX0_strike_32 : decode cX0_strike 32 = .ok (.aload_n 0, 1) := by decide +kernel
theorem dX0_strike_33 : decode cX0_strike 33 = .ok (.getfield 13, 3) := by decide +kernel
theorem dX0_strike_36 : decode cX0_strike 36 = .ok (.iload_n 1, 1) := by decide +kernel
theorem dX0_strike_37 : decode cX0_strike 37 = .ok (.iconst 4, 1) := by decide +kernel
theorem dX0_strike_38 : decode cX0_strike 38 = .ok (.ishr, 1) := by decide +kernel
theorem dX0_strike_39 : decode cX0_strike 39 = .ok (.dup2, 1) := by decide +kernel
theorem dX0_strike_40 : decode cX0_strike 40 = .ok (.iaload, 1) := by decide +kernel
theorem dX0_strike_41 : decode cX0_strike 41 = .ok (.iconst 1, 1) := by decide +kernel
theorem dX0_strike_42 : decode cX0_strike 42 = .ok (.iload_n 1, 1) := by decide +kernel
theorem dX0_strike_43 : decode cX0_strike 43 = .ok (.bipush 15, 2) := by decide +kernel
theorem dX0_strike_45 : decode cX0_strike 45 = .ok (.iand, 1) := by decide +kernel
theorem dX0_strike_46 : decode cX0_strike 46 = .ok (.ishl, 1) := by decide +kernel
theorem dX0_strike_47 : decode cX0_strike 47 = .ok (.iconst (-1), 1) := by decide +kernel
theorem dX0_strike_48 : decode cX0_strike 48 = .ok (.ixor, 1) := by decide +kernel
theorem dX0_strike_49 : decode cX0_strike 49 = .ok (.iand, 1) := by decide +kernel
theorem dX0_strike_50 : decode cX0_strike 50 = .ok (.iastore, 1) := by decide +kernel
theorem dX0_strike_51 : decode cX0_strike 51 = .ok (.iconst 0, 1) := by decide +kernel
theorem dX0_strike_52 : decode cX0_strike 52 = .ok (.ireturn, 1) := by decide +kernel
abbrev cX0_range : ByteArray := prog_1_method_4_code
def yX0_range : MethodName := ⟨RX0, "range", "(III)I"⟩
theorem dX0_range_0 : decode cX0_range 0 = .ok (.iload_n 1, 1) := by decide +kernel
theorem dX0_range_1 : decode cX0_range 1 = .ok (.invokestatic 52, 3) := by decide +kernel
theorem dX0_range_4 : decode cX0_range 4 = .ok (.ifCond .ne 5, 3) := by decide +kernel
theorem dX0_range_7 : decode cX0_range 7 = .ok (.iconst (-1), 1) := by decide +kernel
theorem dX0_range_8 : decode cX0_range 8 = .ok (.ireturn, 1) := by decide +kernel
theorem dX0_range_9 : decode cX0_range 9 = .ok (.aload_n 0, 1) := by decide +kernel
theorem dX0_range_10 : decode cX0_range 10 = .ok (.getfield 31, 3) := by decide +kernel
theorem dX0_range_13 : decode cX0_range 13 = .ok (.iload_n 1, 1) := by decide +kernel
theorem dX0_range_14 : decode cX0_range 14 = .ok (.iconst 1, 1) := by decide +kernel
theorem dX0_range_15 : decode cX0_range 15 = .ok (.bastore, 1) := by decide +kernel
theorem dX0_range_16 : decode cX0_range 16 = .ok (.aload_n 0, 1) := by decide +kernel
theorem dX0_range_17 : decode cX0_range 17 = .ok (.getfield 35, 3) := by decide +kernel
theorem dX0_range_20 : decode cX0_range 20 = .ok (.iload_n 1, 1) := by decide +kernel
theorem dX0_range_21 : decode cX0_range 21 = .ok (.iload_n 2, 1) := by decide +kernel
theorem dX0_range_22 : decode cX0_range 22 = .ok (.iastore, 1) := by decide +kernel
theorem dX0_range_23 : decode cX0_range 23 = .ok (.aload_n 0, 1) := by decide +kernel
theorem dX0_range_24 : decode cX0_range 24 = .ok (.getfield 38, 3) := by decide +kernel
theorem dX0_range_27 : decode cX0_range 27 = .ok (.iload_n 1, 1) := by decide +kernel
theorem dX0_range_28 : decode cX0_range 28 = .ok (.iload_n 3, 1) := by decide +kernel
theorem dX0_range_29 : decode cX0_range 29 = .ok (.iastore, 1) := by decide +kernel
theorem dX0_range_30 : decode cX0_range 30 = .ok (.iconst 0, 1) := by decide +kernel
theorem dX0_range_31 : decode cX0_range 31 = .ok (.ireturn, 1) := by decide +kernel
abbrev cX0_isColumn : ByteArray := prog_1_method_13_code
def yX0_isColumn : MethodName := ⟨RX0, "isColumn", "(I)Z"⟩
theorem dX0_isColumn_0 : decode cX0_isColumn 0 = .ok (.iload_n 0, 1) := by decide +kernel
theorem dX0_isColumn_1 : decode cX0_isColumn 1 = .ok (.ifCond .lt 12, 3) := by decide +kernel
theorem dX0_isColumn_4 : decode cX0_isColumn 4 = .ok (.iload_n 0, 1) := by decide +kernel
theorem dX0_isColumn_5 : decode cX0_isColumn 5 = .ok (.iconst 2, 1) := by decide +kernel
theorem dX0_isColumn_6 : decode cX0_isColumn 6 = .ok (.if_icmp .gt 7, 3) := by decide +kernel
theorem dX0_isColumn_9 : decode cX0_isColumn 9 = .ok (.iconst 1, 1) := by decide +kernel
theorem dX0_isColumn_10 : decode cX0_isColumn 10 = .ok (.goto 4, 3) := by decide +kernel
theorem dX0_isColumn_13 : decode cX0_isColumn 13 = .ok (.iconst 0, 1) := by decide +kernel
theorem dX0_isColumn_14 : decode cX0_isColumn 14 = .ok (.ireturn, 1) := by decide +kernel
abbrev cX0_open : ByteArray := prog_1_method_5_code
def yX0_open : MethodName := ⟨RX0, "open", "()V"⟩
theorem dX0_open_0 : decode cX0_open 0 = .ok (.iconst 0, 1) := by decide +kernel
theorem dX0_open_1 : decode cX0_open 1 = .ok (.istore_n 1, 1) := by decide +kernel
theorem dX0_open_2 : decode cX0_open 2 = .ok (.iload_n 1, 1) := by decide +kernel
theorem dX0_open_3 : decode cX0_open 3 = .ok (.iconst 3, 1) := by decide +kernel
theorem dX0_open_4 : decode cX0_open 4 = .ok (.if_icmp .ge 16, 3) := by decide +kernel
theorem dX0_open_7 : decode cX0_open 7 = .ok (.aload_n 0, 1) := by decide +kernel
theorem dX0_open_8 : decode cX0_open 8 = .ok (.getfield 31, 3) := by decide +kernel
theorem dX0_open_11 : decode cX0_open 11 = .ok (.iload_n 1, 1) := by decide +kernel
theorem dX0_open_12 : decode cX0_open 12 = .ok (.iconst 0, 1) := by decide +kernel
theorem dX0_open_13 : decode cX0_open 13 = .ok (.bastore, 1) := by decide +kernel
theorem dX0_open_14 : decode cX0_open 14 = .ok (.iinc 1 1, 3) := by decide +kernel
theorem dX0_open_17 : decode cX0_open 17 = .ok (.goto (-15), 3) := by decide +kernel
theorem dX0_open_20 : decode cX0_open 20 = .ok (.return_, 1) := by decide +kernel
abbrev cX0_count : ByteArray := prog_1_method_6_code
def yX0_count : MethodName := ⟨RX0, "count", "()I"⟩
theorem dX0_count_0 : decode cX0_count 0 = .ok (.iconst 0, 1) := by decide +kernel
theorem dX0_count_1 : decode cX0_count 1 = .ok (.istore_n 1, 1) := by decide +kernel
theorem dX0_count_2 : decode cX0_count 2 = .ok (.iconst 0, 1) := by decide +kernel
theorem dX0_count_3 : decode cX0_count 3 = .ok (.istore_n 2, 1) := by decide +kernel
theorem dX0_count_4 : decode cX0_count 4 = .ok (.bipush 16, 2) := by decide +kernel
theorem dX0_count_6 : decode cX0_count 6 = .ok (.iload_n 2, 1) := by decide +kernel
theorem dX0_count_7 : decode cX0_count 7 = .ok (.imul, 1) := by decide +kernel
theorem dX0_count_8 : decode cX0_count 8 = .ok (.aload_n 0, 1) := by decide +kernel
theorem dX0_count_9 : decode cX0_count 9 = .ok (.getfield 44, 3) := by decide +kernel
theorem dX0_count_12 : decode cX0_count 12 = .ok (.if_icmp .ge 22, 3) := by decide +kernel
theorem dX0_count_15 : decode cX0_count 15 = .ok (.aload_n 0, 1) := by decide +kernel
theorem dX0_count_16 : decode cX0_count 16 = .ok (.iload_n 2, 1) := by decide +kernel
theorem dX0_count_17 : decode cX0_count 17 = .ok (.invokevirtual 56, 3) := by decide +kernel
theorem dX0_count_20 : decode cX0_count 20 = .ok (.istore_n 3, 1) := by decide +kernel
theorem dX0_count_21 : decode cX0_count 21 = .ok (.iload_n 1, 1) := by decide +kernel
theorem dX0_count_22 : decode cX0_count 22 = .ok (.iload_n 3, 1) := by decide +kernel
theorem dX0_count_23 : decode cX0_count 23 = .ok (.invokestatic 60, 3) := by decide +kernel
theorem dX0_count_26 : decode cX0_count 26 = .ok (.iadd, 1) := by decide +kernel
theorem dX0_count_27 : decode cX0_count 27 = .ok (.istore_n 1, 1) := by decide +kernel
theorem dX0_count_28 : decode cX0_count 28 = .ok (.iinc 2 1, 3) := by decide +kernel
theorem dX0_count_31 : decode cX0_count 31 = .ok (.goto (-27), 3) := by decide +kernel
theorem dX0_count_34 : decode cX0_count 34 = .ok (.iload_n 1, 1) := by decide +kernel
theorem dX0_count_35 : decode cX0_count 35 = .ok (.ireturn, 1) := by decide +kernel
abbrev cX0_passMask : ByteArray := prog_1_method_29_code
def yX0_passMask : MethodName := ⟨RX0, "passMask", "(I)I"⟩
theorem dX0_passMask_0 : decode cX0_passMask 0 = .ok (.aload_n 0, 1) := by decide +kernel
theorem dX0_passMask_1 : decode cX0_passMask 1 = .ok (.getfield 13, 3) := by decide +kernel
theorem dX0_passMask_4 : decode cX0_passMask 4 = .ok (.iload_n 1, 1) := by decide +kernel
theorem dX0_passMask_5 : decode cX0_passMask 5 = .ok (.iaload, 1) := by decide +kernel
theorem dX0_passMask_6 : decode cX0_passMask 6 = .ok (.istore_n 2, 1) := by decide +kernel
theorem dX0_passMask_7 : decode cX0_passMask 7 = .ok (.iconst 0, 1) := by decide +kernel
theorem dX0_passMask_8 : decode cX0_passMask 8 = .ok (.istore_n 3, 1) := by decide +kernel
theorem dX0_passMask_9 : decode cX0_passMask 9 = .ok (.iload_n 3, 1) := by decide +kernel
theorem dX0_passMask_10 : decode cX0_passMask 10 = .ok (.iconst 3, 1) := by decide +kernel
theorem dX0_passMask_11 : decode cX0_passMask 11 = .ok (.if_icmp .ge 43, 3) := by decide +kernel
theorem dX0_passMask_14 : decode cX0_passMask 14 = .ok (.aload_n 0, 1) := by decide +kernel
theorem dX0_passMask_15 : decode cX0_passMask 15 = .ok (.getfield 31, 3) := by decide +kernel
theorem dX0_passMask_18 : decode cX0_passMask 18 = .ok (.iload_n 3, 1) := by decide +kernel
theorem dX0_passMask_19 : decode cX0_passMask 19 = .ok (.baload, 1) := by decide +kernel
theorem dX0_passMask_20 : decode cX0_passMask 20 = .ok (.ifCond .eq 28, 3) := by decide +kernel
theorem dX0_passMask_23 : decode cX0_passMask 23 = .ok (.iload_n 2, 1) := by decide +kernel
theorem dX0_passMask_24 : decode cX0_passMask 24 = .ok (.ifCond .eq 24, 3) := by decide +kernel
theorem dX0_passMask_27 : decode cX0_passMask 27 = .ok (.iload_n 2, 1) := by decide +kernel
theorem dX0_passMask_28 : decode cX0_passMask 28 = .ok (.aload_n 0, 1) := by decide +kernel
theorem dX0_passMask_29 : decode cX0_passMask 29 = .ok (.iload_n 1, 1) := by decide +kernel
theorem dX0_passMask_30 : decode cX0_passMask 30 = .ok (.iload_n 3, 1) := by decide +kernel
theorem dX0_passMask_31 : decode cX0_passMask 31 = .ok (.aload_n 0, 1) := by decide +kernel
theorem dX0_passMask_32 : decode cX0_passMask 32 = .ok (.getfield 35, 3) := by decide +kernel
theorem dX0_passMask_35 : decode cX0_passMask 35 = .ok (.iload_n 3, 1) := by decide +kernel
theorem dX0_passMask_36 : decode cX0_passMask 36 = .ok (.iaload, 1) := by decide +kernel
theorem dX0_passMask_37 : decode cX0_passMask 37 = .ok (.aload_n 0, 1) := by decide +kernel
theorem dX0_passMask_38 : decode cX0_passMask 38 = .ok (.getfield 38, 3) := by decide +kernel
theorem dX0_passMask_41 : decode cX0_passMask 41 = .ok (.iload_n 3, 1) := by decide +kernel
theorem dX0_passMask_42 : decode cX0_passMask 42 = .ok (.iaload, 1) := by decide +kernel
theorem dX0_passMask_43 : decode cX0_passMask 43 = .ok (.invokevirtual 118, 3) := by decide +kernel
theorem dX0_passMask_46 : decode cX0_passMask 46 = .ok (.iand, 1) := by decide +kernel
theorem dX0_passMask_47 : decode cX0_passMask 47 = .ok (.istore_n 2, 1) := by decide +kernel
theorem dX0_passMask_48 : decode cX0_passMask 48 = .ok (.iinc 3 1, 3) := by decide +kernel
theorem dX0_passMask_51 : decode cX0_passMask 51 = .ok (.goto (-42), 3) := by decide +kernel
theorem dX0_passMask_54 : decode cX0_passMask 54 = .ok (.iload_n 2, 1) := by decide +kernel
theorem dX0_passMask_55 : decode cX0_passMask 55 = .ok (.ireturn, 1) := by decide +kernel
abbrev cX0_rangeMask : ByteArray := prog_1_method_30_code
def yX0_rangeMask : MethodName := ⟨RX0, "rangeMask", "(IIII)I"⟩
theorem dX0_rangeMask_0 : decode cX0_rangeMask 0 = .ok (.iconst 3, 1) := by decide +kernel
theorem dX0_rangeMask_1 : decode cX0_rangeMask 1 = .ok (.iload_n 1, 1) := by decide +kernel
theorem dX0_rangeMask_2 : decode cX0_rangeMask 2 = .ok (.imul, 1) := by decide +kernel
theorem dX0_rangeMask_3 : decode cX0_rangeMask 3 = .ok (.iload_n 2, 1) := by decide +kernel
theorem dX0_rangeMask_4 : decode cX0_rangeMask 4 = .ok (.iadd, 1) := by decide +kernel
theorem dX0_rangeMask_5 : decode cX0_rangeMask 5 = .ok (.istore 5, 2) := by decide +kernel
theorem dX0_rangeMask_7 : decode cX0_rangeMask 7 = .ok (.aload_n 0, 1) := by decide +kernel
theorem dX0_rangeMask_8 : decode cX0_rangeMask 8 = .ok (.iload_n 1, 1) := by decide +kernel
theorem dX0_rangeMask_9 : decode cX0_rangeMask 9 = .ok (.invokevirtual 109, 3) := by decide +kernel
theorem dX0_rangeMask_12 : decode cX0_rangeMask 12 = .ok (.istore 6, 2) := by decide +kernel
theorem dX0_rangeMask_14 : decode cX0_rangeMask 14 = .ok (.iload 6, 2) := by decide +kernel
theorem dX0_rangeMask_16 : decode cX0_rangeMask 16 = .ok (.ifCond .eq 34, 3) := by decide +kernel
theorem dX0_rangeMask_19 : decode cX0_rangeMask 19 = .ok (.aload_n 0, 1) := by decide +kernel
theorem dX0_rangeMask_20 : decode cX0_rangeMask 20 = .ok (.getfield 22, 3) := by decide +kernel
theorem dX0_rangeMask_23 : decode cX0_rangeMask 23 = .ok (.iload 5, 2) := by decide +kernel
theorem dX0_rangeMask_25 : decode cX0_rangeMask 25 = .ok (.iaload, 1) := by decide +kernel
theorem dX0_rangeMask_26 : decode cX0_rangeMask 26 = .ok (.iload_n 3, 1) := by decide +kernel
theorem dX0_rangeMask_27 : decode cX0_rangeMask 27 = .ok (.if_icmp .lt 21, 3) := by decide +kernel
theorem dX0_rangeMask_30 : decode cX0_rangeMask 30 = .ok (.aload_n 0, 1) := by decide +kernel
theorem dX0_rangeMask_31 : decode cX0_rangeMask 31 = .ok (.getfield 19, 3) := by decide +kernel
theorem dX0_rangeMask_34 : decode cX0_rangeMask 34 = .ok (.iload 5, 2) := by decide +kernel
theorem dX0_rangeMask_36 : decode cX0_rangeMask 36 = .ok (.iaload, 1) := by decide +kernel
theorem dX0_rangeMask_37 : decode cX0_rangeMask 37 = .ok (.iload 4, 2) := by decide +kernel
theorem dX0_rangeMask_39 : decode cX0_rangeMask 39 = .ok (.if_icmp .gt 9, 3) := by decide +kernel
theorem dX0_rangeMask_42 : decode cX0_rangeMask 42 = .ok (.iload_n 3, 1) := by decide +kernel
theorem dX0_rangeMask_43 : decode cX0_rangeMask 43 = .ok (.iload 4, 2) := by decide +kernel
theorem dX0_rangeMask_45 : decode cX0_rangeMask 45 = .ok (.if_icmp .le 5, 3) := by decide +kernel
theorem dX0_rangeMask_48 : decode cX0_rangeMask 48 = .ok (.iconst 0, 1) := by decide +kernel
theorem dX0_rangeMask_49 : decode cX0_rangeMask 49 = .ok (.ireturn, 1) := by decide +kernel
theorem dX0_rangeMask_50 : decode cX0_rangeMask 50 = .ok (.iload 6, 2) := by decide +kernel
theorem dX0_rangeMask_52 : decode cX0_rangeMask 52 = .ok (.ifCond .eq 29, 3) := by decide +kernel
theorem dX0_rangeMask_55 : decode cX0_rangeMask 55 = .ok (.iload_n 3, 1) := by decide +kernel
theorem dX0_rangeMask_56 : decode cX0_rangeMask 56 = .ok (.aload_n 0, 1) := by decide +kernel
theorem dX0_rangeMask_57 : decode cX0_rangeMask 57 = .ok (.getfield 19, 3) := by decide +kernel
theorem dX0_rangeMask_60 : decode cX0_rangeMask 60 = .ok (.iload 5, 2) := by decide +kernel
theorem dX0_rangeMask_62 : decode cX0_rangeMask 62 = .ok (.iaload, 1) := by decide +kernel
theorem dX0_rangeMask_63 : decode cX0_rangeMask 63 = .ok (.if_icmp .gt 18, 3) := by decide +kernel
theorem dX0_rangeMask_66 : decode cX0_rangeMask 66 = .ok (.aload_n 0, 1) := by decide +kernel
theorem dX0_rangeMask_67 : decode cX0_rangeMask 67 = .ok (.getfield 22, 3) := by decide +kernel
theorem dX0_rangeMask_70 : decode cX0_rangeMask 70 = .ok (.iload 5, 2) := by decide +kernel
theorem dX0_rangeMask_72 : decode cX0_rangeMask 72 = .ok (.iaload, 1) := by decide +kernel
theorem dX0_rangeMask_73 : decode cX0_rangeMask 73 = .ok (.iload 4, 2) := by decide +kernel
theorem dX0_rangeMask_75 : decode cX0_rangeMask 75 = .ok (.if_icmp .gt 6, 3) := by decide +kernel
theorem dX0_rangeMask_78 : decode cX0_rangeMask 78 = .ok (.ldc 122, 2) := by decide +kernel
theorem dX0_rangeMask_80 : decode cX0_rangeMask 80 = .ok (.ireturn, 1) := by decide +kernel
theorem dX0_rangeMask_81 : decode cX0_rangeMask 81 = .ok (.iload 6, 2) := by decide +kernel
theorem dX0_rangeMask_83 : decode cX0_rangeMask 83 = .ok (.ifCond .eq 24, 3) := by decide +kernel
theorem dX0_rangeMask_86 : decode cX0_rangeMask 86 = .ok (.aload_n 0, 1) := by decide +kernel
theorem dX0_rangeMask_87 : decode cX0_rangeMask 87 = .ok (.getfield 16, 3) := by decide +kernel
theorem dX0_rangeMask_90 : decode cX0_rangeMask 90 = .ok (.iload 5, 2) := by decide +kernel
theorem dX0_rangeMask_92 : decode cX0_rangeMask 92 = .ok (.iaload, 1) := by decide +kernel
theorem dX0_rangeMask_93 : decode cX0_rangeMask 93 = .ok (.iconst 1, 1) := by decide +kernel
theorem dX0_rangeMask_94 : decode cX0_rangeMask 94 = .ok (.if_icmp .ne 13, 3) := by decide +kernel
theorem dX0_rangeMask_97 : decode cX0_rangeMask 97 = .ok (.aload_n 0, 1) := by decide +kernel
theorem dX0_rangeMask_98 : decode cX0_rangeMask 98 = .ok (.iload 5, 2) := by decide +kernel
theorem dX0_rangeMask_100 : decode cX0_rangeMask 100 = .ok (.iload_n 3, 1) := by decide +kernel
theorem dX0_rangeMask_101 : decode cX0_rangeMask 101 = .ok (.iload 4, 2) := by decide +kernel
theorem dX0_rangeMask_103 : decode cX0_rangeMask 103 = .ok (.invokevirtual 123, 3) := by decide +kernel
theorem dX0_rangeMask_106 : decode cX0_rangeMask 106 = .ok (.ireturn, 1) := by decide +kernel
theorem dX0_rangeMask_107 : decode cX0_rangeMask 107 = .ok (.iload 6, 2) := by decide +kernel
theorem dX0_rangeMask_109 : decode cX0_rangeMask 109 = .ok (.ifCond .eq 24, 3) := by decide +kernel
theorem dX0_rangeMask_112 : decode cX0_rangeMask 112 = .ok (.aload_n 0, 1) := by decide +kernel
theorem dX0_rangeMask_113 : decode cX0_rangeMask 113 = .ok (.getfield 16, 3) := by decide +kernel
theorem dX0_rangeMask_116 : decode cX0_rangeMask 116 = .ok (.iload 5, 2) := by decide +kernel
theorem dX0_rangeMask_118 : decode cX0_rangeMask 118 = .ok (.iaload, 1) := by decide +kernel
theorem dX0_rangeMask_119 : decode cX0_rangeMask 119 = .ok (.iconst 2, 1) := by decide +kernel
theorem dX0_rangeMask_120 : decode cX0_rangeMask 120 = .ok (.if_icmp .ne 13, 3) := by decide +kernel
theorem dX0_rangeMask_123 : decode cX0_rangeMask 123 = .ok (.aload_n 0, 1) := by decide +kernel
theorem dX0_rangeMask_124 : decode cX0_rangeMask 124 = .ok (.iload 5, 2) := by decide +kernel
theorem dX0_rangeMask_126 : decode cX0_rangeMask 126 = .ok (.iload_n 3, 1) := by decide +kernel
theorem dX0_rangeMask_127 : decode cX0_rangeMask 127 = .ok (.iload 4, 2) := by decide +kernel
theorem dX0_rangeMask_129 : decode cX0_rangeMask 129 = .ok (.invokevirtual 126, 3) := by decide +kernel
theorem dX0_rangeMask_132 : decode cX0_rangeMask 132 = .ok (.ireturn, 1) := by decide +kernel
theorem dX0_rangeMask_133 : decode cX0_rangeMask 133 = .ok (.iconst 0, 1) := by decide +kernel
theorem dX0_rangeMask_134 : decode cX0_rangeMask 134 = .ok (.istore 7, 2) := by decide +kernel
theorem dX0_rangeMask_136 : decode cX0_rangeMask 136 = .ok (.iconst 0, 1) := by decide +kernel
theorem dX0_rangeMask_137 : decode cX0_rangeMask 137 = .ok (.istore 8, 2) := by decide +kernel
theorem dX0_rangeMask_139 : decode cX0_rangeMask 139 = .ok (.iload 8, 2) := by decide +kernel
theorem dX0_rangeMask_141 : decode cX0_rangeMask 141 = .ok (.bipush 16, 2) := by decide +kernel
theorem dX0_rangeMask_143 : decode cX0_rangeMask 143 = .ok (.if_icmp .ge 45, 3) := by decide +kernel
theorem dX0_rangeMask_146 : decode cX0_rangeMask 146 = .ok (.aload_n 0, 1) := by decide +kernel
theorem dX0_rangeMask_147 : decode cX0_rangeMask 147 = .ok (.iload_n 1, 1) := by decide +kernel
theorem dX0_rangeMask_148 : decode cX0_rangeMask 148 = .ok (.iload_n 2, 1) := by decide +kernel
theorem dX0_rangeMask_149 : decode cX0_rangeMask 149 = .ok (.iload 8, 2) := by decide +kernel
theorem dX0_rangeMask_151 : decode cX0_rangeMask 151 = .ok (.invokevirtual 71, 3) := by decide +kernel
theorem dX0_rangeMask_154 : decode cX0_rangeMask 154 = .ok (.istore 9, 2) := by decide +kernel
theorem dX0_rangeMask_156 : decode cX0_rangeMask 156 = .ok (.iload 7, 2) := by decide +kernel
theorem dX0_rangeMask_158 : decode cX0_rangeMask 158 = .ok (.iload_n 3, 1) := by decide +kernel
theorem dX0_rangeMask_159 : decode cX0_rangeMask 159 = .ok (.iload 9, 2) := by decide +kernel
theorem dX0_rangeMask_161 : decode cX0_rangeMask 161 = .ok (.if_icmp .gt 17, 3) := by decide +kernel
theorem dX0_rangeMask_164 : decode cX0_rangeMask 164 = .ok (.iload 9, 2) := by decide +kernel
theorem dX0_rangeMask_166 : decode cX0_rangeMask 166 = .ok (.iload 4, 2) := by decide +kernel
theorem dX0_rangeMask_168 : decode cX0_rangeMask 168 = .ok (.if_icmp .gt 10, 3) := by decide +kernel
theorem dX0_rangeMask_171 : decode cX0_rangeMask 171 = .ok (.iconst 1, 1) := by decide +kernel
theorem dX0_rangeMask_172 : decode cX0_rangeMask 172 = .ok (.iload 8, 2) := by decide +kernel
theorem dX0_rangeMask_174 : decode cX0_rangeMask 174 = .ok (.ishl, 1) := by decide +kernel
theorem dX0_rangeMask_175 : decode cX0_rangeMask 175 = .ok (.goto 4, 3) := by decide +kernel
theorem dX0_rangeMask_178 : decode cX0_rangeMask 178 = .ok (.iconst 0, 1) := by decide +kernel
theorem dX0_rangeMask_179 : decode cX0_rangeMask 179 = .ok (.ior, 1) := by decide +kernel
theorem dX0_rangeMask_180 : decode cX0_rangeMask 180 = .ok (.istore 7, 2) := by decide +kernel
theorem dX0_rangeMask_182 : decode cX0_rangeMask 182 = .ok (.iinc 8 1, 3) := by decide +kernel
theorem dX0_rangeMask_185 : decode cX0_rangeMask 185 = .ok (.goto (-46), 3) := by decide +kernel
theorem dX0_rangeMask_188 : decode cX0_rangeMask 188 = .ok (.iload 7, 2) := by decide +kernel
theorem dX0_rangeMask_190 : decode cX0_rangeMask 190 = .ok (.ireturn, 1) := by decide +kernel
end
section
set_option maxRecDepth 100000
abbrev cX0_isClosed : ByteArray := prog_1_method_16_code
def yX0_isClosed : MethodName := ⟨RX0, "isClosed", "(I)Z"⟩
theorem dX0_isClosed_0 : decode cX0_isClosed 0 = .ok (.bipush 16, 2) := by decide +kernel
theorem dX0_isClosed_2 : decode cX0_isClosed 2 = .ok (.iload_n 1, 1) := by decide +kernel
theorem dX0_isClosed_3 : decode cX0_isClosed 3 = .ok (.imul, 1) := by decide +kernel
theorem dX0_isClosed_4 : decode cX0_isClosed 4 = .ok (.bipush 16, 2) := by decide +kernel
theorem dX0_isClosed_6 : decode cX0_isClosed 6 = .ok (.iadd, 1) := by decide +kernel
theorem dX0_isClosed_7 : decode cX0_isClosed 7 = .ok (.aload_n 0, 1) := by decide +kernel
theorem dX0_isClosed_8 : decode cX0_isClosed 8 = .ok (.getfield 44, 3) := by decide +kernel
theorem dX0_isClosed_11 : decode cX0_isClosed 11 = .ok (.if_icmp .gt 7, 3) := by decide +kernel
theorem dX0_isClosed_14 : decode cX0_isClosed 14 = .ok (.iconst 1, 1) := by decide +kernel
theorem dX0_isClosed_15 : decode cX0_isClosed 15 = .ok (.goto 4, 3) := by decide +kernel
theorem dX0_isClosed_18 : decode cX0_isClosed 18 = .ok (.iconst 0, 1) := by decide +kernel
theorem dX0_isClosed_19 : decode cX0_isClosed 19 = .ok (.ireturn, 1) := by decide +kernel
abbrev cX0_runMask : ByteArray := prog_1_method_31_code
def yX0_runMask : MethodName := ⟨RX0, "runMask", "(III)I"⟩
theorem dX0_runMask_0 : decode cX0_runMask 0 = .ok (.iconst 0, 1) := by decide +kernel
theorem dX0_runMask_1 : decode cX0_runMask 1 = .ok (.istore 4, 2) := by decide +kernel
theorem dX0_runMask_3 : decode cX0_runMask 3 = .ok (.iconst 0, 1) := by decide +kernel
theorem dX0_runMask_4 : decode cX0_runMask 4 = .ok (.istore 5, 2) := by decide +kernel
theorem dX0_runMask_6 : decode cX0_runMask 6 = .ok (.iload 5, 2) := by decide +kernel
theorem dX0_runMask_8 : decode cX0_runMask 8 = .ok (.aload_n 0, 1) := by decide +kernel
theorem dX0_runMask_9 : decode cX0_runMask 9 = .ok (.getfield 25, 3) := by decide +kernel
theorem dX0_runMask_12 : decode cX0_runMask 12 = .ok (.iload_n 1, 1) := by decide +kernel
theorem dX0_runMask_13 : decode cX0_runMask 13 = .ok (.iaload, 1) := by decide +kernel
theorem dX0_runMask_14 : decode cX0_runMask 14 = .ok (.if_icmp .ge 62, 3) := by decide +kernel
theorem dX0_runMask_17 : decode cX0_runMask 17 = .ok (.aload_n 0, 1) := by decide +kernel
theorem dX0_runMask_18 : decode cX0_runMask 18 = .ok (.getfield 28, 3) := by decide +kernel
theorem dX0_runMask_21 : decode cX0_runMask 21 = .ok (.bipush 34, 2) := by decide +kernel
theorem dX0_runMask_23 : decode cX0_runMask 23 = .ok (.iload_n 1, 1) := by decide +kernel
theorem dX0_runMask_24 : decode cX0_runMask 24 = .ok (.imul, 1) := by decide +kernel
theorem dX0_runMask_25 : decode cX0_runMask 25 = .ok (.iconst 2, 1) := by decide +kernel
theorem dX0_runMask_26 : decode cX0_runMask 26 = .ok (.iload 5, 2) := by decide +kernel
theorem dX0_runMask_28 : decode cX0_runMask 28 = .ok (.imul, 1) := by decide +kernel
theorem dX0_runMask_29 : decode cX0_runMask 29 = .ok (.iadd, 1) := by decide +kernel
theorem dX0_runMask_30 : decode cX0_runMask 30 = .ok (.iaload, 1) := by decide +kernel
theorem dX0_runMask_31 : decode cX0_runMask 31 = .ok (.istore 6, 2) := by decide +kernel
theorem dX0_runMask_33 : decode cX0_runMask 33 = .ok (.iload 4, 2) := by decide +kernel
theorem dX0_runMask_35 : decode cX0_runMask 35 = .ok (.iload_n 2, 1) := by decide +kernel
theorem dX0_runMask_36 : decode cX0_runMask 36 = .ok (.iload 6, 2) := by decide +kernel
theorem dX0_runMask_38 : decode cX0_runMask 38 = .ok (.if_icmp .gt 28, 3) := by decide +kernel
theorem dX0_runMask_41 : decode cX0_runMask 41 = .ok (.iload 6, 2) := by decide +kernel
theorem dX0_runMask_43 : decode cX0_runMask 43 = .ok (.iload_n 3, 1) := by decide +kernel
theorem dX0_runMask_44 : decode cX0_runMask 44 = .ok (.if_icmp .gt 22, 3) := by decide +kernel
theorem dX0_runMask_47 : decode cX0_runMask 47 = .ok (.aload_n 0, 1) := by decide +kernel
theorem dX0_runMask_48 : decode cX0_runMask 48 = .ok (.getfield 28, 3) := by decide +kernel
theorem dX0_runMask_51 : decode cX0_runMask 51 = .ok (.bipush 34, 2) := by decide +kernel
theorem dX0_runMask_53 : decode cX0_runMask 53 = .ok (.iload_n 1, 1) := by decide +kernel
theorem dX0_runMask_54 : decode cX0_runMask 54 = .ok (.imul, 1) := by decide +kernel
theorem dX0_runMask_55 : decode cX0_runMask 55 = .ok (.iconst 2, 1) := by decide +kernel
theorem dX0_runMask_56 : decode cX0_runMask 56 = .ok (.iload 5, 2) := by decide +kernel
theorem dX0_runMask_58 : decode cX0_runMask 58 = .ok (.imul, 1) := by decide +kernel
theorem dX0_runMask_59 : decode cX0_runMask 59 = .ok (.iadd, 1) := by decide +kernel
theorem dX0_runMask_60 : decode cX0_runMask 60 = .ok (.iconst 1, 1) := by decide +kernel
theorem dX0_runMask_61 : decode cX0_runMask 61 = .ok (.iadd, 1) := by decide +kernel
theorem dX0_runMask_62 : decode cX0_runMask 62 = .ok (.iaload, 1) := by decide +kernel
theorem dX0_runMask_63 : decode cX0_runMask 63 = .ok (.goto 4, 3) := by decide +kernel
theorem dX0_runMask_66 : decode cX0_runMask 66 = .ok (.iconst 0, 1) := by decide +kernel
theorem dX0_runMask_67 : decode cX0_runMask 67 = .ok (.ior, 1) := by decide +kernel
theorem dX0_runMask_68 : decode cX0_runMask 68 = .ok (.istore 4, 2) := by decide +kernel
theorem dX0_runMask_70 : decode cX0_runMask 70 = .ok (.iinc 5 1, 3) := by decide +kernel
theorem dX0_runMask_73 : decode cX0_runMask 73 = .ok (.goto (-67), 3) := by decide +kernel
theorem dX0_runMask_76 : decode cX0_runMask 76 = .ok (.iload 4, 2) := by decide +kernel
theorem dX0_runMask_78 : decode cX0_runMask 78 = .ok (.ireturn, 1) := by decide +kernel
abbrev cX0_dictionaryMask : ByteArray := prog_1_method_32_code
def yX0_dictionaryMask : MethodName := ⟨RX0, "dictionaryMask", "(III)I"⟩
theorem dX0_dictionaryMask_0 : decode cX0_dictionaryMask 0 = .ok (.iconst 0, 1) := by decide +kernel
theorem dX0_dictionaryMask_1 : decode cX0_dictionaryMask 1 = .ok (.istore 4, 2) := by decide +kernel
theorem dX0_dictionaryMask_3 : decode cX0_dictionaryMask 3 = .ok (.iconst 0, 1) := by decide +kernel
theorem dX0_dictionaryMask_4 : decode cX0_dictionaryMask 4 = .ok (.istore 5, 2) := by decide +kernel
theorem dX0_dictionaryMask_6 : decode cX0_dictionaryMask 6 = .ok (.iconst 0, 1) := by decide +kernel
theorem dX0_dictionaryMask_7 : decode cX0_dictionaryMask 7 = .ok (.istore 6, 2) := by decide +kernel
theorem dX0_dictionaryMask_9 : decode cX0_dictionaryMask 9 = .ok (.iload 6, 2) := by decide +kernel
theorem dX0_dictionaryMask_11 : decode cX0_dictionaryMask 11 = .ok (.aload_n 0, 1) := by decide +kernel
theorem dX0_dictionaryMask_12 : decode cX0_dictionaryMask 12 = .ok (.getfield 25, 3) := by decide +kernel
theorem dX0_dictionaryMask_15 : decode cX0_dictionaryMask 15 = .ok (.iload_n 1, 1) := by decide +kernel
theorem dX0_dictionaryMask_16 : decode cX0_dictionaryMask 16 = .ok (.iaload, 1) := by decide +kernel
theorem dX0_dictionaryMask_17 : decode cX0_dictionaryMask 17 = .ok (.if_icmp .ge 61, 3) := by decide +kernel
theorem dX0_dictionaryMask_20 : decode cX0_dictionaryMask 20 = .ok (.iload 4, 2) := by decide +kernel
theorem dX0_dictionaryMask_22 : decode cX0_dictionaryMask 22 = .ok (.aload_n 0, 1) := by decide +kernel
theorem dX0_dictionaryMask_23 : decode cX0_dictionaryMask 23 = .ok (.getfield 28, 3) := by decide +kernel
theorem dX0_dictionaryMask_26 : decode cX0_dictionaryMask 26 = .ok (.bipush 34, 2) := by decide +kernel
theorem dX0_dictionaryMask_28 : decode cX0_dictionaryMask 28 = .ok (.iload_n 1, 1) := by decide +kernel
theorem dX0_dictionaryMask_29 : decode cX0_dictionaryMask 29 = .ok (.imul, 1) := by decide +kernel
theorem dX0_dictionaryMask_30 : decode cX0_dictionaryMask 30 = .ok (.iload 6, 2) := by decide +kernel
theorem dX0_dictionaryMask_32 : decode cX0_dictionaryMask 32 = .ok (.iadd, 1) := by decide +kernel
theorem dX0_dictionaryMask_33 : decode cX0_dictionaryMask 33 = .ok (.iaload, 1) := by decide +kernel
theorem dX0_dictionaryMask_34 : decode cX0_dictionaryMask 34 = .ok (.iload_n 2, 1) := by decide +kernel
theorem dX0_dictionaryMask_35 : decode cX0_dictionaryMask 35 = .ok (.if_icmp .ge 7, 3) := by decide +kernel
theorem dX0_dictionaryMask_38 : decode cX0_dictionaryMask 38 = .ok (.iconst 1, 1) := by decide +kernel
theorem dX0_dictionaryMask_39 : decode cX0_dictionaryMask 39 = .ok (.goto 4, 3) := by decide +kernel
theorem dX0_dictionaryMask_42 : decode cX0_dictionaryMask 42 = .ok (.iconst 0, 1) := by decide +kernel
theorem dX0_dictionaryMask_43 : decode cX0_dictionaryMask 43 = .ok (.iadd, 1) := by decide +kernel
theorem dX0_dictionaryMask_44 : decode cX0_dictionaryMask 44 = .ok (.istore 4, 2) := by decide +kernel
theorem dX0_dictionaryMask_46 : decode cX0_dictionaryMask 46 = .ok (.iload 5, 2) := by decide +kernel
theorem dX0_dictionaryMask_48 : decode cX0_dictionaryMask 48 = .ok (.aload_n 0, 1) := by decide +kernel
theorem dX0_dictionaryMask_49 : decode cX0_dictionaryMask 49 = .ok (.getfield 28, 3) := by decide +kernel
theorem dX0_dictionaryMask_52 : decode cX0_dictionaryMask 52 = .ok (.bipush 34, 2) := by decide +kernel
theorem dX0_dictionaryMask_54 : decode cX0_dictionaryMask 54 = .ok (.iload_n 1, 1) := by decide +kernel
theorem dX0_dictionaryMask_55 : decode cX0_dictionaryMask 55 = .ok (.imul, 1) := by decide +kernel
theorem dX0_dictionaryMask_56 : decode cX0_dictionaryMask 56 = .ok (.iload 6, 2) := by decide +kernel
theorem dX0_dictionaryMask_58 : decode cX0_dictionaryMask 58 = .ok (.iadd, 1) := by decide +kernel
theorem dX0_dictionaryMask_59 : decode cX0_dictionaryMask 59 = .ok (.iaload, 1) := by decide +kernel
theorem dX0_dictionaryMask_60 : decode cX0_dictionaryMask 60 = .ok (.iload_n 3, 1) := by decide +kernel
theorem dX0_dictionaryMask_61 : decode cX0_dictionaryMask 61 = .ok (.if_icmp .gt 7, 3) := by decide +kernel
theorem dX0_dictionaryMask_64 : decode cX0_dictionaryMask 64 = .ok (.iconst 1, 1) := by decide +kernel
theorem dX0_dictionaryMask_65 : decode cX0_dictionaryMask 65 = .ok (.goto 4, 3) := by decide +kernel
theorem dX0_dictionaryMask_68 : decode cX0_dictionaryMask 68 = .ok (.iconst 0, 1) := by decide +kernel
theorem dX0_dictionaryMask_69 : decode cX0_dictionaryMask 69 = .ok (.iadd, 1) := by decide +kernel
theorem dX0_dictionaryMask_70 : decode cX0_dictionaryMask 70 = .ok (.istore 5, 2) := by decide +kernel
theorem dX0_dictionaryMask_72 : decode cX0_dictionaryMask 72 = .ok (.iinc 6 1, 3) := by decide +kernel
theorem dX0_dictionaryMask_75 : decode cX0_dictionaryMask 75 = .ok (.goto (-66), 3) := by decide +kernel
theorem dX0_dictionaryMask_78 : decode cX0_dictionaryMask 78 = .ok (.aload_n 0, 1) := by decide +kernel
theorem dX0_dictionaryMask_79 : decode cX0_dictionaryMask 79 = .ok (.iload_n 1, 1) := by decide +kernel
theorem dX0_dictionaryMask_80 : decode cX0_dictionaryMask 80 = .ok (.invokevirtual 115, 3) := by decide +kernel
theorem dX0_dictionaryMask_83 : decode cX0_dictionaryMask 83 = .ok (.istore 6, 2) := by decide +kernel
theorem dX0_dictionaryMask_85 : decode cX0_dictionaryMask 85 = .ok (.iconst 0, 1) := by decide +kernel
theorem dX0_dictionaryMask_86 : decode cX0_dictionaryMask 86 = .ok (.istore 7, 2) := by decide +kernel
theorem dX0_dictionaryMask_88 : decode cX0_dictionaryMask 88 = .ok (.iconst 0, 1) := by decide +kernel
theorem dX0_dictionaryMask_89 : decode cX0_dictionaryMask 89 = .ok (.istore 8, 2) := by decide +kernel
theorem dX0_dictionaryMask_91 : decode cX0_dictionaryMask 91 = .ok (.iload 8, 2) := by decide +kernel
theorem dX0_dictionaryMask_93 : decode cX0_dictionaryMask 93 = .ok (.bipush 16, 2) := by decide +kernel
theorem dX0_dictionaryMask_95 : decode cX0_dictionaryMask 95 = .ok (.if_icmp .ge 57, 3) := by decide +kernel
theorem dX0_dictionaryMask_98 : decode cX0_dictionaryMask 98 = .ok (.aload_n 0, 1) := by decide +kernel
theorem dX0_dictionaryMask_99 : decode cX0_dictionaryMask 99 = .ok (.bipush 34, 2) := by decide +kernel
theorem dX0_dictionaryMask_101 : decode cX0_dictionaryMask 101 = .ok (.iload_n 1, 1) := by decide +kernel
theorem dX0_dictionaryMask_102 : decode cX0_dictionaryMask 102 = .ok (.imul, 1) := by decide +kernel
theorem dX0_dictionaryMask_103 : decode cX0_dictionaryMask 103 = .ok (.aload_n 0, 1) := by decide +kernel
theorem dX0_dictionaryMask_104 : decode cX0_dictionaryMask 104 = .ok (.getfield 25, 3) := by decide +kernel
theorem dX0_dictionaryMask_107 : decode cX0_dictionaryMask 107 = .ok (.iload_n 1, 1) := by decide +kernel
theorem dX0_dictionaryMask_108 : decode cX0_dictionaryMask 108 = .ok (.iaload, 1) := by decide +kernel
theorem dX0_dictionaryMask_109 : decode cX0_dictionaryMask 109 = .ok (.iadd, 1) := by decide +kernel
theorem dX0_dictionaryMask_110 : decode cX0_dictionaryMask 110 = .ok (.iload 6, 2) := by decide +kernel
theorem dX0_dictionaryMask_112 : decode cX0_dictionaryMask 112 = .ok (.iload 8, 2) := by decide +kernel
theorem dX0_dictionaryMask_114 : decode cX0_dictionaryMask 114 = .ok (.invokevirtual 112, 3) := by decide +kernel
theorem dX0_dictionaryMask_117 : decode cX0_dictionaryMask 117 = .ok (.istore 9, 2) := by decide +kernel
theorem dX0_dictionaryMask_119 : decode cX0_dictionaryMask 119 = .ok (.iload 7, 2) := by decide +kernel
theorem dX0_dictionaryMask_121 : decode cX0_dictionaryMask 121 = .ok (.iload 4, 2) := by decide +kernel
theorem dX0_dictionaryMask_123 : decode cX0_dictionaryMask 123 = .ok (.iload 9, 2) := by decide +kernel
theorem dX0_dictionaryMask_125 : decode cX0_dictionaryMask 125 = .ok (.if_icmp .gt 17, 3) := by decide +kernel
theorem dX0_dictionaryMask_128 : decode cX0_dictionaryMask 128 = .ok (.iload 9, 2) := by decide +kernel
theorem dX0_dictionaryMask_130 : decode cX0_dictionaryMask 130 = .ok (.iload 5, 2) := by decide +kernel
theorem dX0_dictionaryMask_132 : decode cX0_dictionaryMask 132 = .ok (.if_icmp .ge 10, 3) := by decide +kernel
theorem dX0_dictionaryMask_135 : decode cX0_dictionaryMask 135 = .ok (.iconst 1, 1) := by decide +kernel
theorem dX0_dictionaryMask_136 : decode cX0_dictionaryMask 136 = .ok (.iload 8, 2) := by decide +kernel
theorem dX0_dictionaryMask_138 : decode cX0_dictionaryMask 138 = .ok (.ishl, 1) := by decide +kernel
theorem dX0_dictionaryMask_139 : decode cX0_dictionaryMask 139 = .ok (.goto 4, 3) := by decide +kernel
theorem dX0_dictionaryMask_142 : decode cX0_dictionaryMask 142 = .ok (.iconst 0, 1) := by decide +kernel
theorem dX0_dictionaryMask_143 : decode cX0_dictionaryMask 143 = .ok (.ior, 1) := by decide +kernel
theorem dX0_dictionaryMask_144 : decode cX0_dictionaryMask 144 = .ok (.istore 7, 2) := by decide +kernel
theorem dX0_dictionaryMask_146 : decode cX0_dictionaryMask 146 = .ok (.iinc 8 1, 3) := by decide +kernel
theorem dX0_dictionaryMask_149 : decode cX0_dictionaryMask 149 = .ok (.goto (-58), 3) := by decide +kernel
theorem dX0_dictionaryMask_152 : decode cX0_dictionaryMask 152 = .ok (.iload 7, 2) := by decide +kernel
theorem dX0_dictionaryMask_154 : decode cX0_dictionaryMask 154 = .ok (.ireturn, 1) := by decide +kernel
abbrev cX0_indexBitsOf : ByteArray := prog_1_method_27_code
def yX0_indexBitsOf : MethodName := ⟨RX0, "indexBitsOf", "(I)I"⟩
theorem dX0_indexBitsOf_0 : decode cX0_indexBitsOf 0 = .ok (.aload_n 0, 1) := by decide +kernel
theorem dX0_indexBitsOf_1 : decode cX0_indexBitsOf 1 = .ok (.getfield 25, 3) := by decide +kernel
theorem dX0_indexBitsOf_4 : decode cX0_indexBitsOf 4 = .ok (.iload_n 1, 1) := by decide +kernel
theorem dX0_indexBitsOf_5 : decode cX0_indexBitsOf 5 = .ok (.iaload, 1) := by decide +kernel
theorem dX0_indexBitsOf_6 : decode cX0_indexBitsOf 6 = .ok (.iconst 1, 1) := by decide +kernel
theorem dX0_indexBitsOf_7 : decode cX0_indexBitsOf 7 = .ok (.isub, 1) := by decide +kernel
theorem dX0_indexBitsOf_8 : decode cX0_indexBitsOf 8 = .ok (.invokestatic 86, 3) := by decide +kernel
theorem dX0_indexBitsOf_11 : decode cX0_indexBitsOf 11 = .ok (.ireturn, 1) := by decide +kernel
abbrev cX0_getBits : ByteArray := prog_1_method_26_code
def yX0_getBits : MethodName := ⟨RX0, "getBits", "(III)I"⟩
theorem dX0_getBits_0 : decode cX0_getBits 0 = .ok (.iload_n 2, 1) := by decide +kernel
theorem dX0_getBits_1 : decode cX0_getBits 1 = .ok (.iload_n 3, 1) := by decide +kernel
theorem dX0_getBits_2 : decode cX0_getBits 2 = .ok (.imul, 1) := by decide +kernel
theorem dX0_getBits_3 : decode cX0_getBits 3 = .ok (.istore 4, 2) := by decide +kernel
theorem dX0_getBits_5 : decode cX0_getBits 5 = .ok (.iload_n 2, 1) := by decide +kernel
theorem dX0_getBits_6 : decode cX0_getBits 6 = .ok (.ifCond .ne 5, 3) := by decide +kernel
theorem dX0_getBits_9 : decode cX0_getBits 9 = .ok (.iconst 0, 1) := by decide +kernel
theorem dX0_getBits_10 : decode cX0_getBits 10 = .ok (.ireturn, 1) := by decide +kernel
theorem dX0_getBits_11 : decode cX0_getBits 11 = .ok (.aload_n 0, 1) := by decide +kernel
theorem dX0_getBits_12 : decode cX0_getBits 12 = .ok (.getfield 28, 3) := by decide +kernel
theorem dX0_getBits_15 : decode cX0_getBits 15 = .ok (.iload_n 1, 1) := by decide +kernel
theorem dX0_getBits_16 : decode cX0_getBits 16 = .ok (.iload 4, 2) := by decide +kernel
theorem dX0_getBits_18 : decode cX0_getBits 18 = .ok (.iconst 5, 1) := by decide +kernel
theorem dX0_getBits_19 : decode cX0_getBits 19 = .ok (.ishr, 1) := by decide +kernel
theorem dX0_getBits_20 : decode cX0_getBits 20 = .ok (.iadd, 1) := by decide +kernel
theorem dX0_getBits_21 : decode cX0_getBits 21 = .ok (.iaload, 1) := by decide +kernel
theorem dX0_getBits_22 : decode cX0_getBits 22 = .ok (.iload 4, 2) := by decide +kernel
theorem dX0_getBits_24 : decode cX0_getBits 24 = .ok (.bipush 31, 2) := by decide +kernel
theorem dX0_getBits_26 : decode cX0_getBits 26 = .ok (.iand, 1) := by decide +kernel
theorem dX0_getBits_27 : decode cX0_getBits 27 = .ok (.iushr, 1) := by decide +kernel
theorem dX0_getBits_28 : decode cX0_getBits 28 = .ok (.istore 5, 2) := by decide +kernel
theorem dX0_getBits_30 : decode cX0_getBits 30 = .ok (.iload 4, 2) := by decide +kernel
theorem dX0_getBits_32 : decode cX0_getBits 32 = .ok (.bipush 31, 2) := by decide +kernel
theorem dX0_getBits_34 : decode cX0_getBits 34 = .ok (.iand, 1) := by decide +kernel
theorem dX0_getBits_35 : decode cX0_getBits 35 = .ok (.iload_n 2, 1) := by decide +kernel
theorem dX0_getBits_36 : decode cX0_getBits 36 = .ok (.iadd, 1) := by decide +kernel
theorem dX0_getBits_37 : decode cX0_getBits 37 = .ok (.bipush 32, 2) := by decide +kernel
theorem dX0_getBits_39 : decode cX0_getBits 39 = .ok (.if_icmp .le 30, 3) := by decide +kernel
theorem dX0_getBits_42 : decode cX0_getBits 42 = .ok (.iload 5, 2) := by decide +kernel
theorem dX0_getBits_44 : decode cX0_getBits 44 = .ok (.aload_n 0, 1) := by decide +kernel
theorem dX0_getBits_45 : decode cX0_getBits 45 = .ok (.getfield 28, 3) := by decide +kernel
theorem dX0_getBits_48 : decode cX0_getBits 48 = .ok (.iload_n 1, 1) := by decide +kernel
theorem dX0_getBits_49 : decode cX0_getBits 49 = .ok (.iload 4, 2) := by decide +kernel
theorem dX0_getBits_51 : decode cX0_getBits 51 = .ok (.iconst 5, 1) := by decide +kernel
theorem dX0_getBits_52 : decode cX0_getBits 52 = .ok (.ishr, 1) := by decide +kernel
theorem dX0_getBits_53 : decode cX0_getBits 53 = .ok (.iadd, 1) := by decide +kernel
theorem dX0_getBits_54 : decode cX0_getBits 54 = .ok (.iconst 1, 1) := by decide +kernel
theorem dX0_getBits_55 : decode cX0_getBits 55 = .ok (.iadd, 1) := by decide +kernel
theorem dX0_getBits_56 : decode cX0_getBits 56 = .ok (.iaload, 1) := by decide +kernel
theorem dX0_getBits_57 : decode cX0_getBits 57 = .ok (.bipush 32, 2) := by decide +kernel
theorem dX0_getBits_59 : decode cX0_getBits 59 = .ok (.iload 4, 2) := by decide +kernel
theorem dX0_getBits_61 : decode cX0_getBits 61 = .ok (.bipush 31, 2) := by decide +kernel
theorem dX0_getBits_63 : decode cX0_getBits 63 = .ok (.iand, 1) := by decide +kernel
theorem dX0_getBits_64 : decode cX0_getBits 64 = .ok (.isub, 1) := by decide +kernel
theorem dX0_getBits_65 : decode cX0_getBits 65 = .ok (.ishl, 1) := by decide +kernel
theorem dX0_getBits_66 : decode cX0_getBits 66 = .ok (.ior, 1) := by decide +kernel
theorem dX0_getBits_67 : decode cX0_getBits 67 = .ok (.istore 5, 2) := by decide +kernel
theorem dX0_getBits_69 : decode cX0_getBits 69 = .ok (.iload 5, 2) := by decide +kernel
theorem dX0_getBits_71 : decode cX0_getBits 71 = .ok (.iconst 1, 1) := by decide +kernel
theorem dX0_getBits_72 : decode cX0_getBits 72 = .ok (.iload_n 2, 1) := by decide +kernel
theorem dX0_getBits_73 : decode cX0_getBits 73 = .ok (.ishl, 1) := by decide +kernel
theorem dX0_getBits_74 : decode cX0_getBits 74 = .ok (.iconst 1, 1) := by decide +kernel
theorem dX0_getBits_75 : decode cX0_getBits 75 = .ok (.isub, 1) := by decide +kernel
theorem dX0_getBits_76 : decode cX0_getBits 76 = .ok (.iand, 1) := by decide +kernel
theorem dX0_getBits_77 : decode cX0_getBits 77 = .ok (.ireturn, 1) := by decide +kernel
abbrev cX0_valueIn : ByteArray := prog_1_method_28_code
def yX0_valueIn : MethodName := ⟨RX0, "valueIn", "(III)I"⟩
theorem dX0_valueIn_0 : decode cX0_valueIn 0 = .ok (.aload_n 0, 1) := by decide +kernel
theorem dX0_valueIn_1 : decode cX0_valueIn 1 = .ok (.iload_n 1, 1) := by decide +kernel
theorem dX0_valueIn_2 : decode cX0_valueIn 2 = .ok (.invokevirtual 109, 3) := by decide +kernel
theorem dX0_valueIn_5 : decode cX0_valueIn 5 = .ok (.ifCond .ne 15, 3) := by decide +kernel
theorem dX0_valueIn_8 : decode cX0_valueIn 8 = .ok (.aload_n 0, 1) := by decide +kernel
theorem dX0_valueIn_9 : decode cX0_valueIn 9 = .ok (.getfield 7, 3) := by decide +kernel
theorem dX0_valueIn_12 : decode cX0_valueIn 12 = .ok (.bipush 16, 2) := by decide +kernel
theorem dX0_valueIn_14 : decode cX0_valueIn 14 = .ok (.iload_n 2, 1) := by decide +kernel
theorem dX0_valueIn_15 : decode cX0_valueIn 15 = .ok (.imul, 1) := by decide +kernel
theorem dX0_valueIn_16 : decode cX0_valueIn 16 = .ok (.iload_n 3, 1) := by decide +kernel
theorem dX0_valueIn_17 : decode cX0_valueIn 17 = .ok (.iadd, 1) := by decide +kernel
theorem dX0_valueIn_18 : decode cX0_valueIn 18 = .ok (.iaload, 1) := by decide +kernel
theorem dX0_valueIn_19 : decode cX0_valueIn 19 = .ok (.ireturn, 1) := by decide +kernel
theorem dX0_valueIn_20 : decode cX0_valueIn 20 = .ok (.iconst 3, 1) := by decide +kernel
theorem dX0_valueIn_21 : decode cX0_valueIn 21 = .ok (.iload_n 1, 1) := by decide +kernel
theorem dX0_valueIn_22 : decode cX0_valueIn 22 = .ok (.imul, 1) := by decide +kernel
theorem dX0_valueIn_23 : decode cX0_valueIn 23 = .ok (.iload_n 2, 1) := by decide +kernel
theorem dX0_valueIn_24 : decode cX0_valueIn 24 = .ok (.iadd, 1) := by decide +kernel
theorem dX0_valueIn_25 : decode cX0_valueIn 25 = .ok (.istore 4, 2) := by decide +kernel
theorem dX0_valueIn_27 : decode cX0_valueIn 27 = .ok (.bipush 34, 2) := by decide +kernel
theorem dX0_valueIn_29 : decode cX0_valueIn 29 = .ok (.iload 4, 2) := by decide +kernel
theorem dX0_valueIn_31 : decode cX0_valueIn 31 = .ok (.imul, 1) := by decide +kernel
theorem dX0_valueIn_32 : decode cX0_valueIn 32 = .ok (.istore 5, 2) := by decide +kernel
theorem dX0_valueIn_34 : decode cX0_valueIn 34 = .ok (.aload_n 0, 1) := by decide +kernel
theorem dX0_valueIn_35 : decode cX0_valueIn 35 = .ok (.getfield 16, 3) := by decide +kernel
theorem dX0_valueIn_38 : decode cX0_valueIn 38 = .ok (.iload 4, 2) := by decide +kernel
theorem dX0_valueIn_40 : decode cX0_valueIn 40 = .ok (.iaload, 1) := by decide +kernel
theorem dX0_valueIn_41 : decode cX0_valueIn 41 = .ok (.ifCond .ne 13, 3) := by decide +kernel
theorem dX0_valueIn_44 : decode cX0_valueIn 44 = .ok (.aload_n 0, 1) := by decide +kernel
theorem dX0_valueIn_45 : decode cX0_valueIn 45 = .ok (.getfield 28, 3) := by decide +kernel
theorem dX0_valueIn_48 : decode cX0_valueIn 48 = .ok (.iload 5, 2) := by decide +kernel
theorem dX0_valueIn_50 : decode cX0_valueIn 50 = .ok (.iload_n 3, 1) := by decide +kernel
theorem dX0_valueIn_51 : decode cX0_valueIn 51 = .ok (.iadd, 1) := by decide +kernel
theorem dX0_valueIn_52 : decode cX0_valueIn 52 = .ok (.iaload, 1) := by decide +kernel
theorem dX0_valueIn_53 : decode cX0_valueIn 53 = .ok (.ireturn, 1) := by decide +kernel
theorem dX0_valueIn_54 : decode cX0_valueIn 54 = .ok (.aload_n 0, 1) := by decide +kernel
theorem dX0_valueIn_55 : decode cX0_valueIn 55 = .ok (.getfield 16, 3) := by decide +kernel
theorem dX0_valueIn_58 : decode cX0_valueIn 58 = .ok (.iload 4, 2) := by decide +kernel
theorem dX0_valueIn_60 : decode cX0_valueIn 60 = .ok (.iaload, 1) := by decide +kernel
theorem dX0_valueIn_61 : decode cX0_valueIn 61 = .ok (.iconst 3, 1) := by decide +kernel
theorem dX0_valueIn_62 : decode cX0_valueIn 62 = .ok (.if_icmp .ne 26, 3) := by decide +kernel
theorem dX0_valueIn_65 : decode cX0_valueIn 65 = .ok (.aload_n 0, 1) := by decide +kernel
theorem dX0_valueIn_66 : decode cX0_valueIn 66 = .ok (.getfield 19, 3) := by decide +kernel
theorem dX0_valueIn_69 : decode cX0_valueIn 69 = .ok (.iload 4, 2) := by decide +kernel
theorem dX0_valueIn_71 : decode cX0_valueIn 71 = .ok (.iaload, 1) := by decide +kernel
theorem dX0_valueIn_72 : decode cX0_valueIn 72 = .ok (.aload_n 0, 1) := by decide +kernel
theorem dX0_valueIn_73 : decode cX0_valueIn 73 = .ok (.iload 5, 2) := by decide +kernel
theorem dX0_valueIn_75 : decode cX0_valueIn 75 = .ok (.aload_n 0, 1) := by decide +kernel
theorem dX0_valueIn_76 : decode cX0_valueIn 76 = .ok (.getfield 25, 3) := by decide +kernel
theorem dX0_valueIn_79 : decode cX0_valueIn 79 = .ok (.iload 4, 2) := by decide +kernel
theorem dX0_valueIn_81 : decode cX0_valueIn 81 = .ok (.iaload, 1) := by decide +kernel
theorem dX0_valueIn_82 : decode cX0_valueIn 82 = .ok (.iload_n 3, 1) := by decide +kernel
theorem dX0_valueIn_83 : decode cX0_valueIn 83 = .ok (.invokevirtual 112, 3) := by decide +kernel
theorem dX0_valueIn_86 : decode cX0_valueIn 86 = .ok (.iadd, 1) := by decide +kernel
theorem dX0_valueIn_87 : decode cX0_valueIn 87 = .ok (.ireturn, 1) := by decide +kernel
theorem dX0_valueIn_88 : decode cX0_valueIn 88 = .ok (.aload_n 0, 1) := by decide +kernel
theorem dX0_valueIn_89 : decode cX0_valueIn 89 = .ok (.getfield 16, 3) := by decide +kernel
theorem dX0_valueIn_92 : decode cX0_valueIn 92 = .ok (.iload 4, 2) := by decide +kernel
theorem dX0_valueIn_94 : decode cX0_valueIn 94 = .ok (.iaload, 1) := by decide +kernel
theorem dX0_valueIn_95 : decode cX0_valueIn 95 = .ok (.iconst 2, 1) := by decide +kernel
theorem dX0_valueIn_96 : decode cX0_valueIn 96 = .ok (.if_icmp .ne 37, 3) := by decide +kernel
theorem dX0_valueIn_99 : decode cX0_valueIn 99 = .ok (.aload_n 0, 1) := by decide +kernel
theorem dX0_valueIn_100 : decode cX0_valueIn 100 = .ok (.iload 4, 2) := by decide +kernel
theorem dX0_valueIn_102 : decode cX0_valueIn 102 = .ok (.invokevirtual 115, 3) := by decide +kernel
theorem dX0_valueIn_105 : decode cX0_valueIn 105 = .ok (.istore 6, 2) := by decide +kernel
theorem dX0_valueIn_107 : decode cX0_valueIn 107 = .ok (.aload_n 0, 1) := by decide +kernel
theorem dX0_valueIn_108 : decode cX0_valueIn 108 = .ok (.getfield 28, 3) := by decide +kernel
theorem dX0_valueIn_111 : decode cX0_valueIn 111 = .ok (.iload 5, 2) := by decide +kernel
theorem dX0_valueIn_113 : decode cX0_valueIn 113 = .ok (.aload_n 0, 1) := by decide +kernel
theorem dX0_valueIn_114 : decode cX0_valueIn 114 = .ok (.iload 5, 2) := by decide +kernel
theorem dX0_valueIn_116 : decode cX0_valueIn 116 = .ok (.aload_n 0, 1) := by decide +kernel
theorem dX0_valueIn_117 : decode cX0_valueIn 117 = .ok (.getfield 25, 3) := by decide +kernel
theorem dX0_valueIn_120 : decode cX0_valueIn 120 = .ok (.iload 4, 2) := by decide +kernel
theorem dX0_valueIn_122 : decode cX0_valueIn 122 = .ok (.iaload, 1) := by decide +kernel
theorem dX0_valueIn_123 : decode cX0_valueIn 123 = .ok (.iadd, 1) := by decide +kernel
theorem dX0_valueIn_124 : decode cX0_valueIn 124 = .ok (.iload 6, 2) := by decide +kernel
theorem dX0_valueIn_126 : decode cX0_valueIn 126 = .ok (.iload_n 3, 1) := by decide +kernel
theorem dX0_valueIn_127 : decode cX0_valueIn 127 = .ok (.invokevirtual 112, 3) := by decide +kernel
theorem dX0_valueIn_130 : decode cX0_valueIn 130 = .ok (.iadd, 1) := by decide +kernel
theorem dX0_valueIn_131 : decode cX0_valueIn 131 = .ok (.iaload, 1) := by decide +kernel
theorem dX0_valueIn_132 : decode cX0_valueIn 132 = .ok (.ireturn, 1) := by decide +kernel
theorem dX0_valueIn_133 : decode cX0_valueIn 133 = .ok (.iconst 0, 1) := by decide +kernel
theorem dX0_valueIn_134 : decode cX0_valueIn 134 = .ok (.istore 6, 2) := by decide +kernel
theorem dX0_valueIn_136 : decode cX0_valueIn 136 = .ok (.iload 6, 2) := by decide +kernel
theorem dX0_valueIn_138 : decode cX0_valueIn 138 = .ok (.aload_n 0, 1) := by decide +kernel
theorem dX0_valueIn_139 : decode cX0_valueIn 139 = .ok (.getfield 25, 3) := by decide +kernel
theorem dX0_valueIn_142 : decode cX0_valueIn 142 = .ok (.iload 4, 2) := by decide +kernel
theorem dX0_valueIn_144 : decode cX0_valueIn 144 = .ok (.iaload, 1) := by decide +kernel
theorem dX0_valueIn_145 : decode cX0_valueIn 145 = .ok (.if_icmp .ge 43, 3) := by decide +kernel
theorem dX0_valueIn_148 : decode cX0_valueIn 148 = .ok (.aload_n 0, 1) := by decide +kernel
theorem dX0_valueIn_149 : decode cX0_valueIn 149 = .ok (.getfield 28, 3) := by decide +kernel
theorem dX0_valueIn_152 : decode cX0_valueIn 152 = .ok (.iload 5, 2) := by decide +kernel
theorem dX0_valueIn_154 : decode cX0_valueIn 154 = .ok (.iconst 2, 1) := by decide +kernel
theorem dX0_valueIn_155 : decode cX0_valueIn 155 = .ok (.iload 6, 2) := by decide +kernel
theorem dX0_valueIn_157 : decode cX0_valueIn 157 = .ok (.imul, 1) := by decide +kernel
theorem dX0_valueIn_158 : decode cX0_valueIn 158 = .ok (.iadd, 1) := by decide +kernel
theorem dX0_valueIn_159 : decode cX0_valueIn 159 = .ok (.iconst 1, 1) := by decide +kernel
theorem dX0_valueIn_160 : decode cX0_valueIn 160 = .ok (.iadd, 1) := by decide +kernel
theorem dX0_valueIn_161 : decode cX0_valueIn 161 = .ok (.iaload, 1) := by decide +kernel
theorem dX0_valueIn_162 : decode cX0_valueIn 162 = .ok (.iload_n 3, 1) := by decide +kernel
theorem dX0_valueIn_163 : decode cX0_valueIn 163 = .ok (.iushr, 1) := by decide +kernel
theorem dX0_valueIn_164 : decode cX0_valueIn 164 = .ok (.iconst 1, 1) := by decide +kernel
theorem dX0_valueIn_165 : decode cX0_valueIn 165 = .ok (.iand, 1) := by decide +kernel
theorem dX0_valueIn_166 : decode cX0_valueIn 166 = .ok (.ifCond .eq 16, 3) := by decide +kernel
theorem dX0_valueIn_169 : decode cX0_valueIn 169 = .ok (.aload_n 0, 1) := by decide +kernel
theorem dX0_valueIn_170 : decode cX0_valueIn 170 = .ok (.getfield 28, 3) := by decide +kernel
theorem dX0_valueIn_173 : decode cX0_valueIn 173 = .ok (.iload 5, 2) := by decide +kernel
theorem dX0_valueIn_175 : decode cX0_valueIn 175 = .ok (.iconst 2, 1) := by decide +kernel
theorem dX0_valueIn_176 : decode cX0_valueIn 176 = .ok (.iload 6, 2) := by decide +kernel
theorem dX0_valueIn_178 : decode cX0_valueIn 178 = .ok (.imul, 1) := by decide +kernel
theorem dX0_valueIn_179 : decode cX0_valueIn 179 = .ok (.iadd, 1) := by decide +kernel
theorem dX0_valueIn_180 : decode cX0_valueIn 180 = .ok (.iaload, 1) := by decide +kernel
theorem dX0_valueIn_181 : decode cX0_valueIn 181 = .ok (.ireturn, 1) := by decide +kernel
theorem dX0_valueIn_182 : decode cX0_valueIn 182 = .ok (.iinc 6 1, 3) := by decide +kernel
theorem dX0_valueIn_185 : decode cX0_valueIn 185 = .ok (.goto (-49), 3) := by decide +kernel
theorem dX0_valueIn_188 : decode cX0_valueIn 188 = .ok (.iconst 0, 1) := by decide +kernel
theorem dX0_valueIn_189 : decode cX0_valueIn 189 = .ok (.ireturn, 1) := by decide +kernel
abbrev cX0_ones : ByteArray := prog_1_method_14_code
def yX0_ones : MethodName := ⟨RX0, "ones", "(I)I"⟩
theorem dX0_ones_0 : decode cX0_ones 0 = .ok (.iconst 0, 1) := by decide +kernel
theorem dX0_ones_1 : decode cX0_ones 1 = .ok (.istore_n 1, 1) := by decide +kernel
theorem dX0_ones_2 : decode cX0_ones 2 = .ok (.iconst 0, 1) := by decide +kernel
theorem dX0_ones_3 : decode cX0_ones 3 = .ok (.istore_n 2, 1) := by decide +kernel
theorem dX0_ones_4 : decode cX0_ones 4 = .ok (.iload_n 2, 1) := by decide +kernel
theorem dX0_ones_5 : decode cX0_ones 5 = .ok (.bipush 16, 2) := by decide +kernel
theorem dX0_ones_7 : decode cX0_ones 7 = .ok (.if_icmp .ge 17, 3) := by decide +kernel
theorem dX0_ones_10 : decode cX0_ones 10 = .ok (.iload_n 1, 1) := by decide +kernel
theorem dX0_ones_11 : decode cX0_ones 11 = .ok (.iload_n 0, 1) := by decide +kernel
theorem dX0_ones_12 : decode cX0_ones 12 = .ok (.iload_n 2, 1) := by decide +kernel
theorem dX0_ones_13 : decode cX0_ones 13 = .ok (.iushr, 1) := by decide +kernel
theorem dX0_ones_14 : decode cX0_ones 14 = .ok (.iconst 1, 1) := by decide +kernel
theorem dX0_ones_15 : decode cX0_ones 15 = .ok (.iand, 1) := by decide +kernel
theorem dX0_ones_16 : decode cX0_ones 16 = .ok (.iadd, 1) := by decide +kernel
theorem dX0_ones_17 : decode cX0_ones 17 = .ok (.istore_n 1, 1) := by decide +kernel
theorem dX0_ones_18 : decode cX0_ones 18 = .ok (.iinc 2 1, 3) := by decide +kernel
theorem dX0_ones_21 : decode cX0_ones 21 = .ok (.goto (-17), 3) := by decide +kernel
theorem dX0_ones_24 : decode cX0_ones 24 = .ok (.iload_n 1, 1) := by decide +kernel
theorem dX0_ones_25 : decode cX0_ones 25 = .ok (.ireturn, 1) := by decide +kernel
abbrev cX0_sum : ByteArray := prog_1_method_7_code
def yX0_sum : MethodName := ⟨RX0, "sum", "(I)J"⟩
theorem dX0_sum_0 : decode cX0_sum 0 = .ok (.iload_n 1, 1) := by decide +kernel
theorem dX0_sum_1 : decode cX0_sum 1 = .ok (.invokestatic 52, 3) := by decide +kernel
theorem dX0_sum_4 : decode cX0_sum 4 = .ok (.ifCond .ne 5, 3) := by decide +kernel
theorem dX0_sum_7 : decode cX0_sum 7 = .ok (.lconst 0, 1) := by decide +kernel
theorem dX0_sum_8 : decode cX0_sum 8 = .ok (.lreturn, 1) := by decide +kernel
theorem dX0_sum_9 : decode cX0_sum 9 = .ok (.lconst 0, 1) := by decide +kernel
theorem dX0_sum_10 : decode cX0_sum 10 = .ok (.lstore_n 2, 1) := by decide +kernel
theorem dX0_sum_11 : decode cX0_sum 11 = .ok (.iconst 0, 1) := by decide +kernel
theorem dX0_sum_12 : decode cX0_sum 12 = .ok (.istore 4, 2) := by decide +kernel
theorem dX0_sum_14 : decode cX0_sum 14 = .ok (.bipush 16, 2) := by decide +kernel
theorem dX0_sum_16 : decode cX0_sum 16 = .ok (.iload 4, 2) := by decide +kernel
theorem dX0_sum_18 : decode cX0_sum 18 = .ok (.imul, 1) := by decide +kernel
theorem dX0_sum_19 : decode cX0_sum 19 = .ok (.aload_n 0, 1) := by decide +kernel
theorem dX0_sum_20 : decode cX0_sum 20 = .ok (.getfield 44, 3) := by decide +kernel
theorem dX0_sum_23 : decode cX0_sum 23 = .ok (.if_icmp .ge 34, 3) := by decide +kernel
theorem dX0_sum_26 : decode cX0_sum 26 = .ok (.aload_n 0, 1) := by decide +kernel
theorem dX0_sum_27 : decode cX0_sum 27 = .ok (.iload 4, 2) := by decide +kernel
theorem dX0_sum_29 : decode cX0_sum 29 = .ok (.invokevirtual 56, 3) := by decide +kernel
theorem dX0_sum_32 : decode cX0_sum 32 = .ok (.istore 5, 2) := by decide +kernel
theorem dX0_sum_34 : decode cX0_sum 34 = .ok (.iload 5, 2) := by decide +kernel
theorem dX0_sum_36 : decode cX0_sum 36 = .ok (.ifCond .eq 15, 3) := by decide +kernel
theorem dX0_sum_39 : decode cX0_sum 39 = .ok (.lload_n 2, 1) := by decide +kernel
theorem dX0_sum_40 : decode cX0_sum 40 = .ok (.aload_n 0, 1) := by decide +kernel
theorem dX0_sum_41 : decode cX0_sum 41 = .ok (.iload 4, 2) := by decide +kernel
theorem dX0_sum_43 : decode cX0_sum 43 = .ok (.iload_n 1, 1) := by decide +kernel
theorem dX0_sum_44 : decode cX0_sum 44 = .ok (.iload 5, 2) := by decide +kernel
theorem dX0_sum_46 : decode cX0_sum 46 = .ok (.invokevirtual 63, 3) := by decide +kernel
theorem dX0_sum_49 : decode cX0_sum 49 = .ok (.ladd, 1) := by decide +kernel
theorem dX0_sum_50 : decode cX0_sum 50 = .ok (.lstore_n 2, 1) := by decide +kernel
theorem dX0_sum_51 : decode cX0_sum 51 = .ok (.iinc 4 1, 3) := by decide +kernel
theorem dX0_sum_54 : decode cX0_sum 54 = .ok (.goto (-40), 3) := by decide +kernel
theorem dX0_sum_57 : decode cX0_sum 57 = .ok (.lload_n 2, 1) := by decide +kernel
theorem dX0_sum_58 : decode cX0_sum 58 = .ok (.lreturn, 1) := by decide +kernel
abbrev cX0_sumOf : ByteArray := prog_1_method_33_code
def yX0_sumOf : MethodName := ⟨RX0, "sumOf", "(III)J"⟩
theorem dX0_sumOf_0 : decode cX0_sumOf 0 = .ok (.iconst 3, 1) := by decide +kernel
theorem dX0_sumOf_1 : decode cX0_sumOf 1 = .ok (.iload_n 1, 1) := by decide +kernel
theorem dX0_sumOf_2 : decode cX0_sumOf 2 = .ok (.imul, 1) := by decide +kernel
theorem dX0_sumOf_3 : decode cX0_sumOf 3 = .ok (.iload_n 2, 1) := by decide +kernel
theorem dX0_sumOf_4 : decode cX0_sumOf 4 = .ok (.iadd, 1) := by decide +kernel
theorem dX0_sumOf_5 : decode cX0_sumOf 5 = .ok (.istore 4, 2) := by decide +kernel
theorem dX0_sumOf_7 : decode cX0_sumOf 7 = .ok (.lconst 0, 1) := by decide +kernel
theorem dX0_sumOf_8 : decode cX0_sumOf 8 = .ok (.lstore 5, 2) := by decide +kernel
theorem dX0_sumOf_10 : decode cX0_sumOf 10 = .ok (.aload_n 0, 1) := by decide +kernel
theorem dX0_sumOf_11 : decode cX0_sumOf 11 = .ok (.iload_n 1, 1) := by decide +kernel
theorem dX0_sumOf_12 : decode cX0_sumOf 12 = .ok (.invokevirtual 109, 3) := by decide +kernel
theorem dX0_sumOf_15 : decode cX0_sumOf 15 = .ok (.ifCond .eq 87, 3) := by decide +kernel
theorem dX0_sumOf_18 : decode cX0_sumOf 18 = .ok (.aload_n 0, 1) := by decide +kernel
theorem dX0_sumOf_19 : decode cX0_sumOf 19 = .ok (.getfield 16, 3) := by decide +kernel
theorem dX0_sumOf_22 : decode cX0_sumOf 22 = .ok (.iload 4, 2) := by decide +kernel
theorem dX0_sumOf_24 : decode cX0_sumOf 24 = .ok (.iaload, 1) := by decide +kernel
theorem dX0_sumOf_25 : decode cX0_sumOf 25 = .ok (.iconst 1, 1) := by decide +kernel
theorem dX0_sumOf_26 : decode cX0_sumOf 26 = .ok (.if_icmp .ne 76, 3) := by decide +kernel
theorem dX0_sumOf_29 : decode cX0_sumOf 29 = .ok (.iconst 0, 1) := by decide +kernel
theorem dX0_sumOf_30 : decode cX0_sumOf 30 = .ok (.istore 7, 2) := by decide +kernel
theorem dX0_sumOf_32 : decode cX0_sumOf 32 = .ok (.iload 7, 2) := by decide +kernel
theorem dX0_sumOf_34 : decode cX0_sumOf 34 = .ok (.aload_n 0, 1) := by decide +kernel
theorem dX0_sumOf_35 : decode cX0_sumOf 35 = .ok (.getfield 25, 3) := by decide +kernel
theorem dX0_sumOf_38 : decode cX0_sumOf 38 = .ok (.iload 4, 2) := by decide +kernel
theorem dX0_sumOf_40 : decode cX0_sumOf 40 = .ok (.iaload, 1) := by decide +kernel
theorem dX0_sumOf_41 : decode cX0_sumOf 41 = .ok (.if_icmp .ge 58, 3) := by decide +kernel
theorem dX0_sumOf_44 : decode cX0_sumOf 44 = .ok (.aload_n 0, 1) := by decide +kernel
theorem dX0_sumOf_45 : decode cX0_sumOf 45 = .ok (.getfield 28, 3) := by decide +kernel
theorem dX0_sumOf_48 : decode cX0_sumOf 48 = .ok (.bipush 34, 2) := by decide +kernel
theorem dX0_sumOf_50 : decode cX0_sumOf 50 = .ok (.iload 4, 2) := by decide +kernel
theorem dX0_sumOf_52 : decode cX0_sumOf 52 = .ok (.imul, 1) := by decide +kernel
theorem dX0_sumOf_53 : decode cX0_sumOf 53 = .ok (.iconst 2, 1) := by decide +kernel
theorem dX0_sumOf_54 : decode cX0_sumOf 54 = .ok (.iload 7, 2) := by decide +kernel
theorem dX0_sumOf_56 : decode cX0_sumOf 56 = .ok (.imul, 1) := by decide +kernel
theorem dX0_sumOf_57 : decode cX0_sumOf 57 = .ok (.iadd, 1) := by decide +kernel
theorem dX0_sumOf_58 : decode cX0_sumOf 58 = .ok (.iconst 1, 1) := by decide +kernel
theorem dX0_sumOf_59 : decode cX0_sumOf 59 = .ok (.iadd, 1) := by decide +kernel
theorem dX0_sumOf_60 : decode cX0_sumOf 60 = .ok (.iaload, 1) := by decide +kernel
theorem dX0_sumOf_61 : decode cX0_sumOf 61 = .ok (.iload_n 3, 1) := by decide +kernel
theorem dX0_sumOf_62 : decode cX0_sumOf 62 = .ok (.iand, 1) := by decide +kernel
theorem dX0_sumOf_63 : decode cX0_sumOf 63 = .ok (.invokestatic 60, 3) := by decide +kernel
theorem dX0_sumOf_66 : decode cX0_sumOf 66 = .ok (.istore 8, 2) := by decide +kernel
theorem dX0_sumOf_68 : decode cX0_sumOf 68 = .ok (.lload 5, 2) := by decide +kernel
theorem dX0_sumOf_70 : decode cX0_sumOf 70 = .ok (.iload 8, 2) := by decide +kernel
theorem dX0_sumOf_72 : decode cX0_sumOf 72 = .ok (.i2l, 1) := by decide +kernel
theorem dX0_sumOf_73 : decode cX0_sumOf 73 = .ok (.aload_n 0, 1) := by decide +kernel
theorem dX0_sumOf_74 : decode cX0_sumOf 74 = .ok (.getfield 28, 3) := by decide +kernel
theorem dX0_sumOf_77 : decode cX0_sumOf 77 = .ok (.bipush 34, 2) := by decide +kernel
theorem dX0_sumOf_79 : decode cX0_sumOf 79 = .ok (.iload 4, 2) := by decide +kernel
theorem dX0_sumOf_81 : decode cX0_sumOf 81 = .ok (.imul, 1) := by decide +kernel
theorem dX0_sumOf_82 : decode cX0_sumOf 82 = .ok (.iconst 2, 1) := by decide +kernel
theorem dX0_sumOf_83 : decode cX0_sumOf 83 = .ok (.iload 7, 2) := by decide +kernel
theorem dX0_sumOf_85 : decode cX0_sumOf 85 = .ok (.imul, 1) := by decide +kernel
theorem dX0_sumOf_86 : decode cX0_sumOf 86 = .ok (.iadd, 1) := by decide +kernel
theorem dX0_sumOf_87 : decode cX0_sumOf 87 = .ok (.iaload, 1) := by decide +kernel
theorem dX0_sumOf_88 : decode cX0_sumOf 88 = .ok (.i2l, 1) := by decide +kernel
theorem dX0_sumOf_89 : decode cX0_sumOf 89 = .ok (.lmul, 1) := by decide +kernel
theorem dX0_sumOf_90 : decode cX0_sumOf 90 = .ok (.ladd, 1) := by decide +kernel
theorem dX0_sumOf_91 : decode cX0_sumOf 91 = .ok (.lstore 5, 2) := by decide +kernel
theorem dX0_sumOf_93 : decode cX0_sumOf 93 = .ok (.iinc 7 1, 3) := by decide +kernel
theorem dX0_sumOf_96 : decode cX0_sumOf 96 = .ok (.goto (-64), 3) := by decide +kernel
theorem dX0_sumOf_99 : decode cX0_sumOf 99 = .ok (.lload 5, 2) := by decide +kernel
theorem dX0_sumOf_101 : decode cX0_sumOf 101 = .ok (.lreturn, 1) := by decide +kernel
theorem dX0_sumOf_102 : decode cX0_sumOf 102 = .ok (.iconst 0, 1) := by decide +kernel
theorem dX0_sumOf_103 : decode cX0_sumOf 103 = .ok (.istore 7, 2) := by decide +kernel
theorem dX0_sumOf_105 : decode cX0_sumOf 105 = .ok (.iload 7, 2) := by decide +kernel
theorem dX0_sumOf_107 : decode cX0_sumOf 107 = .ok (.bipush 16, 2) := by decide +kernel
theorem dX0_sumOf_109 : decode cX0_sumOf 109 = .ok (.if_icmp .ge 32, 3) := by decide +kernel
theorem dX0_sumOf_112 : decode cX0_sumOf 112 = .ok (.iload_n 3, 1) := by decide +kernel
theorem dX0_sumOf_113 : decode cX0_sumOf 113 = .ok (.iload 7, 2) := by decide +kernel
theorem dX0_sumOf_115 : decode cX0_sumOf 115 = .ok (.iushr, 1) := by decide +kernel
theorem dX0_sumOf_116 : decode cX0_sumOf 116 = .ok (.iconst 1, 1) := by decide +kernel
theorem dX0_sumOf_117 : decode cX0_sumOf 117 = .ok (.iand, 1) := by decide +kernel
theorem dX0_sumOf_118 : decode cX0_sumOf 118 = .ok (.ifCond .eq 17, 3) := by decide +kernel
theorem dX0_sumOf_121 : decode cX0_sumOf 121 = .ok (.lload 5, 2) := by decide +kernel
theorem dX0_sumOf_123 : decode cX0_sumOf 123 = .ok (.aload_n 0, 1) := by decide +kernel
theorem dX0_sumOf_124 : decode cX0_sumOf 124 = .ok (.iload_n 1, 1) := by decide +kernel
theorem dX0_sumOf_125 : decode cX0_sumOf 125 = .ok (.iload_n 2, 1) := by decide +kernel
theorem dX0_sumOf_126 : decode cX0_sumOf 126 = .ok (.iload 7, 2) := by decide +kernel
theorem dX0_sumOf_128 : decode cX0_sumOf 128 = .ok (.invokevirtual 71, 3) := by decide +kernel
theorem dX0_sumOf_131 : decode cX0_sumOf 131 = .ok (.i2l, 1) := by decide +kernel
theorem dX0_sumOf_132 : decode cX0_sumOf 132 = .ok (.ladd, 1) := by decide +kernel
theorem dX0_sumOf_133 : decode cX0_sumOf 133 = .ok (.lstore 5, 2) := by decide +kernel
theorem dX0_sumOf_135 : decode cX0_sumOf 135 = .ok (.iinc 7 1, 3) := by decide +kernel
theorem dX0_sumOf_138 : decode cX0_sumOf 138 = .ok (.goto (-33), 3) := by decide +kernel
theorem dX0_sumOf_141 : decode cX0_sumOf 141 = .ok (.lload 5, 2) := by decide +kernel
theorem dX0_sumOf_143 : decode cX0_sumOf 143 = .ok (.lreturn, 1) := by decide +kernel
end
section
set_option maxRecDepth 100000
abbrev cX0_extreme : ByteArray := prog_1_method_8_code
def yX0_extreme : MethodName := ⟨RX0, "extreme", "(IZ)I"⟩
theorem dX0_extreme_0 : decode cX0_extreme 0 = .ok (.iload_n 1, 1) := by decide +kernel
theorem dX0_extreme_1 : decode cX0_extreme 1 = .ok (.invokestatic 52, 3) := by decide +kernel
theorem dX0_extreme_4 : decode cX0_extreme 4 = .ok (.ifCond .ne 5, 3) := by decide +kernel
theorem dX0_extreme_7 : decode cX0_extreme 7 = .ok (.iconst 0, 1) := by decide +kernel
theorem dX0_extreme_8 : decode cX0_extreme 8 = .ok (.ireturn, 1) := by decide +kernel
theorem dX0_extreme_9 : decode cX0_extreme 9 = .ok (.iconst 0, 1) := by decide +kernel
theorem dX0_extreme_10 : decode cX0_extreme 10 = .ok (.istore_n 3, 1) := by decide +kernel
theorem dX0_extreme_11 : decode cX0_extreme 11 = .ok (.iconst 0, 1) := by decide +kernel
theorem dX0_extreme_12 : decode cX0_extreme 12 = .ok (.istore 4, 2) := by decide +kernel
theorem dX0_extreme_14 : decode cX0_extreme 14 = .ok (.iconst 0, 1) := by decide +kernel
theorem dX0_extreme_15 : decode cX0_extreme 15 = .ok (.istore 5, 2) := by decide +kernel
theorem dX0_extreme_17 : decode cX0_extreme 17 = .ok (.bipush 16, 2) := by decide +kernel
theorem dX0_extreme_19 : decode cX0_extreme 19 = .ok (.iload 5, 2) := by decide +kernel
theorem dX0_extreme_21 : decode cX0_extreme 21 = .ok (.imul, 1) := by decide +kernel
theorem dX0_extreme_22 : decode cX0_extreme 22 = .ok (.aload_n 0, 1) := by decide +kernel
theorem dX0_extreme_23 : decode cX0_extreme 23 = .ok (.getfield 44, 3) := by decide +kernel
theorem dX0_extreme_26 : decode cX0_extreme 26 = .ok (.if_icmp .ge 108, 3) := by decide +kernel
theorem dX0_extreme_29 : decode cX0_extreme 29 = .ok (.aload_n 0, 1) := by decide +kernel
theorem dX0_extreme_30 : decode cX0_extreme 30 = .ok (.iload 5, 2) := by decide +kernel
theorem dX0_extreme_32 : decode cX0_extreme 32 = .ok (.iload_n 1, 1) := by decide +kernel
theorem dX0_extreme_33 : decode cX0_extreme 33 = .ok (.iload_n 2, 1) := by decide +kernel
theorem dX0_extreme_34 : decode cX0_extreme 34 = .ok (.iload_n 3, 1) := by decide +kernel
theorem dX0_extreme_35 : decode cX0_extreme 35 = .ok (.iload 4, 2) := by decide +kernel
theorem dX0_extreme_37 : decode cX0_extreme 37 = .ok (.invokevirtual 67, 3) := by decide +kernel
theorem dX0_extreme_40 : decode cX0_extreme 40 = .ok (.ifCond .eq 12, 3) := by decide +kernel
theorem dX0_extreme_43 : decode cX0_extreme 43 = .ok (.aload_n 0, 1) := by decide +kernel
theorem dX0_extreme_44 : decode cX0_extreme 44 = .ok (.iload 5, 2) := by decide +kernel
theorem dX0_extreme_46 : decode cX0_extreme 46 = .ok (.invokevirtual 56, 3) := by decide +kernel
theorem dX0_extreme_49 : decode cX0_extreme 49 = .ok (.goto 4, 3) := by decide +kernel
theorem dX0_extreme_52 : decode cX0_extreme 52 = .ok (.iconst 0, 1) := by decide +kernel
theorem dX0_extreme_53 : decode cX0_extreme 53 = .ok (.istore 6, 2) := by decide +kernel
theorem dX0_extreme_55 : decode cX0_extreme 55 = .ok (.iconst 0, 1) := by decide +kernel
theorem dX0_extreme_56 : decode cX0_extreme 56 = .ok (.istore 7, 2) := by decide +kernel
theorem dX0_extreme_58 : decode cX0_extreme 58 = .ok (.iload 7, 2) := by decide +kernel
theorem dX0_extreme_60 : decode cX0_extreme 60 = .ok (.bipush 16, 2) := by decide +kernel
theorem dX0_extreme_62 : decode cX0_extreme 62 = .ok (.if_icmp .ge 66, 3) := by decide +kernel
theorem dX0_extreme_65 : decode cX0_extreme 65 = .ok (.iload 6, 2) := by decide +kernel
theorem dX0_extreme_67 : decode cX0_extreme 67 = .ok (.iload 7, 2) := by decide +kernel
theorem dX0_extreme_69 : decode cX0_extreme 69 = .ok (.iushr, 1) := by decide +kernel
theorem dX0_extreme_70 : decode cX0_extreme 70 = .ok (.iconst 1, 1) := by decide +kernel
theorem dX0_extreme_71 : decode cX0_extreme 71 = .ok (.iand, 1) := by decide +kernel
theorem dX0_extreme_72 : decode cX0_extreme 72 = .ok (.ifCond .eq 50, 3) := by decide +kernel
theorem dX0_extreme_75 : decode cX0_extreme 75 = .ok (.aload_n 0, 1) := by decide +kernel
theorem dX0_extreme_76 : decode cX0_extreme 76 = .ok (.iload 5, 2) := by decide +kernel
theorem dX0_extreme_78 : decode cX0_extreme 78 = .ok (.iload_n 1, 1) := by decide +kernel
theorem dX0_extreme_79 : decode cX0_extreme 79 = .ok (.iload 7, 2) := by decide +kernel
theorem dX0_extreme_81 : decode cX0_extreme 81 = .ok (.invokevirtual 71, 3) := by decide +kernel
theorem dX0_extreme_84 : decode cX0_extreme 84 = .ok (.istore 8, 2) := by decide +kernel
theorem dX0_extreme_86 : decode cX0_extreme 86 = .ok (.iload_n 3, 1) := by decide +kernel
theorem dX0_extreme_87 : decode cX0_extreme 87 = .ok (.ifCond .eq 24, 3) := by decide +kernel
theorem dX0_extreme_90 : decode cX0_extreme 90 = .ok (.iload_n 2, 1) := by decide +kernel
theorem dX0_extreme_91 : decode cX0_extreme 91 = .ok (.ifCond .eq 13, 3) := by decide +kernel
theorem dX0_extreme_94 : decode cX0_extreme 94 = .ok (.iload 8, 2) := by decide +kernel
theorem dX0_extreme_96 : decode cX0_extreme 96 = .ok (.iload 4, 2) := by decide +kernel
theorem dX0_extreme_98 : decode cX0_extreme 98 = .ok (.if_icmp .le 18, 3) := by decide +kernel
theorem dX0_extreme_101 : decode cX0_extreme 101 = .ok (.goto 10, 3) := by decide +kernel
theorem dX0_extreme_104 : decode cX0_extreme 104 = .ok (.iload 8, 2) := by decide +kernel
theorem dX0_extreme_106 : decode cX0_extreme 106 = .ok (.iload 4, 2) := by decide +kernel
theorem dX0_extreme_108 : decode cX0_extreme 108 = .ok (.if_icmp .ge 8, 3) := by decide +kernel
theorem dX0_extreme_111 : decode cX0_extreme 111 = .ok (.iload 8, 2) := by decide +kernel
theorem dX0_extreme_113 : decode cX0_extreme 113 = .ok (.goto 5, 3) := by decide +kernel
theorem dX0_extreme_116 : decode cX0_extreme 116 = .ok (.iload 4, 2) := by decide +kernel
theorem dX0_extreme_118 : decode cX0_extreme 118 = .ok (.istore 4, 2) := by decide +kernel
theorem dX0_extreme_120 : decode cX0_extreme 120 = .ok (.iconst 1, 1) := by decide +kernel
theorem dX0_extreme_121 : decode cX0_extreme 121 = .ok (.istore_n 3, 1) := by decide +kernel
theorem dX0_extreme_122 : decode cX0_extreme 122 = .ok (.iinc 7 1, 3) := by decide +kernel
theorem dX0_extreme_125 : decode cX0_extreme 125 = .ok (.goto (-67), 3) := by decide +kernel
theorem dX0_extreme_128 : decode cX0_extreme 128 = .ok (.iinc 5 1, 3) := by decide +kernel
theorem dX0_extreme_131 : decode cX0_extreme 131 = .ok (.goto (-114), 3) := by decide +kernel
theorem dX0_extreme_134 : decode cX0_extreme 134 = .ok (.iload 4, 2) := by decide +kernel
theorem dX0_extreme_136 : decode cX0_extreme 136 = .ok (.ireturn, 1) := by decide +kernel
abbrev cX0_mayBeat : ByteArray := prog_1_method_34_code
def yX0_mayBeat : MethodName := ⟨RX0, "mayBeat", "(IIZZI)Z"⟩
theorem dX0_mayBeat_0 : decode cX0_mayBeat 0 = .ok (.iload 4, 2) := by decide +kernel
theorem dX0_mayBeat_2 : decode cX0_mayBeat 2 = .ok (.ifCond .eq 11, 3) := by decide +kernel
theorem dX0_mayBeat_5 : decode cX0_mayBeat 5 = .ok (.aload_n 0, 1) := by decide +kernel
theorem dX0_mayBeat_6 : decode cX0_mayBeat 6 = .ok (.iload_n 1, 1) := by decide +kernel
theorem dX0_mayBeat_7 : decode cX0_mayBeat 7 = .ok (.invokevirtual 109, 3) := by decide +kernel
theorem dX0_mayBeat_10 : decode cX0_mayBeat 10 = .ok (.ifCond .ne 5, 3) := by decide +kernel
theorem dX0_mayBeat_13 : decode cX0_mayBeat 13 = .ok (.iconst 1, 1) := by decide +kernel
theorem dX0_mayBeat_14 : decode cX0_mayBeat 14 = .ok (.ireturn, 1) := by decide +kernel
theorem dX0_mayBeat_15 : decode cX0_mayBeat 15 = .ok (.iconst 3, 1) := by decide +kernel
theorem dX0_mayBeat_16 : decode cX0_mayBeat 16 = .ok (.iload_n 1, 1) := by decide +kernel
theorem dX0_mayBeat_17 : decode cX0_mayBeat 17 = .ok (.imul, 1) := by decide +kernel
theorem dX0_mayBeat_18 : decode cX0_mayBeat 18 = .ok (.iload_n 2, 1) := by decide +kernel
theorem dX0_mayBeat_19 : decode cX0_mayBeat 19 = .ok (.iadd, 1) := by decide +kernel
theorem dX0_mayBeat_20 : decode cX0_mayBeat 20 = .ok (.istore 6, 2) := by decide +kernel
theorem dX0_mayBeat_22 : decode cX0_mayBeat 22 = .ok (.iload_n 3, 1) := by decide +kernel
theorem dX0_mayBeat_23 : decode cX0_mayBeat 23 = .ok (.ifCond .eq 23, 3) := by decide +kernel
theorem dX0_mayBeat_26 : decode cX0_mayBeat 26 = .ok (.aload_n 0, 1) := by decide +kernel
theorem dX0_mayBeat_27 : decode cX0_mayBeat 27 = .ok (.getfield 22, 3) := by decide +kernel
theorem dX0_mayBeat_30 : decode cX0_mayBeat 30 = .ok (.iload 6, 2) := by decide +kernel
theorem dX0_mayBeat_32 : decode cX0_mayBeat 32 = .ok (.iaload, 1) := by decide +kernel
theorem dX0_mayBeat_33 : decode cX0_mayBeat 33 = .ok (.iload 5, 2) := by decide +kernel
theorem dX0_mayBeat_35 : decode cX0_mayBeat 35 = .ok (.if_icmp .le 7, 3) := by decide +kernel
theorem dX0_mayBeat_38 : decode cX0_mayBeat 38 = .ok (.iconst 1, 1) := by decide +kernel
theorem dX0_mayBeat_39 : decode cX0_mayBeat 39 = .ok (.goto 24, 3) := by decide +kernel
theorem dX0_mayBeat_42 : decode cX0_mayBeat 42 = .ok (.iconst 0, 1) := by decide +kernel
theorem dX0_mayBeat_43 : decode cX0_mayBeat 43 = .ok (.goto 20, 3) := by decide +kernel
theorem dX0_mayBeat_46 : decode cX0_mayBeat 46 = .ok (.aload_n 0, 1) := by decide +kernel
theorem dX0_mayBeat_47 : decode cX0_mayBeat 47 = .ok (.getfield 19, 3) := by decide +kernel
theorem dX0_mayBeat_50 : decode cX0_mayBeat 50 = .ok (.iload 6, 2) := by decide +kernel
theorem dX0_mayBeat_52 : decode cX0_mayBeat 52 = .ok (.iaload, 1) := by decide +kernel
theorem dX0_mayBeat_53 : decode cX0_mayBeat 53 = .ok (.iload 5, 2) := by decide +kernel
theorem dX0_mayBeat_55 : decode cX0_mayBeat 55 = .ok (.if_icmp .ge 7, 3) := by decide +kernel
theorem dX0_mayBeat_58 : decode cX0_mayBeat 58 = .ok (.iconst 1, 1) := by decide +kernel
theorem dX0_mayBeat_59 : decode cX0_mayBeat 59 = .ok (.goto 4, 3) := by decide +kernel
theorem dX0_mayBeat_62 : decode cX0_mayBeat 62 = .ok (.iconst 0, 1) := by decide +kernel
theorem dX0_mayBeat_63 : decode cX0_mayBeat 63 = .ok (.ireturn, 1) := by decide +kernel
abbrev cX0_passing : ByteArray := prog_1_method_9_code
def yX0_passing : MethodName := ⟨RX0, "passing", "(I)I"⟩
theorem dX0_passing_0 : decode cX0_passing 0 = .ok (.iload_n 1, 1) := by decide +kernel
theorem dX0_passing_1 : decode cX0_passing 1 = .ok (.ifCond .ge 5, 3) := by decide +kernel
theorem dX0_passing_4 : decode cX0_passing 4 = .ok (.iconst (-1), 1) := by decide +kernel
theorem dX0_passing_5 : decode cX0_passing 5 = .ok (.ireturn, 1) := by decide +kernel
theorem dX0_passing_6 : decode cX0_passing 6 = .ok (.iload_n 1, 1) := by decide +kernel
theorem dX0_passing_7 : decode cX0_passing 7 = .ok (.istore_n 2, 1) := by decide +kernel
theorem dX0_passing_8 : decode cX0_passing 8 = .ok (.iconst 0, 1) := by decide +kernel
theorem dX0_passing_9 : decode cX0_passing 9 = .ok (.istore_n 3, 1) := by decide +kernel
theorem dX0_passing_10 : decode cX0_passing 10 = .ok (.bipush 16, 2) := by decide +kernel
theorem dX0_passing_12 : decode cX0_passing 12 = .ok (.iload_n 3, 1) := by decide +kernel
theorem dX0_passing_13 : decode cX0_passing 13 = .ok (.imul, 1) := by decide +kernel
theorem dX0_passing_14 : decode cX0_passing 14 = .ok (.aload_n 0, 1) := by decide +kernel
theorem dX0_passing_15 : decode cX0_passing 15 = .ok (.getfield 44, 3) := by decide +kernel
theorem dX0_passing_18 : decode cX0_passing 18 = .ok (.if_icmp .ge 46, 3) := by decide +kernel
theorem dX0_passing_21 : decode cX0_passing 21 = .ok (.aload_n 0, 1) := by decide +kernel
theorem dX0_passing_22 : decode cX0_passing 22 = .ok (.iload_n 3, 1) := by decide +kernel
theorem dX0_passing_23 : decode cX0_passing 23 = .ok (.invokevirtual 56, 3) := by decide +kernel
theorem dX0_passing_26 : decode cX0_passing 26 = .ok (.istore 4, 2) := by decide +kernel
theorem dX0_passing_28 : decode cX0_passing 28 = .ok (.iload 4, 2) := by decide +kernel
theorem dX0_passing_30 : decode cX0_passing 30 = .ok (.invokestatic 60, 3) := by decide +kernel
theorem dX0_passing_33 : decode cX0_passing 33 = .ok (.istore 5, 2) := by decide +kernel
theorem dX0_passing_35 : decode cX0_passing 35 = .ok (.iload_n 2, 1) := by decide +kernel
theorem dX0_passing_36 : decode cX0_passing 36 = .ok (.iload 5, 2) := by decide +kernel
theorem dX0_passing_38 : decode cX0_passing 38 = .ok (.if_icmp .ge 15, 3) := by decide +kernel
theorem dX0_passing_41 : decode cX0_passing 41 = .ok (.bipush 16, 2) := by decide +kernel
theorem dX0_passing_43 : decode cX0_passing 43 = .ok (.iload_n 3, 1) := by decide +kernel
theorem dX0_passing_44 : decode cX0_passing 44 = .ok (.imul, 1) := by decide +kernel
theorem dX0_passing_45 : decode cX0_passing 45 = .ok (.iload 4, 2) := by decide +kernel
theorem dX0_passing_47 : decode cX0_passing 47 = .ok (.iload_n 2, 1) := by decide +kernel
theorem dX0_passing_48 : decode cX0_passing 48 = .ok (.invokestatic 75, 3) := by decide +kernel
theorem dX0_passing_51 : decode cX0_passing 51 = .ok (.iadd, 1) := by decide +kernel
theorem dX0_passing_52 : decode cX0_passing 52 = .ok (.ireturn, 1) := by decide +kernel
theorem dX0_passing_53 : decode cX0_passing 53 = .ok (.iload_n 2, 1) := by decide +kernel
theorem dX0_passing_54 : decode cX0_passing 54 = .ok (.iload 5, 2) := by decide +kernel
theorem dX0_passing_56 : decode cX0_passing 56 = .ok (.isub, 1) := by decide +kernel
theorem dX0_passing_57 : decode cX0_passing 57 = .ok (.istore_n 2, 1) := by decide +kernel
theorem dX0_passing_58 : decode cX0_passing 58 = .ok (.iinc 3 1, 3) := by decide +kernel
theorem dX0_passing_61 : decode cX0_passing 61 = .ok (.goto (-51), 3) := by decide +kernel
theorem dX0_passing_64 : decode cX0_passing 64 = .ok (.iconst (-1), 1) := by decide +kernel
theorem dX0_passing_65 : decode cX0_passing 65 = .ok (.ireturn, 1) := by decide +kernel
abbrev cX0_oneAt : ByteArray := prog_1_method_15_code
def yX0_oneAt : MethodName := ⟨RX0, "oneAt", "(II)I"⟩
theorem dX0_oneAt_0 : decode cX0_oneAt 0 = .ok (.iload_n 1, 1) := by decide +kernel
theorem dX0_oneAt_1 : decode cX0_oneAt 1 = .ok (.istore_n 2, 1) := by decide +kernel
theorem dX0_oneAt_2 : decode cX0_oneAt 2 = .ok (.iconst 0, 1) := by decide +kernel
theorem dX0_oneAt_3 : decode cX0_oneAt 3 = .ok (.istore_n 3, 1) := by decide +kernel
theorem dX0_oneAt_4 : decode cX0_oneAt 4 = .ok (.iload_n 3, 1) := by decide +kernel
theorem dX0_oneAt_5 : decode cX0_oneAt 5 = .ok (.bipush 16, 2) := by decide +kernel
theorem dX0_oneAt_7 : decode cX0_oneAt 7 = .ok (.if_icmp .ge 26, 3) := by decide +kernel
theorem dX0_oneAt_10 : decode cX0_oneAt 10 = .ok (.iload_n 0, 1) := by decide +kernel
theorem dX0_oneAt_11 : decode cX0_oneAt 11 = .ok (.iload_n 3, 1) := by decide +kernel
theorem dX0_oneAt_12 : decode cX0_oneAt 12 = .ok (.iushr, 1) := by decide +kernel
theorem dX0_oneAt_13 : decode cX0_oneAt 13 = .ok (.iconst 1, 1) := by decide +kernel
theorem dX0_oneAt_14 : decode cX0_oneAt 14 = .ok (.iand, 1) := by decide +kernel
theorem dX0_oneAt_15 : decode cX0_oneAt 15 = .ok (.ifCond .eq 12, 3) := by decide +kernel
theorem dX0_oneAt_18 : decode cX0_oneAt 18 = .ok (.iload_n 2, 1) := by decide +kernel
theorem dX0_oneAt_19 : decode cX0_oneAt 19 = .ok (.ifCond .ne 5, 3) := by decide +kernel
theorem dX0_oneAt_22 : decode cX0_oneAt 22 = .ok (.iload_n 3, 1) := by decide +kernel
theorem dX0_oneAt_23 : decode cX0_oneAt 23 = .ok (.ireturn, 1) := by decide +kernel
theorem dX0_oneAt_24 : decode cX0_oneAt 24 = .ok (.iinc 2 (-1), 3) := by decide +kernel
theorem dX0_oneAt_27 : decode cX0_oneAt 27 = .ok (.iinc 3 1, 3) := by decide +kernel
theorem dX0_oneAt_30 : decode cX0_oneAt 30 = .ok (.goto (-26), 3) := by decide +kernel
theorem dX0_oneAt_33 : decode cX0_oneAt 33 = .ok (.iconst 0, 1) := by decide +kernel
theorem dX0_oneAt_34 : decode cX0_oneAt 34 = .ok (.ireturn, 1) := by decide +kernel
abbrev cX0_value : ByteArray := prog_1_method_10_code
def yX0_value : MethodName := ⟨RX0, "value", "(II)I"⟩
theorem dX0_value_0 : decode cX0_value 0 = .ok (.iload_n 1, 1) := by decide +kernel
theorem dX0_value_1 : decode cX0_value 1 = .ok (.ifCond .lt 18, 3) := by decide +kernel
theorem dX0_value_4 : decode cX0_value 4 = .ok (.iload_n 1, 1) := by decide +kernel
theorem dX0_value_5 : decode cX0_value 5 = .ok (.aload_n 0, 1) := by decide +kernel
theorem dX0_value_6 : decode cX0_value 6 = .ok (.getfield 44, 3) := by decide +kernel
theorem dX0_value_9 : decode cX0_value 9 = .ok (.if_icmp .ge 10, 3) := by decide +kernel
theorem dX0_value_12 : decode cX0_value 12 = .ok (.iload_n 2, 1) := by decide +kernel
theorem dX0_value_13 : decode cX0_value 13 = .ok (.invokestatic 52, 3) := by decide +kernel
theorem dX0_value_16 : decode cX0_value 16 = .ok (.ifCond .ne 5, 3) := by decide +kernel
theorem dX0_value_19 : decode cX0_value 19 = .ok (.iconst 0, 1) := by decide +kernel
theorem dX0_value_20 : decode cX0_value 20 = .ok (.ireturn, 1) := by decide +kernel
theorem dX0_value_21 : decode cX0_value 21 = .ok (.aload_n 0, 1) := by decide +kernel
theorem dX0_value_22 : decode cX0_value 22 = .ok (.iload_n 1, 1) := by decide +kernel
theorem dX0_value_23 : decode cX0_value 23 = .ok (.iconst 4, 1) := by decide +kernel
theorem dX0_value_24 : decode cX0_value 24 = .ok (.ishr, 1) := by decide +kernel
theorem dX0_value_25 : decode cX0_value 25 = .ok (.iload_n 2, 1) := by decide +kernel
theorem dX0_value_26 : decode cX0_value 26 = .ok (.iload_n 1, 1) := by decide +kernel
theorem dX0_value_27 : decode cX0_value 27 = .ok (.bipush 15, 2) := by decide +kernel
theorem dX0_value_29 : decode cX0_value 29 = .ok (.iand, 1) := by decide +kernel
theorem dX0_value_30 : decode cX0_value 30 = .ok (.invokevirtual 71, 3) := by decide +kernel
theorem dX0_value_33 : decode cX0_value 33 = .ok (.ireturn, 1) := by decide +kernel
abbrev cX0_different : ByteArray := prog_1_method_11_code
def yX0_different : MethodName := ⟨RX0, "different", "(I)I"⟩
theorem dX0_different_0 : decode cX0_different 0 = .ok (.iload_n 1, 1) := by decide +kernel
theorem dX0_different_1 : decode cX0_different 1 = .ok (.invokestatic 52, 3) := by decide +kernel
theorem dX0_different_4 : decode cX0_different 4 = .ok (.ifCond .ne 5, 3) := by decide +kernel
theorem dX0_different_7 : decode cX0_different 7 = .ok (.iconst (-1), 1) := by decide +kernel
theorem dX0_different_8 : decode cX0_different 8 = .ok (.ireturn, 1) := by decide +kernel
theorem dX0_different_9 : decode cX0_different 9 = .ok (.aload_n 0, 1) := by decide +kernel
theorem dX0_different_10 : decode cX0_different 10 = .ok (.iconst 0, 1) := by decide +kernel
theorem dX0_different_11 : decode cX0_different 11 = .ok (.putfield 79, 3) := by decide +kernel
theorem dX0_different_14 : decode cX0_different 14 = .ok (.iconst 0, 1) := by decide +kernel
theorem dX0_different_15 : decode cX0_different 15 = .ok (.istore_n 2, 1) := by decide +kernel
theorem dX0_different_16 : decode cX0_different 16 = .ok (.bipush 16, 2) := by decide +kernel
theorem dX0_different_18 : decode cX0_different 18 = .ok (.iload_n 2, 1) := by decide +kernel
theorem dX0_different_19 : decode cX0_different 19 = .ok (.imul, 1) := by decide +kernel
theorem dX0_different_20 : decode cX0_different 20 = .ok (.aload_n 0, 1) := by decide +kernel
theorem dX0_different_21 : decode cX0_different 21 = .ok (.getfield 44, 3) := by decide +kernel
theorem dX0_different_24 : decode cX0_different 24 = .ok (.if_icmp .ge 56, 3) := by decide +kernel
theorem dX0_different_27 : decode cX0_different 27 = .ok (.aload_n 0, 1) := by decide +kernel
theorem dX0_different_28 : decode cX0_different 28 = .ok (.iload_n 2, 1) := by decide +kernel
theorem dX0_different_29 : decode cX0_different 29 = .ok (.invokevirtual 56, 3) := by decide +kernel
theorem dX0_different_32 : decode cX0_different 32 = .ok (.istore_n 3, 1) := by decide +kernel
theorem dX0_different_33 : decode cX0_different 33 = .ok (.iconst 0, 1) := by decide +kernel
theorem dX0_different_34 : decode cX0_different 34 = .ok (.istore 4, 2) := by decide +kernel
theorem dX0_different_36 : decode cX0_different 36 = .ok (.iload 4, 2) := by decide +kernel
theorem dX0_different_38 : decode cX0_different 38 = .ok (.bipush 16, 2) := by decide +kernel
theorem dX0_different_40 : decode cX0_different 40 = .ok (.if_icmp .ge 34, 3) := by decide +kernel
theorem dX0_different_43 : decode cX0_different 43 = .ok (.iload_n 3, 1) := by decide +kernel
theorem dX0_different_44 : decode cX0_different 44 = .ok (.iload 4, 2) := by decide +kernel
theorem dX0_different_46 : decode cX0_different 46 = .ok (.iushr, 1) := by decide +kernel
theorem dX0_different_47 : decode cX0_different 47 = .ok (.iconst 1, 1) := by decide +kernel
theorem dX0_different_48 : decode cX0_different 48 = .ok (.iand, 1) := by decide +kernel
theorem dX0_different_49 : decode cX0_different 49 = .ok (.ifCond .eq 19, 3) := by decide +kernel
theorem dX0_different_52 : decode cX0_different 52 = .ok (.aload_n 0, 1) := by decide +kernel
theorem dX0_different_53 : decode cX0_different 53 = .ok (.iload_n 2, 1) := by decide +kernel
theorem dX0_different_54 : decode cX0_different 54 = .ok (.iload_n 1, 1) := by decide +kernel
theorem dX0_different_55 : decode cX0_different 55 = .ok (.iload 4, 2) := by decide +kernel
theorem dX0_different_57 : decode cX0_different 57 = .ok (.invokevirtual 71, 3) := by decide +kernel
theorem dX0_different_60 : decode cX0_different 60 = .ok (.istore 5, 2) := by decide +kernel
theorem dX0_different_62 : decode cX0_different 62 = .ok (.aload_n 0, 1) := by decide +kernel
theorem dX0_different_63 : decode cX0_different 63 = .ok (.iload 5, 2) := by decide +kernel
theorem dX0_different_65 : decode cX0_different 65 = .ok (.invokevirtual 82, 3) := by decide +kernel
theorem dX0_different_68 : decode cX0_different 68 = .ok (.iinc 4 1, 3) := by decide +kernel
theorem dX0_different_71 : decode cX0_different 71 = .ok (.goto (-35), 3) := by decide +kernel
theorem dX0_different_74 : decode cX0_different 74 = .ok (.iinc 2 1, 3) := by decide +kernel
theorem dX0_different_77 : decode cX0_different 77 = .ok (.goto (-61), 3) := by decide +kernel
theorem dX0_different_80 : decode cX0_different 80 = .ok (.aload_n 0, 1) := by decide +kernel
theorem dX0_different_81 : decode cX0_different 81 = .ok (.getfield 79, 3) := by decide +kernel
theorem dX0_different_84 : decode cX0_different 84 = .ok (.ireturn, 1) := by decide +kernel
abbrev cX0_live : ByteArray := prog_1_method_12_code
def yX0_live : MethodName := ⟨RX0, "live", "()I"⟩
theorem dX0_live_0 : decode cX0_live 0 = .ok (.iconst 0, 1) := by decide +kernel
theorem dX0_live_1 : decode cX0_live 1 = .ok (.istore_n 1, 1) := by decide +kernel
theorem dX0_live_2 : decode cX0_live 2 = .ok (.iconst 0, 1) := by decide +kernel
theorem dX0_live_3 : decode cX0_live 3 = .ok (.istore_n 2, 1) := by decide +kernel
theorem dX0_live_4 : decode cX0_live 4 = .ok (.iload_n 2, 1) := by decide +kernel
theorem dX0_live_5 : decode cX0_live 5 = .ok (.iconst 4, 1) := by decide +kernel
theorem dX0_live_6 : decode cX0_live 6 = .ok (.if_icmp .ge 21, 3) := by decide +kernel
theorem dX0_live_9 : decode cX0_live 9 = .ok (.iload_n 1, 1) := by decide +kernel
theorem dX0_live_10 : decode cX0_live 10 = .ok (.aload_n 0, 1) := by decide +kernel
theorem dX0_live_11 : decode cX0_live 11 = .ok (.getfield 13, 3) := by decide +kernel
theorem dX0_live_14 : decode cX0_live 14 = .ok (.iload_n 2, 1) := by decide +kernel
theorem dX0_live_15 : decode cX0_live 15 = .ok (.iaload, 1) := by decide +kernel
theorem dX0_live_16 : decode cX0_live 16 = .ok (.invokestatic 60, 3) := by decide +kernel
theorem dX0_live_19 : decode cX0_live 19 = .ok (.iadd, 1) := by decide +kernel
theorem dX0_live_20 : decode cX0_live 20 = .ok (.istore_n 1, 1) := by decide +kernel
theorem dX0_live_21 : decode cX0_live 21 = .ok (.iinc 2 1, 3) := by decide +kernel
theorem dX0_live_24 : decode cX0_live 24 = .ok (.goto (-20), 3) := by decide +kernel
theorem dX0_live_27 : decode cX0_live 27 = .ok (.iload_n 1, 1) := by decide +kernel
theorem dX0_live_28 : decode cX0_live 28 = .ok (.ireturn, 1) := by decide +kernel
end
section
set_option maxRecDepth 100000
theorem q21 : (Jvm.Cond.initialized "ColumnStore") ∈ lw_all := lw_g (lw_at lw_m1 1 rfl) rfl
theorem q24 : (Jvm.Cond.instantiable "ColumnStore" (13 : Nat)) ∈ lw_all := lw_g (lw_at lw_m1 4 rfl) rfl
theorem q26 : (Jvm.Cond.instanceMethod ({ cls := "ColumnStore", name := "<init>", desc := "()V" } : Jvm.MethodName)) ∈ lw_all := lw_g (lw_at lw_m1 6 rfl) rfl
theorem q27 : (Jvm.Cond.code ({ cls := "ColumnStore", name := "<init>", desc := "()V" } : Jvm.MethodName) prog_1_method_1_code (1 : Nat) (Option.none : Option Jvm.ClassFile.FieldType)) ∈ lw_all := lw_g (lw_at lw_m1 7 rfl) rfl
theorem q28 : (Jvm.Cond.methodLink "ColumnStore" (1 : Nat) ({ cls := "java/lang/Object", name := "<init>", desc := "()V" } : Jvm.MethodName)) ∈ lw_all := lw_g (lw_at lw_m1 8 rfl) rfl
theorem q31 : (Jvm.Cond.fieldLink "ColumnStore" (44 : Nat) "ColumnStore" "rows" "I") ∈ lw_all := lw_g (lw_at lw_m1 11 rfl) rfl
theorem q32 : (Jvm.Cond.fieldLink "ColumnStore" (7 : Nat) "ColumnStore" "open" "[I") ∈ lw_all := lw_g (lw_at lw_m1 12 rfl) rfl
theorem q33 : (Jvm.Cond.fieldLink "ColumnStore" (13 : Nat) "ColumnStore" "liveMask" "[I") ∈ lw_all := lw_g (lw_at lw_m1 13 rfl) rfl
theorem q34 : (Jvm.Cond.fieldLink "ColumnStore" (16 : Nat) "ColumnStore" "form" "[I") ∈ lw_all := lw_g (lw_at lw_m1 14 rfl) rfl
theorem q35 : (Jvm.Cond.fieldLink "ColumnStore" (19 : Nat) "ColumnStore" "low" "[I") ∈ lw_all := lw_g (lw_at lw_m1 15 rfl) rfl
theorem q36 : (Jvm.Cond.fieldLink "ColumnStore" (22 : Nat) "ColumnStore" "high" "[I") ∈ lw_all := lw_g (lw_at lw_m1 16 rfl) rfl
theorem q37 : (Jvm.Cond.fieldLink "ColumnStore" (25 : Nat) "ColumnStore" "size" "[I") ∈ lw_all := lw_g (lw_at lw_m1 17 rfl) rfl
theorem q38 : (Jvm.Cond.fieldLink "ColumnStore" (28 : Nat) "ColumnStore" "words" "[I") ∈ lw_all := lw_g (lw_at lw_m1 18 rfl) rfl
theorem q39 : (Jvm.Cond.fieldLink "ColumnStore" (31 : Nat) "ColumnStore" "ranged" "[Z") ∈ lw_all := lw_g (lw_at lw_m1 19 rfl) rfl
theorem q40 : (Jvm.Cond.fieldLink "ColumnStore" (35 : Nat) "ColumnStore" "rangeLow" "[I") ∈ lw_all := lw_g (lw_at lw_m1 20 rfl) rfl
theorem q41 : (Jvm.Cond.fieldLink "ColumnStore" (38 : Nat) "ColumnStore" "rangeHigh" "[I") ∈ lw_all := lw_g (lw_at lw_m1 21 rfl) rfl
theorem q42 : (Jvm.Cond.fieldLink "ColumnStore" (79 : Nat) "ColumnStore" "valueCount" "I") ∈ lw_all := lw_g (lw_at lw_m1 22 rfl) rfl
theorem q43 : (Jvm.Cond.fieldLink "ColumnStore" (41 : Nat) "ColumnStore" "values" "[I") ∈ lw_all := lw_g (lw_at lw_m1 23 rfl) rfl
theorem q44 : (Jvm.Cond.lays "ColumnStore" "ColumnStore" "rows" "I") ∈ lw_all := lw_g (lw_at lw_m1 24 rfl) rfl
theorem q45 : (Jvm.Cond.soleField "ColumnStore" "rows") ∈ lw_all := lw_g (lw_at lw_m1 25 rfl) rfl
theorem q46 : (Jvm.Cond.laysFinal "ColumnStore" "ColumnStore" "open" "[I") ∈ lw_all := lw_g (lw_at lw_m1 26 rfl) rfl
theorem q47 : (Jvm.Cond.soleField "ColumnStore" "open") ∈ lw_all := lw_g (lw_at lw_m1 27 rfl) rfl
theorem q48 : (Jvm.Cond.laysFinal "ColumnStore" "ColumnStore" "liveMask" "[I") ∈ lw_all := lw_g (lw_at lw_m1 28 rfl) rfl
theorem q49 : (Jvm.Cond.soleField "ColumnStore" "liveMask") ∈ lw_all := lw_g (lw_at lw_m1 29 rfl) rfl
theorem q50 : (Jvm.Cond.laysFinal "ColumnStore" "ColumnStore" "form" "[I") ∈ lw_all := lw_g (lw_at lw_m1 30 rfl) rfl
theorem q51 : (Jvm.Cond.soleField "ColumnStore" "form") ∈ lw_all := lw_g (lw_at lw_m1 31 rfl) rfl
theorem q52 : (Jvm.Cond.laysFinal "ColumnStore" "ColumnStore" "low" "[I") ∈ lw_all := lw_g (lw_at lw_m1 32 rfl) rfl
theorem q53 : (Jvm.Cond.soleField "ColumnStore" "low") ∈ lw_all := lw_g (lw_at lw_m1 33 rfl) rfl
theorem q54 : (Jvm.Cond.laysFinal "ColumnStore" "ColumnStore" "high" "[I") ∈ lw_all := lw_g (lw_at lw_m1 34 rfl) rfl
theorem q55 : (Jvm.Cond.soleField "ColumnStore" "high") ∈ lw_all := lw_g (lw_at lw_m1 35 rfl) rfl
theorem q56 : (Jvm.Cond.laysFinal "ColumnStore" "ColumnStore" "size" "[I") ∈ lw_all := lw_g (lw_at lw_m1 36 rfl) rfl
theorem q57 : (Jvm.Cond.soleField "ColumnStore" "size") ∈ lw_all := lw_g (lw_at lw_m1 37 rfl) rfl
theorem q58 : (Jvm.Cond.laysFinal "ColumnStore" "ColumnStore" "words" "[I") ∈ lw_all := lw_g (lw_at lw_m1 38 rfl) rfl
theorem q59 : (Jvm.Cond.soleField "ColumnStore" "words") ∈ lw_all := lw_g (lw_at lw_m1 39 rfl) rfl
theorem q60 : (Jvm.Cond.laysFinal "ColumnStore" "ColumnStore" "ranged" "[Z") ∈ lw_all := lw_g (lw_at lw_m1 40 rfl) rfl
theorem q61 : (Jvm.Cond.soleField "ColumnStore" "ranged") ∈ lw_all := lw_g (lw_at lw_m1 41 rfl) rfl
theorem q62 : (Jvm.Cond.laysFinal "ColumnStore" "ColumnStore" "rangeLow" "[I") ∈ lw_all := lw_g (lw_at lw_m1 42 rfl) rfl
theorem q63 : (Jvm.Cond.soleField "ColumnStore" "rangeLow") ∈ lw_all := lw_g (lw_at lw_m1 43 rfl) rfl
theorem q64 : (Jvm.Cond.laysFinal "ColumnStore" "ColumnStore" "rangeHigh" "[I") ∈ lw_all := lw_g (lw_at lw_m1 44 rfl) rfl
theorem q65 : (Jvm.Cond.soleField "ColumnStore" "rangeHigh") ∈ lw_all := lw_g (lw_at lw_m1 45 rfl) rfl
theorem q66 : (Jvm.Cond.lays "ColumnStore" "ColumnStore" "valueCount" "I") ∈ lw_all := lw_g (lw_at lw_m1 46 rfl) rfl
theorem q67 : (Jvm.Cond.soleField "ColumnStore" "valueCount") ∈ lw_all := lw_g (lw_at lw_m1 47 rfl) rfl
theorem q68 : (Jvm.Cond.laysFinal "ColumnStore" "ColumnStore" "values" "[I") ∈ lw_all := lw_g (lw_at lw_m1 48 rfl) rfl
theorem q69 : (Jvm.Cond.soleField "ColumnStore" "values") ∈ lw_all := lw_g (lw_at lw_m1 49 rfl) rfl
theorem q70 : (Jvm.Cond.superclass "ColumnStore" "java/lang/Object") ∈ lw_all := lw_g (lw_at lw_m1 50 rfl) rfl
theorem q74 : (Jvm.Cond.instanceMethod ({ cls := "ColumnStore", name := "append", desc := "(III)I" } : Jvm.MethodName)) ∈ lw_all := lw_g (lw_at lw_m1 54 rfl) rfl
theorem q75 : (Jvm.Cond.selects "ColumnStore" ({ cls := "ColumnStore", name := "append", desc := "(III)I" } : Jvm.MethodName) ({ cls := "ColumnStore", name := "append", desc := "(III)I" } : Jvm.MethodName)) ∈ lw_all := lw_g (lw_at lw_m1 55 rfl) rfl
theorem q76 : (Jvm.Cond.code ({ cls := "ColumnStore", name := "append", desc := "(III)I" } : Jvm.MethodName) prog_1_method_2_code (6 : Nat) (Option.some Jvm.ClassFile.FieldType.int)) ∈ lw_all := lw_g (lw_at lw_m1 56 rfl) rfl
theorem q77 : (Jvm.Cond.methodLink "ColumnStore" (48 : Nat) ({ cls := "ColumnStore", name := "closeColumn", desc := "(II)V" } : Jvm.MethodName)) ∈ lw_all := lw_g (lw_at lw_m1 57 rfl) rfl
theorem q78 : (Jvm.Cond.privateMethod ({ cls := "ColumnStore", name := "closeColumn", desc := "(II)V" } : Jvm.MethodName)) ∈ lw_tbl := lw_at lw_m1 58 rfl
theorem q79 : (Jvm.Cond.instanceMethod ({ cls := "ColumnStore", name := "closeColumn", desc := "(II)V" } : Jvm.MethodName)) ∈ lw_all := lw_g (lw_at lw_m1 59 rfl) rfl
theorem q80 : (Jvm.Cond.code ({ cls := "ColumnStore", name := "closeColumn", desc := "(II)V" } : Jvm.MethodName) prog_1_method_18_code (8 : Nat) (Option.none : Option Jvm.ClassFile.FieldType)) ∈ lw_all := lw_g (lw_at lw_m1 60 rfl) rfl
theorem q81 : (Jvm.Cond.methodLink "ColumnStore" (82 : Nat) ({ cls := "ColumnStore", name := "addValue", desc := "(I)V" } : Jvm.MethodName)) ∈ lw_all := lw_g (lw_at lw_m1 61 rfl) rfl
theorem q82 : (Jvm.Cond.privateMethod ({ cls := "ColumnStore", name := "addValue", desc := "(I)V" } : Jvm.MethodName)) ∈ lw_tbl := lw_at lw_m1 62 rfl
theorem q83 : (Jvm.Cond.instanceMethod ({ cls := "ColumnStore", name := "addValue", desc := "(I)V" } : Jvm.MethodName)) ∈ lw_all := lw_g (lw_at lw_m1 63 rfl) rfl
theorem q84 : (Jvm.Cond.code ({ cls := "ColumnStore", name := "addValue", desc := "(I)V" } : Jvm.MethodName) prog_1_method_17_code (6 : Nat) (Option.none : Option Jvm.ClassFile.FieldType)) ∈ lw_all := lw_g (lw_at lw_m1 64 rfl) rfl
theorem q85 : (Jvm.Cond.methodLink "ColumnStore" (86 : Nat) ({ cls := "ColumnStore", name := "bitsFor", desc := "(I)I" } : Jvm.MethodName)) ∈ lw_all := lw_g (lw_at lw_m1 65 rfl) rfl
theorem q86 : (Jvm.Cond.static ({ cls := "ColumnStore", name := "bitsFor", desc := "(I)I" } : Jvm.MethodName)) ∈ lw_all := lw_g (lw_at lw_m1 66 rfl) rfl
theorem q87 : (Jvm.Cond.code ({ cls := "ColumnStore", name := "bitsFor", desc := "(I)I" } : Jvm.MethodName) prog_1_method_19_code (3 : Nat) (Option.some Jvm.ClassFile.FieldType.int)) ∈ lw_all := lw_g (lw_at lw_m1 67 rfl) rfl
theorem q88 : (Jvm.Cond.methodLink "ColumnStore" (89 : Nat) ({ cls := "ColumnStore", name := "writeRuns", desc := "(II)V" } : Jvm.MethodName)) ∈ lw_all := lw_g (lw_at lw_m1 68 rfl) rfl
theorem q89 : (Jvm.Cond.privateMethod ({ cls := "ColumnStore", name := "writeRuns", desc := "(II)V" } : Jvm.MethodName)) ∈ lw_tbl := lw_at lw_m1 69 rfl
theorem q90 : (Jvm.Cond.instanceMethod ({ cls := "ColumnStore", name := "writeRuns", desc := "(II)V" } : Jvm.MethodName)) ∈ lw_all := lw_g (lw_at lw_m1 70 rfl) rfl
theorem q91 : (Jvm.Cond.code ({ cls := "ColumnStore", name := "writeRuns", desc := "(II)V" } : Jvm.MethodName) prog_1_method_20_code (5 : Nat) (Option.none : Option Jvm.ClassFile.FieldType)) ∈ lw_all := lw_g (lw_at lw_m1 71 rfl) rfl
theorem q92 : (Jvm.Cond.methodLink "ColumnStore" (92 : Nat) ({ cls := "ColumnStore", name := "writeDictionary", desc := "(III)V" } : Jvm.MethodName)) ∈ lw_all := lw_g (lw_at lw_m1 72 rfl) rfl
theorem q93 : (Jvm.Cond.privateMethod ({ cls := "ColumnStore", name := "writeDictionary", desc := "(III)V" } : Jvm.MethodName)) ∈ lw_tbl := lw_at lw_m1 73 rfl
theorem q94 : (Jvm.Cond.instanceMethod ({ cls := "ColumnStore", name := "writeDictionary", desc := "(III)V" } : Jvm.MethodName)) ∈ lw_all := lw_g (lw_at lw_m1 74 rfl) rfl
theorem q95 : (Jvm.Cond.code ({ cls := "ColumnStore", name := "writeDictionary", desc := "(III)V" } : Jvm.MethodName) prog_1_method_21_code (7 : Nat) (Option.none : Option Jvm.ClassFile.FieldType)) ∈ lw_all := lw_g (lw_at lw_m1 75 rfl) rfl
theorem q96 : (Jvm.Cond.methodLink "ColumnStore" (102 : Nat) ({ cls := "ColumnStore", name := "clearBits", desc := "(II)V" } : Jvm.MethodName)) ∈ lw_all := lw_g (lw_at lw_m1 76 rfl) rfl
theorem q97 : (Jvm.Cond.privateMethod ({ cls := "ColumnStore", name := "clearBits", desc := "(II)V" } : Jvm.MethodName)) ∈ lw_tbl := lw_at lw_m1 77 rfl
theorem q98 : (Jvm.Cond.instanceMethod ({ cls := "ColumnStore", name := "clearBits", desc := "(II)V" } : Jvm.MethodName)) ∈ lw_all := lw_g (lw_at lw_m1 78 rfl) rfl
theorem q99 : (Jvm.Cond.code ({ cls := "ColumnStore", name := "clearBits", desc := "(II)V" } : Jvm.MethodName) prog_1_method_24_code (4 : Nat) (Option.none : Option Jvm.ClassFile.FieldType)) ∈ lw_all := lw_g (lw_at lw_m1 79 rfl) rfl
theorem q100 : (Jvm.Cond.methodLink "ColumnStore" (105 : Nat) ({ cls := "ColumnStore", name := "putBits", desc := "(IIII)V" } : Jvm.MethodName)) ∈ lw_all := lw_g (lw_at lw_m1 80 rfl) rfl
theorem q101 : (Jvm.Cond.privateMethod ({ cls := "ColumnStore", name := "putBits", desc := "(IIII)V" } : Jvm.MethodName)) ∈ lw_tbl := lw_at lw_m1 81 rfl
theorem q102 : (Jvm.Cond.instanceMethod ({ cls := "ColumnStore", name := "putBits", desc := "(IIII)V" } : Jvm.MethodName)) ∈ lw_all := lw_g (lw_at lw_m1 82 rfl) rfl
theorem q103 : (Jvm.Cond.code ({ cls := "ColumnStore", name := "putBits", desc := "(IIII)V" } : Jvm.MethodName) prog_1_method_25_code (6 : Nat) (Option.none : Option Jvm.ClassFile.FieldType)) ∈ lw_all := lw_g (lw_at lw_m1 83 rfl) rfl
theorem q104 : (Jvm.Cond.methodLink "ColumnStore" (96 : Nat) ({ cls := "ColumnStore", name := "writePacked", desc := "(III)V" } : Jvm.MethodName)) ∈ lw_all := lw_g (lw_at lw_m1 84 rfl) rfl
theorem q105 : (Jvm.Cond.privateMethod ({ cls := "ColumnStore", name := "writePacked", desc := "(III)V" } : Jvm.MethodName)) ∈ lw_tbl := lw_at lw_m1 85 rfl
theorem q106 : (Jvm.Cond.instanceMethod ({ cls := "ColumnStore", name := "writePacked", desc := "(III)V" } : Jvm.MethodName)) ∈ lw_all := lw_g (lw_at lw_m1 86 rfl) rfl
theorem q107 : (Jvm.Cond.code ({ cls := "ColumnStore", name := "writePacked", desc := "(III)V" } : Jvm.MethodName) prog_1_method_22_code (5 : Nat) (Option.none : Option Jvm.ClassFile.FieldType)) ∈ lw_all := lw_g (lw_at lw_m1 87 rfl) rfl
theorem q108 : (Jvm.Cond.methodLink "ColumnStore" (99 : Nat) ({ cls := "ColumnStore", name := "writePlain", desc := "(II)V" } : Jvm.MethodName)) ∈ lw_all := lw_g (lw_at lw_m1 88 rfl) rfl
theorem q109 : (Jvm.Cond.privateMethod ({ cls := "ColumnStore", name := "writePlain", desc := "(II)V" } : Jvm.MethodName)) ∈ lw_tbl := lw_at lw_m1 89 rfl
theorem q110 : (Jvm.Cond.instanceMethod ({ cls := "ColumnStore", name := "writePlain", desc := "(II)V" } : Jvm.MethodName)) ∈ lw_all := lw_g (lw_at lw_m1 90 rfl) rfl
theorem q111 : (Jvm.Cond.code ({ cls := "ColumnStore", name := "writePlain", desc := "(II)V" } : Jvm.MethodName) prog_1_method_23_code (4 : Nat) (Option.none : Option Jvm.ClassFile.FieldType)) ∈ lw_all := lw_g (lw_at lw_m1 91 rfl) rfl
theorem q113 : (Jvm.Cond.instanceMethod ({ cls := "ColumnStore", name := "strike", desc := "(I)I" } : Jvm.MethodName)) ∈ lw_all := lw_g (lw_at lw_m1 93 rfl) rfl
theorem q114 : (Jvm.Cond.selects "ColumnStore" ({ cls := "ColumnStore", name := "strike", desc := "(I)I" } : Jvm.MethodName) ({ cls := "ColumnStore", name := "strike", desc := "(I)I" } : Jvm.MethodName)) ∈ lw_all := lw_g (lw_at lw_m1 94 rfl) rfl
theorem q115 : (Jvm.Cond.code ({ cls := "ColumnStore", name := "strike", desc := "(I)I" } : Jvm.MethodName) prog_1_method_3_code (2 : Nat) (Option.some Jvm.ClassFile.FieldType.int)) ∈ lw_all := lw_g (lw_at lw_m1 95 rfl) rfl
theorem q117 : (Jvm.Cond.instanceMethod ({ cls := "ColumnStore", name := "range", desc := "(III)I" } : Jvm.MethodName)) ∈ lw_all := lw_g (lw_at lw_m1 97 rfl) rfl
theorem q118 : (Jvm.Cond.selects "ColumnStore" ({ cls := "ColumnStore", name := "range", desc := "(III)I" } : Jvm.MethodName) ({ cls := "ColumnStore", name := "range", desc := "(III)I" } : Jvm.MethodName)) ∈ lw_all := lw_g (lw_at lw_m1 98 rfl) rfl
theorem q119 : (Jvm.Cond.code ({ cls := "ColumnStore", name := "range", desc := "(III)I" } : Jvm.MethodName) prog_1_method_4_code (4 : Nat) (Option.some Jvm.ClassFile.FieldType.int)) ∈ lw_all := lw_g (lw_at lw_m1 99 rfl) rfl
theorem q120 : (Jvm.Cond.methodLink "ColumnStore" (52 : Nat) ({ cls := "ColumnStore", name := "isColumn", desc := "(I)Z" } : Jvm.MethodName)) ∈ lw_all := lw_g (lw_at lw_m1 100 rfl) rfl
theorem q121 : (Jvm.Cond.static ({ cls := "ColumnStore", name := "isColumn", desc := "(I)Z" } : Jvm.MethodName)) ∈ lw_all := lw_g (lw_at lw_m1 101 rfl) rfl
theorem q122 : (Jvm.Cond.code ({ cls := "ColumnStore", name := "isColumn", desc := "(I)Z" } : Jvm.MethodName) prog_1_method_13_code (1 : Nat) (Option.some Jvm.ClassFile.FieldType.boolean)) ∈ lw_all := lw_g (lw_at lw_m1 102 rfl) rfl
theorem q124 : (Jvm.Cond.instanceMethod ({ cls := "ColumnStore", name := "open", desc := "()V" } : Jvm.MethodName)) ∈ lw_all := lw_g (lw_at lw_m1 104 rfl) rfl
theorem q125 : (Jvm.Cond.selects "ColumnStore" ({ cls := "ColumnStore", name := "open", desc := "()V" } : Jvm.MethodName) ({ cls := "ColumnStore", name := "open", desc := "()V" } : Jvm.MethodName)) ∈ lw_all := lw_g (lw_at lw_m1 105 rfl) rfl
theorem q126 : (Jvm.Cond.code ({ cls := "ColumnStore", name := "open", desc := "()V" } : Jvm.MethodName) prog_1_method_5_code (2 : Nat) (Option.none : Option Jvm.ClassFile.FieldType)) ∈ lw_all := lw_g (lw_at lw_m1 106 rfl) rfl
theorem q128 : (Jvm.Cond.instanceMethod ({ cls := "ColumnStore", name := "count", desc := "()I" } : Jvm.MethodName)) ∈ lw_all := lw_g (lw_at lw_m1 108 rfl) rfl
theorem q129 : (Jvm.Cond.selects "ColumnStore" ({ cls := "ColumnStore", name := "count", desc := "()I" } : Jvm.MethodName) ({ cls := "ColumnStore", name := "count", desc := "()I" } : Jvm.MethodName)) ∈ lw_all := lw_g (lw_at lw_m1 109 rfl) rfl
theorem q130 : (Jvm.Cond.code ({ cls := "ColumnStore", name := "count", desc := "()I" } : Jvm.MethodName) prog_1_method_6_code (4 : Nat) (Option.some Jvm.ClassFile.FieldType.int)) ∈ lw_all := lw_g (lw_at lw_m1 110 rfl) rfl
theorem q131 : (Jvm.Cond.methodLink "ColumnStore" (56 : Nat) ({ cls := "ColumnStore", name := "passMask", desc := "(I)I" } : Jvm.MethodName)) ∈ lw_all := lw_g (lw_at lw_m1 111 rfl) rfl
theorem q132 : (Jvm.Cond.privateMethod ({ cls := "ColumnStore", name := "passMask", desc := "(I)I" } : Jvm.MethodName)) ∈ lw_tbl := lw_at lw_m1 112 rfl
theorem q133 : (Jvm.Cond.instanceMethod ({ cls := "ColumnStore", name := "passMask", desc := "(I)I" } : Jvm.MethodName)) ∈ lw_all := lw_g (lw_at lw_m1 113 rfl) rfl
theorem q134 : (Jvm.Cond.code ({ cls := "ColumnStore", name := "passMask", desc := "(I)I" } : Jvm.MethodName) prog_1_method_29_code (4 : Nat) (Option.some Jvm.ClassFile.FieldType.int)) ∈ lw_all := lw_g (lw_at lw_m1 114 rfl) rfl
theorem q135 : (Jvm.Cond.methodLink "ColumnStore" (118 : Nat) ({ cls := "ColumnStore", name := "rangeMask", desc := "(IIII)I" } : Jvm.MethodName)) ∈ lw_all := lw_g (lw_at lw_m1 115 rfl) rfl
theorem q136 : (Jvm.Cond.privateMethod ({ cls := "ColumnStore", name := "rangeMask", desc := "(IIII)I" } : Jvm.MethodName)) ∈ lw_tbl := lw_at lw_m1 116 rfl
theorem q137 : (Jvm.Cond.instanceMethod ({ cls := "ColumnStore", name := "rangeMask", desc := "(IIII)I" } : Jvm.MethodName)) ∈ lw_all := lw_g (lw_at lw_m1 117 rfl) rfl
theorem q138 : (Jvm.Cond.code ({ cls := "ColumnStore", name := "rangeMask", desc := "(IIII)I" } : Jvm.MethodName) prog_1_method_30_code (10 : Nat) (Option.some Jvm.ClassFile.FieldType.int)) ∈ lw_all := lw_g (lw_at lw_m1 118 rfl) rfl
theorem q139 : (Jvm.Cond.methodLink "ColumnStore" (109 : Nat) ({ cls := "ColumnStore", name := "isClosed", desc := "(I)Z" } : Jvm.MethodName)) ∈ lw_all := lw_g (lw_at lw_m1 119 rfl) rfl
theorem q140 : (Jvm.Cond.privateMethod ({ cls := "ColumnStore", name := "isClosed", desc := "(I)Z" } : Jvm.MethodName)) ∈ lw_tbl := lw_at lw_m1 120 rfl
theorem q141 : (Jvm.Cond.instanceMethod ({ cls := "ColumnStore", name := "isClosed", desc := "(I)Z" } : Jvm.MethodName)) ∈ lw_all := lw_g (lw_at lw_m1 121 rfl) rfl
theorem q142 : (Jvm.Cond.code ({ cls := "ColumnStore", name := "isClosed", desc := "(I)Z" } : Jvm.MethodName) prog_1_method_16_code (2 : Nat) (Option.some Jvm.ClassFile.FieldType.boolean)) ∈ lw_all := lw_g (lw_at lw_m1 122 rfl) rfl
theorem q143 : (Jvm.Cond.constant "ColumnStore" (122 : Nat) (65535 : Int32)) ∈ lw_all := lw_g (lw_at lw_m1 123 rfl) rfl
theorem q144 : (Jvm.Cond.methodLink "ColumnStore" (123 : Nat) ({ cls := "ColumnStore", name := "runMask", desc := "(III)I" } : Jvm.MethodName)) ∈ lw_all := lw_g (lw_at lw_m1 124 rfl) rfl
theorem q145 : (Jvm.Cond.privateMethod ({ cls := "ColumnStore", name := "runMask", desc := "(III)I" } : Jvm.MethodName)) ∈ lw_tbl := lw_at lw_m1 125 rfl
theorem q146 : (Jvm.Cond.instanceMethod ({ cls := "ColumnStore", name := "runMask", desc := "(III)I" } : Jvm.MethodName)) ∈ lw_all := lw_g (lw_at lw_m1 126 rfl) rfl
theorem q147 : (Jvm.Cond.code ({ cls := "ColumnStore", name := "runMask", desc := "(III)I" } : Jvm.MethodName) prog_1_method_31_code (7 : Nat) (Option.some Jvm.ClassFile.FieldType.int)) ∈ lw_all := lw_g (lw_at lw_m1 127 rfl) rfl
theorem q148 : (Jvm.Cond.methodLink "ColumnStore" (126 : Nat) ({ cls := "ColumnStore", name := "dictionaryMask", desc := "(III)I" } : Jvm.MethodName)) ∈ lw_all := lw_g (lw_at lw_m1 128 rfl) rfl
theorem q149 : (Jvm.Cond.privateMethod ({ cls := "ColumnStore", name := "dictionaryMask", desc := "(III)I" } : Jvm.MethodName)) ∈ lw_tbl := lw_at lw_m1 129 rfl
theorem q150 : (Jvm.Cond.instanceMethod ({ cls := "ColumnStore", name := "dictionaryMask", desc := "(III)I" } : Jvm.MethodName)) ∈ lw_all := lw_g (lw_at lw_m1 130 rfl) rfl
theorem q151 : (Jvm.Cond.code ({ cls := "ColumnStore", name := "dictionaryMask", desc := "(III)I" } : Jvm.MethodName) prog_1_method_32_code (10 : Nat) (Option.some Jvm.ClassFile.FieldType.int)) ∈ lw_all := lw_g (lw_at lw_m1 131 rfl) rfl
theorem q152 : (Jvm.Cond.methodLink "ColumnStore" (115 : Nat) ({ cls := "ColumnStore", name := "indexBitsOf", desc := "(I)I" } : Jvm.MethodName)) ∈ lw_all := lw_g (lw_at lw_m1 132 rfl) rfl
theorem q153 : (Jvm.Cond.privateMethod ({ cls := "ColumnStore", name := "indexBitsOf", desc := "(I)I" } : Jvm.MethodName)) ∈ lw_tbl := lw_at lw_m1 133 rfl
theorem q154 : (Jvm.Cond.instanceMethod ({ cls := "ColumnStore", name := "indexBitsOf", desc := "(I)I" } : Jvm.MethodName)) ∈ lw_all := lw_g (lw_at lw_m1 134 rfl) rfl
theorem q155 : (Jvm.Cond.code ({ cls := "ColumnStore", name := "indexBitsOf", desc := "(I)I" } : Jvm.MethodName) prog_1_method_27_code (2 : Nat) (Option.some Jvm.ClassFile.FieldType.int)) ∈ lw_all := lw_g (lw_at lw_m1 135 rfl) rfl
theorem q156 : (Jvm.Cond.methodLink "ColumnStore" (112 : Nat) ({ cls := "ColumnStore", name := "getBits", desc := "(III)I" } : Jvm.MethodName)) ∈ lw_all := lw_g (lw_at lw_m1 136 rfl) rfl
theorem q157 : (Jvm.Cond.privateMethod ({ cls := "ColumnStore", name := "getBits", desc := "(III)I" } : Jvm.MethodName)) ∈ lw_tbl := lw_at lw_m1 137 rfl
theorem q158 : (Jvm.Cond.instanceMethod ({ cls := "ColumnStore", name := "getBits", desc := "(III)I" } : Jvm.MethodName)) ∈ lw_all := lw_g (lw_at lw_m1 138 rfl) rfl
theorem q159 : (Jvm.Cond.code ({ cls := "ColumnStore", name := "getBits", desc := "(III)I" } : Jvm.MethodName) prog_1_method_26_code (6 : Nat) (Option.some Jvm.ClassFile.FieldType.int)) ∈ lw_all := lw_g (lw_at lw_m1 139 rfl) rfl
theorem q160 : (Jvm.Cond.methodLink "ColumnStore" (71 : Nat) ({ cls := "ColumnStore", name := "valueIn", desc := "(III)I" } : Jvm.MethodName)) ∈ lw_all := lw_g (lw_at lw_m1 140 rfl) rfl
theorem q161 : (Jvm.Cond.privateMethod ({ cls := "ColumnStore", name := "valueIn", desc := "(III)I" } : Jvm.MethodName)) ∈ lw_tbl := lw_at lw_m1 141 rfl
theorem q162 : (Jvm.Cond.instanceMethod ({ cls := "ColumnStore", name := "valueIn", desc := "(III)I" } : Jvm.MethodName)) ∈ lw_all := lw_g (lw_at lw_m1 142 rfl) rfl
theorem q163 : (Jvm.Cond.code ({ cls := "ColumnStore", name := "valueIn", desc := "(III)I" } : Jvm.MethodName) prog_1_method_28_code (7 : Nat) (Option.some Jvm.ClassFile.FieldType.int)) ∈ lw_all := lw_g (lw_at lw_m1 143 rfl) rfl
theorem q164 : (Jvm.Cond.methodLink "ColumnStore" (60 : Nat) ({ cls := "ColumnStore", name := "ones", desc := "(I)I" } : Jvm.MethodName)) ∈ lw_all := lw_g (lw_at lw_m1 144 rfl) rfl
theorem q165 : (Jvm.Cond.static ({ cls := "ColumnStore", name := "ones", desc := "(I)I" } : Jvm.MethodName)) ∈ lw_all := lw_g (lw_at lw_m1 145 rfl) rfl
theorem q166 : (Jvm.Cond.code ({ cls := "ColumnStore", name := "ones", desc := "(I)I" } : Jvm.MethodName) prog_1_method_14_code (3 : Nat) (Option.some Jvm.ClassFile.FieldType.int)) ∈ lw_all := lw_g (lw_at lw_m1 146 rfl) rfl
theorem q168 : (Jvm.Cond.instanceMethod ({ cls := "ColumnStore", name := "sum", desc := "(I)J" } : Jvm.MethodName)) ∈ lw_all := lw_g (lw_at lw_m1 148 rfl) rfl
theorem q169 : (Jvm.Cond.selects "ColumnStore" ({ cls := "ColumnStore", name := "sum", desc := "(I)J" } : Jvm.MethodName) ({ cls := "ColumnStore", name := "sum", desc := "(I)J" } : Jvm.MethodName)) ∈ lw_all := lw_g (lw_at lw_m1 149 rfl) rfl
theorem q170 : (Jvm.Cond.code ({ cls := "ColumnStore", name := "sum", desc := "(I)J" } : Jvm.MethodName) prog_1_method_7_code (6 : Nat) (Option.some Jvm.ClassFile.FieldType.long)) ∈ lw_all := lw_g (lw_at lw_m1 150 rfl) rfl
theorem q171 : (Jvm.Cond.methodLink "ColumnStore" (63 : Nat) ({ cls := "ColumnStore", name := "sumOf", desc := "(III)J" } : Jvm.MethodName)) ∈ lw_all := lw_g (lw_at lw_m1 151 rfl) rfl
theorem q172 : (Jvm.Cond.privateMethod ({ cls := "ColumnStore", name := "sumOf", desc := "(III)J" } : Jvm.MethodName)) ∈ lw_tbl := lw_at lw_m1 152 rfl
theorem q173 : (Jvm.Cond.instanceMethod ({ cls := "ColumnStore", name := "sumOf", desc := "(III)J" } : Jvm.MethodName)) ∈ lw_all := lw_g (lw_at lw_m1 153 rfl) rfl
theorem q174 : (Jvm.Cond.code ({ cls := "ColumnStore", name := "sumOf", desc := "(III)J" } : Jvm.MethodName) prog_1_method_33_code (9 : Nat) (Option.some Jvm.ClassFile.FieldType.long)) ∈ lw_all := lw_g (lw_at lw_m1 154 rfl) rfl
theorem q176 : (Jvm.Cond.instanceMethod ({ cls := "ColumnStore", name := "extreme", desc := "(IZ)I" } : Jvm.MethodName)) ∈ lw_all := lw_g (lw_at lw_m1 156 rfl) rfl
theorem q177 : (Jvm.Cond.selects "ColumnStore" ({ cls := "ColumnStore", name := "extreme", desc := "(IZ)I" } : Jvm.MethodName) ({ cls := "ColumnStore", name := "extreme", desc := "(IZ)I" } : Jvm.MethodName)) ∈ lw_all := lw_g (lw_at lw_m1 157 rfl) rfl
theorem q178 : (Jvm.Cond.code ({ cls := "ColumnStore", name := "extreme", desc := "(IZ)I" } : Jvm.MethodName) prog_1_method_8_code (9 : Nat) (Option.some Jvm.ClassFile.FieldType.int)) ∈ lw_all := lw_g (lw_at lw_m1 158 rfl) rfl
theorem q179 : (Jvm.Cond.methodLink "ColumnStore" (67 : Nat) ({ cls := "ColumnStore", name := "mayBeat", desc := "(IIZZI)Z" } : Jvm.MethodName)) ∈ lw_all := lw_g (lw_at lw_m1 159 rfl) rfl
theorem q180 : (Jvm.Cond.privateMethod ({ cls := "ColumnStore", name := "mayBeat", desc := "(IIZZI)Z" } : Jvm.MethodName)) ∈ lw_tbl := lw_at lw_m1 160 rfl
theorem q181 : (Jvm.Cond.instanceMethod ({ cls := "ColumnStore", name := "mayBeat", desc := "(IIZZI)Z" } : Jvm.MethodName)) ∈ lw_all := lw_g (lw_at lw_m1 161 rfl) rfl
theorem q182 : (Jvm.Cond.code ({ cls := "ColumnStore", name := "mayBeat", desc := "(IIZZI)Z" } : Jvm.MethodName) prog_1_method_34_code (7 : Nat) (Option.some Jvm.ClassFile.FieldType.boolean)) ∈ lw_all := lw_g (lw_at lw_m1 162 rfl) rfl
theorem q184 : (Jvm.Cond.instanceMethod ({ cls := "ColumnStore", name := "passing", desc := "(I)I" } : Jvm.MethodName)) ∈ lw_all := lw_g (lw_at lw_m1 164 rfl) rfl
theorem q185 : (Jvm.Cond.selects "ColumnStore" ({ cls := "ColumnStore", name := "passing", desc := "(I)I" } : Jvm.MethodName) ({ cls := "ColumnStore", name := "passing", desc := "(I)I" } : Jvm.MethodName)) ∈ lw_all := lw_g (lw_at lw_m1 165 rfl) rfl
theorem q186 : (Jvm.Cond.code ({ cls := "ColumnStore", name := "passing", desc := "(I)I" } : Jvm.MethodName) prog_1_method_9_code (6 : Nat) (Option.some Jvm.ClassFile.FieldType.int)) ∈ lw_all := lw_g (lw_at lw_m1 166 rfl) rfl
theorem q187 : (Jvm.Cond.methodLink "ColumnStore" (75 : Nat) ({ cls := "ColumnStore", name := "oneAt", desc := "(II)I" } : Jvm.MethodName)) ∈ lw_all := lw_g (lw_at lw_m1 167 rfl) rfl
theorem q188 : (Jvm.Cond.static ({ cls := "ColumnStore", name := "oneAt", desc := "(II)I" } : Jvm.MethodName)) ∈ lw_all := lw_g (lw_at lw_m1 168 rfl) rfl
theorem q189 : (Jvm.Cond.code ({ cls := "ColumnStore", name := "oneAt", desc := "(II)I" } : Jvm.MethodName) prog_1_method_15_code (4 : Nat) (Option.some Jvm.ClassFile.FieldType.int)) ∈ lw_all := lw_g (lw_at lw_m1 169 rfl) rfl
theorem q191 : (Jvm.Cond.instanceMethod ({ cls := "ColumnStore", name := "value", desc := "(II)I" } : Jvm.MethodName)) ∈ lw_all := lw_g (lw_at lw_m1 171 rfl) rfl
theorem q192 : (Jvm.Cond.selects "ColumnStore" ({ cls := "ColumnStore", name := "value", desc := "(II)I" } : Jvm.MethodName) ({ cls := "ColumnStore", name := "value", desc := "(II)I" } : Jvm.MethodName)) ∈ lw_all := lw_g (lw_at lw_m1 172 rfl) rfl
theorem q193 : (Jvm.Cond.code ({ cls := "ColumnStore", name := "value", desc := "(II)I" } : Jvm.MethodName) prog_1_method_10_code (3 : Nat) (Option.some Jvm.ClassFile.FieldType.int)) ∈ lw_all := lw_g (lw_at lw_m1 173 rfl) rfl
theorem q195 : (Jvm.Cond.instanceMethod ({ cls := "ColumnStore", name := "different", desc := "(I)I" } : Jvm.MethodName)) ∈ lw_all := lw_g (lw_at lw_m1 175 rfl) rfl
theorem q196 : (Jvm.Cond.selects "ColumnStore" ({ cls := "ColumnStore", name := "different", desc := "(I)I" } : Jvm.MethodName) ({ cls := "ColumnStore", name := "different", desc := "(I)I" } : Jvm.MethodName)) ∈ lw_all := lw_g (lw_at lw_m1 176 rfl) rfl
theorem q197 : (Jvm.Cond.code ({ cls := "ColumnStore", name := "different", desc := "(I)I" } : Jvm.MethodName) prog_1_method_11_code (6 : Nat) (Option.some Jvm.ClassFile.FieldType.int)) ∈ lw_all := lw_g (lw_at lw_m1 177 rfl) rfl
theorem q199 : (Jvm.Cond.instanceMethod ({ cls := "ColumnStore", name := "live", desc := "()I" } : Jvm.MethodName)) ∈ lw_all := lw_g (lw_at lw_m1 179 rfl) rfl
theorem q200 : (Jvm.Cond.selects "ColumnStore" ({ cls := "ColumnStore", name := "live", desc := "()I" } : Jvm.MethodName) ({ cls := "ColumnStore", name := "live", desc := "()I" } : Jvm.MethodName)) ∈ lw_all := lw_g (lw_at lw_m1 180 rfl) rfl
theorem q201 : (Jvm.Cond.code ({ cls := "ColumnStore", name := "live", desc := "()I" } : Jvm.MethodName) prog_1_method_12_code (3 : Nat) (Option.some Jvm.ClassFile.FieldType.int)) ∈ lw_all := lw_g (lw_at lw_m1 181 rfl) rfl
theorem in_X0 : ∀ w ∈ wsX00, w ∈ lw_all := lw_in wsX00 [44, 46, 48, 50, 52, 54, 56, 58, 60, 62, 64, 66, 68] (by decide +kernel) (by decide +kernel)

/-! java/lang/Object -/
set_option maxRecDepth 100000
def RJ0 : String := "java/lang/Object"
abbrev cJ0_init : ByteArray := object_method_1_code
def yJ0_init : MethodName := ⟨RJ0, "<init>", "()V"⟩
theorem dJ0_init_0 : decode cJ0_init 0 = .ok (.return_, 1) := by decide +kernel
theorem q29 : (Jvm.Cond.instanceMethod ({ cls := "java/lang/Object", name := "<init>", desc := "()V" } : Jvm.MethodName)) ∈ lw_all := lw_g (lw_at lw_m1 9 rfl) rfl
theorem q30 : (Jvm.Cond.code ({ cls := "java/lang/Object", name := "<init>", desc := "()V" } : Jvm.MethodName) object_method_1_code (1 : Nat) (Option.none : Option Jvm.ClassFile.FieldType)) ∈ lw_all := lw_g (lw_at lw_m1 10 rfl) rfl

theorem q71 : (Jvm.Cond.arrayClass Jvm.ClassFile.FieldType.int) ∈ lw_all := lw_g (lw_at lw_m1 51 rfl) rfl
set_option maxRecDepth 100000
theorem q72 : (Jvm.Cond.arrayClass Jvm.ClassFile.FieldType.boolean) ∈ lw_all := lw_g (lw_at lw_m1 52 rfl) rfl

theorem q20 : (Jvm.Cond.initialized "ColumnStoreLaw") ∈ lw_all := lw_g (lw_at lw_m1 0 rfl) rfl
set_option maxRecDepth 100000
theorem q23 : (Jvm.Cond.classLink "ColumnStoreLaw" (7 : Nat) "ColumnStore") ∈ lw_all := lw_g (lw_at lw_m1 3 rfl) rfl
theorem q25 : (Jvm.Cond.methodLink "ColumnStoreLaw" (9 : Nat) ({ cls := "ColumnStore", name := "<init>", desc := "()V" } : Jvm.MethodName)) ∈ lw_all := lw_g (lw_at lw_m1 5 rfl) rfl
theorem q73 : (Jvm.Cond.methodLink "ColumnStoreLaw" (13 : Nat) ({ cls := "ColumnStore", name := "append", desc := "(III)I" } : Jvm.MethodName)) ∈ lw_all := lw_g (lw_at lw_m1 53 rfl) rfl
theorem q112 : (Jvm.Cond.methodLink "ColumnStoreLaw" (18 : Nat) ({ cls := "ColumnStore", name := "strike", desc := "(I)I" } : Jvm.MethodName)) ∈ lw_all := lw_g (lw_at lw_m1 92 rfl) rfl
theorem q116 : (Jvm.Cond.methodLink "ColumnStoreLaw" (23 : Nat) ({ cls := "ColumnStore", name := "range", desc := "(III)I" } : Jvm.MethodName)) ∈ lw_all := lw_g (lw_at lw_m1 96 rfl) rfl
theorem q123 : (Jvm.Cond.methodLink "ColumnStoreLaw" (27 : Nat) ({ cls := "ColumnStore", name := "open", desc := "()V" } : Jvm.MethodName)) ∈ lw_all := lw_g (lw_at lw_m1 103 rfl) rfl
theorem q127 : (Jvm.Cond.methodLink "ColumnStoreLaw" (31 : Nat) ({ cls := "ColumnStore", name := "count", desc := "()I" } : Jvm.MethodName)) ∈ lw_all := lw_g (lw_at lw_m1 107 rfl) rfl
theorem q167 : (Jvm.Cond.methodLink "ColumnStoreLaw" (36 : Nat) ({ cls := "ColumnStore", name := "sum", desc := "(I)J" } : Jvm.MethodName)) ∈ lw_all := lw_g (lw_at lw_m1 147 rfl) rfl
theorem q175 : (Jvm.Cond.methodLink "ColumnStoreLaw" (41 : Nat) ({ cls := "ColumnStore", name := "extreme", desc := "(IZ)I" } : Jvm.MethodName)) ∈ lw_all := lw_g (lw_at lw_m1 155 rfl) rfl
theorem q183 : (Jvm.Cond.methodLink "ColumnStoreLaw" (46 : Nat) ({ cls := "ColumnStore", name := "passing", desc := "(I)I" } : Jvm.MethodName)) ∈ lw_all := lw_g (lw_at lw_m1 163 rfl) rfl
theorem q190 : (Jvm.Cond.methodLink "ColumnStoreLaw" (50 : Nat) ({ cls := "ColumnStore", name := "value", desc := "(II)I" } : Jvm.MethodName)) ∈ lw_all := lw_g (lw_at lw_m1 170 rfl) rfl
theorem q194 : (Jvm.Cond.methodLink "ColumnStoreLaw" (55 : Nat) ({ cls := "ColumnStore", name := "different", desc := "(I)I" } : Jvm.MethodName)) ∈ lw_all := lw_g (lw_at lw_m1 174 rfl) rfl
theorem q198 : (Jvm.Cond.methodLink "ColumnStoreLaw" (59 : Nat) ({ cls := "ColumnStore", name := "live", desc := "()I" } : Jvm.MethodName)) ∈ lw_all := lw_g (lw_at lw_m1 178 rfl) rfl
theorem q202 : (Jvm.Cond.classLink "ColumnStoreLaw" (10 : Nat) "ColumnStoreModel") ∈ lw_all := lw_g (lw_at lw_m1 182 rfl) rfl
theorem q204 : (Jvm.Cond.methodLink "ColumnStoreLaw" (12 : Nat) ({ cls := "ColumnStoreModel", name := "<init>", desc := "()V" } : Jvm.MethodName)) ∈ lw_all := lw_g (lw_at lw_m1 184 rfl) rfl
theorem q227 : (Jvm.Cond.methodLink "ColumnStoreLaw" (17 : Nat) ({ cls := "ColumnStoreModel", name := "append", desc := "(III)I" } : Jvm.MethodName)) ∈ lw_all := lw_g (lw_at lw_m1 207 rfl) rfl
theorem q231 : (Jvm.Cond.methodLink "ColumnStoreLaw" (22 : Nat) ({ cls := "ColumnStoreModel", name := "strike", desc := "(I)I" } : Jvm.MethodName)) ∈ lw_all := lw_g (lw_at lw_m1 211 rfl) rfl
theorem q235 : (Jvm.Cond.methodLink "ColumnStoreLaw" (26 : Nat) ({ cls := "ColumnStoreModel", name := "range", desc := "(III)I" } : Jvm.MethodName)) ∈ lw_all := lw_g (lw_at lw_m1 215 rfl) rfl
theorem q242 : (Jvm.Cond.methodLink "ColumnStoreLaw" (30 : Nat) ({ cls := "ColumnStoreModel", name := "open", desc := "()V" } : Jvm.MethodName)) ∈ lw_all := lw_g (lw_at lw_m1 222 rfl) rfl
theorem q246 : (Jvm.Cond.methodLink "ColumnStoreLaw" (35 : Nat) ({ cls := "ColumnStoreModel", name := "count", desc := "()I" } : Jvm.MethodName)) ∈ lw_all := lw_g (lw_at lw_m1 226 rfl) rfl
theorem q254 : (Jvm.Cond.methodLink "ColumnStoreLaw" (40 : Nat) ({ cls := "ColumnStoreModel", name := "sum", desc := "(I)J" } : Jvm.MethodName)) ∈ lw_all := lw_g (lw_at lw_m1 234 rfl) rfl
theorem q258 : (Jvm.Cond.methodLink "ColumnStoreLaw" (45 : Nat) ({ cls := "ColumnStoreModel", name := "extreme", desc := "(IZ)I" } : Jvm.MethodName)) ∈ lw_all := lw_g (lw_at lw_m1 238 rfl) rfl
theorem q262 : (Jvm.Cond.methodLink "ColumnStoreLaw" (49 : Nat) ({ cls := "ColumnStoreModel", name := "passing", desc := "(I)I" } : Jvm.MethodName)) ∈ lw_all := lw_g (lw_at lw_m2 2 rfl) rfl
theorem q266 : (Jvm.Cond.methodLink "ColumnStoreLaw" (54 : Nat) ({ cls := "ColumnStoreModel", name := "value", desc := "(II)I" } : Jvm.MethodName)) ∈ lw_all := lw_g (lw_at lw_m2 6 rfl) rfl
theorem q270 : (Jvm.Cond.methodLink "ColumnStoreLaw" (58 : Nat) ({ cls := "ColumnStoreModel", name := "different", desc := "(I)I" } : Jvm.MethodName)) ∈ lw_all := lw_g (lw_at lw_m2 10 rfl) rfl
theorem q278 : (Jvm.Cond.methodLink "ColumnStoreLaw" (62 : Nat) ({ cls := "ColumnStoreModel", name := "live", desc := "()I" } : Jvm.MethodName)) ∈ lw_all := lw_g (lw_at lw_m2 18 rfl) rfl
end
section
/-! ColumnStoreModel -/
set_option maxRecDepth 100000
def RX1 : String := "ColumnStoreModel"
def TX1 : u_T := fun k => match k with
  | 0 => ("ColumnStoreModel", "rows", "I", false)
  | 1 => ("ColumnStoreModel", "values", "[I", true)
  | 2 => ("ColumnStoreModel", "alive", "[Z", true)
  | 3 => ("ColumnStoreModel", "ranged", "[Z", true)
  | 4 => ("ColumnStoreModel", "lows", "[I", true)
  | _ => ("ColumnStoreModel", "highs", "[I", true)
def tyX1 : Nat → FieldType := fun k => match k with
  | 0 => .int
  | 1 => .array .int
  | 2 => .array .boolean
  | 3 => .array .boolean
  | 4 => .array .int
  | _ => .array .int
abbrev wsX10 : List Cond := u_ws RX1 TX1 6
theorem nmX1 : ∀ a, a < 6 → ∀ b, b < 6 → a ≠ b → (TX1 a).2.1 ≠ (TX1 b).2.1 := by decide +kernel
theorem tyX1_ok : ∀ k, k < 6 → parseFieldDescriptor (TX1 k).2.2.1 = some (tyX1 k) := by decide +kernel
abbrev cX1_init : ByteArray := prog_3_method_1_code
def yX1_init : MethodName := ⟨RX1, "<init>", "()V"⟩
theorem dX1_init_0 : decode cX1_init 0 = .ok (.aload_n 0, 1) := by decide +kernel
theorem dX1_init_1 : decode cX1_init 1 = .ok (.invokespecial 1, 3) := by decide +kernel
theorem dX1_init_4 : decode cX1_init 4 = .ok (.aload_n 0, 1) := by decide +kernel
theorem dX1_init_5 : decode cX1_init 5 = .ok (.sipush 192, 3) := by decide +kernel
theorem dX1_init_8 : decode cX1_init 8 = .ok (.newarray .int, 2) := by decide +kernel
theorem dX1_init_10 : decode cX1_init 10 = .ok (.putfield 7, 3) := by decide +kernel
theorem dX1_init_13 : decode cX1_init 13 = .ok (.aload_n 0, 1) := by decide +kernel
theorem dX1_init_14 : decode cX1_init 14 = .ok (.bipush 64, 2) := by decide +kernel
theorem dX1_init_16 : decode cX1_init 16 = .ok (.newarray .boolean, 2) := by decide +kernel
theorem dX1_init_18 : decode cX1_init 18 = .ok (.putfield 13, 3) := by decide +kernel
theorem dX1_init_21 : decode cX1_init 21 = .ok (.aload_n 0, 1) := by decide +kernel
theorem dX1_init_22 : decode cX1_init 22 = .ok (.iconst 3, 1) := by decide +kernel
theorem dX1_init_23 : decode cX1_init 23 = .ok (.newarray .boolean, 2) := by decide +kernel
theorem dX1_init_25 : decode cX1_init 25 = .ok (.putfield 17, 3) := by decide +kernel
theorem dX1_init_28 : decode cX1_init 28 = .ok (.aload_n 0, 1) := by decide +kernel
theorem dX1_init_29 : decode cX1_init 29 = .ok (.iconst 3, 1) := by decide +kernel
theorem dX1_init_30 : decode cX1_init 30 = .ok (.newarray .int, 2) := by decide +kernel
theorem dX1_init_32 : decode cX1_init 32 = .ok (.putfield 20, 3) := by decide +kernel
theorem dX1_init_35 : decode cX1_init 35 = .ok (.aload_n 0, 1) := by decide +kernel
theorem dX1_init_36 : decode cX1_init 36 = .ok (.iconst 3, 1) := by decide +kernel
theorem dX1_init_37 : decode cX1_init 37 = .ok (.newarray .int, 2) := by decide +kernel
theorem dX1_init_39 : decode cX1_init 39 = .ok (.putfield 23, 3) := by decide +kernel
theorem dX1_init_42 : decode cX1_init 42 = .ok (.return_, 1) := by decide +kernel
abbrev cX1_append : ByteArray := prog_3_method_2_code
def yX1_append : MethodName := ⟨RX1, "append", "(III)I"⟩
theorem dX1_append_0 : decode cX1_append 0 = .ok (.aload_n 0, 1) := by decide +kernel
theorem dX1_append_1 : decode cX1_append 1 = .ok (.getfield 26, 3) := by decide +kernel
theorem dX1_append_4 : decode cX1_append 4 = .ok (.bipush 64, 2) := by decide +kernel
theorem dX1_append_6 : decode cX1_append 6 = .ok (.if_icmp .ne 5, 3) := by decide +kernel
theorem dX1_append_9 : decode cX1_append 9 = .ok (.iconst (-1), 1) := by decide +kernel
theorem dX1_append_10 : decode cX1_append 10 = .ok (.ireturn, 1) := by decide +kernel
theorem dX1_append_11 : decode cX1_append 11 = .ok (.aload_n 0, 1) := by decide +kernel
theorem dX1_append_12 : decode cX1_append 12 = .ok (.getfield 7, 3) := by decide +kernel
theorem dX1_append_15 : decode cX1_append 15 = .ok (.iconst 3, 1) := by decide +kernel
theorem dX1_append_16 : decode cX1_append 16 = .ok (.aload_n 0, 1) := by decide +kernel
theorem dX1_append_17 : decode cX1_append 17 = .ok (.getfield 26, 3) := by decide +kernel
theorem dX1_append_20 : decode cX1_append 20 = .ok (.imul, 1) := by decide +kernel
theorem dX1_append_21 : decode cX1_append 21 = .ok (.iload_n 1, 1) := by decide +kernel
theorem dX1_append_22 : decode cX1_append 22 = .ok (.iastore, 1) := by decide +kernel
theorem dX1_append_23 : decode cX1_append 23 = .ok (.aload_n 0, 1) := by decide +kernel
theorem dX1_append_24 : decode cX1_append 24 = .ok (.getfield 7, 3) := by decide +kernel
theorem dX1_append_27 : decode cX1_append 27 = .ok (.iconst 3, 1) := by decide +kernel
theorem dX1_append_28 : decode cX1_append 28 = .ok (.aload_n 0, 1) := by decide +kernel
theorem dX1_append_29 : decode cX1_append 29 = .ok (.getfield 26, 3) := by decide +kernel
theorem dX1_append_32 : decode cX1_append 32 = .ok (.imul, 1) := by decide +kernel
theorem dX1_append_33 : decode cX1_append 33 = .ok (.iconst 1, 1) := by decide +kernel
theorem dX1_append_34 : decode cX1_append 34 = .ok (.iadd, 1) := by decide +kernel
theorem dX1_append_35 : decode cX1_append 35 = .ok (.iload_n 2, 1) := by decide +kernel
theorem dX1_append_36 : decode cX1_append 36 = .ok (.iastore, 1) := by decide +kernel
theorem dX1_append_37 : decode cX1_append 37 = .ok (.aload_n 0, 1) := by decide +kernel
theorem dX1_append_38 : decode cX1_append 38 = .ok (.getfield 7, 3) := by decide +kernel
theorem dX1_append_41 : decode cX1_append 41 = .ok (.iconst 3, 1) := by decide +kernel
theorem dX1_append_42 : decode cX1_append 42 = .ok (.aload_n 0, 1) := by decide +kernel
theorem dX1_append_43 : decode cX1_append 43 = .ok (.getfield 26, 3) := by decide +kernel
theorem dX1_append_46 : decode cX1_append 46 = .ok (.imul, 1) := by decide +kernel
theorem dX1_append_47 : decode cX1_append 47 = .ok (.iconst 2, 1) := by decide +kernel
theorem dX1_append_48 : decode cX1_append 48 = .ok (.iadd, 1) := by decide +kernel
theorem dX1_append_49 : decode cX1_append 49 = .ok (.iload_n 3, 1) := by decide +kernel
theorem dX1_append_50 : decode cX1_append 50 = .ok (.iastore, 1) := by decide +kernel
theorem dX1_append_51 : decode cX1_append 51 = .ok (.aload_n 0, 1) := by decide +kernel
theorem dX1_append_52 : decode cX1_append 52 = .ok (.getfield 13, 3) := by decide +kernel
theorem dX1_append_55 : decode cX1_append 55 = .ok (.aload_n 0, 1) := by decide +kernel
theorem dX1_append_56 : decode cX1_append 56 = .ok (.getfield 26, 3) := by decide +kernel
theorem dX1_append_59 : decode cX1_append 59 = .ok (.iconst 1, 1) := by decide +kernel
theorem dX1_append_60 : decode cX1_append 60 = .ok (.bastore, 1) := by decide +kernel
theorem dX1_append_61 : decode cX1_append 61 = .ok (.aload_n 0, 1) := by decide +kernel
theorem dX1_append_62 : decode cX1_append 62 = .ok (.dup, 1) := by decide +kernel
theorem dX1_append_63 : decode cX1_append 63 = .ok (.getfield 26, 3) := by decide +kernel
theorem dX1_append_66 : decode cX1_append 66 = .ok (.iconst 1, 1) := by decide +kernel
theorem dX1_append_67 : decode cX1_append 67 = .ok (.iadd, 1) := by decide +kernel
theorem dX1_append_68 : decode cX1_append 68 = .ok (.putfield 26, 3) := by decide +kernel
theorem dX1_append_71 : decode cX1_append 71 = .ok (.aload_n 0, 1) := by decide +kernel
theorem dX1_append_72 : decode cX1_append 72 = .ok (.getfield 26, 3) := by decide +kernel
theorem dX1_append_75 : decode cX1_append 75 = .ok (.iconst 1, 1) := by decide +kernel
theorem dX1_append_76 : decode cX1_append 76 = .ok (.isub, 1) := by decide +kernel
theorem dX1_append_77 : decode cX1_append 77 = .ok (.ireturn, 1) := by decide +kernel
abbrev cX1_strike : ByteArray := prog_3_method_3_code
def yX1_strike : MethodName := ⟨RX1, "strike", "(I)I"⟩
theorem dX1_strike_0 : decode cX1_strike 0 = .ok (.iload_n 1, 1) := by decide +kernel
theorem dX1_strike_1 : decode cX1_strike 1 = .ok (.ifCond .lt 20, 3) := by decide +kernel
theorem dX1_strike_4 : decode cX1_strike 4 = .ok (.iload_n 1, 1) := by decide +kernel
theorem dX1_strike_5 : decode cX1_strike 5 = .ok (.aload_n 0, 1) := by decide +kernel
theorem dX1_strike_6 : decode cX1_strike 6 = .ok (.getfield 26, 3) := by decide +kernel
theorem dX1_strike_9 : decode cX1_strike 9 = .ok (.if_icmp .ge 12, 3) := by decide +kernel
theorem dX1_strike_12 : decode cX1_strike 12 = .ok (.aload_n 0, 1) := by decide +kernel
theorem dX1_strike_13 : decode cX1_strike 13 = .ok (.getfield 13, 3) := by decide +kernel
theorem dX1_strike_16 : decode cX1_strike 16 = .ok (.iload_n 1, 1) := by decide +kernel
theorem dX1_strike_17 : decode cX1_strike 17 = .ok (.baload, 1) := by decide +kernel
theorem dX1_strike_18 : decode cX1_strike 18 = .ok (.ifCond .ne 5, 3) := by decide +kernel
theorem dX1_strike_21 : decode cX1_strike 21 = .ok (.iconst (-1), 1) := by decide +kernel
theorem dX1_strike_22 : decode cX1_strike 22 = .ok (.ireturn, 1) := by decide +kernel
theorem dX1_strike_23 : decode cX1_strike 23 = .ok (.aload_n 0, 1) := by decide +kernel
theorem dX1_strike_24 : decode cX1_strike 24 = .ok (.getfield 13, 3) := by decide +kernel
theorem dX1_strike_27 : decode cX1_strike 27 = .ok (.iload_n 1, 1) := by decide +kernel
theorem dX1_strike_28 : decode cX1_strike 28 = .ok (.iconst 0, 1) := by decide +kernel
theorem dX1_strike_29 : decode cX1_strike 29 = .ok (.bastore, 1) := by decide +kernel
theorem dX1_strike_30 : decode cX1_strike 30 = .ok (.iconst 0, 1) := by decide +kernel
theorem dX1_strike_31 : decode cX1_strike 31 = .ok (.ireturn, 1) := by decide +kernel
abbrev cX1_range : ByteArray := prog_3_method_5_code
def yX1_range : MethodName := ⟨RX1, "range", "(III)I"⟩
theorem dX1_range_0 : decode cX1_range 0 = .ok (.iload_n 1, 1) := by decide +kernel
theorem dX1_range_1 : decode cX1_range 1 = .ok (.invokestatic 30, 3) := by decide +kernel
theorem dX1_range_4 : decode cX1_range 4 = .ok (.ifCond .eq 5, 3) := by decide +kernel
theorem dX1_range_7 : decode cX1_range 7 = .ok (.iconst (-1), 1) := by decide +kernel
theorem dX1_range_8 : decode cX1_range 8 = .ok (.ireturn, 1) := by decide +kernel
theorem dX1_range_9 : decode cX1_range 9 = .ok (.aload_n 0, 1) := by decide +kernel
theorem dX1_range_10 : decode cX1_range 10 = .ok (.getfield 17, 3) := by decide +kernel
theorem dX1_range_13 : decode cX1_range 13 = .ok (.iload_n 1, 1) := by decide +kernel
theorem dX1_range_14 : decode cX1_range 14 = .ok (.iconst 1, 1) := by decide +kernel
theorem dX1_range_15 : decode cX1_range 15 = .ok (.bastore, 1) := by decide +kernel
theorem dX1_range_16 : decode cX1_range 16 = .ok (.aload_n 0, 1) := by decide +kernel
theorem dX1_range_17 : decode cX1_range 17 = .ok (.getfield 20, 3) := by decide +kernel
theorem dX1_range_20 : decode cX1_range 20 = .ok (.iload_n 1, 1) := by decide +kernel
theorem dX1_range_21 : decode cX1_range 21 = .ok (.iload_n 2, 1) := by decide +kernel
theorem dX1_range_22 : decode cX1_range 22 = .ok (.iastore, 1) := by decide +kernel
theorem dX1_range_23 : decode cX1_range 23 = .ok (.aload_n 0, 1) := by decide +kernel
theorem dX1_range_24 : decode cX1_range 24 = .ok (.getfield 23, 3) := by decide +kernel
theorem dX1_range_27 : decode cX1_range 27 = .ok (.iload_n 1, 1) := by decide +kernel
theorem dX1_range_28 : decode cX1_range 28 = .ok (.iload_n 3, 1) := by decide +kernel
theorem dX1_range_29 : decode cX1_range 29 = .ok (.iastore, 1) := by decide +kernel
theorem dX1_range_30 : decode cX1_range 30 = .ok (.iconst 0, 1) := by decide +kernel
theorem dX1_range_31 : decode cX1_range 31 = .ok (.ireturn, 1) := by decide +kernel
abbrev cX1_bad : ByteArray := prog_3_method_4_code
def yX1_bad : MethodName := ⟨RX1, "bad", "(I)Z"⟩
theorem dX1_bad_0 : decode cX1_bad 0 = .ok (.iload_n 0, 1) := by decide +kernel
theorem dX1_bad_1 : decode cX1_bad 1 = .ok (.ifCond .lt 8, 3) := by decide +kernel
theorem dX1_bad_4 : decode cX1_bad 4 = .ok (.iload_n 0, 1) := by decide +kernel
theorem dX1_bad_5 : decode cX1_bad 5 = .ok (.iconst 2, 1) := by decide +kernel
theorem dX1_bad_6 : decode cX1_bad 6 = .ok (.if_icmp .le 7, 3) := by decide +kernel
theorem dX1_bad_9 : decode cX1_bad 9 = .ok (.iconst 1, 1) := by decide +kernel
theorem dX1_bad_10 : decode cX1_bad 10 = .ok (.goto 4, 3) := by decide +kernel
theorem dX1_bad_13 : decode cX1_bad 13 = .ok (.iconst 0, 1) := by decide +kernel
theorem dX1_bad_14 : decode cX1_bad 14 = .ok (.ireturn, 1) := by decide +kernel
abbrev cX1_open : ByteArray := prog_3_method_6_code
def yX1_open : MethodName := ⟨RX1, "open", "()V"⟩
theorem dX1_open_0 : decode cX1_open 0 = .ok (.iconst 0, 1) := by decide +kernel
theorem dX1_open_1 : decode cX1_open 1 = .ok (.istore_n 1, 1) := by decide +kernel
theorem dX1_open_2 : decode cX1_open 2 = .ok (.iload_n 1, 1) := by decide +kernel
theorem dX1_open_3 : decode cX1_open 3 = .ok (.iconst 3, 1) := by decide +kernel
theorem dX1_open_4 : decode cX1_open 4 = .ok (.if_icmp .ge 16, 3) := by decide +kernel
theorem dX1_open_7 : decode cX1_open 7 = .ok (.aload_n 0, 1) := by decide +kernel
theorem dX1_open_8 : decode cX1_open 8 = .ok (.getfield 17, 3) := by decide +kernel
theorem dX1_open_11 : decode cX1_open 11 = .ok (.iload_n 1, 1) := by decide +kernel
theorem dX1_open_12 : decode cX1_open 12 = .ok (.iconst 0, 1) := by decide +kernel
theorem dX1_open_13 : decode cX1_open 13 = .ok (.bastore, 1) := by decide +kernel
theorem dX1_open_14 : decode cX1_open 14 = .ok (.iinc 1 1, 3) := by decide +kernel
theorem dX1_open_17 : decode cX1_open 17 = .ok (.goto (-15), 3) := by decide +kernel
theorem dX1_open_20 : decode cX1_open 20 = .ok (.return_, 1) := by decide +kernel
abbrev cX1_count : ByteArray := prog_3_method_8_code
def yX1_count : MethodName := ⟨RX1, "count", "()I"⟩
theorem dX1_count_0 : decode cX1_count 0 = .ok (.iconst 0, 1) := by decide +kernel
theorem dX1_count_1 : decode cX1_count 1 = .ok (.istore_n 1, 1) := by decide +kernel
theorem dX1_count_2 : decode cX1_count 2 = .ok (.iconst 0, 1) := by decide +kernel
theorem dX1_count_3 : decode cX1_count 3 = .ok (.istore_n 2, 1) := by decide +kernel
theorem dX1_count_4 : decode cX1_count 4 = .ok (.iload_n 2, 1) := by decide +kernel
theorem dX1_count_5 : decode cX1_count 5 = .ok (.aload_n 0, 1) := by decide +kernel
theorem dX1_count_6 : decode cX1_count 6 = .ok (.getfield 26, 3) := by decide +kernel
theorem dX1_count_9 : decode cX1_count 9 = .ok (.if_icmp .ge 20, 3) := by decide +kernel
theorem dX1_count_12 : decode cX1_count 12 = .ok (.aload_n 0, 1) := by decide +kernel
theorem dX1_count_13 : decode cX1_count 13 = .ok (.iload_n 2, 1) := by decide +kernel
theorem dX1_count_14 : decode cX1_count 14 = .ok (.invokevirtual 34, 3) := by decide +kernel
theorem dX1_count_17 : decode cX1_count 17 = .ok (.ifCond .eq 6, 3) := by decide +kernel
theorem dX1_count_20 : decode cX1_count 20 = .ok (.iinc 1 1, 3) := by decide +kernel
theorem dX1_count_23 : decode cX1_count 23 = .ok (.iinc 2 1, 3) := by decide +kernel
theorem dX1_count_26 : decode cX1_count 26 = .ok (.goto (-22), 3) := by decide +kernel
theorem dX1_count_29 : decode cX1_count 29 = .ok (.iload_n 1, 1) := by decide +kernel
theorem dX1_count_30 : decode cX1_count 30 = .ok (.ireturn, 1) := by decide +kernel
abbrev cX1_passes : ByteArray := prog_3_method_7_code
def yX1_passes : MethodName := ⟨RX1, "passes", "(I)Z"⟩
theorem dX1_passes_0 : decode cX1_passes 0 = .ok (.aload_n 0, 1) := by decide +kernel
theorem dX1_passes_1 : decode cX1_passes 1 = .ok (.getfield 13, 3) := by decide +kernel
theorem dX1_passes_4 : decode cX1_passes 4 = .ok (.iload_n 1, 1) := by decide +kernel
theorem dX1_passes_5 : decode cX1_passes 5 = .ok (.baload, 1) := by decide +kernel
theorem dX1_passes_6 : decode cX1_passes 6 = .ok (.ifCond .ne 5, 3) := by decide +kernel
theorem dX1_passes_9 : decode cX1_passes 9 = .ok (.iconst 0, 1) := by decide +kernel
theorem dX1_passes_10 : decode cX1_passes 10 = .ok (.ireturn, 1) := by decide +kernel
theorem dX1_passes_11 : decode cX1_passes 11 = .ok (.iconst 0, 1) := by decide +kernel
theorem dX1_passes_12 : decode cX1_passes 12 = .ok (.istore_n 2, 1) := by decide +kernel
theorem dX1_passes_13 : decode cX1_passes 13 = .ok (.iload_n 2, 1) := by decide +kernel
theorem dX1_passes_14 : decode cX1_passes 14 = .ok (.iconst 3, 1) := by decide +kernel
theorem dX1_passes_15 : decode cX1_passes 15 = .ok (.if_icmp .ge 51, 3) := by decide +kernel
theorem dX1_passes_18 : decode cX1_passes 18 = .ok (.aload_n 0, 1) := by decide +kernel
theorem dX1_passes_19 : decode cX1_passes 19 = .ok (.getfield 7, 3) := by decide +kernel
theorem dX1_passes_22 : decode cX1_passes 22 = .ok (.iconst 3, 1) := by decide +kernel
theorem dX1_passes_23 : decode cX1_passes 23 = .ok (.iload_n 1, 1) := by decide +kernel
theorem dX1_passes_24 : decode cX1_passes 24 = .ok (.imul, 1) := by decide +kernel
theorem dX1_passes_25 : decode cX1_passes 25 = .ok (.iload_n 2, 1) := by decide +kernel
theorem dX1_passes_26 : decode cX1_passes 26 = .ok (.iadd, 1) := by decide +kernel
theorem dX1_passes_27 : decode cX1_passes 27 = .ok (.iaload, 1) := by decide +kernel
theorem dX1_passes_28 : decode cX1_passes 28 = .ok (.istore_n 3, 1) := by decide +kernel
theorem dX1_passes_29 : decode cX1_passes 29 = .ok (.aload_n 0, 1) := by decide +kernel
theorem dX1_passes_30 : decode cX1_passes 30 = .ok (.getfield 17, 3) := by decide +kernel
theorem dX1_passes_33 : decode cX1_passes 33 = .ok (.iload_n 2, 1) := by decide +kernel
theorem dX1_passes_34 : decode cX1_passes 34 = .ok (.baload, 1) := by decide +kernel
theorem dX1_passes_35 : decode cX1_passes 35 = .ok (.ifCond .eq 25, 3) := by decide +kernel
theorem dX1_passes_38 : decode cX1_passes 38 = .ok (.iload_n 3, 1) := by decide +kernel
theorem dX1_passes_39 : decode cX1_passes 39 = .ok (.aload_n 0, 1) := by decide +kernel
theorem dX1_passes_40 : decode cX1_passes 40 = .ok (.getfield 20, 3) := by decide +kernel
theorem dX1_passes_43 : decode cX1_passes 43 = .ok (.iload_n 2, 1) := by decide +kernel
theorem dX1_passes_44 : decode cX1_passes 44 = .ok (.iaload, 1) := by decide +kernel
theorem dX1_passes_45 : decode cX1_passes 45 = .ok (.if_icmp .lt 13, 3) := by decide +kernel
theorem dX1_passes_48 : decode cX1_passes 48 = .ok (.iload_n 3, 1) := by decide +kernel
theorem dX1_passes_49 : decode cX1_passes 49 = .ok (.aload_n 0, 1) := by decide +kernel
theorem dX1_passes_50 : decode cX1_passes 50 = .ok (.getfield 23, 3) := by decide +kernel
theorem dX1_passes_53 : decode cX1_passes 53 = .ok (.iload_n 2, 1) := by decide +kernel
theorem dX1_passes_54 : decode cX1_passes 54 = .ok (.iaload, 1) := by decide +kernel
theorem dX1_passes_55 : decode cX1_passes 55 = .ok (.if_icmp .le 5, 3) := by decide +kernel
theorem dX1_passes_58 : decode cX1_passes 58 = .ok (.iconst 0, 1) := by decide +kernel
theorem dX1_passes_59 : decode cX1_passes 59 = .ok (.ireturn, 1) := by decide +kernel
theorem dX1_passes_60 : decode cX1_passes 60 = .ok (.iinc 2 1, 3) := by decide +kernel
theorem dX1_passes_63 : decode cX1_passes 63 = .ok (.goto (-50), 3) := by decide +kernel
theorem dX1_passes_66 : decode cX1_passes 66 = .ok (.iconst 1, 1) := by decide +kernel
theorem dX1_passes_67 : decode cX1_passes 67 = .ok (.ireturn, 1) := by decide +kernel
abbrev cX1_sum : ByteArray := prog_3_method_9_code
def yX1_sum : MethodName := ⟨RX1, "sum", "(I)J"⟩
theorem dX1_sum_0 : decode cX1_sum 0 = .ok (.iload_n 1, 1) := by decide +kernel
theorem dX1_sum_1 : decode cX1_sum 1 = .ok (.invokestatic 30, 3) := by decide +kernel
theorem dX1_sum_4 : decode cX1_sum 4 = .ok (.ifCond .eq 5, 3) := by decide +kernel
theorem dX1_sum_7 : decode cX1_sum 7 = .ok (.lconst 0, 1) := by decide +kernel
theorem dX1_sum_8 : decode cX1_sum 8 = .ok (.lreturn, 1) := by decide +kernel
theorem dX1_sum_9 : decode cX1_sum 9 = .ok (.lconst 0, 1) := by decide +kernel
theorem dX1_sum_10 : decode cX1_sum 10 = .ok (.lstore_n 2, 1) := by decide +kernel
theorem dX1_sum_11 : decode cX1_sum 11 = .ok (.iconst 0, 1) := by decide +kernel
theorem dX1_sum_12 : decode cX1_sum 12 = .ok (.istore 4, 2) := by decide +kernel
theorem dX1_sum_14 : decode cX1_sum 14 = .ok (.iload 4, 2) := by decide +kernel
theorem dX1_sum_16 : decode cX1_sum 16 = .ok (.aload_n 0, 1) := by decide +kernel
theorem dX1_sum_17 : decode cX1_sum 17 = .ok (.getfield 26, 3) := by decide +kernel
theorem dX1_sum_20 : decode cX1_sum 20 = .ok (.if_icmp .ge 33, 3) := by decide +kernel
theorem dX1_sum_23 : decode cX1_sum 23 = .ok (.aload_n 0, 1) := by decide +kernel
theorem dX1_sum_24 : decode cX1_sum 24 = .ok (.iload 4, 2) := by decide +kernel
theorem dX1_sum_26 : decode cX1_sum 26 = .ok (.invokevirtual 34, 3) := by decide +kernel
theorem dX1_sum_29 : decode cX1_sum 29 = .ok (.ifCond .eq 18, 3) := by decide +kernel
theorem dX1_sum_32 : decode cX1_sum 32 = .ok (.lload_n 2, 1) := by decide +kernel
theorem dX1_sum_33 : decode cX1_sum 33 = .ok (.aload_n 0, 1) := by decide +kernel
theorem dX1_sum_34 : decode cX1_sum 34 = .ok (.getfield 7, 3) := by decide +kernel
theorem dX1_sum_37 : decode cX1_sum 37 = .ok (.iconst 3, 1) := by decide +kernel
theorem dX1_sum_38 : decode cX1_sum 38 = .ok (.iload 4, 2) := by decide +kernel
theorem dX1_sum_40 : decode cX1_sum 40 = .ok (.imul, 1) := by decide +kernel
theorem dX1_sum_41 : decode cX1_sum 41 = .ok (.iload_n 1, 1) := by decide +kernel
theorem dX1_sum_42 : decode cX1_sum 42 = .ok (.iadd, 1) := by decide +kernel
theorem dX1_sum_43 : decode cX1_sum 43 = .ok (.iaload, 1) := by decide +kernel
theorem dX1_sum_44 : decode cX1_sum 44 = .ok (.i2l, 1) := by decide +kernel
theorem dX1_sum_45 : decode cX1_sum 45 = .ok (.ladd, 1) := by decide +kernel
theorem dX1_sum_46 : decode cX1_sum 46 = .ok (.lstore_n 2, 1) := by decide +kernel
theorem dX1_sum_47 : decode cX1_sum 47 = .ok (.iinc 4 1, 3) := by decide +kernel
theorem dX1_sum_50 : decode cX1_sum 50 = .ok (.goto (-36), 3) := by decide +kernel
theorem dX1_sum_53 : decode cX1_sum 53 = .ok (.lload_n 2, 1) := by decide +kernel
theorem dX1_sum_54 : decode cX1_sum 54 = .ok (.lreturn, 1) := by decide +kernel
abbrev cX1_extreme : ByteArray := prog_3_method_10_code
def yX1_extreme : MethodName := ⟨RX1, "extreme", "(IZ)I"⟩
theorem dX1_extreme_0 : decode cX1_extreme 0 = .ok (.iload_n 1, 1) := by decide +kernel
theorem dX1_extreme_1 : decode cX1_extreme 1 = .ok (.invokestatic 30, 3) := by decide +kernel
theorem dX1_extreme_4 : decode cX1_extreme 4 = .ok (.ifCond .eq 5, 3) := by decide +kernel
theorem dX1_extreme_7 : decode cX1_extreme 7 = .ok (.iconst 0, 1) := by decide +kernel
theorem dX1_extreme_8 : decode cX1_extreme 8 = .ok (.ireturn, 1) := by decide +kernel
theorem dX1_extreme_9 : decode cX1_extreme 9 = .ok (.iconst 0, 1) := by decide +kernel
theorem dX1_extreme_10 : decode cX1_extreme 10 = .ok (.istore_n 3, 1) := by decide +kernel
theorem dX1_extreme_11 : decode cX1_extreme 11 = .ok (.iconst 0, 1) := by decide +kernel
theorem dX1_extreme_12 : decode cX1_extreme 12 = .ok (.istore 4, 2) := by decide +kernel
theorem dX1_extreme_14 : decode cX1_extreme 14 = .ok (.iconst 0, 1) := by decide +kernel
theorem dX1_extreme_15 : decode cX1_extreme 15 = .ok (.istore 5, 2) := by decide +kernel
theorem dX1_extreme_17 : decode cX1_extreme 17 = .ok (.iload 5, 2) := by decide +kernel
theorem dX1_extreme_19 : decode cX1_extreme 19 = .ok (.aload_n 0, 1) := by decide +kernel
theorem dX1_extreme_20 : decode cX1_extreme 20 = .ok (.getfield 26, 3) := by decide +kernel
theorem dX1_extreme_23 : decode cX1_extreme 23 = .ok (.if_icmp .ge 62, 3) := by decide +kernel
theorem dX1_extreme_26 : decode cX1_extreme 26 = .ok (.aload_n 0, 1) := by decide +kernel
theorem dX1_extreme_27 : decode cX1_extreme 27 = .ok (.getfield 7, 3) := by decide +kernel
theorem dX1_extreme_30 : decode cX1_extreme 30 = .ok (.iconst 3, 1) := by decide +kernel
theorem dX1_extreme_31 : decode cX1_extreme 31 = .ok (.iload 5, 2) := by decide +kernel
theorem dX1_extreme_33 : decode cX1_extreme 33 = .ok (.imul, 1) := by decide +kernel
theorem dX1_extreme_34 : decode cX1_extreme 34 = .ok (.iload_n 1, 1) := by decide +kernel
theorem dX1_extreme_35 : decode cX1_extreme 35 = .ok (.iadd, 1) := by decide +kernel
theorem dX1_extreme_36 : decode cX1_extreme 36 = .ok (.iaload, 1) := by decide +kernel
theorem dX1_extreme_37 : decode cX1_extreme 37 = .ok (.istore 6, 2) := by decide +kernel
theorem dX1_extreme_39 : decode cX1_extreme 39 = .ok (.aload_n 0, 1) := by decide +kernel
theorem dX1_extreme_40 : decode cX1_extreme 40 = .ok (.iload 5, 2) := by decide +kernel
theorem dX1_extreme_42 : decode cX1_extreme 42 = .ok (.invokevirtual 34, 3) := by decide +kernel
theorem dX1_extreme_45 : decode cX1_extreme 45 = .ok (.ifCond .eq 34, 3) := by decide +kernel
theorem dX1_extreme_48 : decode cX1_extreme 48 = .ok (.iload_n 3, 1) := by decide +kernel
theorem dX1_extreme_49 : decode cX1_extreme 49 = .ok (.ifCond .eq 24, 3) := by decide +kernel
theorem dX1_extreme_52 : decode cX1_extreme 52 = .ok (.iload_n 2, 1) := by decide +kernel
theorem dX1_extreme_53 : decode cX1_extreme 53 = .ok (.ifCond .eq 13, 3) := by decide +kernel
theorem dX1_extreme_56 : decode cX1_extreme 56 = .ok (.iload 6, 2) := by decide +kernel
theorem dX1_extreme_58 : decode cX1_extreme 58 = .ok (.iload 4, 2) := by decide +kernel
theorem dX1_extreme_60 : decode cX1_extreme 60 = .ok (.if_icmp .le 19, 3) := by decide +kernel
theorem dX1_extreme_63 : decode cX1_extreme 63 = .ok (.goto 10, 3) := by decide +kernel
theorem dX1_extreme_66 : decode cX1_extreme 66 = .ok (.iload 6, 2) := by decide +kernel
theorem dX1_extreme_68 : decode cX1_extreme 68 = .ok (.iload 4, 2) := by decide +kernel
theorem dX1_extreme_70 : decode cX1_extreme 70 = .ok (.if_icmp .ge 9, 3) := by decide +kernel
theorem dX1_extreme_73 : decode cX1_extreme 73 = .ok (.iconst 1, 1) := by decide +kernel
theorem dX1_extreme_74 : decode cX1_extreme 74 = .ok (.istore_n 3, 1) := by decide +kernel
theorem dX1_extreme_75 : decode cX1_extreme 75 = .ok (.iload 6, 2) := by decide +kernel
theorem dX1_extreme_77 : decode cX1_extreme 77 = .ok (.istore 4, 2) := by decide +kernel
theorem dX1_extreme_79 : decode cX1_extreme 79 = .ok (.iinc 5 1, 3) := by decide +kernel
theorem dX1_extreme_82 : decode cX1_extreme 82 = .ok (.goto (-65), 3) := by decide +kernel
theorem dX1_extreme_85 : decode cX1_extreme 85 = .ok (.iload 4, 2) := by decide +kernel
theorem dX1_extreme_87 : decode cX1_extreme 87 = .ok (.ireturn, 1) := by decide +kernel
abbrev cX1_passing : ByteArray := prog_3_method_11_code
def yX1_passing : MethodName := ⟨RX1, "passing", "(I)I"⟩
theorem dX1_passing_0 : decode cX1_passing 0 = .ok (.iconst 0, 1) := by decide +kernel
theorem dX1_passing_1 : decode cX1_passing 1 = .ok (.istore_n 2, 1) := by decide +kernel
theorem dX1_passing_2 : decode cX1_passing 2 = .ok (.iconst 0, 1) := by decide +kernel
theorem dX1_passing_3 : decode cX1_passing 3 = .ok (.istore_n 3, 1) := by decide +kernel
theorem dX1_passing_4 : decode cX1_passing 4 = .ok (.iload_n 3, 1) := by decide +kernel
theorem dX1_passing_5 : decode cX1_passing 5 = .ok (.aload_n 0, 1) := by decide +kernel
theorem dX1_passing_6 : decode cX1_passing 6 = .ok (.getfield 26, 3) := by decide +kernel
theorem dX1_passing_9 : decode cX1_passing 9 = .ok (.if_icmp .ge 27, 3) := by decide +kernel
theorem dX1_passing_12 : decode cX1_passing 12 = .ok (.aload_n 0, 1) := by decide +kernel
theorem dX1_passing_13 : decode cX1_passing 13 = .ok (.iload_n 3, 1) := by decide +kernel
theorem dX1_passing_14 : decode cX1_passing 14 = .ok (.invokevirtual 34, 3) := by decide +kernel
theorem dX1_passing_17 : decode cX1_passing 17 = .ok (.ifCond .eq 13, 3) := by decide +kernel
theorem dX1_passing_20 : decode cX1_passing 20 = .ok (.iload_n 2, 1) := by decide +kernel
theorem dX1_passing_21 : decode cX1_passing 21 = .ok (.iload_n 1, 1) := by decide +kernel
theorem dX1_passing_22 : decode cX1_passing 22 = .ok (.if_icmp .ne 5, 3) := by decide +kernel
theorem dX1_passing_25 : decode cX1_passing 25 = .ok (.iload_n 3, 1) := by decide +kernel
theorem dX1_passing_26 : decode cX1_passing 26 = .ok (.ireturn, 1) := by decide +kernel
theorem dX1_passing_27 : decode cX1_passing 27 = .ok (.iinc 2 1, 3) := by decide +kernel
theorem dX1_passing_30 : decode cX1_passing 30 = .ok (.iinc 3 1, 3) := by decide +kernel
theorem dX1_passing_33 : decode cX1_passing 33 = .ok (.goto (-29), 3) := by decide +kernel
theorem dX1_passing_36 : decode cX1_passing 36 = .ok (.iconst (-1), 1) := by decide +kernel
theorem dX1_passing_37 : decode cX1_passing 37 = .ok (.ireturn, 1) := by decide +kernel
abbrev cX1_value : ByteArray := prog_3_method_12_code
def yX1_value : MethodName := ⟨RX1, "value", "(II)I"⟩
theorem dX1_value_0 : decode cX1_value 0 = .ok (.iload_n 1, 1) := by decide +kernel
theorem dX1_value_1 : decode cX1_value 1 = .ok (.ifCond .lt 18, 3) := by decide +kernel
theorem dX1_value_4 : decode cX1_value 4 = .ok (.iload_n 1, 1) := by decide +kernel
theorem dX1_value_5 : decode cX1_value 5 = .ok (.aload_n 0, 1) := by decide +kernel
theorem dX1_value_6 : decode cX1_value 6 = .ok (.getfield 26, 3) := by decide +kernel
theorem dX1_value_9 : decode cX1_value 9 = .ok (.if_icmp .ge 10, 3) := by decide +kernel
theorem dX1_value_12 : decode cX1_value 12 = .ok (.iload_n 2, 1) := by decide +kernel
theorem dX1_value_13 : decode cX1_value 13 = .ok (.invokestatic 30, 3) := by decide +kernel
theorem dX1_value_16 : decode cX1_value 16 = .ok (.ifCond .eq 7, 3) := by decide +kernel
theorem dX1_value_19 : decode cX1_value 19 = .ok (.iconst 0, 1) := by decide +kernel
theorem dX1_value_20 : decode cX1_value 20 = .ok (.goto 13, 3) := by decide +kernel
theorem dX1_value_23 : decode cX1_value 23 = .ok (.aload_n 0, 1) := by decide +kernel
theorem dX1_value_24 : decode cX1_value 24 = .ok (.getfield 7, 3) := by decide +kernel
theorem dX1_value_27 : decode cX1_value 27 = .ok (.iconst 3, 1) := by decide +kernel
theorem dX1_value_28 : decode cX1_value 28 = .ok (.iload_n 1, 1) := by decide +kernel
theorem dX1_value_29 : decode cX1_value 29 = .ok (.imul, 1) := by decide +kernel
theorem dX1_value_30 : decode cX1_value 30 = .ok (.iload_n 2, 1) := by decide +kernel
theorem dX1_value_31 : decode cX1_value 31 = .ok (.iadd, 1) := by decide +kernel
theorem dX1_value_32 : decode cX1_value 32 = .ok (.iaload, 1) := by decide +kernel
theorem dX1_value_33 : decode cX1_value 33 = .ok (.ireturn, 1) := by decide +kernel
abbrev cX1_different : ByteArray := prog_3_method_14_code
def yX1_different : MethodName := ⟨RX1, "different", "(I)I"⟩
theorem dX1_different_0 : decode cX1_different 0 = .ok (.iload_n 1, 1) := by decide +kernel
theorem dX1_different_1 : decode cX1_different 1 = .ok (.invokestatic 30, 3) := by decide +kernel
theorem dX1_different_4 : decode cX1_different 4 = .ok (.ifCond .eq 5, 3) := by decide +kernel
theorem dX1_different_7 : decode cX1_different 7 = .ok (.iconst (-1), 1) := by decide +kernel
theorem dX1_different_8 : decode cX1_different 8 = .ok (.ireturn, 1) := by decide +kernel
theorem dX1_different_9 : decode cX1_different 9 = .ok (.iconst 0, 1) := by decide +kernel
theorem dX1_different_10 : decode cX1_different 10 = .ok (.istore_n 2, 1) := by decide +kernel
theorem dX1_different_11 : decode cX1_different 11 = .ok (.iconst 0, 1) := by decide +kernel
theorem dX1_different_12 : decode cX1_different 12 = .ok (.istore_n 3, 1) := by decide +kernel
theorem dX1_different_13 : decode cX1_different 13 = .ok (.iload_n 3, 1) := by decide +kernel
theorem dX1_different_14 : decode cX1_different 14 = .ok (.aload_n 0, 1) := by decide +kernel
theorem dX1_different_15 : decode cX1_different 15 = .ok (.getfield 26, 3) := by decide +kernel
theorem dX1_different_18 : decode cX1_different 18 = .ok (.if_icmp .ge 29, 3) := by decide +kernel
theorem dX1_different_21 : decode cX1_different 21 = .ok (.aload_n 0, 1) := by decide +kernel
theorem dX1_different_22 : decode cX1_different 22 = .ok (.iload_n 3, 1) := by decide +kernel
theorem dX1_different_23 : decode cX1_different 23 = .ok (.invokevirtual 34, 3) := by decide +kernel
theorem dX1_different_26 : decode cX1_different 26 = .ok (.ifCond .eq 15, 3) := by decide +kernel
theorem dX1_different_29 : decode cX1_different 29 = .ok (.aload_n 0, 1) := by decide +kernel
theorem dX1_different_30 : decode cX1_different 30 = .ok (.iload_n 3, 1) := by decide +kernel
theorem dX1_different_31 : decode cX1_different 31 = .ok (.iload_n 1, 1) := by decide +kernel
theorem dX1_different_32 : decode cX1_different 32 = .ok (.invokevirtual 37, 3) := by decide +kernel
theorem dX1_different_35 : decode cX1_different 35 = .ok (.ifCond .ne 6, 3) := by decide +kernel
theorem dX1_different_38 : decode cX1_different 38 = .ok (.iinc 2 1, 3) := by decide +kernel
theorem dX1_different_41 : decode cX1_different 41 = .ok (.iinc 3 1, 3) := by decide +kernel
theorem dX1_different_44 : decode cX1_different 44 = .ok (.goto (-31), 3) := by decide +kernel
theorem dX1_different_47 : decode cX1_different 47 = .ok (.iload_n 2, 1) := by decide +kernel
theorem dX1_different_48 : decode cX1_different 48 = .ok (.ireturn, 1) := by decide +kernel
abbrev cX1_seen : ByteArray := prog_3_method_13_code
def yX1_seen : MethodName := ⟨RX1, "seen", "(II)Z"⟩
theorem dX1_seen_0 : decode cX1_seen 0 = .ok (.iconst 0, 1) := by decide +kernel
theorem dX1_seen_1 : decode cX1_seen 1 = .ok (.istore_n 3, 1) := by decide +kernel
theorem dX1_seen_2 : decode cX1_seen 2 = .ok (.iload_n 3, 1) := by decide +kernel
theorem dX1_seen_3 : decode cX1_seen 3 = .ok (.iload_n 1, 1) := by decide +kernel
theorem dX1_seen_4 : decode cX1_seen 4 = .ok (.if_icmp .ge 42, 3) := by decide +kernel
theorem dX1_seen_7 : decode cX1_seen 7 = .ok (.aload_n 0, 1) := by decide +kernel
theorem dX1_seen_8 : decode cX1_seen 8 = .ok (.iload_n 3, 1) := by decide +kernel
theorem dX1_seen_9 : decode cX1_seen 9 = .ok (.invokevirtual 34, 3) := by decide +kernel
theorem dX1_seen_12 : decode cX1_seen 12 = .ok (.ifCond .eq 28, 3) := by decide +kernel
theorem dX1_seen_15 : decode cX1_seen 15 = .ok (.aload_n 0, 1) := by decide +kernel
theorem dX1_seen_16 : decode cX1_seen 16 = .ok (.getfield 7, 3) := by decide +kernel
theorem dX1_seen_19 : decode cX1_seen 19 = .ok (.iconst 3, 1) := by decide +kernel
theorem dX1_seen_20 : decode cX1_seen 20 = .ok (.iload_n 3, 1) := by decide +kernel
theorem dX1_seen_21 : decode cX1_seen 21 = .ok (.imul, 1) := by decide +kernel
theorem dX1_seen_22 : decode cX1_seen 22 = .ok (.iload_n 2, 1) := by decide +kernel
theorem dX1_seen_23 : decode cX1_seen 23 = .ok (.iadd, 1) := by decide +kernel
theorem dX1_seen_24 : decode cX1_seen 24 = .ok (.iaload, 1) := by decide +kernel
theorem dX1_seen_25 : decode cX1_seen 25 = .ok (.aload_n 0, 1) := by decide +kernel
theorem dX1_seen_26 : decode cX1_seen 26 = .ok (.getfield 7, 3) := by decide +kernel
theorem dX1_seen_29 : decode cX1_seen 29 = .ok (.iconst 3, 1) := by decide +kernel
theorem dX1_seen_30 : decode cX1_seen 30 = .ok (.iload_n 1, 1) := by decide +kernel
theorem dX1_seen_31 : decode cX1_seen 31 = .ok (.imul, 1) := by decide +kernel
theorem dX1_seen_32 : decode cX1_seen 32 = .ok (.iload_n 2, 1) := by decide +kernel
theorem dX1_seen_33 : decode cX1_seen 33 = .ok (.iadd, 1) := by decide +kernel
theorem dX1_seen_34 : decode cX1_seen 34 = .ok (.iaload, 1) := by decide +kernel
theorem dX1_seen_35 : decode cX1_seen 35 = .ok (.if_icmp .ne 5, 3) := by decide +kernel
theorem dX1_seen_38 : decode cX1_seen 38 = .ok (.iconst 1, 1) := by decide +kernel
theorem dX1_seen_39 : decode cX1_seen 39 = .ok (.ireturn, 1) := by decide +kernel
theorem dX1_seen_40 : decode cX1_seen 40 = .ok (.iinc 3 1, 3) := by decide +kernel
theorem dX1_seen_43 : decode cX1_seen 43 = .ok (.goto (-41), 3) := by decide +kernel
theorem dX1_seen_46 : decode cX1_seen 46 = .ok (.iconst 0, 1) := by decide +kernel
theorem dX1_seen_47 : decode cX1_seen 47 = .ok (.ireturn, 1) := by decide +kernel
abbrev cX1_live : ByteArray := prog_3_method_15_code
def yX1_live : MethodName := ⟨RX1, "live", "()I"⟩
theorem dX1_live_0 : decode cX1_live 0 = .ok (.iconst 0, 1) := by decide +kernel
theorem dX1_live_1 : decode cX1_live 1 = .ok (.istore_n 1, 1) := by decide +kernel
theorem dX1_live_2 : decode cX1_live 2 = .ok (.iconst 0, 1) := by decide +kernel
theorem dX1_live_3 : decode cX1_live 3 = .ok (.istore_n 2, 1) := by decide +kernel
theorem dX1_live_4 : decode cX1_live 4 = .ok (.iload_n 2, 1) := by decide +kernel
theorem dX1_live_5 : decode cX1_live 5 = .ok (.aload_n 0, 1) := by decide +kernel
theorem dX1_live_6 : decode cX1_live 6 = .ok (.getfield 26, 3) := by decide +kernel
theorem dX1_live_9 : decode cX1_live 9 = .ok (.if_icmp .ge 21, 3) := by decide +kernel
theorem dX1_live_12 : decode cX1_live 12 = .ok (.aload_n 0, 1) := by decide +kernel
theorem dX1_live_13 : decode cX1_live 13 = .ok (.getfield 13, 3) := by decide +kernel
theorem dX1_live_16 : decode cX1_live 16 = .ok (.iload_n 2, 1) := by decide +kernel
theorem dX1_live_17 : decode cX1_live 17 = .ok (.baload, 1) := by decide +kernel
theorem dX1_live_18 : decode cX1_live 18 = .ok (.ifCond .eq 6, 3) := by decide +kernel
theorem dX1_live_21 : decode cX1_live 21 = .ok (.iinc 1 1, 3) := by decide +kernel
theorem dX1_live_24 : decode cX1_live 24 = .ok (.iinc 2 1, 3) := by decide +kernel
theorem dX1_live_27 : decode cX1_live 27 = .ok (.goto (-23), 3) := by decide +kernel
theorem dX1_live_30 : decode cX1_live 30 = .ok (.iload_n 1, 1) := by decide +kernel
theorem dX1_live_31 : decode cX1_live 31 = .ok (.ireturn, 1) := by decide +kernel
theorem q22 : (Jvm.Cond.initialized "ColumnStoreModel") ∈ lw_all := lw_g (lw_at lw_m1 2 rfl) rfl
theorem q203 : (Jvm.Cond.instantiable "ColumnStoreModel" (6 : Nat)) ∈ lw_all := lw_g (lw_at lw_m1 183 rfl) rfl
theorem q205 : (Jvm.Cond.instanceMethod ({ cls := "ColumnStoreModel", name := "<init>", desc := "()V" } : Jvm.MethodName)) ∈ lw_all := lw_g (lw_at lw_m1 185 rfl) rfl
theorem q206 : (Jvm.Cond.code ({ cls := "ColumnStoreModel", name := "<init>", desc := "()V" } : Jvm.MethodName) prog_3_method_1_code (1 : Nat) (Option.none : Option Jvm.ClassFile.FieldType)) ∈ lw_all := lw_g (lw_at lw_m1 186 rfl) rfl
theorem q207 : (Jvm.Cond.methodLink "ColumnStoreModel" (1 : Nat) ({ cls := "java/lang/Object", name := "<init>", desc := "()V" } : Jvm.MethodName)) ∈ lw_all := lw_g (lw_at lw_m1 187 rfl) rfl
theorem q208 : (Jvm.Cond.fieldLink "ColumnStoreModel" (26 : Nat) "ColumnStoreModel" "rows" "I") ∈ lw_all := lw_g (lw_at lw_m1 188 rfl) rfl
theorem q209 : (Jvm.Cond.fieldLink "ColumnStoreModel" (7 : Nat) "ColumnStoreModel" "values" "[I") ∈ lw_all := lw_g (lw_at lw_m1 189 rfl) rfl
theorem q210 : (Jvm.Cond.fieldLink "ColumnStoreModel" (13 : Nat) "ColumnStoreModel" "alive" "[Z") ∈ lw_all := lw_g (lw_at lw_m1 190 rfl) rfl
theorem q211 : (Jvm.Cond.fieldLink "ColumnStoreModel" (17 : Nat) "ColumnStoreModel" "ranged" "[Z") ∈ lw_all := lw_g (lw_at lw_m1 191 rfl) rfl
theorem q212 : (Jvm.Cond.fieldLink "ColumnStoreModel" (20 : Nat) "ColumnStoreModel" "lows" "[I") ∈ lw_all := lw_g (lw_at lw_m1 192 rfl) rfl
theorem q213 : (Jvm.Cond.fieldLink "ColumnStoreModel" (23 : Nat) "ColumnStoreModel" "highs" "[I") ∈ lw_all := lw_g (lw_at lw_m1 193 rfl) rfl
theorem q214 : (Jvm.Cond.lays "ColumnStoreModel" "ColumnStoreModel" "rows" "I") ∈ lw_all := lw_g (lw_at lw_m1 194 rfl) rfl
theorem q215 : (Jvm.Cond.soleField "ColumnStoreModel" "rows") ∈ lw_all := lw_g (lw_at lw_m1 195 rfl) rfl
theorem q216 : (Jvm.Cond.laysFinal "ColumnStoreModel" "ColumnStoreModel" "values" "[I") ∈ lw_all := lw_g (lw_at lw_m1 196 rfl) rfl
theorem q217 : (Jvm.Cond.soleField "ColumnStoreModel" "values") ∈ lw_all := lw_g (lw_at lw_m1 197 rfl) rfl
theorem q218 : (Jvm.Cond.laysFinal "ColumnStoreModel" "ColumnStoreModel" "alive" "[Z") ∈ lw_all := lw_g (lw_at lw_m1 198 rfl) rfl
theorem q219 : (Jvm.Cond.soleField "ColumnStoreModel" "alive") ∈ lw_all := lw_g (lw_at lw_m1 199 rfl) rfl
theorem q220 : (Jvm.Cond.laysFinal "ColumnStoreModel" "ColumnStoreModel" "ranged" "[Z") ∈ lw_all := lw_g (lw_at lw_m1 200 rfl) rfl
theorem q221 : (Jvm.Cond.soleField "ColumnStoreModel" "ranged") ∈ lw_all := lw_g (lw_at lw_m1 201 rfl) rfl
theorem q222 : (Jvm.Cond.laysFinal "ColumnStoreModel" "ColumnStoreModel" "lows" "[I") ∈ lw_all := lw_g (lw_at lw_m1 202 rfl) rfl
theorem q223 : (Jvm.Cond.soleField "ColumnStoreModel" "lows") ∈ lw_all := lw_g (lw_at lw_m1 203 rfl) rfl
theorem q224 : (Jvm.Cond.laysFinal "ColumnStoreModel" "ColumnStoreModel" "highs" "[I") ∈ lw_all := lw_g (lw_at lw_m1 204 rfl) rfl
theorem q225 : (Jvm.Cond.soleField "ColumnStoreModel" "highs") ∈ lw_all := lw_g (lw_at lw_m1 205 rfl) rfl
theorem q226 : (Jvm.Cond.superclass "ColumnStoreModel" "java/lang/Object") ∈ lw_all := lw_g (lw_at lw_m1 206 rfl) rfl
theorem q228 : (Jvm.Cond.instanceMethod ({ cls := "ColumnStoreModel", name := "append", desc := "(III)I" } : Jvm.MethodName)) ∈ lw_all := lw_g (lw_at lw_m1 208 rfl) rfl
theorem q229 : (Jvm.Cond.selects "ColumnStoreModel" ({ cls := "ColumnStoreModel", name := "append", desc := "(III)I" } : Jvm.MethodName) ({ cls := "ColumnStoreModel", name := "append", desc := "(III)I" } : Jvm.MethodName)) ∈ lw_all := lw_g (lw_at lw_m1 209 rfl) rfl
theorem q230 : (Jvm.Cond.code ({ cls := "ColumnStoreModel", name := "append", desc := "(III)I" } : Jvm.MethodName) prog_3_method_2_code (4 : Nat) (Option.some Jvm.ClassFile.FieldType.int)) ∈ lw_all := lw_g (lw_at lw_m1 210 rfl) rfl
theorem q232 : (Jvm.Cond.instanceMethod ({ cls := "ColumnStoreModel", name := "strike", desc := "(I)I" } : Jvm.MethodName)) ∈ lw_all := lw_g (lw_at lw_m1 212 rfl) rfl
theorem q233 : (Jvm.Cond.selects "ColumnStoreModel" ({ cls := "ColumnStoreModel", name := "strike", desc := "(I)I" } : Jvm.MethodName) ({ cls := "ColumnStoreModel", name := "strike", desc := "(I)I" } : Jvm.MethodName)) ∈ lw_all := lw_g (lw_at lw_m1 213 rfl) rfl
theorem q234 : (Jvm.Cond.code ({ cls := "ColumnStoreModel", name := "strike", desc := "(I)I" } : Jvm.MethodName) prog_3_method_3_code (2 : Nat) (Option.some Jvm.ClassFile.FieldType.int)) ∈ lw_all := lw_g (lw_at lw_m1 214 rfl) rfl
theorem q236 : (Jvm.Cond.instanceMethod ({ cls := "ColumnStoreModel", name := "range", desc := "(III)I" } : Jvm.MethodName)) ∈ lw_all := lw_g (lw_at lw_m1 216 rfl) rfl
theorem q237 : (Jvm.Cond.selects "ColumnStoreModel" ({ cls := "ColumnStoreModel", name := "range", desc := "(III)I" } : Jvm.MethodName) ({ cls := "ColumnStoreModel", name := "range", desc := "(III)I" } : Jvm.MethodName)) ∈ lw_all := lw_g (lw_at lw_m1 217 rfl) rfl
theorem q238 : (Jvm.Cond.code ({ cls := "ColumnStoreModel", name := "range", desc := "(III)I" } : Jvm.MethodName) prog_3_method_5_code (4 : Nat) (Option.some Jvm.ClassFile.FieldType.int)) ∈ lw_all := lw_g (lw_at lw_m1 218 rfl) rfl
theorem q239 : (Jvm.Cond.methodLink "ColumnStoreModel" (30 : Nat) ({ cls := "ColumnStoreModel", name := "bad", desc := "(I)Z" } : Jvm.MethodName)) ∈ lw_all := lw_g (lw_at lw_m1 219 rfl) rfl
theorem q240 : (Jvm.Cond.static ({ cls := "ColumnStoreModel", name := "bad", desc := "(I)Z" } : Jvm.MethodName)) ∈ lw_all := lw_g (lw_at lw_m1 220 rfl) rfl
theorem q241 : (Jvm.Cond.code ({ cls := "ColumnStoreModel", name := "bad", desc := "(I)Z" } : Jvm.MethodName) prog_3_method_4_code (1 : Nat) (Option.some Jvm.ClassFile.FieldType.boolean)) ∈ lw_all := lw_g (lw_at lw_m1 221 rfl) rfl
theorem q243 : (Jvm.Cond.instanceMethod ({ cls := "ColumnStoreModel", name := "open", desc := "()V" } : Jvm.MethodName)) ∈ lw_all := lw_g (lw_at lw_m1 223 rfl) rfl
theorem q244 : (Jvm.Cond.selects "ColumnStoreModel" ({ cls := "ColumnStoreModel", name := "open", desc := "()V" } : Jvm.MethodName) ({ cls := "ColumnStoreModel", name := "open", desc := "()V" } : Jvm.MethodName)) ∈ lw_all := lw_g (lw_at lw_m1 224 rfl) rfl
theorem q245 : (Jvm.Cond.code ({ cls := "ColumnStoreModel", name := "open", desc := "()V" } : Jvm.MethodName) prog_3_method_6_code (2 : Nat) (Option.none : Option Jvm.ClassFile.FieldType)) ∈ lw_all := lw_g (lw_at lw_m1 225 rfl) rfl
theorem q247 : (Jvm.Cond.instanceMethod ({ cls := "ColumnStoreModel", name := "count", desc := "()I" } : Jvm.MethodName)) ∈ lw_all := lw_g (lw_at lw_m1 227 rfl) rfl
theorem q248 : (Jvm.Cond.selects "ColumnStoreModel" ({ cls := "ColumnStoreModel", name := "count", desc := "()I" } : Jvm.MethodName) ({ cls := "ColumnStoreModel", name := "count", desc := "()I" } : Jvm.MethodName)) ∈ lw_all := lw_g (lw_at lw_m1 228 rfl) rfl
theorem q249 : (Jvm.Cond.code ({ cls := "ColumnStoreModel", name := "count", desc := "()I" } : Jvm.MethodName) prog_3_method_8_code (3 : Nat) (Option.some Jvm.ClassFile.FieldType.int)) ∈ lw_all := lw_g (lw_at lw_m1 229 rfl) rfl
theorem q250 : (Jvm.Cond.methodLink "ColumnStoreModel" (34 : Nat) ({ cls := "ColumnStoreModel", name := "passes", desc := "(I)Z" } : Jvm.MethodName)) ∈ lw_all := lw_g (lw_at lw_m1 230 rfl) rfl
theorem q251 : (Jvm.Cond.privateMethod ({ cls := "ColumnStoreModel", name := "passes", desc := "(I)Z" } : Jvm.MethodName)) ∈ lw_tbl := lw_at lw_m1 231 rfl
theorem q252 : (Jvm.Cond.instanceMethod ({ cls := "ColumnStoreModel", name := "passes", desc := "(I)Z" } : Jvm.MethodName)) ∈ lw_all := lw_g (lw_at lw_m1 232 rfl) rfl
theorem q253 : (Jvm.Cond.code ({ cls := "ColumnStoreModel", name := "passes", desc := "(I)Z" } : Jvm.MethodName) prog_3_method_7_code (4 : Nat) (Option.some Jvm.ClassFile.FieldType.boolean)) ∈ lw_all := lw_g (lw_at lw_m1 233 rfl) rfl
theorem q255 : (Jvm.Cond.instanceMethod ({ cls := "ColumnStoreModel", name := "sum", desc := "(I)J" } : Jvm.MethodName)) ∈ lw_all := lw_g (lw_at lw_m1 235 rfl) rfl
theorem q256 : (Jvm.Cond.selects "ColumnStoreModel" ({ cls := "ColumnStoreModel", name := "sum", desc := "(I)J" } : Jvm.MethodName) ({ cls := "ColumnStoreModel", name := "sum", desc := "(I)J" } : Jvm.MethodName)) ∈ lw_all := lw_g (lw_at lw_m1 236 rfl) rfl
theorem q257 : (Jvm.Cond.code ({ cls := "ColumnStoreModel", name := "sum", desc := "(I)J" } : Jvm.MethodName) prog_3_method_9_code (5 : Nat) (Option.some Jvm.ClassFile.FieldType.long)) ∈ lw_all := lw_g (lw_at lw_m1 237 rfl) rfl
theorem q259 : (Jvm.Cond.instanceMethod ({ cls := "ColumnStoreModel", name := "extreme", desc := "(IZ)I" } : Jvm.MethodName)) ∈ lw_all := lw_g (lw_at lw_m1 239 rfl) rfl
theorem q260 : (Jvm.Cond.selects "ColumnStoreModel" ({ cls := "ColumnStoreModel", name := "extreme", desc := "(IZ)I" } : Jvm.MethodName) ({ cls := "ColumnStoreModel", name := "extreme", desc := "(IZ)I" } : Jvm.MethodName)) ∈ lw_all := lw_g (lw_at lw_m2 0 rfl) rfl
theorem q261 : (Jvm.Cond.code ({ cls := "ColumnStoreModel", name := "extreme", desc := "(IZ)I" } : Jvm.MethodName) prog_3_method_10_code (7 : Nat) (Option.some Jvm.ClassFile.FieldType.int)) ∈ lw_all := lw_g (lw_at lw_m2 1 rfl) rfl
theorem q263 : (Jvm.Cond.instanceMethod ({ cls := "ColumnStoreModel", name := "passing", desc := "(I)I" } : Jvm.MethodName)) ∈ lw_all := lw_g (lw_at lw_m2 3 rfl) rfl
theorem q264 : (Jvm.Cond.selects "ColumnStoreModel" ({ cls := "ColumnStoreModel", name := "passing", desc := "(I)I" } : Jvm.MethodName) ({ cls := "ColumnStoreModel", name := "passing", desc := "(I)I" } : Jvm.MethodName)) ∈ lw_all := lw_g (lw_at lw_m2 4 rfl) rfl
theorem q265 : (Jvm.Cond.code ({ cls := "ColumnStoreModel", name := "passing", desc := "(I)I" } : Jvm.MethodName) prog_3_method_11_code (4 : Nat) (Option.some Jvm.ClassFile.FieldType.int)) ∈ lw_all := lw_g (lw_at lw_m2 5 rfl) rfl
theorem q267 : (Jvm.Cond.instanceMethod ({ cls := "ColumnStoreModel", name := "value", desc := "(II)I" } : Jvm.MethodName)) ∈ lw_all := lw_g (lw_at lw_m2 7 rfl) rfl
theorem q268 : (Jvm.Cond.selects "ColumnStoreModel" ({ cls := "ColumnStoreModel", name := "value", desc := "(II)I" } : Jvm.MethodName) ({ cls := "ColumnStoreModel", name := "value", desc := "(II)I" } : Jvm.MethodName)) ∈ lw_all := lw_g (lw_at lw_m2 8 rfl) rfl
theorem q269 : (Jvm.Cond.code ({ cls := "ColumnStoreModel", name := "value", desc := "(II)I" } : Jvm.MethodName) prog_3_method_12_code (3 : Nat) (Option.some Jvm.ClassFile.FieldType.int)) ∈ lw_all := lw_g (lw_at lw_m2 9 rfl) rfl
theorem q271 : (Jvm.Cond.instanceMethod ({ cls := "ColumnStoreModel", name := "different", desc := "(I)I" } : Jvm.MethodName)) ∈ lw_all := lw_g (lw_at lw_m2 11 rfl) rfl
theorem q272 : (Jvm.Cond.selects "ColumnStoreModel" ({ cls := "ColumnStoreModel", name := "different", desc := "(I)I" } : Jvm.MethodName) ({ cls := "ColumnStoreModel", name := "different", desc := "(I)I" } : Jvm.MethodName)) ∈ lw_all := lw_g (lw_at lw_m2 12 rfl) rfl
theorem q273 : (Jvm.Cond.code ({ cls := "ColumnStoreModel", name := "different", desc := "(I)I" } : Jvm.MethodName) prog_3_method_14_code (4 : Nat) (Option.some Jvm.ClassFile.FieldType.int)) ∈ lw_all := lw_g (lw_at lw_m2 13 rfl) rfl
theorem q274 : (Jvm.Cond.methodLink "ColumnStoreModel" (37 : Nat) ({ cls := "ColumnStoreModel", name := "seen", desc := "(II)Z" } : Jvm.MethodName)) ∈ lw_all := lw_g (lw_at lw_m2 14 rfl) rfl
theorem q275 : (Jvm.Cond.privateMethod ({ cls := "ColumnStoreModel", name := "seen", desc := "(II)Z" } : Jvm.MethodName)) ∈ lw_tbl := lw_at lw_m2 15 rfl
theorem q276 : (Jvm.Cond.instanceMethod ({ cls := "ColumnStoreModel", name := "seen", desc := "(II)Z" } : Jvm.MethodName)) ∈ lw_all := lw_g (lw_at lw_m2 16 rfl) rfl
theorem q277 : (Jvm.Cond.code ({ cls := "ColumnStoreModel", name := "seen", desc := "(II)Z" } : Jvm.MethodName) prog_3_method_13_code (4 : Nat) (Option.some Jvm.ClassFile.FieldType.boolean)) ∈ lw_all := lw_g (lw_at lw_m2 17 rfl) rfl
theorem q279 : (Jvm.Cond.instanceMethod ({ cls := "ColumnStoreModel", name := "live", desc := "()I" } : Jvm.MethodName)) ∈ lw_all := lw_g (lw_at lw_m2 19 rfl) rfl
theorem q280 : (Jvm.Cond.selects "ColumnStoreModel" ({ cls := "ColumnStoreModel", name := "live", desc := "()I" } : Jvm.MethodName) ({ cls := "ColumnStoreModel", name := "live", desc := "()I" } : Jvm.MethodName)) ∈ lw_all := lw_g (lw_at lw_m2 20 rfl) rfl
theorem q281 : (Jvm.Cond.code ({ cls := "ColumnStoreModel", name := "live", desc := "()I" } : Jvm.MethodName) prog_3_method_15_code (3 : Nat) (Option.some Jvm.ClassFile.FieldType.int)) ∈ lw_all := lw_g (lw_at lw_m2 21 rfl) rfl
theorem in_X1 : ∀ w ∈ wsX10, w ∈ lw_all := lw_in wsX10 [214, 216, 218, 220, 222, 224] (by decide +kernel) (by decide +kernel)
end
section
/-! the law's own entry -/
set_option maxRecDepth 100000
abbrev cL_law : ByteArray := code
theorem dL_law_0 : decode cL_law 0 = .ok (.new 7, 3) := by decide +kernel
theorem dL_law_3 : decode cL_law 3 = .ok (.dup, 1) := by decide +kernel
theorem dL_law_4 : decode cL_law 4 = .ok (.invokespecial 9, 3) := by decide +kernel
theorem dL_law_7 : decode cL_law 7 = .ok (.astore_n 1, 1) := by decide +kernel
theorem dL_law_8 : decode cL_law 8 = .ok (.new 10, 3) := by decide +kernel
theorem dL_law_11 : decode cL_law 11 = .ok (.dup, 1) := by decide +kernel
theorem dL_law_12 : decode cL_law 12 = .ok (.invokespecial 12, 3) := by decide +kernel
theorem dL_law_15 : decode cL_law 15 = .ok (.astore_n 2, 1) := by decide +kernel
theorem dL_law_16 : decode cL_law 16 = .ok (.iconst 0, 1) := by decide +kernel
theorem dL_law_17 : decode cL_law 17 = .ok (.istore_n 3, 1) := by decide +kernel
theorem dL_law_18 : decode cL_law 18 = .ok (.iload_n 3, 1) := by decide +kernel
theorem dL_law_19 : decode cL_law 19 = .ok (.aload_n 0, 1) := by decide +kernel
theorem dL_law_20 : decode cL_law 20 = .ok (.arraylength, 1) := by decide +kernel
theorem dL_law_21 : decode cL_law 21 = .ok (.iconst 4, 1) := by decide +kernel
theorem dL_law_22 : decode cL_law 22 = .ok (.isub, 1) := by decide +kernel
theorem dL_law_23 : decode cL_law 23 = .ok (.if_icmp .gt 373, 3) := by decide +kernel
theorem dL_law_26 : decode cL_law 26 = .ok (.aload_n 0, 1) := by decide +kernel
theorem dL_law_27 : decode cL_law 27 = .ok (.iload_n 3, 1) := by decide +kernel
theorem dL_law_28 : decode cL_law 28 = .ok (.iaload, 1) := by decide +kernel
theorem dL_law_29 : decode cL_law 29 = .ok (.bipush 15, 2) := by decide +kernel
theorem dL_law_31 : decode cL_law 31 = .ok (.iand, 1) := by decide +kernel
theorem dL_law_32 : decode cL_law 32 = .ok (.tableswitch 358 0 10 #[60, 103, 126, 169, 180, 193, 217, 266, 289, 322, 345], 60) := by decide +kernel
theorem dL_law_92 : decode cL_law 92 = .ok (.aload_n 1, 1) := by decide +kernel
theorem dL_law_93 : decode cL_law 93 = .ok (.aload_n 0, 1) := by decide +kernel
theorem dL_law_94 : decode cL_law 94 = .ok (.iload_n 3, 1) := by decide +kernel
theorem dL_law_95 : decode cL_law 95 = .ok (.iconst 1, 1) := by decide +kernel
theorem dL_law_96 : decode cL_law 96 = .ok (.iadd, 1) := by decide +kernel
theorem dL_law_97 : decode cL_law 97 = .ok (.iaload, 1) := by decide +kernel
theorem dL_law_98 : decode cL_law 98 = .ok (.aload_n 0, 1) := by decide +kernel
theorem dL_law_99 : decode cL_law 99 = .ok (.iload_n 3, 1) := by decide +kernel
theorem dL_law_100 : decode cL_law 100 = .ok (.iconst 2, 1) := by decide +kernel
theorem dL_law_101 : decode cL_law 101 = .ok (.iadd, 1) := by decide +kernel
theorem dL_law_102 : decode cL_law 102 = .ok (.iaload, 1) := by decide +kernel
theorem dL_law_103 : decode cL_law 103 = .ok (.aload_n 0, 1) := by decide +kernel
theorem dL_law_104 : decode cL_law 104 = .ok (.iload_n 3, 1) := by decide +kernel
theorem dL_law_105 : decode cL_law 105 = .ok (.iconst 3, 1) := by decide +kernel
theorem dL_law_106 : decode cL_law 106 = .ok (.iadd, 1) := by decide +kernel
theorem dL_law_107 : decode cL_law 107 = .ok (.iaload, 1) := by decide +kernel
theorem dL_law_108 : decode cL_law 108 = .ok (.invokevirtual 13, 3) := by decide +kernel
theorem dL_law_111 : decode cL_law 111 = .ok (.aload_n 2, 1) := by decide +kernel
theorem dL_law_112 : decode cL_law 112 = .ok (.aload_n 0, 1) := by decide +kernel
theorem dL_law_113 : decode cL_law 113 = .ok (.iload_n 3, 1) := by decide +kernel
theorem dL_law_114 : decode cL_law 114 = .ok (.iconst 1, 1) := by decide +kernel
theorem dL_law_115 : decode cL_law 115 = .ok (.iadd, 1) := by decide +kernel
theorem dL_law_116 : decode cL_law 116 = .ok (.iaload, 1) := by decide +kernel
theorem dL_law_117 : decode cL_law 117 = .ok (.aload_n 0, 1) := by decide +kernel
theorem dL_law_118 : decode cL_law 118 = .ok (.iload_n 3, 1) := by decide +kernel
theorem dL_law_119 : decode cL_law 119 = .ok (.iconst 2, 1) := by decide +kernel
theorem dL_law_120 : decode cL_law 120 = .ok (.iadd, 1) := by decide +kernel
theorem dL_law_121 : decode cL_law 121 = .ok (.iaload, 1) := by decide +kernel
theorem dL_law_122 : decode cL_law 122 = .ok (.aload_n 0, 1) := by decide +kernel
theorem dL_law_123 : decode cL_law 123 = .ok (.iload_n 3, 1) := by decide +kernel
theorem dL_law_124 : decode cL_law 124 = .ok (.iconst 3, 1) := by decide +kernel
theorem dL_law_125 : decode cL_law 125 = .ok (.iadd, 1) := by decide +kernel
theorem dL_law_126 : decode cL_law 126 = .ok (.iaload, 1) := by decide +kernel
theorem dL_law_127 : decode cL_law 127 = .ok (.invokevirtual 17, 3) := by decide +kernel
theorem dL_law_130 : decode cL_law 130 = .ok (.if_icmp .eq 260, 3) := by decide +kernel
theorem dL_law_133 : decode cL_law 133 = .ok (.iconst 0, 1) := by decide +kernel
theorem dL_law_134 : decode cL_law 134 = .ok (.ireturn, 1) := by decide +kernel
theorem dL_law_135 : decode cL_law 135 = .ok (.aload_n 1, 1) := by decide +kernel
theorem dL_law_136 : decode cL_law 136 = .ok (.aload_n 0, 1) := by decide +kernel
theorem dL_law_137 : decode cL_law 137 = .ok (.iload_n 3, 1) := by decide +kernel
theorem dL_law_138 : decode cL_law 138 = .ok (.iconst 1, 1) := by decide +kernel
theorem dL_law_139 : decode cL_law 139 = .ok (.iadd, 1) := by decide +kernel
theorem dL_law_140 : decode cL_law 140 = .ok (.iaload, 1) := by decide +kernel
theorem dL_law_141 : decode cL_law 141 = .ok (.invokevirtual 18, 3) := by decide +kernel
theorem dL_law_144 : decode cL_law 144 = .ok (.aload_n 2, 1) := by decide +kernel
theorem dL_law_145 : decode cL_law 145 = .ok (.aload_n 0, 1) := by decide +kernel
theorem dL_law_146 : decode cL_law 146 = .ok (.iload_n 3, 1) := by decide +kernel
theorem dL_law_147 : decode cL_law 147 = .ok (.iconst 1, 1) := by decide +kernel
theorem dL_law_148 : decode cL_law 148 = .ok (.iadd, 1) := by decide +kernel
theorem dL_law_149 : decode cL_law 149 = .ok (.iaload, 1) := by decide +kernel
theorem dL_law_150 : decode cL_law 150 = .ok (.invokevirtual 22, 3) := by decide +kernel
theorem dL_law_153 : decode cL_law 153 = .ok (.if_icmp .eq 237, 3) := by decide +kernel
theorem dL_law_156 : decode cL_law 156 = .ok (.iconst 0, 1) := by decide +kernel
theorem dL_law_157 : decode cL_law 157 = .ok (.ireturn, 1) := by decide +kernel
theorem dL_law_158 : decode cL_law 158 = .ok (.aload_n 1, 1) := by decide +kernel
theorem dL_law_159 : decode cL_law 159 = .ok (.aload_n 0, 1) := by decide +kernel
theorem dL_law_160 : decode cL_law 160 = .ok (.iload_n 3, 1) := by decide +kernel
theorem dL_law_161 : decode cL_law 161 = .ok (.iconst 1, 1) := by decide +kernel
theorem dL_law_162 : decode cL_law 162 = .ok (.iadd, 1) := by decide +kernel
theorem dL_law_163 : decode cL_law 163 = .ok (.iaload, 1) := by decide +kernel
theorem dL_law_164 : decode cL_law 164 = .ok (.aload_n 0, 1) := by decide +kernel
theorem dL_law_165 : decode cL_law 165 = .ok (.iload_n 3, 1) := by decide +kernel
theorem dL_law_166 : decode cL_law 166 = .ok (.iconst 2, 1) := by decide +kernel
theorem dL_law_167 : decode cL_law 167 = .ok (.iadd, 1) := by decide +kernel
theorem dL_law_168 : decode cL_law 168 = .ok (.iaload, 1) := by decide +kernel
theorem dL_law_169 : decode cL_law 169 = .ok (.aload_n 0, 1) := by decide +kernel
theorem dL_law_170 : decode cL_law 170 = .ok (.iload_n 3, 1) := by decide +kernel
theorem dL_law_171 : decode cL_law 171 = .ok (.iconst 3, 1) := by decide +kernel
theorem dL_law_172 : decode cL_law 172 = .ok (.iadd, 1) := by decide +kernel
theorem dL_law_173 : decode cL_law 173 = .ok (.iaload, 1) := by decide +kernel
theorem dL_law_174 : decode cL_law 174 = .ok (.invokevirtual 23, 3) := by decide +kernel
theorem dL_law_177 : decode cL_law 177 = .ok (.aload_n 2, 1) := by decide +kernel
theorem dL_law_178 : decode cL_law 178 = .ok (.aload_n 0, 1) := by decide +kernel
theorem dL_law_179 : decode cL_law 179 = .ok (.iload_n 3, 1) := by decide +kernel
theorem dL_law_180 : decode cL_law 180 = .ok (.iconst 1, 1) := by decide +kernel
theorem dL_law_181 : decode cL_law 181 = .ok (.iadd, 1) := by decide +kernel
theorem dL_law_182 : decode cL_law 182 = .ok (.iaload, 1) := by decide +kernel
theorem dL_law_183 : decode cL_law 183 = .ok (.aload_n 0, 1) := by decide +kernel
theorem dL_law_184 : decode cL_law 184 = .ok (.iload_n 3, 1) := by decide +kernel
theorem dL_law_185 : decode cL_law 185 = .ok (.iconst 2, 1) := by decide +kernel
theorem dL_law_186 : decode cL_law 186 = .ok (.iadd, 1) := by decide +kernel
theorem dL_law_187 : decode cL_law 187 = .ok (.iaload, 1) := by decide +kernel
theorem dL_law_188 : decode cL_law 188 = .ok (.aload_n 0, 1) := by decide +kernel
theorem dL_law_189 : decode cL_law 189 = .ok (.iload_n 3, 1) := by decide +kernel
theorem dL_law_190 : decode cL_law 190 = .ok (.iconst 3, 1) := by decide +kernel
theorem dL_law_191 : decode cL_law 191 = .ok (.iadd, 1) := by decide +kernel
theorem dL_law_192 : decode cL_law 192 = .ok (.iaload, 1) := by decide +kernel
theorem dL_law_193 : decode cL_law 193 = .ok (.invokevirtual 26, 3) := by decide +kernel
theorem dL_law_196 : decode cL_law 196 = .ok (.if_icmp .eq 194, 3) := by decide +kernel
theorem dL_law_199 : decode cL_law 199 = .ok (.iconst 0, 1) := by decide +kernel
theorem dL_law_200 : decode cL_law 200 = .ok (.ireturn, 1) := by decide +kernel
theorem dL_law_201 : decode cL_law 201 = .ok (.aload_n 1, 1) := by decide +kernel
theorem dL_law_202 : decode cL_law 202 = .ok (.invokevirtual 27, 3) := by decide +kernel
theorem dL_law_205 : decode cL_law 205 = .ok (.aload_n 2, 1) := by decide +kernel
theorem dL_law_206 : decode cL_law 206 = .ok (.invokevirtual 30, 3) := by decide +kernel
theorem dL_law_209 : decode cL_law 209 = .ok (.goto 181, 3) := by decide +kernel
theorem dL_law_212 : decode cL_law 212 = .ok (.aload_n 1, 1) := by decide +kernel
theorem dL_law_213 : decode cL_law 213 = .ok (.invokevirtual 31, 3) := by decide +kernel
theorem dL_law_216 : decode cL_law 216 = .ok (.aload_n 2, 1) := by decide +kernel
theorem dL_law_217 : decode cL_law 217 = .ok (.invokevirtual 35, 3) := by decide +kernel
theorem dL_law_220 : decode cL_law 220 = .ok (.if_icmp .eq 170, 3) := by decide +kernel
theorem dL_law_223 : decode cL_law 223 = .ok (.iconst 0, 1) := by decide +kernel
theorem dL_law_224 : decode cL_law 224 = .ok (.ireturn, 1) := by decide +kernel
theorem dL_law_225 : decode cL_law 225 = .ok (.aload_n 1, 1) := by decide +kernel
theorem dL_law_226 : decode cL_law 226 = .ok (.aload_n 0, 1) := by decide +kernel
theorem dL_law_227 : decode cL_law 227 = .ok (.iload_n 3, 1) := by decide +kernel
theorem dL_law_228 : decode cL_law 228 = .ok (.iconst 1, 1) := by decide +kernel
theorem dL_law_229 : decode cL_law 229 = .ok (.iadd, 1) := by decide +kernel
theorem dL_law_230 : decode cL_law 230 = .ok (.iaload, 1) := by decide +kernel
theorem dL_law_231 : decode cL_law 231 = .ok (.invokevirtual 36, 3) := by decide +kernel
theorem dL_law_234 : decode cL_law 234 = .ok (.aload_n 2, 1) := by decide +kernel
theorem dL_law_235 : decode cL_law 235 = .ok (.aload_n 0, 1) := by decide +kernel
theorem dL_law_236 : decode cL_law 236 = .ok (.iload_n 3, 1) := by decide +kernel
theorem dL_law_237 : decode cL_law 237 = .ok (.iconst 1, 1) := by decide +kernel
theorem dL_law_238 : decode cL_law 238 = .ok (.iadd, 1) := by decide +kernel
theorem dL_law_239 : decode cL_law 239 = .ok (.iaload, 1) := by decide +kernel
theorem dL_law_240 : decode cL_law 240 = .ok (.invokevirtual 40, 3) := by decide +kernel
theorem dL_law_243 : decode cL_law 243 = .ok (.lcmp, 1) := by decide +kernel
theorem dL_law_244 : decode cL_law 244 = .ok (.ifCond .eq 146, 3) := by decide +kernel
theorem dL_law_247 : decode cL_law 247 = .ok (.iconst 0, 1) := by decide +kernel
theorem dL_law_248 : decode cL_law 248 = .ok (.ireturn, 1) := by decide +kernel
theorem dL_law_249 : decode cL_law 249 = .ok (.aload_n 1, 1) := by decide +kernel
theorem dL_law_250 : decode cL_law 250 = .ok (.aload_n 0, 1) := by decide +kernel
theorem dL_law_251 : decode cL_law 251 = .ok (.iload_n 3, 1) := by decide +kernel
theorem dL_law_252 : decode cL_law 252 = .ok (.iconst 1, 1) := by decide +kernel
theorem dL_law_253 : decode cL_law 253 = .ok (.iadd, 1) := by decide +kernel
theorem dL_law_254 : decode cL_law 254 = .ok (.iaload, 1) := by decide +kernel
theorem dL_law_255 : decode cL_law 255 = .ok (.aload_n 0, 1) := by decide +kernel
theorem dL_law_256 : decode cL_law 256 = .ok (.iload_n 3, 1) := by decide +kernel
theorem dL_law_257 : decode cL_law 257 = .ok (.iconst 2, 1) := by decide +kernel
theorem dL_law_258 : decode cL_law 258 = .ok (.iadd, 1) := by decide +kernel
theorem dL_law_259 : decode cL_law 259 = .ok (.iaload, 1) := by decide +kernel
theorem dL_law_260 : decode cL_law 260 = .ok (.ifCond .eq 7, 3) := by decide +kernel
theorem dL_law_263 : decode cL_law 263 = .ok (.iconst 1, 1) := by decide +kernel
theorem dL_law_264 : decode cL_law 264 = .ok (.goto 4, 3) := by decide +kernel
theorem dL_law_267 : decode cL_law 267 = .ok (.iconst 0, 1) := by decide +kernel
theorem dL_law_268 : decode cL_law 268 = .ok (.invokevirtual 41, 3) := by decide +kernel
theorem dL_law_271 : decode cL_law 271 = .ok (.aload_n 2, 1) := by decide +kernel
theorem dL_law_272 : decode cL_law 272 = .ok (.aload_n 0, 1) := by decide +kernel
theorem dL_law_273 : decode cL_law 273 = .ok (.iload_n 3, 1) := by decide +kernel
theorem dL_law_274 : decode cL_law 274 = .ok (.iconst 1, 1) := by decide +kernel
theorem dL_law_275 : decode cL_law 275 = .ok (.iadd, 1) := by decide +kernel
theorem dL_law_276 : decode cL_law 276 = .ok (.iaload, 1) := by decide +kernel
theorem dL_law_277 : decode cL_law 277 = .ok (.aload_n 0, 1) := by decide +kernel
theorem dL_law_278 : decode cL_law 278 = .ok (.iload_n 3, 1) := by decide +kernel
theorem dL_law_279 : decode cL_law 279 = .ok (.iconst 2, 1) := by decide +kernel
theorem dL_law_280 : decode cL_law 280 = .ok (.iadd, 1) := by decide +kernel
theorem dL_law_281 : decode cL_law 281 = .ok (.iaload, 1) := by decide +kernel
theorem dL_law_282 : decode cL_law 282 = .ok (.ifCond .eq 7, 3) := by decide +kernel
theorem dL_law_285 : decode cL_law 285 = .ok (.iconst 1, 1) := by decide +kernel
theorem dL_law_286 : decode cL_law 286 = .ok (.goto 4, 3) := by decide +kernel
theorem dL_law_289 : decode cL_law 289 = .ok (.iconst 0, 1) := by decide +kernel
theorem dL_law_290 : decode cL_law 290 = .ok (.invokevirtual 45, 3) := by decide +kernel
theorem dL_law_293 : decode cL_law 293 = .ok (.if_icmp .eq 97, 3) := by decide +kernel
theorem dL_law_296 : decode cL_law 296 = .ok (.iconst 0, 1) := by decide +kernel
theorem dL_law_297 : decode cL_law 297 = .ok (.ireturn, 1) := by decide +kernel
theorem dL_law_298 : decode cL_law 298 = .ok (.aload_n 1, 1) := by decide +kernel
theorem dL_law_299 : decode cL_law 299 = .ok (.aload_n 0, 1) := by decide +kernel
theorem dL_law_300 : decode cL_law 300 = .ok (.iload_n 3, 1) := by decide +kernel
theorem dL_law_301 : decode cL_law 301 = .ok (.iconst 1, 1) := by decide +kernel
theorem dL_law_302 : decode cL_law 302 = .ok (.iadd, 1) := by decide +kernel
theorem dL_law_303 : decode cL_law 303 = .ok (.iaload, 1) := by decide +kernel
theorem dL_law_304 : decode cL_law 304 = .ok (.invokevirtual 46, 3) := by decide +kernel
theorem dL_law_307 : decode cL_law 307 = .ok (.aload_n 2, 1) := by decide +kernel
theorem dL_law_308 : decode cL_law 308 = .ok (.aload_n 0, 1) := by decide +kernel
theorem dL_law_309 : decode cL_law 309 = .ok (.iload_n 3, 1) := by decide +kernel
theorem dL_law_310 : decode cL_law 310 = .ok (.iconst 1, 1) := by decide +kernel
theorem dL_law_311 : decode cL_law 311 = .ok (.iadd, 1) := by decide +kernel
theorem dL_law_312 : decode cL_law 312 = .ok (.iaload, 1) := by decide +kernel
theorem dL_law_313 : decode cL_law 313 = .ok (.invokevirtual 49, 3) := by decide +kernel
theorem dL_law_316 : decode cL_law 316 = .ok (.if_icmp .eq 74, 3) := by decide +kernel
theorem dL_law_319 : decode cL_law 319 = .ok (.iconst 0, 1) := by decide +kernel
theorem dL_law_320 : decode cL_law 320 = .ok (.ireturn, 1) := by decide +kernel
theorem dL_law_321 : decode cL_law 321 = .ok (.aload_n 1, 1) := by decide +kernel
theorem dL_law_322 : decode cL_law 322 = .ok (.aload_n 0, 1) := by decide +kernel
theorem dL_law_323 : decode cL_law 323 = .ok (.iload_n 3, 1) := by decide +kernel
theorem dL_law_324 : decode cL_law 324 = .ok (.iconst 1, 1) := by decide +kernel
theorem dL_law_325 : decode cL_law 325 = .ok (.iadd, 1) := by decide +kernel
theorem dL_law_326 : decode cL_law 326 = .ok (.iaload, 1) := by decide +kernel
theorem dL_law_327 : decode cL_law 327 = .ok (.aload_n 0, 1) := by decide +kernel
theorem dL_law_328 : decode cL_law 328 = .ok (.iload_n 3, 1) := by decide +kernel
theorem dL_law_329 : decode cL_law 329 = .ok (.iconst 2, 1) := by decide +kernel
theorem dL_law_330 : decode cL_law 330 = .ok (.iadd, 1) := by decide +kernel
theorem dL_law_331 : decode cL_law 331 = .ok (.iaload, 1) := by decide +kernel
theorem dL_law_332 : decode cL_law 332 = .ok (.invokevirtual 50, 3) := by decide +kernel
theorem dL_law_335 : decode cL_law 335 = .ok (.aload_n 2, 1) := by decide +kernel
theorem dL_law_336 : decode cL_law 336 = .ok (.aload_n 0, 1) := by decide +kernel
theorem dL_law_337 : decode cL_law 337 = .ok (.iload_n 3, 1) := by decide +kernel
theorem dL_law_338 : decode cL_law 338 = .ok (.iconst 1, 1) := by decide +kernel
theorem dL_law_339 : decode cL_law 339 = .ok (.iadd, 1) := by decide +kernel
theorem dL_law_340 : decode cL_law 340 = .ok (.iaload, 1) := by decide +kernel
theorem dL_law_341 : decode cL_law 341 = .ok (.aload_n 0, 1) := by decide +kernel
theorem dL_law_342 : decode cL_law 342 = .ok (.iload_n 3, 1) := by decide +kernel
theorem dL_law_343 : decode cL_law 343 = .ok (.iconst 2, 1) := by decide +kernel
theorem dL_law_344 : decode cL_law 344 = .ok (.iadd, 1) := by decide +kernel
theorem dL_law_345 : decode cL_law 345 = .ok (.iaload, 1) := by decide +kernel
theorem dL_law_346 : decode cL_law 346 = .ok (.invokevirtual 54, 3) := by decide +kernel
theorem dL_law_349 : decode cL_law 349 = .ok (.if_icmp .eq 41, 3) := by decide +kernel
theorem dL_law_352 : decode cL_law 352 = .ok (.iconst 0, 1) := by decide +kernel
theorem dL_law_353 : decode cL_law 353 = .ok (.ireturn, 1) := by decide +kernel
theorem dL_law_354 : decode cL_law 354 = .ok (.aload_n 1, 1) := by decide +kernel
theorem dL_law_355 : decode cL_law 355 = .ok (.aload_n 0, 1) := by decide +kernel
theorem dL_law_356 : decode cL_law 356 = .ok (.iload_n 3, 1) := by decide +kernel
theorem dL_law_357 : decode cL_law 357 = .ok (.iconst 1, 1) := by decide +kernel
theorem dL_law_358 : decode cL_law 358 = .ok (.iadd, 1) := by decide +kernel
theorem dL_law_359 : decode cL_law 359 = .ok (.iaload, 1) := by decide +kernel
theorem dL_law_360 : decode cL_law 360 = .ok (.invokevirtual 55, 3) := by decide +kernel
theorem dL_law_363 : decode cL_law 363 = .ok (.aload_n 2, 1) := by decide +kernel
theorem dL_law_364 : decode cL_law 364 = .ok (.aload_n 0, 1) := by decide +kernel
theorem dL_law_365 : decode cL_law 365 = .ok (.iload_n 3, 1) := by decide +kernel
theorem dL_law_366 : decode cL_law 366 = .ok (.iconst 1, 1) := by decide +kernel
theorem dL_law_367 : decode cL_law 367 = .ok (.iadd, 1) := by decide +kernel
theorem dL_law_368 : decode cL_law 368 = .ok (.iaload, 1) := by decide +kernel
theorem dL_law_369 : decode cL_law 369 = .ok (.invokevirtual 58, 3) := by decide +kernel
theorem dL_law_372 : decode cL_law 372 = .ok (.if_icmp .eq 18, 3) := by decide +kernel
theorem dL_law_375 : decode cL_law 375 = .ok (.iconst 0, 1) := by decide +kernel
theorem dL_law_376 : decode cL_law 376 = .ok (.ireturn, 1) := by decide +kernel
theorem dL_law_377 : decode cL_law 377 = .ok (.aload_n 1, 1) := by decide +kernel
theorem dL_law_378 : decode cL_law 378 = .ok (.invokevirtual 59, 3) := by decide +kernel
theorem dL_law_381 : decode cL_law 381 = .ok (.aload_n 2, 1) := by decide +kernel
theorem dL_law_382 : decode cL_law 382 = .ok (.invokevirtual 62, 3) := by decide +kernel
theorem dL_law_385 : decode cL_law 385 = .ok (.if_icmp .eq 5, 3) := by decide +kernel
theorem dL_law_388 : decode cL_law 388 = .ok (.iconst 0, 1) := by decide +kernel
theorem dL_law_389 : decode cL_law 389 = .ok (.ireturn, 1) := by decide +kernel
theorem dL_law_390 : decode cL_law 390 = .ok (.iinc 3 4, 3) := by decide +kernel
theorem dL_law_393 : decode cL_law 393 = .ok (.goto (-375), 3) := by decide +kernel
theorem dL_law_396 : decode cL_law 396 = .ok (.iconst 1, 1) := by decide +kernel
theorem dL_law_397 : decode cL_law 397 = .ok (.ireturn, 1) := by decide +kernel
end
section
/-! STARTING TEXTS, pasted: BITS (bt), NUMBERS, COUNTS of kit/laws -/
section PA
/-! rows on bits, shifts and unsigned numbers, to paste: each family out of a closed proof of our own, whole with what it rests on; each by itself clean at Lean in its own claim (generation 39, form 5). Take a family whole -/
/-! ===== Int32 by its bits: bt x i ===== -/
def bt (x : Int32) (i : Nat) : Bool := x.toBitVec.getLsbD i
theorem b_ext {x y : Int32} (h : ∀ i, i < 32 → bt x i = bt y i) : x = y := Int32.toBitVec_inj.mp (BitVec.eq_of_getLsbD_eq (fun i hi => h i hi))
theorem b_or (x y : Int32) (i : Nat) : bt (x ||| y) i = (bt x i || bt y i) := by unfold bt; rw [Int32.toBitVec_or, BitVec.getLsbD_or]
theorem b_and (x y : Int32) (i : Nat) : bt (x &&& y) i = (bt x i && bt y i) := by unfold bt; rw [Int32.toBitVec_and, BitVec.getLsbD_and]
theorem b_xor (x y : Int32) (i : Nat) : bt (x ^^^ y) i = (bt x i ^^ bt y i) := by unfold bt; rw [Int32.toBitVec_xor, BitVec.getLsbD_xor]
theorem b_big {x : Int32} {i : Nat} (h : 32 ≤ i) : bt x i = false := BitVec.getLsbD_of_ge _ _ h
theorem b_255 (i : Nat) : bt 255 i = decide (i < 8) := by
  rcases Nat.lt_or_ge i 32 with h | h
  · exact (by decide +kernel : ∀ i, i < 32 → bt 255 i = decide (i < 8)) i h
  · rw [b_big h, decide_eq_false (by omega)]
theorem b_65535 (i : Nat) : bt 65535 i = decide (i < 16) := by
  rcases Nat.lt_or_ge i 32 with h | h
  · exact (by decide +kernel : ∀ i, i < 32 → bt 65535 i = decide (i < 16)) i h
  · rw [b_big h, decide_eq_false (by omega)]
theorem b_m1 : ∀ i, i < 32 → bt (-1) i = true := by decide +kernel
theorem b_0 (i : Nat) : bt 0 i = false := BitVec.getLsbD_zero
theorem s_l : ∀ n, n < 32 → ((nI n &&& 31).toBitVec.smod 32).toNat = n := by decide +kernel
theorem s_u : ∀ n, n < 32 → (((nI n).toUInt32 &&& Int32.toUInt32 31).toBitVec % 32).toNat = n := by decide +kernel
theorem b_shl (n : Nat) (hn : n < 32) (x : Int32) {i : Nat} (hi : i < 32) : bt (x <<< (nI n &&& 31)) i = (decide (n ≤ i) && bt x (i - n)) := by
  unfold bt
  rw [Int32.toBitVec_shiftLeft]
  show (x.toBitVec <<< ((nI n &&& 31).toBitVec.smod 32).toNat).getLsbD i = _
  rw [s_l n hn, BitVec.getLsbD_shiftLeft]
  rcases Nat.lt_or_ge i n with h | h
  · simp [h, Nat.not_le.mpr h]
  · simp [hi, h, Nat.not_lt.mpr h]
theorem b_ushr (n : Nat) (hn : n < 32) (x : Int32) (i : Nat) : bt ((x.toUInt32 >>> ((nI n).toUInt32 &&& Int32.toUInt32 31)).toInt32) i = bt x (n + i) := by
  show (x.toUInt32 >>> ((nI n).toUInt32 &&& Int32.toUInt32 31)).toBitVec.getLsbD i = x.toUInt32.toBitVec.getLsbD (n + i)
  rw [UInt32.toBitVec_shiftRight]
  show (x.toUInt32.toBitVec >>> (((nI n).toUInt32 &&& Int32.toUInt32 31).toBitVec % 32).toNat).getLsbD i = _
  rw [s_u n hn, BitVec.getLsbD_ushiftRight]
theorem b_sshr (n : Nat) (hn : n < 32) (x : Int32) {i : Nat} (hi : i < 32) : bt (x >>> (nI n &&& 31)) i = if n + i < 32 then bt x (n + i) else bt x 31 := by
  unfold bt
  rw [Int32.toBitVec_shiftRight]
  show (x.toBitVec.sshiftRight ((nI n &&& 31).toBitVec.smod 32).toNat).getLsbD i = _
  rw [s_l n hn, BitVec.getLsbD_sshiftRight, BitVec.msb_eq_getLsbD_last]
  simp [hi]
theorem b_shl8 (x : Int32) {i : Nat} (hi : i < 32) : bt (x <<< ((8 : Int32) &&& 31)) i = (decide (8 ≤ i) && bt x (i - 8)) := b_shl 8 (by omega) x hi
theorem b_shl16 (x : Int32) {i : Nat} (hi : i < 32) : bt (x <<< ((16 : Int32) &&& 31)) i = (decide (16 ≤ i) && bt x (i - 16)) := b_shl 16 (by omega) x hi
theorem b_shl24 (x : Int32) {i : Nat} (hi : i < 32) : bt (x <<< ((24 : Int32) &&& 31)) i = (decide (24 ≤ i) && bt x (i - 24)) := b_shl 24 (by omega) x hi
theorem b_sshr8 (x : Int32) {i : Nat} (hi : i < 32) : bt (x >>> ((8 : Int32) &&& 31)) i = if 8 + i < 32 then bt x (8 + i) else bt x 31 := b_sshr 8 (by omega) x hi

/-! plain facts on numbers and arrays, to paste: each family by itself; over the kit's rows on nI and upd -/
/-! ===== order of ints, in all its forms, and through longs ===== -/
theorem fa_lt (a b : Int32) : a < b ↔ a.toInt < b.toInt := Int32.lt_iff_toInt_lt
theorem fa_le (a b : Int32) : a ≤ b ↔ a.toInt ≤ b.toInt := Int32.le_iff_toInt_le
theorem fa_eq (a b : Int32) : a = b ↔ a.toInt = b.toInt := Int32.toInt_inj.symm
theorem fa_lt64 (a b : Int64) : a < b ↔ a.toInt < b.toInt := Int64.lt_iff_toInt_lt
theorem fa_le64 (a b : Int64) : a ≤ b ↔ a.toInt ≤ b.toInt := Int64.le_iff_toInt_le
theorem fa_eq64 (a b : Int64) : a = b ↔ a.toInt = b.toInt := Int64.toInt_inj.symm
/-- a comparison of two ints taken as longs -/
theorem fa_wide_lt (a b : Int32) : a.toInt64 < b.toInt64 ↔ a < b := by rw [fa_lt64, fa_lt, Int32.toInt_toInt64, Int32.toInt_toInt64]
theorem fa_wide_le (a b : Int32) : a.toInt64 ≤ b.toInt64 ↔ a ≤ b := by rw [fa_le64, fa_le, Int32.toInt_toInt64, Int32.toInt_toInt64]
theorem fa_wide_eq (a b : Int32) : a.toInt64 = b.toInt64 ↔ a = b := by rw [fa_eq64, fa_eq, Int32.toInt_toInt64, Int32.toInt_toInt64]
/-- one strict comparison gives all the others -/
theorem fa_of_lt {a b : Int32} (h : a < b) : a ≤ b ∧ ¬ b ≤ a ∧ ¬ b < a ∧ a ≠ b ∧ b ≠ a := by
  rw [fa_lt] at h
  refine ⟨?_, ?_, ?_, ?_, ?_⟩
  · rw [fa_le]; omega
  · rw [fa_le]; omega
  · rw [fa_lt]; omega
  · intro e; rw [fa_eq] at e; omega
  · intro e; rw [fa_eq] at e; omega
theorem fa_of_nlt {a b : Int32} (h : ¬ a < b) : b ≤ a := by
  rw [fa_lt] at h
  rw [fa_le]
  omega
theorem fa_of_nle {a b : Int32} (h : ¬ a ≤ b) : b < a := by
  rw [fa_le] at h
  rw [fa_lt]
  omega
theorem fa_le_ne {a b : Int32} (h : a ≤ b) (h2 : a ≠ b) : a < b := by
  rw [fa_le] at h
  rw [fa_lt]
  have h3 : a.toInt ≠ b.toInt := fun e => h2 ((fa_eq a b).mpr e)
  omega
theorem fa_three (a b : Int32) : a < b ∨ a = b ∨ b < a := by
  rw [fa_lt, fa_lt, fa_eq]
  omega
theorem fa_trans {a b c : Int32} (h : a < b) (h2 : b ≤ c) : a < c := by
  rw [fa_lt] at *
  rw [fa_le] at h2
  omega
/-! ===== small literals as numbers ===== -/
theorem fa_lit (n : Nat) : (OfNat.ofNat n : Int32) = nI n := rfl
theorem fa_litL (n : Nat) : (OfNat.ofNat n : Int64) = lN n := rfl
/-! ===== bits of a number: 'or', masks, one bit ===== -/
theorem fa_and (a b : Nat) : nI a &&& nI b = nI (a &&& b) := by
  apply Int32.toBitVec_inj.1
  show BitVec.ofNat 32 a &&& BitVec.ofNat 32 b = BitVec.ofNat 32 (a &&& b)
  apply BitVec.eq_of_getLsbD_eq
  intro i hi
  simp [hi]
theorem fa_or (a b : Nat) : nI a ||| nI b = nI (a ||| b) := by
  apply Int32.toBitVec_inj.1
  show BitVec.ofNat 32 a ||| BitVec.ofNat 32 b = BitVec.ofNat 32 (a ||| b)
  apply BitVec.eq_of_getLsbD_eq
  intro i hi
  simp [hi]
/-- a remainder by a power of two, as a mask -/
theorem fa_mask (n k : Nat) : nI n &&& nI (2 ^ k - 1) = nI (n % 2 ^ k) := by rw [fa_and, Nat.and_two_pow_sub_one_eq_mod]
/-- 'or' of a high part and a low one that don't meet is their sum -/
theorem fa_or_sum {a k : Nat} (b : Nat) (h : a < 2 ^ k) : nI (2 ^ k * b) ||| nI a = nI (2 ^ k * b + a) := by rw [fa_or, Nat.two_pow_add_eq_or_of_lt h]
/-- one bit, by 'and' with a power of two -/
theorem fa_bit {n j : Nat} (hj : j < 31) : nI n &&& nI (2 ^ j) = 0 ↔ n.testBit j = false := by
  have h2 : (2 : Nat) ^ j < 2 ^ 31 := Nat.pow_lt_pow_right (by decide) hj
  have hle : n &&& 2 ^ j ≤ 2 ^ j := Nat.and_le_right
  have e : n &&& 2 ^ j = 0 ↔ n.testBit j = false := by
    constructor
    · intro h
      have h1 : (n &&& 2 ^ j).testBit j = false := by rw [h]; simp
      rw [Nat.testBit_and] at h1
      first | simpa using h1 | simpa [Nat.testBit_two_pow_self] using h1 | simpa [Nat.testBit_two_pow] using h1
    · intro h
      apply Nat.eq_of_testBit_eq
      intro i
      rw [Nat.testBit_and]
      by_cases hi : j = i
      · subst hi; simp [h]
      · first | (simp [Nat.testBit_two_pow, hi]; done) | (simp [Nat.testBit_two_pow_of_ne hi]; done)
  rw [fa_and]
  constructor
  · intro h
    apply e.mp
    rcases Nat.eq_zero_or_pos (n &&& 2 ^ j) with z | z
    · exact z
    · exact absurd h (nI_ne0 z (Nat.lt_of_le_of_lt hle h2))
  · intro h
    rw [e.mpr h]; exact nI_0
/-- a remainder by a power of two of a number that isn't negative, as Java divides -/
theorem fa_rem {a k : Nat} (ha : a < 2 ^ 31) (hk : k < 31) : nI a - nI a / nI (2 ^ k) * nI (2 ^ k) = nI (a % 2 ^ k) := pk_rem ha (Nat.two_pow_pos k) (Nat.pow_lt_pow_right (by decide) hk)
/-! ===== cuts to a byte, a short ===== -/
theorem fa_byte_xor (x y : Int32) : (x ^^^ y).toInt8 = x.toInt8 ^^^ y.toInt8 := by
  apply Int8.toBitVec_inj.1
  apply BitVec.eq_of_getLsbD_eq
  intro i hi
  first | (simp [hi]; done) | (simp [hi, BitVec.getLsbD_setWidth, BitVec.getLsbD_signExtend]; done)
theorem fa_short_xor (x y : Int32) : (x ^^^ y).toInt16 = x.toInt16 ^^^ y.toInt16 := by
  apply Int16.toBitVec_inj.1
  apply BitVec.eq_of_getLsbD_eq
  intro i hi
  first | (simp [hi]; done) | (simp [hi, BitVec.getLsbD_setWidth, BitVec.getLsbD_signExtend]; done)
/-- the cut to a byte sees the low byte alone -/
theorem fa_byte_low (x : Int32) : (x &&& 255).toInt8 = x.toInt8 := by
  apply Int8.toBitVec_inj.1
  apply BitVec.eq_of_getLsbD_eq
  intro i hi
  have h2 : (255 : Int32).toBitVec.getLsbD i = true := by
    have : ∀ j : Fin 8, (255 : Int32).toBitVec.getLsbD j.val = true := by decide +kernel
    exact this ⟨i, hi⟩
  have h4 : (x &&& 255).toBitVec.getLsbD i = x.toBitVec.getLsbD i := by
    show (x.toBitVec &&& (255 : Int32).toBitVec).getLsbD i = _
    rw [BitVec.getLsbD_and, h2, Bool.and_true]
  have h3 : i < 32 := by omega
  first
    | (show (((x &&& 255).toBitVec).signExtend 8).getLsbD i = (x.toBitVec.signExtend 8).getLsbD i; rw [BitVec.getLsbD_signExtend, BitVec.getLsbD_signExtend, if_pos h3, if_pos h3, h4])
    | (show (((x &&& 255).toBitVec).setWidth 8).getLsbD i = (x.toBitVec.setWidth 8).getLsbD i; rw [BitVec.getLsbD_setWidth, BitVec.getLsbD_setWidth, h4])
    | (simp [hi, h3, h4]; done)
theorem fa_short_low (x : Int32) : (x &&& 65535).toInt16 = x.toInt16 := by
  apply Int16.toBitVec_inj.1
  apply BitVec.eq_of_getLsbD_eq
  intro i hi
  have h2 : (65535 : Int32).toBitVec.getLsbD i = true := by
    have : ∀ j : Fin 16, (65535 : Int32).toBitVec.getLsbD j.val = true := by decide +kernel
    exact this ⟨i, hi⟩
  have h4 : (x &&& 65535).toBitVec.getLsbD i = x.toBitVec.getLsbD i := by
    show (x.toBitVec &&& (65535 : Int32).toBitVec).getLsbD i = _
    rw [BitVec.getLsbD_and, h2, Bool.and_true]
  have h3 : i < 32 := by omega
  first
    | (show (((x &&& 65535).toBitVec).signExtend 16).getLsbD i = (x.toBitVec.signExtend 16).getLsbD i; rw [BitVec.getLsbD_signExtend, BitVec.getLsbD_signExtend, if_pos h3, if_pos h3, h4])
    | (show (((x &&& 65535).toBitVec).setWidth 16).getLsbD i = (x.toBitVec.setWidth 16).getLsbD i; rw [BitVec.getLsbD_setWidth, BitVec.getLsbD_setWidth, h4])
    | (simp [hi, h3, h4]; done)
/-- a small number is its own byte, its own short -/
theorem fa_byte_small {n : Nat} (h : n < 128) : (nI n).toInt8.toInt32 = nI n := by
  have : ∀ j : Fin 128, (nI j.val).toInt8.toInt32 = nI j.val := by decide +kernel
  exact this ⟨n, h⟩
/-! ===== absolute difference ===== -/
theorem fa_absdiff {a b : Nat} (ha : a < 2 ^ 31) (hb : b < 2 ^ 31) : (if nI a < nI b then nI b - nI a else nI a - nI b) = nI (if a < b then b - a else a - b) := by
  by_cases h : a < b
  · rw [if_pos (nI_lt h hb), if_pos h]
    exact pk_sub (Nat.le_of_lt h)
  · rw [if_neg (nI_nlt (Nat.le_of_not_lt h) ha), if_neg h]
    exact pk_sub (Nat.le_of_not_lt h)
/-! ===== an array behind i stores, a conditional store, a row copied ===== -/
/-- f where k < i, what stood there else -/
def fa_fill {α : Type} (f g : Nat → α) (i : Nat) : Nat → α := fun k => if k < i then f k else g k
theorem fa_fill_0 {α : Type} (f g : Nat → α) : fa_fill f g 0 = g := funext fun k => if_neg (Nat.not_lt_zero k)
theorem fa_fill_in {α : Type} {f g : Nat → α} {i k : Nat} (h : k < i) : fa_fill f g i k = f k := if_pos h
theorem fa_fill_out {α : Type} {f g : Nat → α} {i k : Nat} (h : i ≤ k) : fa_fill f g i k = g k := if_neg (Nat.not_lt.mpr h)
theorem fa_fill_succ (f g : Nat → Int32) (i : Nat) : upd (fa_fill f g i) i (f i) = fa_fill f g (i + 1) := by
  funext k
  by_cases e : k = i
  · subst e
    rw [pk_us]
    exact (if_pos (Nat.lt_succ_self k)).symm
  · rw [pk_un e]
    by_cases h : k < i
    · rw [fa_fill_in h, fa_fill_in (Nat.lt_succ_of_lt h)]
    · rw [fa_fill_out (Nat.le_of_not_lt h), fa_fill_out (by omega)]
/-- a store that changes nothing -/
theorem fa_upd_same {f : Nat → Int32} {i : Nat} {x : Int32} (h : f i = x) : upd f i x = f := by
  funext k
  by_cases e : k = i
  · subst e
    rw [pk_us, h]
  · rw [pk_un e]
/-- a store under a condition, told as one -/
theorem fa_upd_if (c : Prop) [Decidable c] (f : Nat → Int32) (i : Nat) (x : Int32) : (if c then upd f i x else f) = upd f i (if c then x else f i) := by
  by_cases h : c
  · rw [if_pos h, if_pos h]
  · rw [if_neg h, if_neg h, fa_upd_same rfl]
/-- two stores at one place, at two -/
theorem fa_upd_twice (f : Nat → Int32) (i : Nat) (x y : Int32) : upd (upd f i x) i y = upd f i y := by
  funext k
  by_cases e : k = i
  · subst e
    rw [pk_us, pk_us]
  · rw [pk_un e, pk_un e, pk_un e]
theorem fa_upd_swap (f : Nat → Int32) {i j : Nat} (h : i ≠ j) (x y : Int32) : upd (upd f i x) j y = upd (upd f j y) i x := by
  funext k
  by_cases e : k = i
  · subst e
    rw [pk_un h, pk_us, pk_us]
  · by_cases e2 : k = j
    · subst e2
      rw [pk_us, pk_un e, pk_us]
    · rw [pk_un e2, pk_un e, pk_un e, pk_un e2]
/-! ===== the first index with a property; a count ===== -/
/-- the first k < n with p k, n if there is none -/
def fa_first (p : Nat → Bool) : Nat → Nat
  | 0 => 0
  | n + 1 => if fa_first p n < n then fa_first p n else if p n then n else n + 1
theorem fa_first_le (p : Nat → Bool) : ∀ n, fa_first p n ≤ n
  | 0 => Nat.le_refl 0
  | n + 1 => by
    have ih := fa_first_le p n
    unfold fa_first
    split
    · omega
    · split
      · omega
      · omega
theorem fa_first_no (p : Nat → Bool) : ∀ n k, k < fa_first p n → p k = false
  | 0, k, h => absurd h (Nat.not_lt_zero k)
  | n + 1, k, h => by
    have ih := fa_first_no p n
    have hl := fa_first_le p n
    unfold fa_first at h
    split at h
    · exact ih k h
    · rename_i h1
      split at h
      · exact ih k (by omega)
      · rename_i h2
        by_cases e : k = n
        · subst e
          exact Bool.eq_false_iff.mpr h2
        · exact ih k (by omega)
theorem fa_first_yes (p : Nat → Bool) : ∀ n, fa_first p n < n → p (fa_first p n) = true
  | 0, h => absurd h (Nat.not_lt_zero _)
  | n + 1, h => by
    have ih := fa_first_yes p n
    have hl := fa_first_le p n
    unfold fa_first at h ⊢
    split at h
    · rename_i h1
      rw [if_pos h1]
      exact ih h1
    · rename_i h1
      rw [if_neg h1]
      split at h
      · rename_i h2
        rw [if_pos h2]
        exact h2
      · omega
/-- how many k < n have p k -/
def fa_cnt (p : Nat → Bool) : Nat → Nat
  | 0 => 0
  | n + 1 => fa_cnt p n + if p n then 1 else 0
theorem fa_cnt_le (p : Nat → Bool) : ∀ n, fa_cnt p n ≤ n
  | 0 => Nat.le_refl 0
  | n + 1 => by
    have ih := fa_cnt_le p n
    unfold fa_cnt
    split
    · omega
    · omega
theorem fa_cnt_yes {p : Nat → Bool} {n : Nat} (h : p n = true) : fa_cnt p (n + 1) = fa_cnt p n + 1 := by rw [fa_cnt, if_pos h]
theorem fa_cnt_no {p : Nat → Bool} {n : Nat} (h : p n = false) : fa_cnt p (n + 1) = fa_cnt p n := by rw [fa_cnt, if_neg (by rw [h]; decide)]; rfl
theorem fa_cnt_cong {p q : Nat → Bool} : ∀ {n : Nat}, (∀ k, k < n → p k = q k) → fa_cnt p n = fa_cnt q n
  | 0, _ => rfl
  | n + 1, h => by rw [fa_cnt, fa_cnt, fa_cnt_cong (fun k hk => h k (Nat.lt_succ_of_lt hk)), h n (Nat.lt_succ_self n)]
/-! ===== an answer carried into a post; a branch on a boolean answer ===== -/
theorem fa_post {α : Type} {P : α → Prop} {x y : α} (h : x = y) (hp : P y) : P x := h ▸ hp
theorem fa_post2 {α β : Type} {P : α → β → Prop} {x y : α} {u v : β} (h : x = y) (h2 : u = v) (hp : P y v) : P x u := h ▸ h2 ▸ hp
theorem fa_bool {r : Int32} {b : Bool} (h : r = if b then 1 else 0) : (r = 0 ↔ b = false) ∧ (¬ r = 0 ↔ b = true) := by
  subst h
  cases b
  · exact ⟨⟨fun _ => rfl, fun _ => rfl⟩, ⟨fun h => absurd rfl h, fun h => absurd h (by decide)⟩⟩
  · exact ⟨⟨fun h => absurd h (by decide), fun h => absurd h (by decide)⟩, ⟨fun _ => rfl, fun _ => by decide⟩⟩
/-- a boolean's narrowing changes nothing -/
theorem fa_bool_and {r : Int32} (h : r = 0 ∨ r = 1) : r &&& 1 = r := by
  rcases h with rfl | rfl
  · decide
  · decide
theorem fa_bool_prop {c : Prop} [Decidable c] {r : Int32} (h : r = if c then 1 else 0) : (r = 0 ↔ ¬ c) ∧ (¬ r = 0 ↔ c) := by
  subst h
  by_cases hc : c
  · rw [if_pos hc]
    exact ⟨⟨fun h => absurd h (by decide), fun h => absurd hc h⟩, ⟨fun _ => hc, fun _ => by decide⟩⟩
  · rw [if_neg hc]
    exact ⟨⟨fun _ => hc, fun _ => rfl⟩, ⟨fun h => absurd rfl h, fun h => absurd h hc⟩⟩

/-! plain facts to paste, each family by itself; over the kit's nI, lN and upd -/
/-! ===== drawers: more things than places ===== -/
theorem fb_holes : ∀ (m n : Nat) (f : Nat → Nat), (∀ i, i < n → f i < m) → (∀ i j, i < j → j < n → f i ≠ f j) → n ≤ m := by
  intro m
  induction m with
  | zero =>
    intro n f h1 _
    rcases Nat.eq_zero_or_pos n with h | h
    · omega
    · exact absurd (h1 0 h) (Nat.not_lt_zero _)
  | succ m ih =>
    intro n f h1 h2
    by_cases hx : ∃ i, i < n ∧ f i = m
    · obtain ⟨a, ha, hfa⟩ := hx
      have hg := ih (n - 1) (fun i => if i < a then f i else f (i + 1)) (by
        intro i hi
        by_cases q : i < a
        · simp only [if_pos q]
          have b1 := h1 i (by omega)
          have b2 := h2 i a q ha
          omega
        · simp only [if_neg q]
          have b1 := h1 (i + 1) (by omega)
          have b2 := h2 a (i + 1) (by omega) (by omega)
          omega) (by
        intro i j hij hj
        by_cases q : i < a
        · by_cases r : j < a
          · simp only [if_pos q, if_pos r]
            exact h2 i j hij (by omega)
          · simp only [if_pos q, if_neg r]
            exact h2 i (j + 1) (by omega) (by omega)
        · have r : ¬ j < a := by omega
          simp only [if_neg q, if_neg r]
          exact h2 (i + 1) (j + 1) (by omega) (by omega))
      omega
    · have hg := ih n f (fun i hi => by
        have b1 := h1 i hi
        have b2 : f i ≠ m := fun e => hx ⟨i, hi, e⟩
        omega) h2
      omega
/-- two of them in one place -/
theorem fb_twice {m n : Nat} {f : Nat → Nat} (h : ∀ i, i < n → f i < m) (hm : m < n) : ∃ i j, i < j ∧ j < n ∧ f i = f j := by
  refine Classical.byContradiction fun hx => ?_
  have := fb_holes m n f h (fun i j hij hj e => hx ⟨i, j, hij, hj, e⟩)
  omega
/-- as many as places, none twice: each place is taken -/
theorem fb_onto {n : Nat} {f : Nat → Nat} (h : ∀ i, i < n → f i < n) (h2 : ∀ i j, i < j → j < n → f i ≠ f j) {y : Nat} (hy : y < n) : ∃ i, i < n ∧ f i = y := by
  refine Classical.byContradiction fun hx => ?_
  have hne : ∀ i, i < n → f i ≠ y := fun i hi e => hx ⟨i, hi, e⟩
  have := fb_holes (n - 1) n (fun i => if f i < y then f i else f i - 1) (by
    intro i hi
    have b1 := h i hi
    have b2 := hne i hi
    by_cases q : f i < y
    · simp only [if_pos q]; omega
    · simp only [if_neg q]; omega) (by
    intro i j hij hj
    have b1 := hne i (by omega)
    have b2 := hne j hj
    have b3 := h2 i j hij hj
    by_cases q : f i < y
    · by_cases r : f j < y
      · simp only [if_pos q, if_pos r]; exact b3
      · simp only [if_pos q, if_neg r]; omega
    · by_cases r : f j < y
      · simp only [if_neg q, if_pos r]; omega
      · simp only [if_neg q, if_neg r]; omega)
  omega
/-! ===== how many places have a property ===== -/
def fb_ct (p : Nat → Bool) : Nat → Nat
  | 0 => 0
  | n + 1 => fb_ct p n + (if p n then 1 else 0)
theorem fb_ct_succ (p : Nat → Bool) (n : Nat) : fb_ct p (n + 1) = fb_ct p n + (if p n then 1 else 0) := rfl
theorem fb_ct_le (p : Nat → Bool) : ∀ n, fb_ct p n ≤ n
  | 0 => Nat.le_refl _
  | n + 1 => by
    have h := fb_ct_le p n
    rw [fb_ct_succ]
    split <;> omega
theorem fb_ct_step (p : Nat → Bool) (m : Nat) : ∀ n, fb_ct p m ≤ fb_ct p (m + n)
  | 0 => Nat.le_refl _
  | n + 1 => by
    have h := fb_ct_step p m n
    show fb_ct p m ≤ fb_ct p (m + n + 1)
    rw [fb_ct_succ]
    omega
theorem fb_ct_mono (p : Nat → Bool) {m n : Nat} (h : m ≤ n) : fb_ct p m ≤ fb_ct p n := by
  have := fb_ct_step p m (n - m)
  rwa [Nat.add_sub_cancel' h] at this
theorem fb_ct_cong {p q : Nat → Bool} : ∀ {n : Nat}, (∀ k, k < n → p k = q k) → fb_ct p n = fb_ct q n
  | 0, _ => rfl
  | n + 1, h => by
    rw [fb_ct_succ, fb_ct_succ, fb_ct_cong (fun k hk => h k (by omega)), h n (by omega)]
/-- one place changed -/
theorem fb_ct_out (p : Nat → Bool) (b : Bool) {i n : Nat} (h : n ≤ i) : fb_ct (fun k => if k = i then b else p k) n = fb_ct p n :=
  fb_ct_cong fun k hk => if_neg (by omega)
theorem fb_ct_upd (p : Nat → Bool) (b : Bool) {i : Nat} : ∀ {n : Nat}, i < n → fb_ct (fun k => if k = i then b else p k) n + (if p i then 1 else 0) = fb_ct p n + (if b then 1 else 0)
  | 0, h => absurd h (Nat.not_lt_zero i)
  | n + 1, h => by
    rw [fb_ct_succ, fb_ct_succ]
    rcases Nat.lt_or_ge i n with q | q
    · have := fb_ct_upd p b q
      have e : (if n = i then b else p n) = p n := if_neg (by omega)
      rw [e]
      omega
    · have e : i = n := by omega
      subst e
      rw [fb_ct_out p b (Nat.le_refl _)]
      simp only [if_true]
      omega
theorem fb_ct_sub {p q : Nat → Bool} : ∀ {n : Nat}, (∀ k, k < n → p k = true → q k = true) → fb_ct p n ≤ fb_ct q n
  | 0, _ => Nat.le_refl _
  | n + 1, h => by
    have h1 := fb_ct_sub (n := n) (p := p) (q := q) (fun k hk => h k (by omega))
    have h2 := h n (by omega)
    rw [fb_ct_succ, fb_ct_succ]
    cases hp : p n <;> cases hq : q n <;> simp_all <;> omega
theorem fb_ct_or {p q : Nat → Bool} : ∀ {n : Nat}, (∀ k, k < n → ¬ (p k = true ∧ q k = true)) → fb_ct (fun k => p k || q k) n = fb_ct p n + fb_ct q n
  | 0, _ => rfl
  | n + 1, h => by
    have h1 := fb_ct_or (n := n) (p := p) (q := q) (fun k hk => h k (by omega))
    have h2 := h n (by omega)
    rw [fb_ct_succ, fb_ct_succ, fb_ct_succ, h1]
    cases hp : p n <;> cases hq : q n <;> simp_all <;> omega
theorem fb_ct_not (p : Nat → Bool) : ∀ n, fb_ct p n + fb_ct (fun k => !p k) n = n
  | 0 => rfl
  | n + 1 => by
    have h := fb_ct_not p n
    rw [fb_ct_succ, fb_ct_succ]
    cases p n <;> simp <;> omega
theorem fb_ct_split (p : Nat → Bool) (m : Nat) : ∀ n, fb_ct p (m + n) = fb_ct p m + fb_ct (fun k => p (m + k)) n
  | 0 => rfl
  | n + 1 => by
    have h := fb_ct_split p m n
    show fb_ct p (m + n + 1) = _
    rw [fb_ct_succ, fb_ct_succ, h, Nat.add_assoc]
theorem fb_ct_zero {p : Nat → Bool} : ∀ {n : Nat}, fb_ct p n = 0 ↔ ∀ k, k < n → p k = false
  | 0 => ⟨fun _ k hk => absurd hk (Nat.not_lt_zero k), fun _ => rfl⟩
  | n + 1 => by
    have h := fb_ct_zero (p := p) (n := n)
    rw [fb_ct_succ]
    constructor
    · intro e k hk
      have e1 : fb_ct p n = 0 := by omega
      rcases Nat.lt_or_ge k n with q | q
      · exact h.mp e1 k q
      · have ek : k = n := by omega
        subst ek
        cases hp : p k
        · rfl
        · simp [hp] at e
    · intro a
      rw [h.mpr (fun k hk => a k (by omega)), a n (by omega)]
      rfl
theorem fb_ct_pos {p : Nat → Bool} {n : Nat} : 0 < fb_ct p n ↔ ∃ k, k < n ∧ p k = true := by
  constructor
  · intro h
    refine Classical.byContradiction fun hx => ?_
    have := fb_ct_zero.mpr (fun k hk => by
      cases hp : p k
      · rfl
      · exact absurd ⟨k, hk, hp⟩ hx : ∀ k, k < n → p k = false)
    omega
  · rintro ⟨k, hk, hp⟩
    rcases Nat.eq_zero_or_pos (fb_ct p n) with e | e
    · have := fb_ct_zero.mp e k hk
      rw [this] at hp
      cases hp
    · exact e
theorem fb_ct_all {p : Nat → Bool} {n : Nat} : fb_ct p n = n ↔ ∀ k, k < n → p k = true := by
  have h := fb_ct_not p n
  constructor
  · intro e k hk
    have z : fb_ct (fun k => !p k) n = 0 := by omega
    have := fb_ct_zero.mp z k hk
    cases hp : p k
    · simp [hp] at this
    · rfl
  · intro a
    have z : fb_ct (fun k => !p k) n = 0 := fb_ct_zero.mpr (fun k hk => by simp [a k hk])
    omega
/-- the k-th place with the property -/
theorem fb_ct_kth {p : Nat → Bool} {k : Nat} : ∀ {n : Nat}, k < fb_ct p n → ∃ i, i < n ∧ p i = true ∧ fb_ct p i = k
  | 0, h => absurd h (Nat.not_lt_zero k)
  | n + 1, h => by
    rcases Nat.lt_or_ge k (fb_ct p n) with q | q
    · obtain ⟨i, h1, h2⟩ := fb_ct_kth q
      exact ⟨i, by omega, h2⟩
    · rw [fb_ct_succ] at h
      cases hp : p n
      · simp [hp] at h; omega
      · simp [hp] at h
        exact ⟨n, by omega, hp, by omega⟩
theorem fb_ct_kth_one {p : Nat → Bool} {i j : Nat} (hi : p i = true) (hj : p j = true) (e : fb_ct p i = fb_ct p j) : i = j := by
  have key : ∀ a b : Nat, a < b → p a = true → fb_ct p a < fb_ct p b := by
    intro a b hab ha
    have h := fb_ct_mono p (show a + 1 ≤ b from hab)
    rw [fb_ct_succ, ha] at h
    simp at h
    omega
  rcases Nat.lt_trichotomy i j with q | q | q
  · have := key i j q hi; omega
  · exact q
  · have := key j i q hj; omega
/-! ===== sums over a range: one place changed, parts, bounds ===== -/
def fb_sm (f : Nat → Nat) : Nat → Nat
  | 0 => 0
  | n + 1 => fb_sm f n + f n
theorem fb_sm_succ (f : Nat → Nat) (n : Nat) : fb_sm f (n + 1) = fb_sm f n + f n := rfl
theorem fb_sm_cong {f g : Nat → Nat} : ∀ {n : Nat}, (∀ k, k < n → f k = g k) → fb_sm f n = fb_sm g n
  | 0, _ => rfl
  | n + 1, h => by rw [fb_sm_succ, fb_sm_succ, fb_sm_cong (fun k hk => h k (by omega)), h n (by omega)]
theorem fb_sm_out (f : Nat → Nat) (v : Nat) {i n : Nat} (h : n ≤ i) : fb_sm (fun k => if k = i then v else f k) n = fb_sm f n :=
  fb_sm_cong fun k hk => if_neg (by omega)
theorem fb_sm_upd (f : Nat → Nat) (v : Nat) {i : Nat} : ∀ {n : Nat}, i < n → fb_sm (fun k => if k = i then v else f k) n + f i = fb_sm f n + v
  | 0, h => absurd h (Nat.not_lt_zero i)
  | n + 1, h => by
    rw [fb_sm_succ, fb_sm_succ]
    rcases Nat.lt_or_ge i n with q | q
    · have := fb_sm_upd f v q
      have e : (if n = i then v else f n) = f n := if_neg (by omega)
      rw [e]
      omega
    · have e : i = n := by omega
      subst e
      rw [fb_sm_out f v (Nat.le_refl _)]
      simp only [if_true]
      omega
theorem fb_sm_add (f g : Nat → Nat) : ∀ n, fb_sm (fun k => f k + g k) n = fb_sm f n + fb_sm g n
  | 0 => rfl
  | n + 1 => by
    have h := fb_sm_add f g n
    rw [fb_sm_succ, fb_sm_succ, fb_sm_succ, h]
    omega
theorem fb_sm_le {f g : Nat → Nat} : ∀ {n : Nat}, (∀ k, k < n → f k ≤ g k) → fb_sm f n ≤ fb_sm g n
  | 0, _ => Nat.le_refl _
  | n + 1, h => by
    have h1 := fb_sm_le (n := n) (f := f) (g := g) (fun k hk => h k (by omega))
    have h2 := h n (by omega)
    rw [fb_sm_succ, fb_sm_succ]
    omega
theorem fb_sm_const (c : Nat) : ∀ n, fb_sm (fun _ => c) n = n * c
  | 0 => by rw [Nat.zero_mul]; rfl
  | n + 1 => by rw [fb_sm_succ, fb_sm_const c n, Nat.succ_mul]
theorem fb_sm_bound {f : Nat → Nat} {c n : Nat} (h : ∀ k, k < n → f k ≤ c) : fb_sm f n ≤ n * c := by
  rw [← fb_sm_const c n]
  exact fb_sm_le h
theorem fb_sm_mono (f : Nat → Nat) (m : Nat) : ∀ n, fb_sm f m ≤ fb_sm f (m + n)
  | 0 => Nat.le_refl _
  | n + 1 => by
    have h := fb_sm_mono f m n
    show fb_sm f m ≤ fb_sm f (m + n + 1)
    rw [fb_sm_succ]
    omega
theorem fb_sm_part (f : Nat → Nat) {i n : Nat} (h : i < n) : fb_sm f i + f i ≤ fb_sm f n := by
  have := fb_sm_mono f (i + 1) (n - (i + 1))
  rw [fb_sm_succ, show i + 1 + (n - (i + 1)) = n by omega] at this
  exact this
theorem fb_sm_split (f : Nat → Nat) (m : Nat) : ∀ n, fb_sm f (m + n) = fb_sm f m + fb_sm (fun k => f (m + k)) n
  | 0 => rfl
  | n + 1 => by
    have h := fb_sm_split f m n
    show fb_sm f (m + n + 1) = _
    rw [fb_sm_succ, fb_sm_succ, h, Nat.add_assoc]
theorem fb_sm_zero {f : Nat → Nat} {n : Nat} (h : fb_sm f n = 0) : ∀ k, k < n → f k = 0 := fun k hk => by
  have := fb_sm_part f hk
  omega
/-- the same over whole numbers -/
def fb_si (f : Nat → Int) : Nat → Int
  | 0 => 0
  | n + 1 => fb_si f n + f n
theorem fb_si_succ (f : Nat → Int) (n : Nat) : fb_si f (n + 1) = fb_si f n + f n := rfl
theorem fb_si_cong {f g : Nat → Int} : ∀ {n : Nat}, (∀ k, k < n → f k = g k) → fb_si f n = fb_si g n
  | 0, _ => rfl
  | n + 1, h => by rw [fb_si_succ, fb_si_succ, fb_si_cong (fun k hk => h k (by omega)), h n (by omega)]
theorem fb_si_out (f : Nat → Int) (v : Int) {i n : Nat} (h : n ≤ i) : fb_si (fun k => if k = i then v else f k) n = fb_si f n :=
  fb_si_cong fun k hk => if_neg (by omega)
theorem fb_si_upd (f : Nat → Int) (v : Int) {i : Nat} : ∀ {n : Nat}, i < n → fb_si (fun k => if k = i then v else f k) n = fb_si f n - f i + v
  | 0, h => absurd h (Nat.not_lt_zero i)
  | n + 1, h => by
    rw [fb_si_succ, fb_si_succ]
    rcases Nat.lt_or_ge i n with q | q
    · have := fb_si_upd f v q
      have e : (if n = i then v else f n) = f n := if_neg (by omega)
      rw [e]
      omega
    · have e : i = n := by omega
      subst e
      rw [fb_si_out f v (Nat.le_refl _)]
      simp only [if_true]
      omega
theorem fb_si_add (f g : Nat → Int) : ∀ n, fb_si (fun k => f k + g k) n = fb_si f n + fb_si g n
  | 0 => rfl
  | n + 1 => by
    have h := fb_si_add f g n
    rw [fb_si_succ, fb_si_succ, fb_si_succ, h]
    omega
theorem fb_si_sub (f g : Nat → Int) : ∀ n, fb_si (fun k => f k - g k) n = fb_si f n - fb_si g n
  | 0 => rfl
  | n + 1 => by
    have h := fb_si_sub f g n
    rw [fb_si_succ, fb_si_succ, fb_si_succ, h]
    omega
theorem fb_si_mul (c : Int) (f : Nat → Int) : ∀ n, fb_si (fun k => c * f k) n = c * fb_si f n
  | 0 => (Int.mul_zero c).symm
  | n + 1 => by
    have h := fb_si_mul c f n
    rw [fb_si_succ, fb_si_succ, h, Int.mul_add]
theorem fb_si_split (f : Nat → Int) (m : Nat) : ∀ n, fb_si f (m + n) = fb_si f m + fb_si (fun k => f (m + k)) n
  | 0 => (Int.add_zero _).symm
  | n + 1 => by
    have h := fb_si_split f m n
    show fb_si f (m + n + 1) = _
    rw [fb_si_succ, fb_si_succ, h, Int.add_assoc]
theorem fb_si_nat (f : Nat → Nat) : ∀ n, fb_si (fun k => (f k : Int)) n = (fb_sm f n : Int)
  | 0 => rfl
  | n + 1 => by
    have h := fb_si_nat f n
    rw [fb_si_succ, fb_sm_succ, h]
    omega
theorem fb_si_bound {f : Nat → Int} {c : Int} (hc : 0 ≤ c) : ∀ {n : Nat}, (∀ k, k < n → -c ≤ f k ∧ f k ≤ c) → -(n * c) ≤ fb_si f n ∧ fb_si f n ≤ n * c
  | 0, _ => by simp [fb_si]
  | n + 1, h => by
    have h1 := fb_si_bound (n := n) (f := f) hc (fun k hk => h k (by omega))
    have h2 := h n (by omega)
    have e : ((n + 1 : Nat) : Int) * c = n * c + c := by rw [Int.natCast_add, Int.add_mul]; simp
    rw [fb_si_succ, e]
    omega
/-! ===== bits of a long that isn't negative ===== -/
theorem fb_andL (a b : Nat) : lN a &&& lN b = lN (a &&& b) := by
  apply Int64.toBitVec_inj.1
  show BitVec.ofNat 64 a &&& BitVec.ofNat 64 b = BitVec.ofNat 64 (a &&& b)
  apply BitVec.eq_of_getLsbD_eq
  intro i hi
  simp [hi]
theorem fb_orL (a b : Nat) : lN a ||| lN b = lN (a ||| b) := by
  apply Int64.toBitVec_inj.1
  show BitVec.ofNat 64 a ||| BitVec.ofNat 64 b = BitVec.ofNat 64 (a ||| b)
  apply BitVec.eq_of_getLsbD_eq
  intro i hi
  simp [hi]
theorem fb_xorL (a b : Nat) : lN a ^^^ lN b = lN (a ^^^ b) := by
  apply Int64.toBitVec_inj.1
  show BitVec.ofNat 64 a ^^^ BitVec.ofNat 64 b = BitVec.ofNat 64 (a ^^^ b)
  apply BitVec.eq_of_getLsbD_eq
  intro i hi
  simp [hi]
theorem fb_xorI (a b : Nat) : nI a ^^^ nI b = nI (a ^^^ b) := by
  apply Int32.toBitVec_inj.1
  show BitVec.ofNat 32 a ^^^ BitVec.ofNat 32 b = BitVec.ofNat 32 (a ^^^ b)
  apply BitVec.eq_of_getLsbD_eq
  intro i hi
  simp [hi]
theorem fb_maskL (n k : Nat) : lN n &&& lN (2 ^ k - 1) = lN (n % 2 ^ k) := by rw [fb_andL, Nat.and_two_pow_sub_one_eq_mod]
theorem fb_or_sumL {a k : Nat} (b : Nat) (h : a < 2 ^ k) : lN (2 ^ k * b) ||| lN a = lN (2 ^ k * b + a) := by rw [fb_orL, Nat.two_pow_add_eq_or_of_lt h]
theorem fb_lN_inj {a b : Nat} (ha : a < 2 ^ 63) (hb : b < 2 ^ 63) : lN a = lN b ↔ a = b := by
  constructor
  · intro h
    have h1 : (BitVec.ofNat 64 a).toNat = (BitVec.ofNat 64 b).toNat := congrArg (fun x : Int64 => x.toBitVec.toNat) h
    rw [BitVec.toNat_ofNat, BitVec.toNat_ofNat, Nat.mod_eq_of_lt (by omega), Nat.mod_eq_of_lt (by omega)] at h1
    exact h1
  · rintro rfl; rfl
theorem fb_bit_nat (n j : Nat) : n &&& 2 ^ j = 0 ↔ n.testBit j = false := by
  constructor
  · intro h
    have h1 : (n &&& 2 ^ j).testBit j = false := by rw [h]; simp
    rw [Nat.testBit_and] at h1
    simpa using h1
  · intro h
    apply Nat.eq_of_testBit_eq
    intro i
    rw [Nat.testBit_and]
    by_cases hi : j = i
    · subst hi; simp [h]
    · first | (simp [Nat.testBit_two_pow, hi]; done) | (simp [Nat.testBit_two_pow_of_ne hi]; done)
/-- one bit of a long -/
theorem fb_bitL {n j : Nat} (hj : j < 63) : lN n &&& lN (2 ^ j) = 0 ↔ n.testBit j = false := by
  have h2 : (2 : Nat) ^ j < 2 ^ 63 := Nat.pow_lt_pow_right (by decide) hj
  have hle : n &&& 2 ^ j ≤ 2 ^ j := Nat.and_le_right
  rw [fb_andL, ← fb_bit_nat, show (0 : Int64) = lN 0 from rfl]
  exact fb_lN_inj (by omega) (by decide)
/-- a bit set, a bit taken off -/
theorem fb_bit_set (n j i : Nat) : (n ||| 2 ^ j).testBit i = (n.testBit i || decide (i = j)) := by
  rw [Nat.testBit_or]
  by_cases h : j = i
  · subst h; simp
  · have h2 : ¬ i = j := fun e => h e.symm
    first | (simp [Nat.testBit_two_pow, h, h2]; done) | (simp [Nat.testBit_two_pow_of_ne h, h2]; done)
theorem fb_bit_flip (n j i : Nat) : (n ^^^ 2 ^ j).testBit i = (n.testBit i ^^ decide (i = j)) := by
  rw [Nat.testBit_xor]
  by_cases h : j = i
  · subst h; simp
  · have h2 : ¬ i = j := fun e => h e.symm
    first | (simp [Nat.testBit_two_pow, h, h2]; done) | (simp [Nat.testBit_two_pow_of_ne h, h2]; done)
/-! ===== a stretch of an array written over by a function ===== -/
def fb_put {α : Type} (f g : Nat → α) (a n : Nat) : Nat → α := fun k => if a ≤ k ∧ k < a + n then g (k - a) else f k
theorem fb_put_0 {α : Type} (f g : Nat → α) (a : Nat) : fb_put f g a 0 = f := funext fun k => if_neg (by omega)
theorem fb_put_in {α : Type} {f g : Nat → α} {a n k : Nat} (h1 : a ≤ k) (h2 : k < a + n) : fb_put f g a n k = g (k - a) := if_pos ⟨h1, h2⟩
theorem fb_put_out {α : Type} {f g : Nat → α} {a n k : Nat} (h : k < a ∨ a + n ≤ k) : fb_put f g a n k = f k := if_neg (by omega)
theorem fb_put_succ (f g : Nat → Int32) (a n : Nat) : upd (fb_put f g a n) (a + n) (g n) = fb_put f g a (n + 1) := by
  funext k
  by_cases h : k = a + n
  · subst h
    simp [upd, fb_put]
  · by_cases h1 : a ≤ k ∧ k < a + n
    · have h2 : a ≤ k ∧ k < a + (n + 1) := by omega
      simp only [upd, fb_put, if_neg h, if_pos h1, if_pos h2]
    · have h2 : ¬ (a ≤ k ∧ k < a + (n + 1)) := by omega
      simp only [upd, fb_put, if_neg h, if_neg h1, if_neg h2]
/-- .. from the far end down -/
theorem fb_put_down (f g : Nat → Int32) {a n m : Nat} (h : m < n) : upd (fb_put f (fun k => g (k + (m + 1))) (a + (m + 1)) (n - (m + 1))) (a + m) (g m) = fb_put f (fun k => g (k + m)) (a + m) (n - m) := by
  funext k
  by_cases h0 : k = a + m
  · subst h0
    simp only [upd, if_true]
    rw [fb_put_in (by omega) (by omega)]
    exact congrArg g (by omega)
  · simp only [upd, if_neg h0]
    by_cases h1 : a + (m + 1) ≤ k ∧ k < a + (m + 1) + (n - (m + 1))
    · rw [fb_put_in h1.1 h1.2, fb_put_in (by omega) (by omega)]
      exact congrArg g (by omega)
    · rw [fb_put_out (by omega), fb_put_out (by omega)]
theorem fb_put_cong {α : Type} {f f2 g g2 : Nat → α} {a n : Nat} (hf : ∀ k, (k < a ∨ a + n ≤ k) → f k = f2 k) (hg : ∀ k, k < n → g k = g2 k) : fb_put f g a n = fb_put f2 g2 a n := by
  funext k
  by_cases h : a ≤ k ∧ k < a + n
  · rw [fb_put_in h.1 h.2, fb_put_in h.1 h.2, hg _ (by omega)]
  · rw [fb_put_out (by omega), fb_put_out (by omega), hf _ (by omega)]
/-! ===== the least, the first, the best so far; that there is one alone ===== -/
theorem fb_first {p : Nat → Prop} [DecidablePred p] : ∀ {n : Nat}, (∃ i, i < n ∧ p i) → ∃ i, i < n ∧ p i ∧ ∀ j, j < i → ¬ p j
  | 0, h => by obtain ⟨i, hi, -⟩ := h; exact absurd hi (Nat.not_lt_zero i)
  | n + 1, h => by
    by_cases q : ∃ i, i < n ∧ p i
    · obtain ⟨i, h1, h2⟩ := fb_first q
      exact ⟨i, by omega, h2⟩
    · obtain ⟨i, h1, h2⟩ := h
      have e : i = n := by
        rcases Nat.lt_or_ge i n with r | r
        · exact absurd ⟨i, r, h2⟩ q
        · omega
      subst e
      exact ⟨i, by omega, h2, fun j hj hp => q ⟨j, hj, hp⟩⟩
theorem fb_first_one {p : Nat → Prop} {i j : Nat} (hi : p i) (hi2 : ∀ k, k < i → ¬ p k) (hj : p j) (hj2 : ∀ k, k < j → ¬ p k) : i = j := by
  rcases Nat.lt_trichotomy i j with q | q | q
  · exact absurd hi (hj2 i q)
  · exact q
  · exact absurd hj (hi2 j q)
theorem fb_last {p : Nat → Prop} [DecidablePred p] : ∀ {n : Nat}, (∃ i, i < n ∧ p i) → ∃ i, i < n ∧ p i ∧ ∀ j, i < j → j < n → ¬ p j
  | 0, h => by obtain ⟨i, hi, -⟩ := h; exact absurd hi (Nat.not_lt_zero i)
  | n + 1, h => by
    by_cases q : p n
    · exact ⟨n, by omega, q, fun j h1 h2 => by omega⟩
    · obtain ⟨i, h1, h2⟩ := h
      have hi : i < n := by
        rcases Nat.lt_or_ge i n with r | r
        · exact r
        · have e : i = n := by omega
          subst e
          exact absurd h2 q
      obtain ⟨i2, a1, a2, a3⟩ := fb_last (n := n) ⟨i, hi, h2⟩
      refine ⟨i2, by omega, a2, fun j b1 b2 => ?_⟩
      rcases Nat.lt_or_ge j n with r | r
      · exact a3 j b1 r
      · have e : j = n := by omega
        subst e
        exact q
/-- the first greatest -/
theorem fb_best (f : Nat → Int) : ∀ {n : Nat}, 0 < n → ∃ i, i < n ∧ (∀ j, j < n → f j ≤ f i) ∧ ∀ j, j < i → f j < f i
  | 0, h => absurd h (Nat.lt_irrefl 0)
  | 1, _ => ⟨0, by omega, fun j hj => by have e : j = 0 := by omega
                                         subst e; exact Int.le_refl _, fun j hj => absurd hj (Nat.not_lt_zero j)⟩
  | n + 2, _ => by
    obtain ⟨i, h1, h2, h3⟩ := fb_best f (n := n + 1) (by omega)
    by_cases q : f i < f (n + 1)
    · refine ⟨n + 1, by omega, fun j hj => ?_, fun j hj => ?_⟩
      · rcases Nat.lt_or_ge j (n + 1) with r | r
        · have := h2 j r; omega
        · have e : j = n + 1 := by omega
          subst e; exact Int.le_refl _
      · have := h2 j hj; omega
    · refine ⟨i, by omega, fun j hj => ?_, h3⟩
      rcases Nat.lt_or_ge j (n + 1) with r | r
      · exact h2 j r
      · have e : j = n + 1 := by omega
        subst e; omega
theorem fb_best_one {f : Nat → Int} {n i j : Nat} (hi : i < n) (hi2 : ∀ k, k < n → f k ≤ f i) (hi3 : ∀ k, k < i → f k < f i) (hj : j < n) (hj2 : ∀ k, k < n → f k ≤ f j) (hj3 : ∀ k, k < j → f k < f j) : i = j := by
  rcases Nat.lt_trichotomy i j with q | q | q
  · have a := hj3 i q
    have b := hi2 j hj
    omega
  · exact q
  · have a := hi3 j q
    have b := hj2 i hi
    omega
/-- the first least -/
theorem fb_low (f : Nat → Int) {n : Nat} (h : 0 < n) : ∃ i, i < n ∧ (∀ j, j < n → f i ≤ f j) ∧ ∀ j, j < i → f i < f j := by
  obtain ⟨i, h1, h2, h3⟩ := fb_best (fun k => -f k) h
  exact ⟨i, h1, fun j hj => by have := h2 j hj; omega, fun j hj => by have := h3 j hj; omega⟩
/-! ===== signed ints as whole numbers, within bounds ===== -/
theorem fb_rng (x : Int32) : -2147483648 ≤ x.toInt ∧ x.toInt < 2147483648 := by
  have h1 := Int32.le_toInt x
  have h2 := Int32.toInt_lt x
  omega
theorem fb_bmod {z : Int} (h1 : -2147483648 ≤ z) (h2 : z < 2147483648) : z.bmod (2 ^ 32) = z := by
  rw [Int.bmod_eq_of_le (by omega) (by omega)]
theorem fb_addI {x y : Int32} (h1 : -2147483648 ≤ x.toInt + y.toInt) (h2 : x.toInt + y.toInt < 2147483648) : (x + y).toInt = x.toInt + y.toInt := by
  rw [Int32.toInt_add, fb_bmod h1 h2]
theorem fb_subI {x y : Int32} (h1 : -2147483648 ≤ x.toInt - y.toInt) (h2 : x.toInt - y.toInt < 2147483648) : (x - y).toInt = x.toInt - y.toInt := by
  rw [Int32.toInt_sub, fb_bmod h1 h2]
theorem fb_mulI {x y : Int32} (h1 : -2147483648 ≤ x.toInt * y.toInt) (h2 : x.toInt * y.toInt < 2147483648) : (x * y).toInt = x.toInt * y.toInt := by
  rw [Int32.toInt_mul, fb_bmod h1 h2]
theorem fb_negI {x : Int32} (h : x.toInt ≠ -2147483648) : (-x).toInt = -x.toInt := by
  have := fb_rng x
  rw [Int32.toInt_neg, fb_bmod (by omega) (by omega)]
theorem fb_ofI {z : Int} (h1 : -2147483648 ≤ z) (h2 : z < 2147483648) : (Int32.ofInt z).toInt = z := by
  rw [Int32.toInt_ofInt, fb_bmod h1 h2]
theorem fb_asI (x : Int32) : Int32.ofInt x.toInt = x := Int32.ofInt_toInt x
theorem fb_rngL (x : Int64) : -9223372036854775808 ≤ x.toInt ∧ x.toInt < 9223372036854775808 := by
  have h1 := Int64.le_toInt x
  have h2 := Int64.toInt_lt x
  omega
theorem fb_bmodL {z : Int} (h1 : -9223372036854775808 ≤ z) (h2 : z < 9223372036854775808) : z.bmod (2 ^ 64) = z := by
  rw [Int.bmod_eq_of_le (by omega) (by omega)]
theorem fb_addL {x y : Int64} (h1 : -9223372036854775808 ≤ x.toInt + y.toInt) (h2 : x.toInt + y.toInt < 9223372036854775808) : (x + y).toInt = x.toInt + y.toInt := by
  rw [Int64.toInt_add, fb_bmodL h1 h2]
theorem fb_subL {x y : Int64} (h1 : -9223372036854775808 ≤ x.toInt - y.toInt) (h2 : x.toInt - y.toInt < 9223372036854775808) : (x - y).toInt = x.toInt - y.toInt := by
  rw [Int64.toInt_sub, fb_bmodL h1 h2]
theorem fb_mulL {x y : Int64} (h1 : -9223372036854775808 ≤ x.toInt * y.toInt) (h2 : x.toInt * y.toInt < 9223372036854775808) : (x * y).toInt = x.toInt * y.toInt := by
  rw [Int64.toInt_mul, fb_bmodL h1 h2]
/-! ===== cuts of what is narrow already ===== -/
theorem fb_byte {x : Int32} (h1 : -128 ≤ x.toInt) (h2 : x.toInt < 128) : x.toInt8.toInt32 = x := by
  apply Int32.toInt_inj.1
  rw [Int8.toInt_toInt32, Int32.toInt_toInt8, Int.bmod_eq_of_le (by omega) (by omega)]
theorem fb_short {x : Int32} (h1 : -32768 ≤ x.toInt) (h2 : x.toInt < 32768) : x.toInt16.toInt32 = x := by
  apply Int32.toInt_inj.1
  rw [Int16.toInt_toInt32, Int32.toInt_toInt16, Int.bmod_eq_of_le (by omega) (by omega)]
theorem fb_byte_rng (x : Int32) : -128 ≤ x.toInt8.toInt32.toInt ∧ x.toInt8.toInt32.toInt < 128 := by
  rw [Int8.toInt_toInt32]
  have h1 := Int8.le_toInt x.toInt8
  have h2 := Int8.toInt_lt x.toInt8
  omega
theorem fb_short_rng (x : Int32) : -32768 ≤ x.toInt16.toInt32.toInt ∧ x.toInt16.toInt32.toInt < 32768 := by
  rw [Int16.toInt_toInt32]
  have h1 := Int16.le_toInt x.toInt16
  have h2 := Int16.toInt_lt x.toInt16
  omega
theorem fb_byte_twice (x : Int32) : x.toInt8.toInt32.toInt8.toInt32 = x.toInt8.toInt32 := fb_byte (fb_byte_rng x).1 (fb_byte_rng x).2
theorem fb_short_twice (x : Int32) : x.toInt16.toInt32.toInt16.toInt32 = x.toInt16.toInt32 := fb_short (fb_short_rng x).1 (fb_short_rng x).2
theorem fb_char {n : Nat} (h : n < 65536) : (nI n).toUInt32.toUInt16.toUInt32.toInt32 = nI n := by
  apply Int32.toBitVec_inj.1
  apply BitVec.eq_of_toNat_eq
  have e1 : (nI n).toBitVec.toNat = n := by
    show (BitVec.ofNat 32 n).toNat = n
    rw [BitVec.toNat_ofNat, Nat.mod_eq_of_lt (by omega)]
  have e2 : ((nI n).toUInt32.toUInt16.toUInt32).toNat = n := by
    rw [UInt16.toNat_toUInt32, UInt32.toNat_toUInt16]
    show (nI n).toBitVec.toNat % 2 ^ 16 = n
    rw [e1, Nat.mod_eq_of_lt (by omega)]
  rw [e1]
  exact e2

end PA
end
section
set_option maxRecDepth 100000
/-! THE JUDGEMENT OF THIS PROOF. Cx: all that stands still while one method runs. CW K a cc nL own pc lv st w: the method with code cc, at pc, with the locals lv, the stack st, in the world w, comes to its end as K wants it. a: the addresses (0..12 the store's cells, 30..35 the model's; a 20, a 21: the array classes of int and of boolean) -/
abbrev vwCl : List vw_C := [(RX0, TX0, 13), (RX1, TX1, 6)]
abbrev Cx : Type := Program × Launch × Env × Room × State × MethodId × Array Value × List Frame × Method × Code × (State → Prop) × (Nat → Prop) × va_G × (Nat × Nat) × Nat
def cx_l (K : Cx) : Launch := K.2.1
def cx_d (K : Cx) : Nat := K.2.2.2.2.2.2.2.2.2.2.2.2.2.2
def COk (p : Program) (R : Room) (s : State) (m : MethodId) (args : Array Value) (meth : Method) (c : Code) (A : Nat → Prop) (D : va_G) (kn : Nat × Nat) (d : Nat) (a : Nat → Nat) (cc : ByteArray) (nL : Nat) (own : String) : Prop :=
  p.tables.exec = Jvm.exec ∧ c.code = cc ∧ c.maxLocals = nL ∧ s.vm.findClass own = some m.cls ∧ (∀ w ∈ lw_all, w.before args s = true) ∧ va_K D vwCl [(a 20, .int), (a 21, .boolean)] s ∧ (∀ q : Nat, s.heap.size ≤ q → A q) ∧ (d ≤ R.frames ∧ 40 * d ≤ R.locals) ∧ (kn.1 ≤ R.cells ∧ kn.2 ≤ R.slots) ∧ meth.locks = false
def CWx (p : Program) (l : Launch) (e : Env) (R : Room) (s : State) (m : MethodId) (args : Array Value) (below : List Frame) (meth : Method) (c : Code) (Q : State → Prop) (A : Nat → Prop) (D : va_G) (kn : Nat × Nat) (d : Nat) (a : Nat → Nat) (cc : ByteArray) (nL : Nat) (own : String) (pc : Nat) (lv : List (Nat × Value)) (st : List Value) (w : va_W) : Prop :=
  COk p R s m args meth c A D kn d a cc nL own → ∀ (H : Heap) (locs : List Loc) (ls : Array Slot), va_P D vwCl w H → va_D A w → va_S A s.heap H locs → lv_has ls nL lv → W p l e R s m args below meth c H locs kn.1 kn.2 Q (F0 m pc ls st)
def CW (K : Cx) (a : Nat → Nat) (cc : ByteArray) (nL : Nat) (own : String) (pc : Nat) (lv : List (Nat × Value)) (st : List Value) (w : va_W) : Prop :=
  CWx K.1 K.2.1 K.2.2.1 K.2.2.2.1 K.2.2.2.2.1 K.2.2.2.2.2.1 K.2.2.2.2.2.2.1 K.2.2.2.2.2.2.2.1 K.2.2.2.2.2.2.2.2.1 K.2.2.2.2.2.2.2.2.2.1 K.2.2.2.2.2.2.2.2.2.2.1 K.2.2.2.2.2.2.2.2.2.2.2.1 K.2.2.2.2.2.2.2.2.2.2.2.2.1 K.2.2.2.2.2.2.2.2.2.2.2.2.2.1 K.2.2.2.2.2.2.2.2.2.2.2.2.2.2 a cc nL own pc lv st w
section FR
variable {K : Cx} {a : Nat → Nat} {cc : ByteArray} {nL : Nat} {own : String} {pc : Nat} (pc' : Nat) {lv : List (Nat × Value)} {st : List Value} {w : va_W}

theorem x_iconst {n : Int} {v : Int32} (hd : decode cc pc = .ok (.iconst n, 1)) (hv : Int32.ofInt n = v) (kk : CW K a cc nL own pc' lv (.int v :: st) w) (hp : pc + 1 = pc' := by rfl) : CW K a cc nL own pc lv (st) w := by
  subst hp
  obtain ⟨p, l, e, R, s, m, args, below, meth, c, Q, A, D, kn, d⟩ := K
  intro ok H locs ls hP hD hS hl
  obtain ⟨hx, hb, hml, hown, hts, hK, hA, hR, hC, hlk⟩ := ok
  have ok : COk p R s m args meth c A D kn d a cc nL own := ⟨hx, hb, hml, hown, hts, hK, hA, hR, hC, hlk⟩
  exact lv_iconst hx hb hd hv (kk ok H locs ls hP hD hS hl)
theorem x_bipush {n : Int} {v : Int32} (hd : decode cc pc = .ok (.bipush n, 2)) (hv : (Int8.ofInt n).toInt32 = v) (kk : CW K a cc nL own pc' lv (.int v :: st) w) (hp : pc + 2 = pc' := by rfl) : CW K a cc nL own pc lv (st) w := by
  subst hp
  obtain ⟨p, l, e, R, s, m, args, below, meth, c, Q, A, D, kn, d⟩ := K
  intro ok H locs ls hP hD hS hl
  obtain ⟨hx, hb, hml, hown, hts, hK, hA, hR, hC, hlk⟩ := ok
  have ok : COk p R s m args meth c A D kn d a cc nL own := ⟨hx, hb, hml, hown, hts, hK, hA, hR, hC, hlk⟩
  exact lv_bipush hx hb hd hv (kk ok H locs ls hP hD hS hl)
theorem x_sipush {n : Int} {v : Int32} (hd : decode cc pc = .ok (.sipush n, 3)) (hv : (Int16.ofInt n).toInt32 = v) (kk : CW K a cc nL own pc' lv (.int v :: st) w) (hp : pc + 3 = pc' := by rfl) : CW K a cc nL own pc lv (st) w := by
  subst hp
  obtain ⟨p, l, e, R, s, m, args, below, meth, c, Q, A, D, kn, d⟩ := K
  intro ok H locs ls hP hD hS hl
  obtain ⟨hx, hb, hml, hown, hts, hK, hA, hR, hC, hlk⟩ := ok
  have ok : COk p R s m args meth c A D kn d a cc nL own := ⟨hx, hb, hml, hown, hts, hK, hA, hR, hC, hlk⟩
  exact lv_sipush hx hb hd hv (kk ok H locs ls hP hD hS hl)
theorem x_lconst {n : Fin 2} {v : Int64} (hd : decode cc pc = .ok (.lconst n, 1)) (hv : Int64.ofNat (n : Nat) = v) (kk : CW K a cc nL own pc' lv (.long v :: st) w) (hp : pc + 1 = pc' := by rfl) : CW K a cc nL own pc lv (st) w := by
  subst hp
  obtain ⟨p, l, e, R, s, m, args, below, meth, c, Q, A, D, kn, d⟩ := K
  intro ok H locs ls hP hD hS hl
  obtain ⟨hx, hb, hml, hown, hts, hK, hA, hR, hC, hlk⟩ := ok
  have ok : COk p R s m args meth c A D kn d a cc nL own := ⟨hx, hb, hml, hown, hts, hK, hA, hR, hC, hlk⟩
  exact lv_lconst hx hb hd hv (kk ok H locs ls hP hD hS hl)
theorem x_ldc {n : Nat} {v : Int32} (hd : decode cc pc = .ok (.ldc n, 2)) (hq : Cond.constant own n v ∈ lw_all) (kk : CW K a cc nL own pc' lv (.int v :: st) w) (hp : pc + 2 = pc' := by rfl) : CW K a cc nL own pc lv (st) w := by
  subst hp
  obtain ⟨p, l, e, R, s, m, args, below, meth, c, Q, A, D, kn, d⟩ := K
  intro ok H locs ls hP hD hS hl
  obtain ⟨hx, hb, hml, hown, hts, hK, hA, hR, hC, hlk⟩ := ok
  have ok : COk p R s m args meth c A D kn d a cc nL own := ⟨hx, hb, hml, hown, hts, hK, hA, hR, hC, hlk⟩
  exact lv_ldc hx hb hown (hts _ hq) hd (kk ok H locs ls hP hD hS hl)
theorem x_iload_n {k : Fin 4} {x : Int32} (j : Nat) (hd : decode cc pc = .ok (.iload_n k, 1)) (hk : lv[j]? = some ((k : Nat), .int x)) (kk : CW K a cc nL own pc' lv (.int x :: st) w) (hp : pc + 1 = pc' := by rfl) : CW K a cc nL own pc lv (st) w := by
  subst hp
  obtain ⟨p, l, e, R, s, m, args, below, meth, c, Q, A, D, kn, d⟩ := K
  intro ok H locs ls hP hD hS hl
  obtain ⟨hx, hb, hml, hown, hts, hK, hA, hR, hC, hlk⟩ := ok
  have ok : COk p R s m args meth c A D kn d a cc nL own := ⟨hx, hb, hml, hown, hts, hK, hA, hR, hC, hlk⟩
  exact lv_iload_n hx hb hd rfl (lv_at hl j hk) (kk ok H locs ls hP hD hS hl)
theorem x_iload {i : Nat} {x : Int32} (j : Nat) (hd : decode cc pc = .ok (.iload i, 2)) (hk : lv[j]? = some (i, .int x)) (kk : CW K a cc nL own pc' lv (.int x :: st) w) (hp : pc + 2 = pc' := by rfl) : CW K a cc nL own pc lv (st) w := by
  subst hp
  obtain ⟨p, l, e, R, s, m, args, below, meth, c, Q, A, D, kn, d⟩ := K
  intro ok H locs ls hP hD hS hl
  obtain ⟨hx, hb, hml, hown, hts, hK, hA, hR, hC, hlk⟩ := ok
  have ok : COk p R s m args meth c A D kn d a cc nL own := ⟨hx, hb, hml, hown, hts, hK, hA, hR, hC, hlk⟩
  exact lv_iload hx hb hd (lv_at hl j hk) (kk ok H locs ls hP hD hS hl)
theorem x_lload_n {k : Fin 4} {x : Int64} (j : Nat) (hd : decode cc pc = .ok (.lload_n k, 1)) (hk : lv[j]? = some ((k : Nat), .long x)) (kk : CW K a cc nL own pc' lv (.long x :: st) w) (hp : pc + 1 = pc' := by rfl) : CW K a cc nL own pc lv (st) w := by
  subst hp
  obtain ⟨p, l, e, R, s, m, args, below, meth, c, Q, A, D, kn, d⟩ := K
  intro ok H locs ls hP hD hS hl
  obtain ⟨hx, hb, hml, hown, hts, hK, hA, hR, hC, hlk⟩ := ok
  have ok : COk p R s m args meth c A D kn d a cc nL own := ⟨hx, hb, hml, hown, hts, hK, hA, hR, hC, hlk⟩
  exact lv_lload_n hx hb hd rfl (lv_at hl j hk) (kk ok H locs ls hP hD hS hl)
theorem x_lload {i : Nat} {x : Int64} (j : Nat) (hd : decode cc pc = .ok (.lload i, 2)) (hk : lv[j]? = some (i, .long x)) (kk : CW K a cc nL own pc' lv (.long x :: st) w) (hp : pc + 2 = pc' := by rfl) : CW K a cc nL own pc lv (st) w := by
  subst hp
  obtain ⟨p, l, e, R, s, m, args, below, meth, c, Q, A, D, kn, d⟩ := K
  intro ok H locs ls hP hD hS hl
  obtain ⟨hx, hb, hml, hown, hts, hK, hA, hR, hC, hlk⟩ := ok
  have ok : COk p R s m args meth c A D kn d a cc nL own := ⟨hx, hb, hml, hown, hts, hK, hA, hR, hC, hlk⟩
  exact lv_lload hx hb hd (lv_at hl j hk) (kk ok H locs ls hP hD hS hl)
theorem x_aload_n {k : Fin 4} {x : Nat} (j : Nat) (hd : decode cc pc = .ok (.aload_n k, 1)) (hk : lv[j]? = some ((k : Nat), .ref x)) (kk : CW K a cc nL own pc' lv (.ref x :: st) w) (hp : pc + 1 = pc' := by rfl) : CW K a cc nL own pc lv (st) w := by
  subst hp
  obtain ⟨p, l, e, R, s, m, args, below, meth, c, Q, A, D, kn, d⟩ := K
  intro ok H locs ls hP hD hS hl
  obtain ⟨hx, hb, hml, hown, hts, hK, hA, hR, hC, hlk⟩ := ok
  have ok : COk p R s m args meth c A D kn d a cc nL own := ⟨hx, hb, hml, hown, hts, hK, hA, hR, hC, hlk⟩
  exact lv_aload_n hx hb hd rfl (lv_at hl j hk) (kk ok H locs ls hP hD hS hl)
theorem x_istore_n {k : Fin 4} {x : Int32} {lv' : List (Nat × Value)} (hd : decode cc pc = .ok (.istore_n k, 1)) (hn : (k : Nat) < nL) (hlv : ((k : Nat), Value.int x) :: lv.filter (fun q => !(q.1 == (k : Nat)) && !(q.1 + 1 == (k : Nat) && q.2.category == 2)) = lv') (kk : CW K a cc nL own pc' lv' (st) w) (hp : pc + 1 = pc' := by rfl) : CW K a cc nL own pc lv (.int x :: st) w := by
  subst hp
  obtain ⟨p, l, e, R, s, m, args, below, meth, c, Q, A, D, kn, d⟩ := K
  intro ok H locs ls hP hD hS hl
  obtain ⟨hx, hb, hml, hown, hts, hK, hA, hR, hC, hlk⟩ := ok
  have ok : COk p R s m args meth c A D kn d a cc nL own := ⟨hx, hb, hml, hown, hts, hK, hA, hR, hC, hlk⟩
  exact lv_istore_n hx hb hd rfl hl hn hlv (fun ls hl => kk ok H locs ls hP hD hS hl)
theorem x_istore {i : Nat} {x : Int32} {lv' : List (Nat × Value)} (hd : decode cc pc = .ok (.istore i, 2)) (hn : i < nL) (hlv : (i, Value.int x) :: lv.filter (fun q => !(q.1 == i) && !(q.1 + 1 == i && q.2.category == 2)) = lv') (kk : CW K a cc nL own pc' lv' (st) w) (hp : pc + 2 = pc' := by rfl) : CW K a cc nL own pc lv (.int x :: st) w := by
  subst hp
  obtain ⟨p, l, e, R, s, m, args, below, meth, c, Q, A, D, kn, d⟩ := K
  intro ok H locs ls hP hD hS hl
  obtain ⟨hx, hb, hml, hown, hts, hK, hA, hR, hC, hlk⟩ := ok
  have ok : COk p R s m args meth c A D kn d a cc nL own := ⟨hx, hb, hml, hown, hts, hK, hA, hR, hC, hlk⟩
  exact lv_istore hx hb hd hl hn hlv (fun ls hl => kk ok H locs ls hP hD hS hl)
theorem x_lstore_n {k : Fin 4} {x : Int64} {lv' : List (Nat × Value)} (hd : decode cc pc = .ok (.lstore_n k, 1)) (hn : (k : Nat) + 1 < nL) (hlv : ((k : Nat), Value.long x) :: lv.filter (fun q => !(q.1 == (k : Nat)) && (!(q.1 == (k : Nat) + 1) && !(q.1 + 1 == (k : Nat) && q.2.category == 2))) = lv') (kk : CW K a cc nL own pc' lv' (st) w) (hp : pc + 1 = pc' := by rfl) : CW K a cc nL own pc lv (.long x :: st) w := by
  subst hp
  obtain ⟨p, l, e, R, s, m, args, below, meth, c, Q, A, D, kn, d⟩ := K
  intro ok H locs ls hP hD hS hl
  obtain ⟨hx, hb, hml, hown, hts, hK, hA, hR, hC, hlk⟩ := ok
  have ok : COk p R s m args meth c A D kn d a cc nL own := ⟨hx, hb, hml, hown, hts, hK, hA, hR, hC, hlk⟩
  exact lv_lstore_n hx hb hd rfl hl hn hlv (fun ls hl => kk ok H locs ls hP hD hS hl)
theorem x_lstore {i : Nat} {x : Int64} {lv' : List (Nat × Value)} (hd : decode cc pc = .ok (.lstore i, 2)) (hn : i + 1 < nL) (hlv : (i, Value.long x) :: lv.filter (fun q => !(q.1 == i) && (!(q.1 == i + 1) && !(q.1 + 1 == i && q.2.category == 2))) = lv') (kk : CW K a cc nL own pc' lv' (st) w) (hp : pc + 2 = pc' := by rfl) : CW K a cc nL own pc lv (.long x :: st) w := by
  subst hp
  obtain ⟨p, l, e, R, s, m, args, below, meth, c, Q, A, D, kn, d⟩ := K
  intro ok H locs ls hP hD hS hl
  obtain ⟨hx, hb, hml, hown, hts, hK, hA, hR, hC, hlk⟩ := ok
  have ok : COk p R s m args meth c A D kn d a cc nL own := ⟨hx, hb, hml, hown, hts, hK, hA, hR, hC, hlk⟩
  exact lv_lstore hx hb hd hl hn hlv (fun ls hl => kk ok H locs ls hP hD hS hl)
theorem x_iinc {i : Nat} {n : Int} {x v : Int32} {lv' : List (Nat × Value)} (j : Nat) (hd : decode cc pc = .ok (.iinc i n, 3)) (hk : lv[j]? = some (i, .int x)) (hv : x + Int32.ofInt n = v) (hn : i < nL) (hlv : (i, Value.int v) :: lv.filter (fun q => !(q.1 == i) && !(q.1 + 1 == i && q.2.category == 2)) = lv') (kk : CW K a cc nL own pc' lv' (st) w) (hp : pc + 3 = pc' := by rfl) : CW K a cc nL own pc lv (st) w := by
  subst hp
  obtain ⟨p, l, e, R, s, m, args, below, meth, c, Q, A, D, kn, d⟩ := K
  intro ok H locs ls hP hD hS hl
  obtain ⟨hx, hb, hml, hown, hts, hK, hA, hR, hC, hlk⟩ := ok
  have ok : COk p R s m args meth c A D kn d a cc nL own := ⟨hx, hb, hml, hown, hts, hK, hA, hR, hC, hlk⟩
  exact lv_iinc hx hb hd hl hk hv hn hlv (fun ls hl => kk ok H locs ls hP hD hS hl)
theorem x_iadd {x y v : Int32} (hd : decode cc pc = .ok (.iadd, 1)) (hv : x + y = v) (kk : CW K a cc nL own pc' lv (.int v :: st) w) (hp : pc + 1 = pc' := by rfl) : CW K a cc nL own pc lv (.int y :: .int x :: st) w := by
  subst hp
  obtain ⟨p, l, e, R, s, m, args, below, meth, c, Q, A, D, kn, d⟩ := K
  intro ok H locs ls hP hD hS hl
  obtain ⟨hx, hb, hml, hown, hts, hK, hA, hR, hC, hlk⟩ := ok
  have ok : COk p R s m args meth c A D kn d a cc nL own := ⟨hx, hb, hml, hown, hts, hK, hA, hR, hC, hlk⟩
  subst hv; exact lv_iadd hx hb hd (kk ok H locs ls hP hD hS hl)
theorem x_isub {x y v : Int32} (hd : decode cc pc = .ok (.isub, 1)) (hv : x - y = v) (kk : CW K a cc nL own pc' lv (.int v :: st) w) (hp : pc + 1 = pc' := by rfl) : CW K a cc nL own pc lv (.int y :: .int x :: st) w := by
  subst hp
  obtain ⟨p, l, e, R, s, m, args, below, meth, c, Q, A, D, kn, d⟩ := K
  intro ok H locs ls hP hD hS hl
  obtain ⟨hx, hb, hml, hown, hts, hK, hA, hR, hC, hlk⟩ := ok
  have ok : COk p R s m args meth c A D kn d a cc nL own := ⟨hx, hb, hml, hown, hts, hK, hA, hR, hC, hlk⟩
  subst hv; exact lv_isub hx hb hd (kk ok H locs ls hP hD hS hl)
theorem x_imul {x y v : Int32} (hd : decode cc pc = .ok (.imul, 1)) (hv : x * y = v) (kk : CW K a cc nL own pc' lv (.int v :: st) w) (hp : pc + 1 = pc' := by rfl) : CW K a cc nL own pc lv (.int y :: .int x :: st) w := by
  subst hp
  obtain ⟨p, l, e, R, s, m, args, below, meth, c, Q, A, D, kn, d⟩ := K
  intro ok H locs ls hP hD hS hl
  obtain ⟨hx, hb, hml, hown, hts, hK, hA, hR, hC, hlk⟩ := ok
  have ok : COk p R s m args meth c A D kn d a cc nL own := ⟨hx, hb, hml, hown, hts, hK, hA, hR, hC, hlk⟩
  subst hv; exact lv_imul hx hb hd (kk ok H locs ls hP hD hS hl)
theorem x_iand {x y v : Int32} (hd : decode cc pc = .ok (.iand, 1)) (hv : x &&& y = v) (kk : CW K a cc nL own pc' lv (.int v :: st) w) (hp : pc + 1 = pc' := by rfl) : CW K a cc nL own pc lv (.int y :: .int x :: st) w := by
  subst hp
  obtain ⟨p, l, e, R, s, m, args, below, meth, c, Q, A, D, kn, d⟩ := K
  intro ok H locs ls hP hD hS hl
  obtain ⟨hx, hb, hml, hown, hts, hK, hA, hR, hC, hlk⟩ := ok
  have ok : COk p R s m args meth c A D kn d a cc nL own := ⟨hx, hb, hml, hown, hts, hK, hA, hR, hC, hlk⟩
  subst hv; exact lv_iand hx hb hd (kk ok H locs ls hP hD hS hl)
theorem x_ior {x y v : Int32} (hd : decode cc pc = .ok (.ior, 1)) (hv : x ||| y = v) (kk : CW K a cc nL own pc' lv (.int v :: st) w) (hp : pc + 1 = pc' := by rfl) : CW K a cc nL own pc lv (.int y :: .int x :: st) w := by
  subst hp
  obtain ⟨p, l, e, R, s, m, args, below, meth, c, Q, A, D, kn, d⟩ := K
  intro ok H locs ls hP hD hS hl
  obtain ⟨hx, hb, hml, hown, hts, hK, hA, hR, hC, hlk⟩ := ok
  have ok : COk p R s m args meth c A D kn d a cc nL own := ⟨hx, hb, hml, hown, hts, hK, hA, hR, hC, hlk⟩
  subst hv; exact lv_ior hx hb hd (kk ok H locs ls hP hD hS hl)
theorem x_ixor {x y v : Int32} (hd : decode cc pc = .ok (.ixor, 1)) (hv : x ^^^ y = v) (kk : CW K a cc nL own pc' lv (.int v :: st) w) (hp : pc + 1 = pc' := by rfl) : CW K a cc nL own pc lv (.int y :: .int x :: st) w := by
  subst hp
  obtain ⟨p, l, e, R, s, m, args, below, meth, c, Q, A, D, kn, d⟩ := K
  intro ok H locs ls hP hD hS hl
  obtain ⟨hx, hb, hml, hown, hts, hK, hA, hR, hC, hlk⟩ := ok
  have ok : COk p R s m args meth c A D kn d a cc nL own := ⟨hx, hb, hml, hown, hts, hK, hA, hR, hC, hlk⟩
  subst hv; exact lv_ixor hx hb hd (kk ok H locs ls hP hD hS hl)
theorem x_ishl {x y v : Int32} (hd : decode cc pc = .ok (.ishl, 1)) (hv : x <<< (y &&& 31) = v) (kk : CW K a cc nL own pc' lv (.int v :: st) w) (hp : pc + 1 = pc' := by rfl) : CW K a cc nL own pc lv (.int y :: .int x :: st) w := by
  subst hp
  obtain ⟨p, l, e, R, s, m, args, below, meth, c, Q, A, D, kn, d⟩ := K
  intro ok H locs ls hP hD hS hl
  obtain ⟨hx, hb, hml, hown, hts, hK, hA, hR, hC, hlk⟩ := ok
  have ok : COk p R s m args meth c A D kn d a cc nL own := ⟨hx, hb, hml, hown, hts, hK, hA, hR, hC, hlk⟩
  subst hv; exact lv_ishl hx hb hd (kk ok H locs ls hP hD hS hl)
theorem x_ishr {x y v : Int32} (hd : decode cc pc = .ok (.ishr, 1)) (hv : x >>> (y &&& 31) = v) (kk : CW K a cc nL own pc' lv (.int v :: st) w) (hp : pc + 1 = pc' := by rfl) : CW K a cc nL own pc lv (.int y :: .int x :: st) w := by
  subst hp
  obtain ⟨p, l, e, R, s, m, args, below, meth, c, Q, A, D, kn, d⟩ := K
  intro ok H locs ls hP hD hS hl
  obtain ⟨hx, hb, hml, hown, hts, hK, hA, hR, hC, hlk⟩ := ok
  have ok : COk p R s m args meth c A D kn d a cc nL own := ⟨hx, hb, hml, hown, hts, hK, hA, hR, hC, hlk⟩
  subst hv; exact lv_ishr hx hb hd (kk ok H locs ls hP hD hS hl)
theorem x_idiv {x y v : Int32} (hd : decode cc pc = .ok (.idiv, 1)) (hne : ¬ y = 0) (hv : x / y = v) (kk : CW K a cc nL own pc' lv (.int v :: st) w) (hp : pc + 1 = pc' := by rfl) : CW K a cc nL own pc lv (.int y :: .int x :: st) w := by
  subst hp
  obtain ⟨p, l, e, R, s, m, args, below, meth, c, Q, A, D, kn, d⟩ := K
  intro ok H locs ls hP hD hS hl
  obtain ⟨hx, hb, hml, hown, hts, hK, hA, hR, hC, hlk⟩ := ok
  have ok : COk p R s m args meth c A D kn d a cc nL own := ⟨hx, hb, hml, hown, hts, hK, hA, hR, hC, hlk⟩
  subst hv; exact lv_idiv hx hb hd hne (kk ok H locs ls hP hD hS hl)
theorem x_iushr {x y v : Int32} (hd : decode cc pc = .ok (.iushr, 1)) (hv : (x.toUInt32 >>> (y.toUInt32 &&& Int32.toUInt32 31)).toInt32 = v) (kk : CW K a cc nL own pc' lv (.int v :: st) w) (hp : pc + 1 = pc' := by rfl) : CW K a cc nL own pc lv (.int y :: .int x :: st) w := by
  subst hp
  obtain ⟨p, l, e, R, s, m, args, below, meth, c, Q, A, D, kn, d⟩ := K
  intro ok H locs ls hP hD hS hl
  obtain ⟨hx, hb, hml, hown, hts, hK, hA, hR, hC, hlk⟩ := ok
  have ok : COk p R s m args meth c A D kn d a cc nL own := ⟨hx, hb, hml, hown, hts, hK, hA, hR, hC, hlk⟩
  exact lv_iushr hx hb hd hv (kk ok H locs ls hP hD hS hl)
theorem x_ladd {x y v : Int64} (hd : decode cc pc = .ok (.ladd, 1)) (hv : x + y = v) (kk : CW K a cc nL own pc' lv (.long v :: st) w) (hp : pc + 1 = pc' := by rfl) : CW K a cc nL own pc lv (.long y :: .long x :: st) w := by
  subst hp
  obtain ⟨p, l, e, R, s, m, args, below, meth, c, Q, A, D, kn, d⟩ := K
  intro ok H locs ls hP hD hS hl
  obtain ⟨hx, hb, hml, hown, hts, hK, hA, hR, hC, hlk⟩ := ok
  have ok : COk p R s m args meth c A D kn d a cc nL own := ⟨hx, hb, hml, hown, hts, hK, hA, hR, hC, hlk⟩
  subst hv; exact lv_ladd hx hb hd (kk ok H locs ls hP hD hS hl)
theorem x_lmul {x y v : Int64} (hd : decode cc pc = .ok (.lmul, 1)) (hv : x * y = v) (kk : CW K a cc nL own pc' lv (.long v :: st) w) (hp : pc + 1 = pc' := by rfl) : CW K a cc nL own pc lv (.long y :: .long x :: st) w := by
  subst hp
  obtain ⟨p, l, e, R, s, m, args, below, meth, c, Q, A, D, kn, d⟩ := K
  intro ok H locs ls hP hD hS hl
  obtain ⟨hx, hb, hml, hown, hts, hK, hA, hR, hC, hlk⟩ := ok
  have ok : COk p R s m args meth c A D kn d a cc nL own := ⟨hx, hb, hml, hown, hts, hK, hA, hR, hC, hlk⟩
  subst hv; exact lv_lmul hx hb hd (kk ok H locs ls hP hD hS hl)
theorem x_i2l {x : Int32} {v : Int64} (hd : decode cc pc = .ok (.i2l, 1)) (hv : x.toInt64 = v) (kk : CW K a cc nL own pc' lv (.long v :: st) w) (hp : pc + 1 = pc' := by rfl) : CW K a cc nL own pc lv (.int x :: st) w := by
  subst hp
  obtain ⟨p, l, e, R, s, m, args, below, meth, c, Q, A, D, kn, d⟩ := K
  intro ok H locs ls hP hD hS hl
  obtain ⟨hx, hb, hml, hown, hts, hK, hA, hR, hC, hlk⟩ := ok
  have ok : COk p R s m args meth c A D kn d a cc nL own := ⟨hx, hb, hml, hown, hts, hK, hA, hR, hC, hlk⟩
  exact lv_i2l hx hb hd hv (kk ok H locs ls hP hD hS hl)
theorem x_dup {x : Value} (hd : decode cc pc = .ok (.dup, 1)) (hc : x.category = 1) (kk : CW K a cc nL own pc' lv (x :: x :: st) w) (hp : pc + 1 = pc' := by rfl) : CW K a cc nL own pc lv (x :: st) w := by
  subst hp
  obtain ⟨p, l, e, R, s, m, args, below, meth, c, Q, A, D, kn, d⟩ := K
  intro ok H locs ls hP hD hS hl
  obtain ⟨hx, hb, hml, hown, hts, hK, hA, hR, hC, hlk⟩ := ok
  have ok : COk p R s m args meth c A D kn d a cc nL own := ⟨hx, hb, hml, hown, hts, hK, hA, hR, hC, hlk⟩
  exact lv_dup hx hb hd hc (kk ok H locs ls hP hD hS hl)
theorem x_dup2 {x y : Value} (hd : decode cc pc = .ok (.dup2, 1)) (hc : x.category = 1) (hc2 : y.category = 1) (kk : CW K a cc nL own pc' lv (x :: y :: x :: y :: st) w) (hp : pc + 1 = pc' := by rfl) : CW K a cc nL own pc lv (x :: y :: st) w := by
  subst hp
  obtain ⟨p, l, e, R, s, m, args, below, meth, c, Q, A, D, kn, d⟩ := K
  intro ok H locs ls hP hD hS hl
  obtain ⟨hx, hb, hml, hown, hts, hK, hA, hR, hC, hlk⟩ := ok
  have ok : COk p R s m args meth c A D kn d a cc nL own := ⟨hx, hb, hml, hown, hts, hK, hA, hR, hC, hlk⟩
  exact lv_dup2_11 hx hb hd hc hc2 (kk ok H locs ls hP hD hS hl)
theorem x_lcmp {x y : Int64} (hd : decode cc pc = .ok (.lcmp, 1)) (kk : CW K a cc nL own pc' lv (.int (lg_cmp x y) :: st) w) (hp : pc + 1 = pc' := by rfl) : CW K a cc nL own pc lv (.long y :: .long x :: st) w := by
  subst hp
  obtain ⟨p, l, e, R, s, m, args, below, meth, c, Q, A, D, kn, d⟩ := K
  intro ok H locs ls hP hD hS hl
  obtain ⟨hx, hb, hml, hown, hts, hK, hA, hR, hC, hlk⟩ := ok
  have ok : COk p R s m args meth c A D kn d a cc nL own := ⟨hx, hb, hml, hown, hts, hK, hA, hR, hC, hlk⟩
  exact W.lcmp hx hb hd (kk ok H locs ls hP hD hS hl)
theorem x_goto (tgt : Nat) {off : Int} (hd : decode cc pc = .ok (.goto off, 3)) (ht : (pc : Int) + off = (tgt : Int)) (kk : CW K a cc nL own tgt lv (st) w) : CW K a cc nL own pc lv (st) w := by
  obtain ⟨p, l, e, R, s, m, args, below, meth, c, Q, A, D, kn, d⟩ := K
  intro ok H locs ls hP hD hS hl
  obtain ⟨hx, hb, hml, hown, hts, hK, hA, hR, hC, hlk⟩ := ok
  have ok : COk p R s m args meth c A D kn d a cc nL own := ⟨hx, hb, hml, hown, hts, hK, hA, hR, hC, hlk⟩
  exact lv_goto hx hb hd ht (kk ok H locs ls hP hD hS hl)
theorem x_if_eq (tgt : Nat) {x : Int32} {off : Int} (hd : decode cc pc = .ok (.ifCond .eq off, 3)) (ht : (pc : Int) + off = (tgt : Int)) (kt : x = 0 → CW K a cc nL own tgt lv (st) w) (kf : ¬ x = 0 → CW K a cc nL own pc' lv (st) w) (hp : pc + 3 = pc' := by rfl) : CW K a cc nL own pc lv (.int x :: st) w := by
  subst hp
  obtain ⟨p, l, e, R, s, m, args, below, meth, c, Q, A, D, kn, d⟩ := K
  intro ok H locs ls hP hD hS hl
  obtain ⟨hx, hb, hml, hown, hts, hK, hA, hR, hC, hlk⟩ := ok
  have ok : COk p R s m args meth c A D kn d a cc nL own := ⟨hx, hb, hml, hown, hts, hK, hA, hR, hC, hlk⟩
  exact lv_if_eq hx hb hd ht (fun h => kt h ok H locs ls hP hD hS hl) (fun h => kf h ok H locs ls hP hD hS hl)
theorem x_icmp_eq (tgt : Nat) {x y : Int32} {off : Int} (hd : decode cc pc = .ok (.if_icmp .eq off, 3)) (ht : (pc : Int) + off = (tgt : Int)) (kt : x = y → CW K a cc nL own tgt lv (st) w) (kf : ¬ x = y → CW K a cc nL own pc' lv (st) w) (hp : pc + 3 = pc' := by rfl) : CW K a cc nL own pc lv (.int y :: .int x :: st) w := by
  subst hp
  obtain ⟨p, l, e, R, s, m, args, below, meth, c, Q, A, D, kn, d⟩ := K
  intro ok H locs ls hP hD hS hl
  obtain ⟨hx, hb, hml, hown, hts, hK, hA, hR, hC, hlk⟩ := ok
  have ok : COk p R s m args meth c A D kn d a cc nL own := ⟨hx, hb, hml, hown, hts, hK, hA, hR, hC, hlk⟩
  exact lv_icmp_eq hx hb hd ht (fun h => kt h ok H locs ls hP hD hS hl) (fun h => kf h ok H locs ls hP hD hS hl)
theorem x_if_ne (tgt : Nat) {x : Int32} {off : Int} (hd : decode cc pc = .ok (.ifCond .ne off, 3)) (ht : (pc : Int) + off = (tgt : Int)) (kt : ¬ x = 0 → CW K a cc nL own tgt lv (st) w) (kf : x = 0 → CW K a cc nL own pc' lv (st) w) (hp : pc + 3 = pc' := by rfl) : CW K a cc nL own pc lv (.int x :: st) w := by
  subst hp
  obtain ⟨p, l, e, R, s, m, args, below, meth, c, Q, A, D, kn, d⟩ := K
  intro ok H locs ls hP hD hS hl
  obtain ⟨hx, hb, hml, hown, hts, hK, hA, hR, hC, hlk⟩ := ok
  have ok : COk p R s m args meth c A D kn d a cc nL own := ⟨hx, hb, hml, hown, hts, hK, hA, hR, hC, hlk⟩
  exact lv_if_ne hx hb hd ht (fun h => kt h ok H locs ls hP hD hS hl) (fun h => kf h ok H locs ls hP hD hS hl)
theorem x_icmp_ne (tgt : Nat) {x y : Int32} {off : Int} (hd : decode cc pc = .ok (.if_icmp .ne off, 3)) (ht : (pc : Int) + off = (tgt : Int)) (kt : ¬ x = y → CW K a cc nL own tgt lv (st) w) (kf : x = y → CW K a cc nL own pc' lv (st) w) (hp : pc + 3 = pc' := by rfl) : CW K a cc nL own pc lv (.int y :: .int x :: st) w := by
  subst hp
  obtain ⟨p, l, e, R, s, m, args, below, meth, c, Q, A, D, kn, d⟩ := K
  intro ok H locs ls hP hD hS hl
  obtain ⟨hx, hb, hml, hown, hts, hK, hA, hR, hC, hlk⟩ := ok
  have ok : COk p R s m args meth c A D kn d a cc nL own := ⟨hx, hb, hml, hown, hts, hK, hA, hR, hC, hlk⟩
  exact lv_icmp_ne hx hb hd ht (fun h => kt h ok H locs ls hP hD hS hl) (fun h => kf h ok H locs ls hP hD hS hl)
theorem x_if_lt (tgt : Nat) {x : Int32} {off : Int} (hd : decode cc pc = .ok (.ifCond .lt off, 3)) (ht : (pc : Int) + off = (tgt : Int)) (kt : x < 0 → CW K a cc nL own tgt lv (st) w) (kf : ¬ x < 0 → CW K a cc nL own pc' lv (st) w) (hp : pc + 3 = pc' := by rfl) : CW K a cc nL own pc lv (.int x :: st) w := by
  subst hp
  obtain ⟨p, l, e, R, s, m, args, below, meth, c, Q, A, D, kn, d⟩ := K
  intro ok H locs ls hP hD hS hl
  obtain ⟨hx, hb, hml, hown, hts, hK, hA, hR, hC, hlk⟩ := ok
  have ok : COk p R s m args meth c A D kn d a cc nL own := ⟨hx, hb, hml, hown, hts, hK, hA, hR, hC, hlk⟩
  exact lv_if_lt hx hb hd ht (fun h => kt h ok H locs ls hP hD hS hl) (fun h => kf h ok H locs ls hP hD hS hl)
theorem x_icmp_lt (tgt : Nat) {x y : Int32} {off : Int} (hd : decode cc pc = .ok (.if_icmp .lt off, 3)) (ht : (pc : Int) + off = (tgt : Int)) (kt : x < y → CW K a cc nL own tgt lv (st) w) (kf : ¬ x < y → CW K a cc nL own pc' lv (st) w) (hp : pc + 3 = pc' := by rfl) : CW K a cc nL own pc lv (.int y :: .int x :: st) w := by
  subst hp
  obtain ⟨p, l, e, R, s, m, args, below, meth, c, Q, A, D, kn, d⟩ := K
  intro ok H locs ls hP hD hS hl
  obtain ⟨hx, hb, hml, hown, hts, hK, hA, hR, hC, hlk⟩ := ok
  have ok : COk p R s m args meth c A D kn d a cc nL own := ⟨hx, hb, hml, hown, hts, hK, hA, hR, hC, hlk⟩
  exact lv_icmp_lt hx hb hd ht (fun h => kt h ok H locs ls hP hD hS hl) (fun h => kf h ok H locs ls hP hD hS hl)
theorem x_if_ge (tgt : Nat) {x : Int32} {off : Int} (hd : decode cc pc = .ok (.ifCond .ge off, 3)) (ht : (pc : Int) + off = (tgt : Int)) (kt : 0 ≤ x → CW K a cc nL own tgt lv (st) w) (kf : ¬ 0 ≤ x → CW K a cc nL own pc' lv (st) w) (hp : pc + 3 = pc' := by rfl) : CW K a cc nL own pc lv (.int x :: st) w := by
  subst hp
  obtain ⟨p, l, e, R, s, m, args, below, meth, c, Q, A, D, kn, d⟩ := K
  intro ok H locs ls hP hD hS hl
  obtain ⟨hx, hb, hml, hown, hts, hK, hA, hR, hC, hlk⟩ := ok
  have ok : COk p R s m args meth c A D kn d a cc nL own := ⟨hx, hb, hml, hown, hts, hK, hA, hR, hC, hlk⟩
  exact lv_if_ge hx hb hd ht (fun h => kt h ok H locs ls hP hD hS hl) (fun h => kf h ok H locs ls hP hD hS hl)
theorem x_icmp_ge (tgt : Nat) {x y : Int32} {off : Int} (hd : decode cc pc = .ok (.if_icmp .ge off, 3)) (ht : (pc : Int) + off = (tgt : Int)) (kt : y ≤ x → CW K a cc nL own tgt lv (st) w) (kf : ¬ y ≤ x → CW K a cc nL own pc' lv (st) w) (hp : pc + 3 = pc' := by rfl) : CW K a cc nL own pc lv (.int y :: .int x :: st) w := by
  subst hp
  obtain ⟨p, l, e, R, s, m, args, below, meth, c, Q, A, D, kn, d⟩ := K
  intro ok H locs ls hP hD hS hl
  obtain ⟨hx, hb, hml, hown, hts, hK, hA, hR, hC, hlk⟩ := ok
  have ok : COk p R s m args meth c A D kn d a cc nL own := ⟨hx, hb, hml, hown, hts, hK, hA, hR, hC, hlk⟩
  exact lv_icmp_ge hx hb hd ht (fun h => kt h ok H locs ls hP hD hS hl) (fun h => kf h ok H locs ls hP hD hS hl)
theorem x_if_gt (tgt : Nat) {x : Int32} {off : Int} (hd : decode cc pc = .ok (.ifCond .gt off, 3)) (ht : (pc : Int) + off = (tgt : Int)) (kt : 0 < x → CW K a cc nL own tgt lv (st) w) (kf : ¬ 0 < x → CW K a cc nL own pc' lv (st) w) (hp : pc + 3 = pc' := by rfl) : CW K a cc nL own pc lv (.int x :: st) w := by
  subst hp
  obtain ⟨p, l, e, R, s, m, args, below, meth, c, Q, A, D, kn, d⟩ := K
  intro ok H locs ls hP hD hS hl
  obtain ⟨hx, hb, hml, hown, hts, hK, hA, hR, hC, hlk⟩ := ok
  have ok : COk p R s m args meth c A D kn d a cc nL own := ⟨hx, hb, hml, hown, hts, hK, hA, hR, hC, hlk⟩
  exact lv_if_gt hx hb hd ht (fun h => kt h ok H locs ls hP hD hS hl) (fun h => kf h ok H locs ls hP hD hS hl)
theorem x_icmp_gt (tgt : Nat) {x y : Int32} {off : Int} (hd : decode cc pc = .ok (.if_icmp .gt off, 3)) (ht : (pc : Int) + off = (tgt : Int)) (kt : y < x → CW K a cc nL own tgt lv (st) w) (kf : ¬ y < x → CW K a cc nL own pc' lv (st) w) (hp : pc + 3 = pc' := by rfl) : CW K a cc nL own pc lv (.int y :: .int x :: st) w := by
  subst hp
  obtain ⟨p, l, e, R, s, m, args, below, meth, c, Q, A, D, kn, d⟩ := K
  intro ok H locs ls hP hD hS hl
  obtain ⟨hx, hb, hml, hown, hts, hK, hA, hR, hC, hlk⟩ := ok
  have ok : COk p R s m args meth c A D kn d a cc nL own := ⟨hx, hb, hml, hown, hts, hK, hA, hR, hC, hlk⟩
  exact lv_icmp_gt hx hb hd ht (fun h => kt h ok H locs ls hP hD hS hl) (fun h => kf h ok H locs ls hP hD hS hl)
theorem x_if_le (tgt : Nat) {x : Int32} {off : Int} (hd : decode cc pc = .ok (.ifCond .le off, 3)) (ht : (pc : Int) + off = (tgt : Int)) (kt : x ≤ 0 → CW K a cc nL own tgt lv (st) w) (kf : ¬ x ≤ 0 → CW K a cc nL own pc' lv (st) w) (hp : pc + 3 = pc' := by rfl) : CW K a cc nL own pc lv (.int x :: st) w := by
  subst hp
  obtain ⟨p, l, e, R, s, m, args, below, meth, c, Q, A, D, kn, d⟩ := K
  intro ok H locs ls hP hD hS hl
  obtain ⟨hx, hb, hml, hown, hts, hK, hA, hR, hC, hlk⟩ := ok
  have ok : COk p R s m args meth c A D kn d a cc nL own := ⟨hx, hb, hml, hown, hts, hK, hA, hR, hC, hlk⟩
  exact lv_if_le hx hb hd ht (fun h => kt h ok H locs ls hP hD hS hl) (fun h => kf h ok H locs ls hP hD hS hl)
theorem x_icmp_le (tgt : Nat) {x y : Int32} {off : Int} (hd : decode cc pc = .ok (.if_icmp .le off, 3)) (ht : (pc : Int) + off = (tgt : Int)) (kt : x ≤ y → CW K a cc nL own tgt lv (st) w) (kf : ¬ x ≤ y → CW K a cc nL own pc' lv (st) w) (hp : pc + 3 = pc' := by rfl) : CW K a cc nL own pc lv (.int y :: .int x :: st) w := by
  subst hp
  obtain ⟨p, l, e, R, s, m, args, below, meth, c, Q, A, D, kn, d⟩ := K
  intro ok H locs ls hP hD hS hl
  obtain ⟨hx, hb, hml, hown, hts, hK, hA, hR, hC, hlk⟩ := ok
  have ok : COk p R s m args meth c A D kn d a cc nL own := ⟨hx, hb, hml, hown, hts, hK, hA, hR, hC, hlk⟩
  exact lv_icmp_le hx hb hd ht (fun h => kt h ok H locs ls hP hD hS hl) (fun h => kf h ok H locs ls hP hD hS hl)
theorem n_icmp_eq (tgt : Nat) {i j : Nat} {off : Int} (hd : decode cc pc = .ok (.if_icmp .eq off, 3)) (ht : (pc : Int) + off = (tgt : Int)) (hi : i < 2147483648) (hj : j < 2147483648) (kt : i = j → CW K a cc nL own tgt lv (st) w) (kf : ¬ i = j → CW K a cc nL own pc' lv (st) w) (hp : pc + 3 = pc' := by rfl) : CW K a cc nL own pc lv (.int (nI j) :: .int (nI i) :: st) w := by
  have q := nI_eq hi hj
  exact x_icmp_eq pc' tgt hd ht (fun h => kt (q.mp h)) (fun h => kf (fun z => h (q.mpr z))) hp
theorem n_icmp_ne (tgt : Nat) {i j : Nat} {off : Int} (hd : decode cc pc = .ok (.if_icmp .ne off, 3)) (ht : (pc : Int) + off = (tgt : Int)) (hi : i < 2147483648) (hj : j < 2147483648) (kt : ¬ i = j → CW K a cc nL own tgt lv (st) w) (kf : i = j → CW K a cc nL own pc' lv (st) w) (hp : pc + 3 = pc' := by rfl) : CW K a cc nL own pc lv (.int (nI j) :: .int (nI i) :: st) w := by
  have q := nI_eq hi hj
  exact x_icmp_ne pc' tgt hd ht (fun h => kt (fun z => h (q.mpr z))) (fun h => kf (q.mp h)) hp
theorem n_icmp_lt (tgt : Nat) {i j : Nat} {off : Int} (hd : decode cc pc = .ok (.if_icmp .lt off, 3)) (ht : (pc : Int) + off = (tgt : Int)) (hi : i < 2147483648) (hj : j < 2147483648) (kt : i < j → CW K a cc nL own tgt lv (st) w) (kf : j ≤ i → CW K a cc nL own pc' lv (st) w) (hp : pc + 3 = pc' := by rfl) : CW K a cc nL own pc lv (.int (nI j) :: .int (nI i) :: st) w := by
  have q := nI_ltI hi hj
  exact x_icmp_lt pc' tgt hd ht (fun h => kt (q.mp h)) (fun h => kf (by have z : ¬ (i < j) := fun z => h (q.mpr z); omega)) hp
theorem n_icmp_ge (tgt : Nat) {i j : Nat} {off : Int} (hd : decode cc pc = .ok (.if_icmp .ge off, 3)) (ht : (pc : Int) + off = (tgt : Int)) (hi : i < 2147483648) (hj : j < 2147483648) (kt : j ≤ i → CW K a cc nL own tgt lv (st) w) (kf : i < j → CW K a cc nL own pc' lv (st) w) (hp : pc + 3 = pc' := by rfl) : CW K a cc nL own pc lv (.int (nI j) :: .int (nI i) :: st) w := by
  have q := nI_leI hj hi
  exact x_icmp_ge pc' tgt hd ht (fun h => kt (q.mp h)) (fun h => kf (by have z : ¬ (j ≤ i) := fun z => h (q.mpr z); omega)) hp
theorem n_icmp_gt (tgt : Nat) {i j : Nat} {off : Int} (hd : decode cc pc = .ok (.if_icmp .gt off, 3)) (ht : (pc : Int) + off = (tgt : Int)) (hi : i < 2147483648) (hj : j < 2147483648) (kt : j < i → CW K a cc nL own tgt lv (st) w) (kf : i ≤ j → CW K a cc nL own pc' lv (st) w) (hp : pc + 3 = pc' := by rfl) : CW K a cc nL own pc lv (.int (nI j) :: .int (nI i) :: st) w := by
  have q := nI_ltI hj hi
  exact x_icmp_gt pc' tgt hd ht (fun h => kt (q.mp h)) (fun h => kf (by have z : ¬ (j < i) := fun z => h (q.mpr z); omega)) hp
theorem n_icmp_le (tgt : Nat) {i j : Nat} {off : Int} (hd : decode cc pc = .ok (.if_icmp .le off, 3)) (ht : (pc : Int) + off = (tgt : Int)) (hi : i < 2147483648) (hj : j < 2147483648) (kt : i ≤ j → CW K a cc nL own tgt lv (st) w) (kf : j < i → CW K a cc nL own pc' lv (st) w) (hp : pc + 3 = pc' := by rfl) : CW K a cc nL own pc lv (.int (nI j) :: .int (nI i) :: st) w := by
  have q := nI_leI hi hj
  exact x_icmp_le pc' tgt hd ht (fun h => kt (q.mp h)) (fun h => kf (by have z : ¬ (i ≤ j) := fun z => h (q.mpr z); omega)) hp
theorem n_if_eq (tgt : Nat) {i : Nat} {off : Int} (hd : decode cc pc = .ok (.ifCond .eq off, 3)) (ht : (pc : Int) + off = (tgt : Int)) (hi : i < 2147483648) (kt : i = 0 → CW K a cc nL own tgt lv (st) w) (kf : 0 < i → CW K a cc nL own pc' lv (st) w) (hp : pc + 3 = pc' := by rfl) : CW K a cc nL own pc lv (.int (nI i) :: st) w := by
  have q : nI i = 0 ↔ i = 0 := nI_eq hi (by decide)
  exact x_if_eq pc' tgt hd ht (fun h => kt (q.mp h)) (fun h => kf (by have z : ¬ (i = 0) := fun z => h (q.mpr z); omega)) hp
theorem n_if_ne (tgt : Nat) {i : Nat} {off : Int} (hd : decode cc pc = .ok (.ifCond .ne off, 3)) (ht : (pc : Int) + off = (tgt : Int)) (hi : i < 2147483648) (kt : 0 < i → CW K a cc nL own tgt lv (st) w) (kf : i = 0 → CW K a cc nL own pc' lv (st) w) (hp : pc + 3 = pc' := by rfl) : CW K a cc nL own pc lv (.int (nI i) :: st) w := by
  have q : nI i = 0 ↔ i = 0 := nI_eq hi (by decide)
  exact x_if_ne pc' tgt hd ht (fun h => kt (by have z : ¬ (i = 0) := fun z => h (q.mpr z); omega)) (fun h => kf (q.mp h)) hp
theorem t_if_eq (tgt : Nat) {x : Int32} {off : Int} (hd : decode cc pc = .ok (.ifCond .eq off, 3)) (ht : (pc : Int) + off = (tgt : Int)) (h : x = 0) (kt : CW K a cc nL own tgt lv (st) w) : CW K a cc nL own pc lv (.int x :: st) w := x_if_eq (pc + 3) tgt hd ht (fun _ => kt) (fun z => absurd h (by first | exact z | exact fun q => q z)) rfl
theorem f_if_eq {x : Int32} {off : Int} (tgt : Nat) (hd : decode cc pc = .ok (.ifCond .eq off, 3)) (ht : (pc : Int) + off = (tgt : Int)) (h : ¬ x = 0) (kf : CW K a cc nL own pc' lv (st) w) (hp : pc + 3 = pc' := by rfl) : CW K a cc nL own pc lv (.int x :: st) w := x_if_eq pc' tgt hd ht (fun z => absurd z (by first | exact h | exact fun q => q h)) (fun _ => kf) hp
theorem t_icmp_eq (tgt : Nat) {x y : Int32} {off : Int} (hd : decode cc pc = .ok (.if_icmp .eq off, 3)) (ht : (pc : Int) + off = (tgt : Int)) (h : x = y) (kt : CW K a cc nL own tgt lv (st) w) : CW K a cc nL own pc lv (.int y :: .int x :: st) w := x_icmp_eq (pc + 3) tgt hd ht (fun _ => kt) (fun z => absurd h (by first | exact z | exact fun q => q z)) rfl
theorem f_icmp_eq {x y : Int32} {off : Int} (tgt : Nat) (hd : decode cc pc = .ok (.if_icmp .eq off, 3)) (ht : (pc : Int) + off = (tgt : Int)) (h : ¬ x = y) (kf : CW K a cc nL own pc' lv (st) w) (hp : pc + 3 = pc' := by rfl) : CW K a cc nL own pc lv (.int y :: .int x :: st) w := x_icmp_eq pc' tgt hd ht (fun z => absurd z (by first | exact h | exact fun q => q h)) (fun _ => kf) hp
theorem t_if_ne (tgt : Nat) {x : Int32} {off : Int} (hd : decode cc pc = .ok (.ifCond .ne off, 3)) (ht : (pc : Int) + off = (tgt : Int)) (h : ¬ x = 0) (kt : CW K a cc nL own tgt lv (st) w) : CW K a cc nL own pc lv (.int x :: st) w := x_if_ne (pc + 3) tgt hd ht (fun _ => kt) (fun z => absurd h (by first | exact z | exact fun q => q z)) rfl
theorem f_if_ne {x : Int32} {off : Int} (tgt : Nat) (hd : decode cc pc = .ok (.ifCond .ne off, 3)) (ht : (pc : Int) + off = (tgt : Int)) (h : x = 0) (kf : CW K a cc nL own pc' lv (st) w) (hp : pc + 3 = pc' := by rfl) : CW K a cc nL own pc lv (.int x :: st) w := x_if_ne pc' tgt hd ht (fun z => absurd z (by first | exact h | exact fun q => q h)) (fun _ => kf) hp
theorem t_icmp_ne (tgt : Nat) {x y : Int32} {off : Int} (hd : decode cc pc = .ok (.if_icmp .ne off, 3)) (ht : (pc : Int) + off = (tgt : Int)) (h : ¬ x = y) (kt : CW K a cc nL own tgt lv (st) w) : CW K a cc nL own pc lv (.int y :: .int x :: st) w := x_icmp_ne (pc + 3) tgt hd ht (fun _ => kt) (fun z => absurd h (by first | exact z | exact fun q => q z)) rfl
theorem f_icmp_ne {x y : Int32} {off : Int} (tgt : Nat) (hd : decode cc pc = .ok (.if_icmp .ne off, 3)) (ht : (pc : Int) + off = (tgt : Int)) (h : x = y) (kf : CW K a cc nL own pc' lv (st) w) (hp : pc + 3 = pc' := by rfl) : CW K a cc nL own pc lv (.int y :: .int x :: st) w := x_icmp_ne pc' tgt hd ht (fun z => absurd z (by first | exact h | exact fun q => q h)) (fun _ => kf) hp
theorem t_if_lt (tgt : Nat) {x : Int32} {off : Int} (hd : decode cc pc = .ok (.ifCond .lt off, 3)) (ht : (pc : Int) + off = (tgt : Int)) (h : x < 0) (kt : CW K a cc nL own tgt lv (st) w) : CW K a cc nL own pc lv (.int x :: st) w := x_if_lt (pc + 3) tgt hd ht (fun _ => kt) (fun z => absurd h (by first | exact z | exact fun q => q z)) rfl
theorem f_if_lt {x : Int32} {off : Int} (tgt : Nat) (hd : decode cc pc = .ok (.ifCond .lt off, 3)) (ht : (pc : Int) + off = (tgt : Int)) (h : ¬ x < 0) (kf : CW K a cc nL own pc' lv (st) w) (hp : pc + 3 = pc' := by rfl) : CW K a cc nL own pc lv (.int x :: st) w := x_if_lt pc' tgt hd ht (fun z => absurd z (by first | exact h | exact fun q => q h)) (fun _ => kf) hp
theorem t_icmp_lt (tgt : Nat) {x y : Int32} {off : Int} (hd : decode cc pc = .ok (.if_icmp .lt off, 3)) (ht : (pc : Int) + off = (tgt : Int)) (h : x < y) (kt : CW K a cc nL own tgt lv (st) w) : CW K a cc nL own pc lv (.int y :: .int x :: st) w := x_icmp_lt (pc + 3) tgt hd ht (fun _ => kt) (fun z => absurd h (by first | exact z | exact fun q => q z)) rfl
theorem f_icmp_lt {x y : Int32} {off : Int} (tgt : Nat) (hd : decode cc pc = .ok (.if_icmp .lt off, 3)) (ht : (pc : Int) + off = (tgt : Int)) (h : ¬ x < y) (kf : CW K a cc nL own pc' lv (st) w) (hp : pc + 3 = pc' := by rfl) : CW K a cc nL own pc lv (.int y :: .int x :: st) w := x_icmp_lt pc' tgt hd ht (fun z => absurd z (by first | exact h | exact fun q => q h)) (fun _ => kf) hp
theorem t_if_ge (tgt : Nat) {x : Int32} {off : Int} (hd : decode cc pc = .ok (.ifCond .ge off, 3)) (ht : (pc : Int) + off = (tgt : Int)) (h : 0 ≤ x) (kt : CW K a cc nL own tgt lv (st) w) : CW K a cc nL own pc lv (.int x :: st) w := x_if_ge (pc + 3) tgt hd ht (fun _ => kt) (fun z => absurd h (by first | exact z | exact fun q => q z)) rfl
theorem f_if_ge {x : Int32} {off : Int} (tgt : Nat) (hd : decode cc pc = .ok (.ifCond .ge off, 3)) (ht : (pc : Int) + off = (tgt : Int)) (h : ¬ 0 ≤ x) (kf : CW K a cc nL own pc' lv (st) w) (hp : pc + 3 = pc' := by rfl) : CW K a cc nL own pc lv (.int x :: st) w := x_if_ge pc' tgt hd ht (fun z => absurd z (by first | exact h | exact fun q => q h)) (fun _ => kf) hp
theorem t_icmp_ge (tgt : Nat) {x y : Int32} {off : Int} (hd : decode cc pc = .ok (.if_icmp .ge off, 3)) (ht : (pc : Int) + off = (tgt : Int)) (h : y ≤ x) (kt : CW K a cc nL own tgt lv (st) w) : CW K a cc nL own pc lv (.int y :: .int x :: st) w := x_icmp_ge (pc + 3) tgt hd ht (fun _ => kt) (fun z => absurd h (by first | exact z | exact fun q => q z)) rfl
theorem f_icmp_ge {x y : Int32} {off : Int} (tgt : Nat) (hd : decode cc pc = .ok (.if_icmp .ge off, 3)) (ht : (pc : Int) + off = (tgt : Int)) (h : ¬ y ≤ x) (kf : CW K a cc nL own pc' lv (st) w) (hp : pc + 3 = pc' := by rfl) : CW K a cc nL own pc lv (.int y :: .int x :: st) w := x_icmp_ge pc' tgt hd ht (fun z => absurd z (by first | exact h | exact fun q => q h)) (fun _ => kf) hp
theorem t_if_gt (tgt : Nat) {x : Int32} {off : Int} (hd : decode cc pc = .ok (.ifCond .gt off, 3)) (ht : (pc : Int) + off = (tgt : Int)) (h : 0 < x) (kt : CW K a cc nL own tgt lv (st) w) : CW K a cc nL own pc lv (.int x :: st) w := x_if_gt (pc + 3) tgt hd ht (fun _ => kt) (fun z => absurd h (by first | exact z | exact fun q => q z)) rfl
theorem f_if_gt {x : Int32} {off : Int} (tgt : Nat) (hd : decode cc pc = .ok (.ifCond .gt off, 3)) (ht : (pc : Int) + off = (tgt : Int)) (h : ¬ 0 < x) (kf : CW K a cc nL own pc' lv (st) w) (hp : pc + 3 = pc' := by rfl) : CW K a cc nL own pc lv (.int x :: st) w := x_if_gt pc' tgt hd ht (fun z => absurd z (by first | exact h | exact fun q => q h)) (fun _ => kf) hp
theorem t_icmp_gt (tgt : Nat) {x y : Int32} {off : Int} (hd : decode cc pc = .ok (.if_icmp .gt off, 3)) (ht : (pc : Int) + off = (tgt : Int)) (h : y < x) (kt : CW K a cc nL own tgt lv (st) w) : CW K a cc nL own pc lv (.int y :: .int x :: st) w := x_icmp_gt (pc + 3) tgt hd ht (fun _ => kt) (fun z => absurd h (by first | exact z | exact fun q => q z)) rfl
theorem f_icmp_gt {x y : Int32} {off : Int} (tgt : Nat) (hd : decode cc pc = .ok (.if_icmp .gt off, 3)) (ht : (pc : Int) + off = (tgt : Int)) (h : ¬ y < x) (kf : CW K a cc nL own pc' lv (st) w) (hp : pc + 3 = pc' := by rfl) : CW K a cc nL own pc lv (.int y :: .int x :: st) w := x_icmp_gt pc' tgt hd ht (fun z => absurd z (by first | exact h | exact fun q => q h)) (fun _ => kf) hp
theorem t_if_le (tgt : Nat) {x : Int32} {off : Int} (hd : decode cc pc = .ok (.ifCond .le off, 3)) (ht : (pc : Int) + off = (tgt : Int)) (h : x ≤ 0) (kt : CW K a cc nL own tgt lv (st) w) : CW K a cc nL own pc lv (.int x :: st) w := x_if_le (pc + 3) tgt hd ht (fun _ => kt) (fun z => absurd h (by first | exact z | exact fun q => q z)) rfl
theorem f_if_le {x : Int32} {off : Int} (tgt : Nat) (hd : decode cc pc = .ok (.ifCond .le off, 3)) (ht : (pc : Int) + off = (tgt : Int)) (h : ¬ x ≤ 0) (kf : CW K a cc nL own pc' lv (st) w) (hp : pc + 3 = pc' := by rfl) : CW K a cc nL own pc lv (.int x :: st) w := x_if_le pc' tgt hd ht (fun z => absurd z (by first | exact h | exact fun q => q h)) (fun _ => kf) hp
theorem t_icmp_le (tgt : Nat) {x y : Int32} {off : Int} (hd : decode cc pc = .ok (.if_icmp .le off, 3)) (ht : (pc : Int) + off = (tgt : Int)) (h : x ≤ y) (kt : CW K a cc nL own tgt lv (st) w) : CW K a cc nL own pc lv (.int y :: .int x :: st) w := x_icmp_le (pc + 3) tgt hd ht (fun _ => kt) (fun z => absurd h (by first | exact z | exact fun q => q z)) rfl
theorem f_icmp_le {x y : Int32} {off : Int} (tgt : Nat) (hd : decode cc pc = .ok (.if_icmp .le off, 3)) (ht : (pc : Int) + off = (tgt : Int)) (h : ¬ x ≤ y) (kf : CW K a cc nL own pc' lv (st) w) (hp : pc + 3 = pc' := by rfl) : CW K a cc nL own pc lv (.int y :: .int x :: st) w := x_icmp_le pc' tgt hd ht (fun z => absurd z (by first | exact h | exact fun q => q h)) (fun _ => kf) hp
theorem x_sub {lv' : List (Nat × Value)} (ks : List Nat) (hk : lv_pick lv ks = lv') (kk : CW K a cc nL own pc lv' st w) : CW K a cc nL own pc lv st w := by
  obtain ⟨p, l, e, R, s, m, args, below, meth, c, Q, A, D, kn, d⟩ := K
  intro ok H locs ls hP hD hS hl
  exact kk ok H locs ls hP hD hS (lv_sub hl ks hk)
theorem x_st {st' : List Value} (h : st = st') (kk : CW K a cc nL own pc lv st' w) : CW K a cc nL own pc lv st w := h ▸ kk
theorem x_lv {lv' : List (Nat × Value)} (h : lv = lv') (kk : CW K a cc nL own pc lv' st w) : CW K a cc nL own pc lv st w := h ▸ kk
theorem x_w {w' : va_W} (h : w = w') (kk : CW K a cc nL own pc lv st w') : CW K a cc nL own pc lv st w := h ▸ kk

theorem get_X0 {ad idx : Nat} {fs : List Value} (q0 k : Nat) {v : Value} (he : w[q0]? = some (ad, .inr (0, fs))) (hk : k < 13) (hq : Cond.fieldLink RX0 idx (TX0 k).1 (TX0 k).2.1 (TX0 k).2.2.1 ∈ lw_all) (hv : fs[k]? = some v) (hd : decode cc pc = .ok (.getfield idx, 3)) (kk : CW K a cc nL RX0 pc' lv (v :: st) w) (hp : pc + 3 = pc' := by rfl) : CW K a cc nL RX0 pc lv (.ref ad :: st) w := by
  subst hp
  obtain ⟨p, l, e, R, s, m, args, below, meth, c, Q, A, D, kn, d⟩ := K
  intro ok H locs ls hP hD hS hl
  obtain ⟨hx, hb, hml, hown, hts, hK, hA, hR, hC, hlk⟩ := ok
  exact va_get (D := D) (ci := 0) (v := v) (C := RX0) (T := TX0) (N := 13) hx hb hts in_X0 hown hK hP q0 he rfl k hk (hts _ hq) (fun _ h9 => h9) hv hd (kk ⟨hx, hb, hml, hown, hts, hK, hA, hR, hC, hlk⟩ H locs ls hP hD hS hl)
theorem put_X0 {ad idx : Nat} {fs : List Value} {w' : va_W} (q0 k : Nat) {v : Int32} (he : w[q0]? = some (ad, .inr (0, fs))) (hk : k < 13) (hq : Cond.fieldLink RX0 idx (TX0 k).1 (TX0 k).2.1 (TX0 k).2.2.1 ∈ lw_all) (hfin : (TX0 k).2.2.2 = false) (hty : parseFieldDescriptor (TX0 k).2.2.1 = some .int) (hlen : k < fs.length) (hw : w.set q0 (ad, .inr (0, fs.set k (.int v))) = w') (hd : decode cc pc = .ok (.putfield idx, 3)) (kk : CW K a cc nL RX0 pc' lv (st) w') (hp : pc + 3 = pc' := by rfl) : CW K a cc nL RX0 pc lv (.int v :: .ref ad :: st) w := by
  subst hp; subst hw
  obtain ⟨p, l, e, R, s, m, args, below, meth, c, Q, A, D, kn, d⟩ := K
  intro ok H locs ls hP hD hS hl
  obtain ⟨hx, hb, hml, hown, hts, hK, hA, hR, hC, hlk⟩ := ok
  exact va_put (D := D) (ci := 0) (v := .int v) (ty := .int) (C := RX0) (T := TX0) (N := 13) hx hb hts in_X0 tyX0 tyX0_ok nmX0 hown hK hP hD hS q0 he rfl k hk (hts _ hq) (fun _ h9 => h9) hfin hty rfl rfl hlen hd (fun H locs hP hD hS => kk ⟨hx, hb, hml, hown, hts, hK, hA, hR, hC, hlk⟩ H locs ls hP hD hS hl)
theorem get_X1 {ad idx : Nat} {fs : List Value} (q0 k : Nat) {v : Value} (he : w[q0]? = some (ad, .inr (1, fs))) (hk : k < 6) (hq : Cond.fieldLink RX1 idx (TX1 k).1 (TX1 k).2.1 (TX1 k).2.2.1 ∈ lw_all) (hv : fs[k]? = some v) (hd : decode cc pc = .ok (.getfield idx, 3)) (kk : CW K a cc nL RX1 pc' lv (v :: st) w) (hp : pc + 3 = pc' := by rfl) : CW K a cc nL RX1 pc lv (.ref ad :: st) w := by
  subst hp
  obtain ⟨p, l, e, R, s, m, args, below, meth, c, Q, A, D, kn, d⟩ := K
  intro ok H locs ls hP hD hS hl
  obtain ⟨hx, hb, hml, hown, hts, hK, hA, hR, hC, hlk⟩ := ok
  exact va_get (D := D) (ci := 1) (v := v) (C := RX1) (T := TX1) (N := 6) hx hb hts in_X1 hown hK hP q0 he rfl k hk (hts _ hq) (fun _ h9 => h9) hv hd (kk ⟨hx, hb, hml, hown, hts, hK, hA, hR, hC, hlk⟩ H locs ls hP hD hS hl)
theorem put_X1 {ad idx : Nat} {fs : List Value} {w' : va_W} (q0 k : Nat) {v : Int32} (he : w[q0]? = some (ad, .inr (1, fs))) (hk : k < 6) (hq : Cond.fieldLink RX1 idx (TX1 k).1 (TX1 k).2.1 (TX1 k).2.2.1 ∈ lw_all) (hfin : (TX1 k).2.2.2 = false) (hty : parseFieldDescriptor (TX1 k).2.2.1 = some .int) (hlen : k < fs.length) (hw : w.set q0 (ad, .inr (1, fs.set k (.int v))) = w') (hd : decode cc pc = .ok (.putfield idx, 3)) (kk : CW K a cc nL RX1 pc' lv (st) w') (hp : pc + 3 = pc' := by rfl) : CW K a cc nL RX1 pc lv (.int v :: .ref ad :: st) w := by
  subst hp; subst hw
  obtain ⟨p, l, e, R, s, m, args, below, meth, c, Q, A, D, kn, d⟩ := K
  intro ok H locs ls hP hD hS hl
  obtain ⟨hx, hb, hml, hown, hts, hK, hA, hR, hC, hlk⟩ := ok
  exact va_put (D := D) (ci := 1) (v := .int v) (ty := .int) (C := RX1) (T := TX1) (N := 6) hx hb hts in_X1 tyX1 tyX1_ok nmX1 hown hK hP hD hS q0 he rfl k hk (hts _ hq) (fun _ h9 => h9) hfin hty rfl rfl hlen hd (fun H locs hP hD hS => kk ⟨hx, hb, hml, hown, hts, hK, hA, hR, hC, hlk⟩ H locs ls hP hD hS hl)
theorem iald (q0 : Nat) {ad i n : Nat} {f : Nat → Int32} (ha : w[q0]? = some (ad, .inl (a 20, n, .inl f))) (hi : i < n) (hn : n < 2147483648) (hd : decode cc pc = .ok (.iaload, 1)) (kk : CW K a cc nL own pc' lv (.int (f i) :: st) w) (hp : pc + 1 = pc' := by rfl) : CW K a cc nL own pc lv (.int (nI i) :: .ref ad :: st) w := by
  subst hp
  obtain ⟨p, l, e, R, s, m, args, below, meth, c, Q, A, D, kn, d⟩ := K
  intro ok H locs ls hP hD hS hl
  obtain ⟨hx, hb, hml, hown, hts, hK, hA, hR, hC, hlk⟩ := ok
  have ok : COk p R s m args meth c A D kn d a cc nL own := ⟨hx, hb, hml, hown, hts, hK, hA, hR, hC, hlk⟩
  have e : (nI i).toNatClampNeg = i := nI_clamp (by omega)
  exact va_iald hx hb hK hP q0 0 ha rfl (vp_in_nI hi hn) hd (by rw [e]; exact kk ok H locs ls hP hD hS hl)
theorem zald (q0 : Nat) {ad i n : Nat} {f : Nat → Int32} (ha : w[q0]? = some (ad, .inl (a 21, n, .inl f))) (hi : i < n) (hn : n < 2147483648) (hd : decode cc pc = .ok (.baload, 1)) (kk : CW K a cc nL own pc' lv (.int (f i) :: st) w) (hp : pc + 1 = pc' := by rfl) : CW K a cc nL own pc lv (.int (nI i) :: .ref ad :: st) w := by
  subst hp
  obtain ⟨p, l, e, R, s, m, args, below, meth, c, Q, A, D, kn, d⟩ := K
  intro ok H locs ls hP hD hS hl
  obtain ⟨hx, hb, hml, hown, hts, hK, hA, hR, hC, hlk⟩ := ok
  have ok : COk p R s m args meth c A D kn d a cc nL own := ⟨hx, hb, hml, hown, hts, hK, hA, hR, hC, hlk⟩
  have e : (nI i).toNatClampNeg = i := nI_clamp (by omega)
  exact va_zald hx hb hK hP q0 1 ha rfl (vp_in_nI hi hn) hd (by rw [e]; exact kk ok H locs ls hP hD hS hl)
theorem iast (q0 : Nat) {ad i n : Nat} {f : Nat → Int32} {x : Int32} {w' : va_W} (ha : w[q0]? = some (ad, .inl (a 20, n, .inl f))) (hi : i < n) (hn : n < 2147483648) (hw : w.set q0 (ad, .inl (a 20, n, .inl (upd f i x))) = w') (hd : decode cc pc = .ok (.iastore, 1)) (kk : CW K a cc nL own pc' lv (st) w') (hp : pc + 1 = pc' := by rfl) : CW K a cc nL own pc lv (.int x :: .int (nI i) :: .ref ad :: st) w := by
  subst hw
  subst hp
  obtain ⟨p, l, e, R, s, m, args, below, meth, c, Q, A, D, kn, d⟩ := K
  intro ok H locs ls hP hD hS hl
  obtain ⟨hx, hb, hml, hown, hts, hK, hA, hR, hC, hlk⟩ := ok
  have ok : COk p R s m args meth c A D kn d a cc nL own := ⟨hx, hb, hml, hown, hts, hK, hA, hR, hC, hlk⟩
  have e : (nI i).toNatClampNeg = i := nI_clamp (by omega)
  exact va_iast hx hb hK hP hD hS q0 0 ha rfl (vp_in_nI hi hn) hd (by rw [e]; exact fun H locs hP hD hS => kk ok H locs ls hP hD hS hl)
theorem zast (q0 : Nat) {ad i n : Nat} {f : Nat → Int32} {x y : Int32} {w' : va_W} (ha : w[q0]? = some (ad, .inl (a 21, n, .inl f))) (hi : i < n) (hn : n < 2147483648) (hy : vp_nar .boolean x = y) (hw : w.set q0 (ad, .inl (a 21, n, .inl (upd f i y))) = w') (hd : decode cc pc = .ok (.bastore, 1)) (kk : CW K a cc nL own pc' lv (st) w') (hp : pc + 1 = pc' := by rfl) : CW K a cc nL own pc lv (.int x :: .int (nI i) :: .ref ad :: st) w := by
  subst hw; subst hy
  subst hp
  obtain ⟨p, l, e, R, s, m, args, below, meth, c, Q, A, D, kn, d⟩ := K
  intro ok H locs ls hP hD hS hl
  obtain ⟨hx, hb, hml, hown, hts, hK, hA, hR, hC, hlk⟩ := ok
  have ok : COk p R s m args meth c A D kn d a cc nL own := ⟨hx, hb, hml, hown, hts, hK, hA, hR, hC, hlk⟩
  have e : (nI i).toNatClampNeg = i := nI_clamp (by omega)
  exact va_zast hx hb hK hP hD hS q0 1 ha rfl (vp_in_nI hi hn) hd (by rw [e]; exact fun H locs hP hD hS => kk ok H locs ls hP hD hS hl)
end FR

/-! CONTRACTS -/
def Qx (D : va_G) (a : Nat → Nat) (rp : Option Value → va_W → Prop) (A : Nat → Prop) : Array Value → State → Outcome → State → Prop := fun _ st oc t => (∃ (rv : Option Value) (w' : va_W), oc = .returned rv ∧ rp rv w' ∧ va_P D vwCl w' t.heap ∧ va_K D vwCl [(a 20, .int), (a 21, .boolean)] t ∧ va_D A w') ∧ va_F A st t
abbrev rmd (d : Nat) : Room := { frames := d, cells := 0, slots := 0, locals := 40 * d }
def PreW (D : va_G) (a : Nat → Nat) (sz : Nat) (w : va_W) (U : State) : Prop := U.heap.size = sz ∧ va_P D vwCl w U.heap ∧ va_K D vwCl [(a 20, .int), (a 21, .boolean)] U ∧ va_D (fun _ => True) w
/-- y's contract: called with av in the world w it returns rv, the world is w', rp rv w' -/
def MetW (l : Launch) (y : MethodName) (cc : ByteArray) (nL : Nat) (ret : Option FieldType) (d : Nat) (a : Nat → Nat) (av : List Value) (w : va_W) (rp : Option Value → va_W → Prop) : Prop := ∀ (D : va_G) (sz : Nat), Met l y (ws_ y cc nL ret) (rmd d) (va_Pc av (PreW D a sz w)) (Qx D a rp (va_A w sz)) 0 0 (va_A w sz)
def rpI (post : Int32 → va_W → Prop) : Option Value → va_W → Prop := fun rv w' => ∃ r : Int32, rv = some (.int r) ∧ post r w'
def rpL (post : Int64 → va_W → Prop) : Option Value → va_W → Prop := fun rv w' => ∃ r : Int64, rv = some (.long r) ∧ post r w'
def rpV (post : va_W → Prop) : Option Value → va_W → Prop := fun rv w' => rv = none ∧ post w'
theorem va_all {A : Nat → Prop} {w : va_W} {H0 H : Heap} {locs : List Loc} (hD : va_D A w) (hS : va_S A H0 H locs) (hA : ∀ q, H0.size ≤ q → A q) : ∀ q, va_A w H.size q → A q := by
  intro q h
  rcases h with ⟨k, e, h⟩ | h
  · exact hD.2 k (q, e) h
  · exact hA q (Nat.le_trans hS.1 h)
section VX
variable {p : Program} {l : Launch} {e : Env} {R : Room} {s : State} {m : MethodId} {args : Array Value} {below : List Frame} {meth : Method} {c : Code} {H : Heap} {locs : List Loc} {cells slots : Nat} {Q : State → Prop}
variable {pc : Nat} {ls : Array Slot} {rest st0 : List Value} {aa : Array Value} {A0 A1 : Nat → Prop} {H0 : Heap} {free : Addr → Prop} {D : va_G} {a : Nat → Nat} {rp : Option Value → va_W → Prop}
theorem va_callx (hr : va_Run p l e R s m args below meth c H locs cells slots 0 0 (F0 m pc ls st0) rest (Qx D a rp A1 aa) free) (hS : va_S A0 H0 H locs) (hA : ∀ q, q < H.size → A1 q → A0 q) (hf : ∀ q, free q → A0 q)
    (kk : ∀ (rv : Option Value) (w' : va_W) (H1 : Heap) (locs1 : List Loc), rp rv w' → va_P D vwCl w' H1 → va_D A1 w' → H.size ≤ H1.size → (∀ q : Nat, q < H.size → ¬ A1 q → H1[q]? = H[q]?) → va_S A0 H0 H1 locs1 → W p l e R s m args below meth c H1 locs1 cells slots Q (F0 m (pc + 3) ls (rv.toList ++ rest))) : W p l e R s m args below meth c H locs cells slots Q (F0 m pc ls st0) := by
  intro T hT X
  obtain ⟨v, st₀, t, T', L, h0, X', hL, e1, e2, ⟨⟨rv, w', hv, hp, hPw, hKw, hDw⟩, hz, hk⟩, st⟩ := hr T hT X
  cases hv
  rw [h0] at hz hk
  obtain ⟨t2, a1, b1⟩ := kk _ w' T'.heap (locs ++ L) hp (by rw [e1]; exact hPw) hDw (by rw [e1]; exact hz) (fun q h1 h2 => by rw [e1]; exact hk q h1 h2)
    ⟨Nat.le_trans hS.1 (by rw [e1]; exact hz), fun q h1 h2 => by rw [e1, hk q (Nat.lt_of_lt_of_le h1 hS.1) (fun z => h2 (hA q (Nat.lt_of_lt_of_le h1 hS.1) z))]; exact hS.2.1 q h1 h2, fun q hq => by
      rcases List.mem_append.mp hq with h | h
      · exact hS.2.2 q h
      · exact hf _ (hL q h)⟩ T' rfl X'
  exact ⟨t2, st t2 a1, b1⟩
end VX
theorem PreW.blind {D : va_G} {a : Nat → Nat} {sz : Nat} {w : va_W} {av : List Value} : FrameBlind (va_Pc av (PreW D a sz w)) := fun a' U g mk q => by
  obtain ⟨q0, q1, qP, qK, qD⟩ := q
  exact ⟨q0, q1, qP, va_K.moved (u := U) (U := U.calling g mk a') (Vm.Alike.refl U.vm) qK, qD⟩
section CA
variable {K : Cx} {a : Nat → Nat} {cc : ByteArray} {nL : Nat} {own : String} {pc : Nat} (pc' : Nat) {lv : List (Nat × Value)} {st : List Value} {w : va_W}
variable {y : MethodName} {cc' : ByteArray} {nL' d' idx n : Nat} {ret : Option FieldType} {av : List Value} {ad ci : Nat} {fs : List Value} {q : vw_C} {rp : Option Value → va_W → Prop}
/-- a call of a method of the own object: the callee's world is the caller's -/
theorem call_V (hM : MetW (cx_l K) y cc' nL' ret d' a (.ref ad :: av) w rp) (hobj : w[0]? = some (ad, .inr (ci, fs))) (hcl : vwCl[ci]? = some q) (hG : GoodIn lw_all (wsV own idx q.1 y (ws_ y cc' nL' ret)))
    (hy : y.cls = q.1 ∧ y.cls ≠ "java/lang/invoke/MethodHandle" ∧ y.cls ≠ "java/lang/invoke/VarHandle" ∧ (parseMethodDescriptor y.desc).map (fun d => d.parameters.length) = some n) (hn : av.length = n) (hdd : d' + 1 ≤ cx_d K) (hL : nL' ≤ 21) (hst : (st.map fun v => v.category).sum ≤ 8) {st0 : List Value} (hs0 : st0 = av.reverse ++ .ref ad :: st) (hd : decode cc pc = .ok (.invokevirtual idx, 3))
    (kk : ∀ (rv : Option Value) (w' : va_W), rp rv w' → CW K a cc nL own pc' lv (rv.toList ++ st) w') (hp : pc + 3 = pc' := by rfl) : CW K a cc nL own pc lv st0 w := by
  subst hp
  obtain ⟨p, l, e, R, s, m, args, below, meth, c, Q, A, D, kn, d⟩ := K
  have hM : MetW l y cc' nL' ret d' a (.ref ad :: av) w rp := hM
  have hdd : d' + 1 ≤ d := hdd
  intro ok H locs ls hP hD hS hl
  obtain ⟨hx, hb, hml, hown, hts, hK, hA, hR, hC, hlk⟩ := ok
  have hFc := va_all hD hS hA
  refine va_callx (A1 := va_A w H.size) (va_runV (C := q.1) (As := av) (rest := st) ⟨hx, hb, hml, hown, hts⟩ (hM D H.size) (cwV n hts hG rfl rfl rfl hy ⟨(show d' + 1 ≤ R.frames from Nat.le_trans hdd hR.1), (show 8 + (nL' + 11) + 40 * d' ≤ R.locals from by have h2 : 40 * d ≤ R.locals := hR.2; omega)⟩) ⟨PreW.blind, va_recv hK hP hcl hobj, fun U hU hW => ⟨rfl, by rw [hU], by rw [hU]; exact hP, va_K.moved hW.alike hK, hD.weaken (fun _ _ _ _ => trivial)⟩⟩ rfl hn hl.1 hs0 (lv_room hst) hd hC) hS (fun q _ h => hFc q h) hFc (fun rv w' H1 locs1 hr hP1 hD1 hz hk hS1 => ?_)
  exact kk rv w' hr ⟨hx, hb, hml, hown, hts, hK, hA, hR, hC, hlk⟩ H1 locs1 ls hP1 (hD1.weaken (fun _ q _ h => hFc q.1 h)) hS1 hl
/-- a static call: the callee has no world, the caller's stays -/
theorem call_S (hM : MetW (cx_l K) y cc' nL' ret d' a av [] rp) (hG : GoodIn lw_all (va_wsS own idx y (ws_ y cc' nL' ret)))
    (hy : y.cls ≠ "java/lang/invoke/MethodHandle" ∧ y.cls ≠ "java/lang/invoke/VarHandle" ∧ (parseMethodDescriptor y.desc).map (fun d => d.parameters.length) = some n) (hn : av.length = n) (hdd : d' + 1 ≤ cx_d K) (hL : nL' ≤ 21) (hst : (st.map fun v => v.category).sum ≤ 8) {st0 : List Value} (hs0 : st0 = av.reverse ++ st) (hd : decode cc pc = .ok (.invokestatic idx, 3))
    (kk : ∀ (rv : Option Value) (w' : va_W), rp rv w' → CW K a cc nL own pc' lv (rv.toList ++ st) w) (hp : pc + 3 = pc' := by rfl) : CW K a cc nL own pc lv st0 w := by
  subst hp
  obtain ⟨p, l, e, R, s, m, args, below, meth, c, Q, A, D, kn, d⟩ := K
  have hM : MetW l y cc' nL' ret d' a av [] rp := hM
  have hdd : d' + 1 ≤ d := hdd
  intro ok H locs ls hP hD hS hl
  obtain ⟨hx, hb, hml, hown, hts, hK, hA, hR, hC, hlk⟩ := ok
  have hFc : ∀ q, va_A [] H.size q → A q := by
    intro q h
    rcases h with ⟨k, e, h⟩ | h
    · simp at h
    · exact hA q (Nat.le_trans hS.1 h)
  refine va_callx (A1 := va_A [] H.size) (va_runS (As := av) (rest := st) ⟨hx, hb, hml, hown, hts⟩ (hM D H.size) (va_cwS n hts hG rfl rfl rfl hy ⟨(show d' + 1 ≤ R.frames from Nat.le_trans hdd hR.1), (show 8 + (nL' + 11) + 40 * d' ≤ R.locals from by have h2 : 40 * d ≤ R.locals := hR.2; omega)⟩) ⟨PreW.blind, fun U hU hW => ⟨rfl, by rw [hU], (fun k q h => by simp at h), va_K.moved hW.alike hK, ⟨fun i j p q h => by simp at h, fun k q h => by simp at h⟩⟩⟩ rfl hn hl.1 hs0 (lv_room hst) hd hC) hS (fun q _ h => hFc q h) hFc (fun rv w' H1 locs1 hr hP1 hD1 hz hk hS1 => ?_)
  refine kk rv w' hr ⟨hx, hb, hml, hown, hts, hK, hA, hR, hC, hlk⟩ H1 locs1 ls (hP.kept (fun k q hq => hk q.1 (hP k q hq).lt (fun h => ?_))) hD hS1 hl
  have hlt := (hP k q hq).lt
  rcases h with ⟨k2, e2, h⟩ | h
  · simp at h
  · omega
variable {ty : FieldType}
theorem call_Vi {post : Int32 → va_W → Prop} (hM : MetW (cx_l K) y cc' nL' ret d' a (.ref ad :: av) w (rpI post)) (hobj : w[0]? = some (ad, .inr (ci, fs))) (hcl : vwCl[ci]? = some q) (hG : GoodIn lw_all (wsV own idx q.1 y (ws_ y cc' nL' ret)))
    (hy : y.cls = q.1 ∧ y.cls ≠ "java/lang/invoke/MethodHandle" ∧ y.cls ≠ "java/lang/invoke/VarHandle" ∧ (parseMethodDescriptor y.desc).map (fun d => d.parameters.length) = some n) (hn : av.length = n) (hdd : d' + 1 ≤ cx_d K) (hL : nL' ≤ 21) (hst : (st.map fun v => v.category).sum ≤ 8) {st0 : List Value} (hs0 : st0 = av.reverse ++ .ref ad :: st) (hd : decode cc pc = .ok (.invokevirtual idx, 3))
    (kk : ∀ (r : Int32) (w' : va_W), post r w' → CW K a cc nL own pc' lv (.int r :: st) w') (hp : pc + 3 = pc' := by rfl) : CW K a cc nL own pc lv st0 w :=
  call_V pc' hM hobj hcl hG hy hn hdd hL hst hs0 hd (fun rv w' h => by obtain ⟨r, rfl, h⟩ := h; exact kk r w' h) hp
theorem call_Vl {post : Int64 → va_W → Prop} (hM : MetW (cx_l K) y cc' nL' ret d' a (.ref ad :: av) w (rpL post)) (hobj : w[0]? = some (ad, .inr (ci, fs))) (hcl : vwCl[ci]? = some q) (hG : GoodIn lw_all (wsV own idx q.1 y (ws_ y cc' nL' ret)))
    (hy : y.cls = q.1 ∧ y.cls ≠ "java/lang/invoke/MethodHandle" ∧ y.cls ≠ "java/lang/invoke/VarHandle" ∧ (parseMethodDescriptor y.desc).map (fun d => d.parameters.length) = some n) (hn : av.length = n) (hdd : d' + 1 ≤ cx_d K) (hL : nL' ≤ 21) (hst : (st.map fun v => v.category).sum ≤ 8) {st0 : List Value} (hs0 : st0 = av.reverse ++ .ref ad :: st) (hd : decode cc pc = .ok (.invokevirtual idx, 3))
    (kk : ∀ (r : Int64) (w' : va_W), post r w' → CW K a cc nL own pc' lv (.long r :: st) w') (hp : pc + 3 = pc' := by rfl) : CW K a cc nL own pc lv st0 w :=
  call_V pc' hM hobj hcl hG hy hn hdd hL hst hs0 hd (fun rv w' h => by obtain ⟨r, rfl, h⟩ := h; exact kk r w' h) hp
theorem call_Vv {post : va_W → Prop} (hM : MetW (cx_l K) y cc' nL' ret d' a (.ref ad :: av) w (rpV post)) (hobj : w[0]? = some (ad, .inr (ci, fs))) (hcl : vwCl[ci]? = some q) (hG : GoodIn lw_all (wsV own idx q.1 y (ws_ y cc' nL' ret)))
    (hy : y.cls = q.1 ∧ y.cls ≠ "java/lang/invoke/MethodHandle" ∧ y.cls ≠ "java/lang/invoke/VarHandle" ∧ (parseMethodDescriptor y.desc).map (fun d => d.parameters.length) = some n) (hn : av.length = n) (hdd : d' + 1 ≤ cx_d K) (hL : nL' ≤ 21) (hst : (st.map fun v => v.category).sum ≤ 8) {st0 : List Value} (hs0 : st0 = av.reverse ++ .ref ad :: st) (hd : decode cc pc = .ok (.invokevirtual idx, 3))
    (kk : ∀ (w' : va_W), post w' → CW K a cc nL own pc' lv st w') (hp : pc + 3 = pc' := by rfl) : CW K a cc nL own pc lv st0 w :=
  call_V pc' hM hobj hcl hG hy hn hdd hL hst hs0 hd (fun rv w' h => by obtain ⟨rfl, h⟩ := h; exact kk w' h) hp
theorem call_Si {post : Int32 → va_W → Prop} (hM : MetW (cx_l K) y cc' nL' ret d' a av [] (rpI post)) (hG : GoodIn lw_all (va_wsS own idx y (ws_ y cc' nL' ret)))
    (hy : y.cls ≠ "java/lang/invoke/MethodHandle" ∧ y.cls ≠ "java/lang/invoke/VarHandle" ∧ (parseMethodDescriptor y.desc).map (fun d => d.parameters.length) = some n) (hn : av.length = n) (hdd : d' + 1 ≤ cx_d K) (hL : nL' ≤ 21) (hst : (st.map fun v => v.category).sum ≤ 8) {st0 : List Value} (hs0 : st0 = av.reverse ++ st) (hd : decode cc pc = .ok (.invokestatic idx, 3))
    (kk : ∀ (r : Int32) (w' : va_W), post r w' → CW K a cc nL own pc' lv (.int r :: st) w) (hp : pc + 3 = pc' := by rfl) : CW K a cc nL own pc lv st0 w :=
  call_S pc' hM hG hy hn hdd hL hst hs0 hd (fun rv w' h => by obtain ⟨r, rfl, h⟩ := h; exact kk r w' h) hp
end CA
/-! a contract out of a walk of the body -/
theorem MetW.ofI {l : Launch} {y : MethodName} {cc : ByteArray} {nL d : Nat} {ty : FieldType} {a : Nat → Nat} {av : List Value} {w : va_W} {post : Int32 → va_W → Prop} (hy : plainName y.cls = true) (hn : (lg_sl av).length ≤ nL)
    (body : ∀ K : Cx, cx_l K = l → cx_d K = d → (∀ (pc : Nat) (lv : List (Nat × Value)) (r : Int32) (w' : va_W), decode cc pc = .ok (.ireturn, 1) → narrow ty (.int r) = .int r → post r w' → CW K a cc nL y.cls pc lv [.int r] w') → CW K a cc nL y.cls 0 (lv_args 0 av) [] w) : MetW l y cc nL (some ty) d a av w (rpI post) := by
  intro D sz
  refine Met.ofW (cc := cc) (maxL := nL) (ret := some ty) hy rfl ?_
  intro p e s m args below meth c s₁ B hml hv
  obtain ⟨rfl, hsz, hP, hK, hD0⟩ := hv
  have hx := B.exec
  have hb := B.bytes
  have hr := B.returns
  have hts := atoms_spec (ws := ws_ y cc nL (some ty)) B.pre
  have hts : ∀ w ∈ lw_all, w.before _ s = true := fun w h => hts w (List.mem_cons_of_mem _ h)
  have hown : s.vm.findClass y.cls = some m.cls := findClass_of_methodNamed B.named
  have hlocks := B.notSynchronized
  subst hsz
  have hD := hD0.self (sz := s.heap.size)
  have hS : va_S (va_A w s.heap.size) s.heap s.heap [] := va_S.rf
  have hl := lv_entry av hn
  rw [lg_entry_eq]
  refine body (p, l, e, (headSpec (ws_ y cc nL (some ty)) (rmd d)).room, s, m, av.toArray, below, meth, c, _, va_A w s.heap.size, D, (0, 0), d) rfl rfl ?_ ⟨hx, hb, hml, hown, hts, hK, fun q h => Or.inr h, ⟨Nat.le_refl _, Nat.le_refl _⟩, ⟨Nat.le_refl _, Nat.le_refl _⟩, hlocks⟩ s.heap [] _ hP hD hS hl
  intro pc lv r w' hd hnr hpost ok H locs ls hP hD hS hl
  exact W.zret (v := r) hx hb hr hnr (fun t ht hW => ⟨⟨_, w', rfl, ⟨r, rfl, hpost⟩, by rw [ht]; exact hP, va_K.moved hW.alike hK, hD⟩, hS.F ht⟩) hS.2.2 hd hlocks
theorem MetW.ofL {l : Launch} {y : MethodName} {cc : ByteArray} {nL d : Nat} {a : Nat → Nat} {av : List Value} {w : va_W} {post : Int64 → va_W → Prop} (hy : plainName y.cls = true) (hn : (lg_sl av).length ≤ nL)
    (body : ∀ K : Cx, cx_l K = l → cx_d K = d → (∀ (pc : Nat) (lv : List (Nat × Value)) (r : Int64) (w' : va_W), decode cc pc = .ok (.lreturn, 1) → post r w' → CW K a cc nL y.cls pc lv [.long r] w') → CW K a cc nL y.cls 0 (lv_args 0 av) [] w) : MetW l y cc nL (some .long) d a av w (rpL post) := by
  intro D sz
  refine Met.ofW (cc := cc) (maxL := nL) (ret := some .long) hy rfl ?_
  intro p e s m args below meth c s₁ B hml hv
  obtain ⟨rfl, hsz, hP, hK, hD0⟩ := hv
  have hx := B.exec
  have hb := B.bytes
  have hr := B.returns
  have hts := atoms_spec (ws := ws_ y cc nL (some .long)) B.pre
  have hts : ∀ w ∈ lw_all, w.before _ s = true := fun w h => hts w (List.mem_cons_of_mem _ h)
  have hown : s.vm.findClass y.cls = some m.cls := findClass_of_methodNamed B.named
  have hlocks := B.notSynchronized
  subst hsz
  have hD := hD0.self (sz := s.heap.size)
  have hS : va_S (va_A w s.heap.size) s.heap s.heap [] := va_S.rf
  have hl := lv_entry av hn
  rw [lg_entry_eq]
  refine body (p, l, e, (headSpec (ws_ y cc nL (some .long)) (rmd d)).room, s, m, av.toArray, below, meth, c, _, va_A w s.heap.size, D, (0, 0), d) rfl rfl ?_ ⟨hx, hb, hml, hown, hts, hK, fun q h => Or.inr h, ⟨Nat.le_refl _, Nat.le_refl _⟩, ⟨Nat.le_refl _, Nat.le_refl _⟩, hlocks⟩ s.heap [] _ hP hD hS hl
  intro pc lv r w' hd hpost ok H locs ls hP hD hS hl
  exact W.lret (v := r) hx hb hr (fun t ht hW => ⟨⟨_, w', rfl, ⟨r, rfl, hpost⟩, by rw [ht]; exact hP, va_K.moved hW.alike hK, hD⟩, hS.F ht⟩) hS.2.2 hd hlocks
theorem MetW.ofV {l : Launch} {y : MethodName} {cc : ByteArray} {nL d : Nat} {a : Nat → Nat} {av : List Value} {w : va_W} {post : va_W → Prop} (hy : plainName y.cls = true) (hn : (lg_sl av).length ≤ nL)
    (body : ∀ K : Cx, cx_l K = l → cx_d K = d → (∀ (pc : Nat) (lv : List (Nat × Value)) (w' : va_W), decode cc pc = .ok (.return_, 1) → post w' → CW K a cc nL y.cls pc lv [] w') → CW K a cc nL y.cls 0 (lv_args 0 av) [] w) : MetW l y cc nL none d a av w (rpV post) := by
  intro D sz
  refine Met.ofW (cc := cc) (maxL := nL) (ret := none) hy rfl ?_
  intro p e s m args below meth c s₁ B hml hv
  obtain ⟨rfl, hsz, hP, hK, hD0⟩ := hv
  have hx := B.exec
  have hb := B.bytes
  have hr := B.returns
  have hts := atoms_spec (ws := ws_ y cc nL none) B.pre
  have hts : ∀ w ∈ lw_all, w.before _ s = true := fun w h => hts w (List.mem_cons_of_mem _ h)
  have hown : s.vm.findClass y.cls = some m.cls := findClass_of_methodNamed B.named
  have hlocks := B.notSynchronized
  subst hsz
  have hD := hD0.self (sz := s.heap.size)
  have hS : va_S (va_A w s.heap.size) s.heap s.heap [] := va_S.rf
  have hl := lv_entry av hn
  rw [lg_entry_eq]
  refine body (p, l, e, (headSpec (ws_ y cc nL none) (rmd d)).room, s, m, av.toArray, below, meth, c, _, va_A w s.heap.size, D, (0, 0), d) rfl rfl ?_ ⟨hx, hb, hml, hown, hts, hK, fun q h => Or.inr h, ⟨Nat.le_refl _, Nat.le_refl _⟩, ⟨Nat.le_refl _, Nat.le_refl _⟩, hlocks⟩ s.heap [] _ hP hD hS hl
  intro pc lv w' hd hpost ok H locs ls hP hD hS hl
  exact W.vret hx hb hr (fun t ht hW => ⟨⟨_, w', rfl, ⟨rfl, hpost⟩, by rw [ht]; exact hP, va_K.moved hW.alike hK, hD⟩, hS.F ht⟩) hS.2.2 hd hlocks
/-! loops -/
theorem loop_up {P : Nat → Prop} (N : Nat) (h : ∀ i, i ≤ N → (∀ j, i < j → j ≤ N → P j) → P i) : ∀ i, i ≤ N → P i := by
  have key : ∀ n i, N - i ≤ n → i ≤ N → P i := by
    intro n
    induction n with
    | zero => exact fun i h1 h2 => h i h2 (fun j h3 h4 => absurd h1 (by omega))
    | succ n ih => exact fun i h1 h2 => h i h2 (fun j h3 h4 => ih j (by omega) h4)
  exact fun i hi => key _ i (Nat.le_refl _) hi
theorem loop_down {P : Nat → Prop} (h : ∀ i, (∀ j, j < i → P j) → P i) : ∀ i, P i := fun i => Nat.strongRecOn i (fun i ih => h i ih)
/-! the two worlds -/
abbrev wX0 (a : Nat → Nat) (r : Int32) (o l f lo hi s w rg rl rh : Nat → Int32) (vc : Int32) (vs : Nat → Int32) : va_W :=
  [(a 0, .inr (0, [.int r, .ref (a 1), .ref (a 2), .ref (a 3), .ref (a 4), .ref (a 5), .ref (a 6), .ref (a 7), .ref (a 8), .ref (a 9), .ref (a 10), .int vc, .ref (a 12)])), (a 1, .inl (a 20, 48, .inl o)), (a 2, .inl (a 20, 5, .inl l)), (a 3, .inl (a 20, 12, .inl f)), (a 4, .inl (a 20, 12, .inl lo)), (a 5, .inl (a 20, 12, .inl hi)), (a 6, .inl (a 20, 12, .inl s)), (a 7, .inl (a 20, 420, .inl w)), (a 8, .inl (a 21, 3, .inl rg)), (a 9, .inl (a 20, 3, .inl rl)), (a 10, .inl (a 20, 3, .inl rh)), (a 12, .inl (a 20, 64, .inl vs))]
abbrev wX1 (a : Nat → Nat) (r : Int32) (v al rg lo hi : Nat → Int32) : va_W :=
  [(a 30, .inr (1, [.int r, .ref (a 31), .ref (a 32), .ref (a 33), .ref (a 34), .ref (a 35)])), (a 31, .inl (a 20, 192, .inl v)), (a 32, .inl (a 21, 64, .inl al)), (a 33, .inl (a 21, 3, .inl rg)), (a 34, .inl (a 20, 3, .inl lo)), (a 35, .inl (a 20, 3, .inl hi))]
end
section
set_option maxRecDepth 100000
theorem kI_0 : Int32.ofInt 0 = nI 0 := by decide +kernel
theorem kI_1 : Int32.ofInt 1 = nI 1 := by decide +kernel
theorem kI_2 : Int32.ofInt 2 = nI 2 := by decide +kernel
theorem kI_3 : Int32.ofInt 3 = nI 3 := by decide +kernel
theorem kI_4 : Int32.ofInt 4 = nI 4 := by decide +kernel
theorem kI_5 : Int32.ofInt 5 = nI 5 := by decide +kernel
theorem kI_m1 : Int32.ofInt (-1) = -1 := by decide +kernel
theorem kB_7 : (Int8.ofInt 7).toInt32 = nI 7 := by decide +kernel
theorem kB_12 : (Int8.ofInt 12).toInt32 = nI 12 := by decide +kernel
theorem kB_15 : (Int8.ofInt 15).toInt32 = nI 15 := by decide +kernel
theorem kB_16 : (Int8.ofInt 16).toInt32 = nI 16 := by decide +kernel
theorem kB_31 : (Int8.ofInt 31).toInt32 = nI 31 := by decide +kernel
theorem kB_32 : (Int8.ofInt 32).toInt32 = nI 32 := by decide +kernel
theorem kB_34 : (Int8.ofInt 34).toInt32 = nI 34 := by decide +kernel
theorem kB_48 : (Int8.ofInt 48).toInt32 = nI 48 := by decide +kernel
theorem kB_64 : (Int8.ofInt 64).toInt32 = nI 64 := by decide +kernel
theorem kS_192 : (Int16.ofInt 192).toInt32 = nI 192 := by decide +kernel
theorem kS_420 : (Int16.ofInt 420).toInt32 = nI 420 := by decide +kernel
theorem kL_0 : Int64.ofNat ((0 : Fin 2) : Nat) = 0 := by decide +kernel
theorem inc1 (i : Nat) : nI i + Int32.ofInt 1 = nI (i + 1) := nI_1 i
theorem inc4 (i : Nat) : nI i + Int32.ofInt 4 = nI (i + 4) := nI_add i 4
theorem dec1 {i : Nat} (h : 0 < i) : nI i + Int32.ofInt (-1) = nI (i - 1) := by
  rw [kI_m1]
  exact sb_m1 h
theorem and15 {n : Nat} (h : n < 4294967296) : nI n &&& nI 15 = nI (n % 16) := pk_andN h 4 (by decide +kernel)
theorem and31 {n : Nat} (h : n < 4294967296) : nI n &&& nI 31 = nI (n % 32) := pk_andN h 5 (by decide +kernel)
theorem shr1 {n : Nat} (h : n < 2147483648) : nI n >>> (nI 1 &&& 31) = nI (n / 2) := pk_shrN h _ 1 (by decide +kernel)
theorem shr4 {n : Nat} (h : n < 2147483648) : nI n >>> (nI 4 &&& 31) = nI (n / 16) := pk_shrN h _ 4 (by decide +kernel)
theorem shr5 {n : Nat} (h : n < 2147483648) : nI n >>> (nI 5 &&& 31) = nI (n / 32) := pk_shrN h _ 5 (by decide +kernel)
theorem div2 {n : Nat} (h : n < 2147483648) : nI n / nI 2 = nI (n / 2) := pk_div h (by decide) (by decide)
theorem ne2 : ¬ nI 2 = 0 := by decide +kernel
theorem nb0 : narrow .boolean (.int (nI 0)) = .int (nI 0) := by decide +kernel
theorem nb1 : narrow .boolean (.int (nI 1)) = .int (nI 1) := by decide +kernel
theorem vz0 : vp_nar .boolean (nI 0) = nI 0 := by decide +kernel
theorem vz1 : vp_nar .boolean (nI 1) = nI 1 := by decide +kernel
/-- x >>> k and x << k, k a number -/
def us (x : Int32) (k : Nat) : Int32 := (x.toUInt32 >>> ((nI k).toUInt32 &&& Int32.toUInt32 31)).toInt32
def shl (x : Int32) (k : Nat) : Int32 := x <<< (nI k &&& 31)
/-- the bit as a number -/
def tb (x : Int32) (k : Nat) : Nat := if bt x k then 1 else 0
theorem bt_us (n : Nat) (hn : n < 32) (x : Int32) (i : Nat) : bt (us x n) i = bt x (n + i) := b_ushr n hn x i
theorem bt_shl (n : Nat) (hn : n < 32) (x : Int32) {i : Nat} (hi : i < 32) : bt (shl x n) i = (decide (n ≤ i) && bt x (i - n)) := b_shl n hn x hi
theorem bt_one : ∀ i, i < 32 → bt (nI 1) i = decide (i = 0) := by decide +kernel
theorem bt_nI0 (i : Nat) : bt (nI 0) i = false := b_0 i
theorem us_1 (x : Int32) {k : Nat} (hk : k < 32) : us x k &&& nI 1 = nI (tb x k) := by
  apply b_ext
  intro i hi
  rw [b_and, bt_us k hk, bt_one i hi]
  unfold tb
  by_cases h0 : i = 0
  · subst h0
    cases h : bt x k
    · simp [h, bt_nI0]
    · simp [h, bt_one]
  · cases h : bt x k
    · simp [h0, bt_nI0]
    · simp [h0, bt_one i hi]
theorem tb_le (x : Int32) (k : Nat) : tb x k ≤ 1 := by unfold tb; split <;> omega
theorem tb_0 {x : Int32} {k : Nat} (h : bt x k = false) : tb x k = 0 := by unfold tb; rw [h]; rfl
theorem tb_1 {x : Int32} {k : Nat} (h : bt x k = true) : tb x k = 1 := by unfold tb; rw [h]; rfl
theorem bt_s1 {n i : Nat} (hn : n < 32) (hi : i < 32) : bt (shl (nI 1) n) i = decide (i = n) := by
  rw [bt_shl n hn _ hi]
  by_cases h : n ≤ i
  · rw [bt_one (i - n) (by omega)]
    by_cases e : i = n
    · subst e; simp
    · simp [h, e]; omega
  · simp [h]; omega
section TBR
variable {K : Cx} {a : Nat → Nat} {cc : ByteArray} {nL : Nat} {own : String} {pc : Nat} (pc' : Nat) {lv : List (Nat × Value)} {st : List Value} {w : va_W}
theorem b_if_eq (tgt : Nat) {x : Int32} {k : Nat} {off : Int} (hd : decode cc pc = .ok (.ifCond .eq off, 3)) (ht : (pc : Int) + off = (tgt : Int)) (kt : bt x k = false → CW K a cc nL own tgt lv st w) (kf : bt x k = true → CW K a cc nL own pc' lv st w) (hp : pc + 3 = pc' := by rfl) : CW K a cc nL own pc lv (.int (nI (tb x k)) :: st) w :=
  n_if_eq pc' tgt hd ht (by have := tb_le x k; omega) (fun h => kt (by cases e : bt x k with | false => rfl | true => rw [tb_1 e] at h; omega)) (fun h => kf (by cases e : bt x k with | true => rfl | false => rw [tb_0 e] at h; omega)) hp
theorem b_if_ne (tgt : Nat) {x : Int32} {k : Nat} {off : Int} (hd : decode cc pc = .ok (.ifCond .ne off, 3)) (ht : (pc : Int) + off = (tgt : Int)) (kt : bt x k = true → CW K a cc nL own tgt lv st w) (kf : bt x k = false → CW K a cc nL own pc' lv st w) (hp : pc + 3 = pc' := by rfl) : CW K a cc nL own pc lv (.int (nI (tb x k)) :: st) w :=
  n_if_ne pc' tgt hd ht (by have := tb_le x k; omega) (fun h => kt (by cases e : bt x k with | true => rfl | false => rw [tb_0 e] at h; omega)) (fun h => kf (by cases e : bt x k with | false => rfl | true => rw [tb_1 e] at h; omega)) hp
end TBR

theorem gwX0_appendL : GoodIn lw_all (wsV "ColumnStoreLaw" 13 RX0 yX0_append (ws_ yX0_append cX0_append 6 (some .int))) := lw_V q73 q74 q75 q21 q76
theorem nyX0_append : yX0_append.cls = RX0 ∧ yX0_append.cls ≠ "java/lang/invoke/MethodHandle" ∧ yX0_append.cls ≠ "java/lang/invoke/VarHandle" ∧ (parseMethodDescriptor yX0_append.desc).map (fun d => d.parameters.length) = some 3 := by decide +kernel
theorem gwX0_closeColumn : GoodIn lw_all (wsV RX0 48 RX0 yX0_closeColumn (ws_ yX0_closeColumn cX0_closeColumn 8 none)) := lw_V q77 q79 qs0 q21 q80
theorem nyX0_closeColumn : yX0_closeColumn.cls = RX0 ∧ yX0_closeColumn.cls ≠ "java/lang/invoke/MethodHandle" ∧ yX0_closeColumn.cls ≠ "java/lang/invoke/VarHandle" ∧ (parseMethodDescriptor yX0_closeColumn.desc).map (fun d => d.parameters.length) = some 2 := by decide +kernel
theorem gwX0_addValue : GoodIn lw_all (wsV RX0 82 RX0 yX0_addValue (ws_ yX0_addValue cX0_addValue 6 none)) := lw_V q81 q83 qs1 q21 q84
theorem nyX0_addValue : yX0_addValue.cls = RX0 ∧ yX0_addValue.cls ≠ "java/lang/invoke/MethodHandle" ∧ yX0_addValue.cls ≠ "java/lang/invoke/VarHandle" ∧ (parseMethodDescriptor yX0_addValue.desc).map (fun d => d.parameters.length) = some 1 := by decide +kernel
theorem gwX0_bitsFor : GoodIn lw_all (va_wsS RX0 86 yX0_bitsFor (ws_ yX0_bitsFor cX0_bitsFor 3 (some .int))) := lw_S q85 q86 q21 q87
theorem nyX0_bitsFor : yX0_bitsFor.cls ≠ "java/lang/invoke/MethodHandle" ∧ yX0_bitsFor.cls ≠ "java/lang/invoke/VarHandle" ∧ (parseMethodDescriptor yX0_bitsFor.desc).map (fun d => d.parameters.length) = some 1 := by decide +kernel
theorem gwX0_writeRuns : GoodIn lw_all (wsV RX0 89 RX0 yX0_writeRuns (ws_ yX0_writeRuns cX0_writeRuns 5 none)) := lw_V q88 q90 qs2 q21 q91
theorem nyX0_writeRuns : yX0_writeRuns.cls = RX0 ∧ yX0_writeRuns.cls ≠ "java/lang/invoke/MethodHandle" ∧ yX0_writeRuns.cls ≠ "java/lang/invoke/VarHandle" ∧ (parseMethodDescriptor yX0_writeRuns.desc).map (fun d => d.parameters.length) = some 2 := by decide +kernel
theorem gwX0_writeDictionary : GoodIn lw_all (wsV RX0 92 RX0 yX0_writeDictionary (ws_ yX0_writeDictionary cX0_writeDictionary 7 none)) := lw_V q92 q94 qs3 q21 q95
theorem nyX0_writeDictionary : yX0_writeDictionary.cls = RX0 ∧ yX0_writeDictionary.cls ≠ "java/lang/invoke/MethodHandle" ∧ yX0_writeDictionary.cls ≠ "java/lang/invoke/VarHandle" ∧ (parseMethodDescriptor yX0_writeDictionary.desc).map (fun d => d.parameters.length) = some 3 := by decide +kernel
theorem gwX0_clearBits : GoodIn lw_all (wsV RX0 102 RX0 yX0_clearBits (ws_ yX0_clearBits cX0_clearBits 4 none)) := lw_V q96 q98 qs4 q21 q99
theorem nyX0_clearBits : yX0_clearBits.cls = RX0 ∧ yX0_clearBits.cls ≠ "java/lang/invoke/MethodHandle" ∧ yX0_clearBits.cls ≠ "java/lang/invoke/VarHandle" ∧ (parseMethodDescriptor yX0_clearBits.desc).map (fun d => d.parameters.length) = some 2 := by decide +kernel
theorem gwX0_putBits : GoodIn lw_all (wsV RX0 105 RX0 yX0_putBits (ws_ yX0_putBits cX0_putBits 6 none)) := lw_V q100 q102 qs5 q21 q103
theorem nyX0_putBits : yX0_putBits.cls = RX0 ∧ yX0_putBits.cls ≠ "java/lang/invoke/MethodHandle" ∧ yX0_putBits.cls ≠ "java/lang/invoke/VarHandle" ∧ (parseMethodDescriptor yX0_putBits.desc).map (fun d => d.parameters.length) = some 4 := by decide +kernel
theorem gwX0_writePacked : GoodIn lw_all (wsV RX0 96 RX0 yX0_writePacked (ws_ yX0_writePacked cX0_writePacked 5 none)) := lw_V q104 q106 qs6 q21 q107
theorem nyX0_writePacked : yX0_writePacked.cls = RX0 ∧ yX0_writePacked.cls ≠ "java/lang/invoke/MethodHandle" ∧ yX0_writePacked.cls ≠ "java/lang/invoke/VarHandle" ∧ (parseMethodDescriptor yX0_writePacked.desc).map (fun d => d.parameters.length) = some 3 := by decide +kernel
theorem gwX0_writePlain : GoodIn lw_all (wsV RX0 99 RX0 yX0_writePlain (ws_ yX0_writePlain cX0_writePlain 4 none)) := lw_V q108 q110 qs7 q21 q111
theorem nyX0_writePlain : yX0_writePlain.cls = RX0 ∧ yX0_writePlain.cls ≠ "java/lang/invoke/MethodHandle" ∧ yX0_writePlain.cls ≠ "java/lang/invoke/VarHandle" ∧ (parseMethodDescriptor yX0_writePlain.desc).map (fun d => d.parameters.length) = some 2 := by decide +kernel
theorem gwX0_strikeL : GoodIn lw_all (wsV "ColumnStoreLaw" 18 RX0 yX0_strike (ws_ yX0_strike cX0_strike 2 (some .int))) := lw_V q112 q113 q114 q21 q115
theorem nyX0_strike : yX0_strike.cls = RX0 ∧ yX0_strike.cls ≠ "java/lang/invoke/MethodHandle" ∧ yX0_strike.cls ≠ "java/lang/invoke/VarHandle" ∧ (parseMethodDescriptor yX0_strike.desc).map (fun d => d.parameters.length) = some 1 := by decide +kernel
theorem gwX0_rangeL : GoodIn lw_all (wsV "ColumnStoreLaw" 23 RX0 yX0_range (ws_ yX0_range cX0_range 4 (some .int))) := lw_V q116 q117 q118 q21 q119
theorem nyX0_range : yX0_range.cls = RX0 ∧ yX0_range.cls ≠ "java/lang/invoke/MethodHandle" ∧ yX0_range.cls ≠ "java/lang/invoke/VarHandle" ∧ (parseMethodDescriptor yX0_range.desc).map (fun d => d.parameters.length) = some 3 := by decide +kernel
theorem gwX0_isColumn : GoodIn lw_all (va_wsS RX0 52 yX0_isColumn (ws_ yX0_isColumn cX0_isColumn 1 (some .boolean))) := lw_S q120 q121 q21 q122
theorem nyX0_isColumn : yX0_isColumn.cls ≠ "java/lang/invoke/MethodHandle" ∧ yX0_isColumn.cls ≠ "java/lang/invoke/VarHandle" ∧ (parseMethodDescriptor yX0_isColumn.desc).map (fun d => d.parameters.length) = some 1 := by decide +kernel
theorem gwX0_openL : GoodIn lw_all (wsV "ColumnStoreLaw" 27 RX0 yX0_open (ws_ yX0_open cX0_open 2 none)) := lw_V q123 q124 q125 q21 q126
theorem nyX0_open : yX0_open.cls = RX0 ∧ yX0_open.cls ≠ "java/lang/invoke/MethodHandle" ∧ yX0_open.cls ≠ "java/lang/invoke/VarHandle" ∧ (parseMethodDescriptor yX0_open.desc).map (fun d => d.parameters.length) = some 0 := by decide +kernel
theorem gwX0_countL : GoodIn lw_all (wsV "ColumnStoreLaw" 31 RX0 yX0_count (ws_ yX0_count cX0_count 4 (some .int))) := lw_V q127 q128 q129 q21 q130
theorem nyX0_count : yX0_count.cls = RX0 ∧ yX0_count.cls ≠ "java/lang/invoke/MethodHandle" ∧ yX0_count.cls ≠ "java/lang/invoke/VarHandle" ∧ (parseMethodDescriptor yX0_count.desc).map (fun d => d.parameters.length) = some 0 := by decide +kernel
theorem gwX0_passMask : GoodIn lw_all (wsV RX0 56 RX0 yX0_passMask (ws_ yX0_passMask cX0_passMask 4 (some .int))) := lw_V q131 q133 qs8 q21 q134
theorem nyX0_passMask : yX0_passMask.cls = RX0 ∧ yX0_passMask.cls ≠ "java/lang/invoke/MethodHandle" ∧ yX0_passMask.cls ≠ "java/lang/invoke/VarHandle" ∧ (parseMethodDescriptor yX0_passMask.desc).map (fun d => d.parameters.length) = some 1 := by decide +kernel
theorem gwX0_rangeMask : GoodIn lw_all (wsV RX0 118 RX0 yX0_rangeMask (ws_ yX0_rangeMask cX0_rangeMask 10 (some .int))) := lw_V q135 q137 qs9 q21 q138
theorem nyX0_rangeMask : yX0_rangeMask.cls = RX0 ∧ yX0_rangeMask.cls ≠ "java/lang/invoke/MethodHandle" ∧ yX0_rangeMask.cls ≠ "java/lang/invoke/VarHandle" ∧ (parseMethodDescriptor yX0_rangeMask.desc).map (fun d => d.parameters.length) = some 4 := by decide +kernel
theorem gwX0_isClosed : GoodIn lw_all (wsV RX0 109 RX0 yX0_isClosed (ws_ yX0_isClosed cX0_isClosed 2 (some .boolean))) := lw_V q139 q141 qs10 q21 q142
theorem nyX0_isClosed : yX0_isClosed.cls = RX0 ∧ yX0_isClosed.cls ≠ "java/lang/invoke/MethodHandle" ∧ yX0_isClosed.cls ≠ "java/lang/invoke/VarHandle" ∧ (parseMethodDescriptor yX0_isClosed.desc).map (fun d => d.parameters.length) = some 1 := by decide +kernel
theorem gwX0_runMask : GoodIn lw_all (wsV RX0 123 RX0 yX0_runMask (ws_ yX0_runMask cX0_runMask 7 (some .int))) := lw_V q144 q146 qs11 q21 q147
theorem nyX0_runMask : yX0_runMask.cls = RX0 ∧ yX0_runMask.cls ≠ "java/lang/invoke/MethodHandle" ∧ yX0_runMask.cls ≠ "java/lang/invoke/VarHandle" ∧ (parseMethodDescriptor yX0_runMask.desc).map (fun d => d.parameters.length) = some 3 := by decide +kernel
theorem gwX0_dictionaryMask : GoodIn lw_all (wsV RX0 126 RX0 yX0_dictionaryMask (ws_ yX0_dictionaryMask cX0_dictionaryMask 10 (some .int))) := lw_V q148 q150 qs12 q21 q151
theorem nyX0_dictionaryMask : yX0_dictionaryMask.cls = RX0 ∧ yX0_dictionaryMask.cls ≠ "java/lang/invoke/MethodHandle" ∧ yX0_dictionaryMask.cls ≠ "java/lang/invoke/VarHandle" ∧ (parseMethodDescriptor yX0_dictionaryMask.desc).map (fun d => d.parameters.length) = some 3 := by decide +kernel
theorem gwX0_indexBitsOf : GoodIn lw_all (wsV RX0 115 RX0 yX0_indexBitsOf (ws_ yX0_indexBitsOf cX0_indexBitsOf 2 (some .int))) := lw_V q152 q154 qs13 q21 q155
theorem nyX0_indexBitsOf : yX0_indexBitsOf.cls = RX0 ∧ yX0_indexBitsOf.cls ≠ "java/lang/invoke/MethodHandle" ∧ yX0_indexBitsOf.cls ≠ "java/lang/invoke/VarHandle" ∧ (parseMethodDescriptor yX0_indexBitsOf.desc).map (fun d => d.parameters.length) = some 1 := by decide +kernel
theorem gwX0_getBits : GoodIn lw_all (wsV RX0 112 RX0 yX0_getBits (ws_ yX0_getBits cX0_getBits 6 (some .int))) := lw_V q156 q158 qs14 q21 q159
theorem nyX0_getBits : yX0_getBits.cls = RX0 ∧ yX0_getBits.cls ≠ "java/lang/invoke/MethodHandle" ∧ yX0_getBits.cls ≠ "java/lang/invoke/VarHandle" ∧ (parseMethodDescriptor yX0_getBits.desc).map (fun d => d.parameters.length) = some 3 := by decide +kernel
theorem gwX0_valueIn : GoodIn lw_all (wsV RX0 71 RX0 yX0_valueIn (ws_ yX0_valueIn cX0_valueIn 7 (some .int))) := lw_V q160 q162 qs15 q21 q163
theorem nyX0_valueIn : yX0_valueIn.cls = RX0 ∧ yX0_valueIn.cls ≠ "java/lang/invoke/MethodHandle" ∧ yX0_valueIn.cls ≠ "java/lang/invoke/VarHandle" ∧ (parseMethodDescriptor yX0_valueIn.desc).map (fun d => d.parameters.length) = some 3 := by decide +kernel
theorem gwX0_ones : GoodIn lw_all (va_wsS RX0 60 yX0_ones (ws_ yX0_ones cX0_ones 3 (some .int))) := lw_S q164 q165 q21 q166
theorem nyX0_ones : yX0_ones.cls ≠ "java/lang/invoke/MethodHandle" ∧ yX0_ones.cls ≠ "java/lang/invoke/VarHandle" ∧ (parseMethodDescriptor yX0_ones.desc).map (fun d => d.parameters.length) = some 1 := by decide +kernel
theorem gwX0_sumL : GoodIn lw_all (wsV "ColumnStoreLaw" 36 RX0 yX0_sum (ws_ yX0_sum cX0_sum 6 (some .long))) := lw_V q167 q168 q169 q21 q170
theorem nyX0_sum : yX0_sum.cls = RX0 ∧ yX0_sum.cls ≠ "java/lang/invoke/MethodHandle" ∧ yX0_sum.cls ≠ "java/lang/invoke/VarHandle" ∧ (parseMethodDescriptor yX0_sum.desc).map (fun d => d.parameters.length) = some 1 := by decide +kernel
theorem gwX0_sumOf : GoodIn lw_all (wsV RX0 63 RX0 yX0_sumOf (ws_ yX0_sumOf cX0_sumOf 9 (some .long))) := lw_V q171 q173 qs16 q21 q174
theorem nyX0_sumOf : yX0_sumOf.cls = RX0 ∧ yX0_sumOf.cls ≠ "java/lang/invoke/MethodHandle" ∧ yX0_sumOf.cls ≠ "java/lang/invoke/VarHandle" ∧ (parseMethodDescriptor yX0_sumOf.desc).map (fun d => d.parameters.length) = some 3 := by decide +kernel
theorem gwX0_extremeL : GoodIn lw_all (wsV "ColumnStoreLaw" 41 RX0 yX0_extreme (ws_ yX0_extreme cX0_extreme 9 (some .int))) := lw_V q175 q176 q177 q21 q178
theorem nyX0_extreme : yX0_extreme.cls = RX0 ∧ yX0_extreme.cls ≠ "java/lang/invoke/MethodHandle" ∧ yX0_extreme.cls ≠ "java/lang/invoke/VarHandle" ∧ (parseMethodDescriptor yX0_extreme.desc).map (fun d => d.parameters.length) = some 2 := by decide +kernel
theorem gwX0_mayBeat : GoodIn lw_all (wsV RX0 67 RX0 yX0_mayBeat (ws_ yX0_mayBeat cX0_mayBeat 7 (some .boolean))) := lw_V q179 q181 qs17 q21 q182
theorem nyX0_mayBeat : yX0_mayBeat.cls = RX0 ∧ yX0_mayBeat.cls ≠ "java/lang/invoke/MethodHandle" ∧ yX0_mayBeat.cls ≠ "java/lang/invoke/VarHandle" ∧ (parseMethodDescriptor yX0_mayBeat.desc).map (fun d => d.parameters.length) = some 5 := by decide +kernel
theorem gwX0_passingL : GoodIn lw_all (wsV "ColumnStoreLaw" 46 RX0 yX0_passing (ws_ yX0_passing cX0_passing 6 (some .int))) := lw_V q183 q184 q185 q21 q186
theorem nyX0_passing : yX0_passing.cls = RX0 ∧ yX0_passing.cls ≠ "java/lang/invoke/MethodHandle" ∧ yX0_passing.cls ≠ "java/lang/invoke/VarHandle" ∧ (parseMethodDescriptor yX0_passing.desc).map (fun d => d.parameters.length) = some 1 := by decide +kernel
theorem gwX0_oneAt : GoodIn lw_all (va_wsS RX0 75 yX0_oneAt (ws_ yX0_oneAt cX0_oneAt 4 (some .int))) := lw_S q187 q188 q21 q189
theorem nyX0_oneAt : yX0_oneAt.cls ≠ "java/lang/invoke/MethodHandle" ∧ yX0_oneAt.cls ≠ "java/lang/invoke/VarHandle" ∧ (parseMethodDescriptor yX0_oneAt.desc).map (fun d => d.parameters.length) = some 2 := by decide +kernel
theorem gwX0_valueL : GoodIn lw_all (wsV "ColumnStoreLaw" 50 RX0 yX0_value (ws_ yX0_value cX0_value 3 (some .int))) := lw_V q190 q191 q192 q21 q193
theorem nyX0_value : yX0_value.cls = RX0 ∧ yX0_value.cls ≠ "java/lang/invoke/MethodHandle" ∧ yX0_value.cls ≠ "java/lang/invoke/VarHandle" ∧ (parseMethodDescriptor yX0_value.desc).map (fun d => d.parameters.length) = some 2 := by decide +kernel
theorem gwX0_differentL : GoodIn lw_all (wsV "ColumnStoreLaw" 55 RX0 yX0_different (ws_ yX0_different cX0_different 6 (some .int))) := lw_V q194 q195 q196 q21 q197
theorem nyX0_different : yX0_different.cls = RX0 ∧ yX0_different.cls ≠ "java/lang/invoke/MethodHandle" ∧ yX0_different.cls ≠ "java/lang/invoke/VarHandle" ∧ (parseMethodDescriptor yX0_different.desc).map (fun d => d.parameters.length) = some 1 := by decide +kernel
theorem gwX0_liveL : GoodIn lw_all (wsV "ColumnStoreLaw" 59 RX0 yX0_live (ws_ yX0_live cX0_live 3 (some .int))) := lw_V q198 q199 q200 q21 q201
theorem nyX0_live : yX0_live.cls = RX0 ∧ yX0_live.cls ≠ "java/lang/invoke/MethodHandle" ∧ yX0_live.cls ≠ "java/lang/invoke/VarHandle" ∧ (parseMethodDescriptor yX0_live.desc).map (fun d => d.parameters.length) = some 0 := by decide +kernel
theorem gwX1_appendL : GoodIn lw_all (wsV "ColumnStoreLaw" 17 RX1 yX1_append (ws_ yX1_append cX1_append 4 (some .int))) := lw_V q227 q228 q229 q22 q230
theorem nyX1_append : yX1_append.cls = RX1 ∧ yX1_append.cls ≠ "java/lang/invoke/MethodHandle" ∧ yX1_append.cls ≠ "java/lang/invoke/VarHandle" ∧ (parseMethodDescriptor yX1_append.desc).map (fun d => d.parameters.length) = some 3 := by decide +kernel
theorem gwX1_strikeL : GoodIn lw_all (wsV "ColumnStoreLaw" 22 RX1 yX1_strike (ws_ yX1_strike cX1_strike 2 (some .int))) := lw_V q231 q232 q233 q22 q234
theorem nyX1_strike : yX1_strike.cls = RX1 ∧ yX1_strike.cls ≠ "java/lang/invoke/MethodHandle" ∧ yX1_strike.cls ≠ "java/lang/invoke/VarHandle" ∧ (parseMethodDescriptor yX1_strike.desc).map (fun d => d.parameters.length) = some 1 := by decide +kernel
theorem gwX1_rangeL : GoodIn lw_all (wsV "ColumnStoreLaw" 26 RX1 yX1_range (ws_ yX1_range cX1_range 4 (some .int))) := lw_V q235 q236 q237 q22 q238
theorem nyX1_range : yX1_range.cls = RX1 ∧ yX1_range.cls ≠ "java/lang/invoke/MethodHandle" ∧ yX1_range.cls ≠ "java/lang/invoke/VarHandle" ∧ (parseMethodDescriptor yX1_range.desc).map (fun d => d.parameters.length) = some 3 := by decide +kernel
theorem gwX1_bad : GoodIn lw_all (va_wsS RX1 30 yX1_bad (ws_ yX1_bad cX1_bad 1 (some .boolean))) := lw_S q239 q240 q22 q241
theorem nyX1_bad : yX1_bad.cls ≠ "java/lang/invoke/MethodHandle" ∧ yX1_bad.cls ≠ "java/lang/invoke/VarHandle" ∧ (parseMethodDescriptor yX1_bad.desc).map (fun d => d.parameters.length) = some 1 := by decide +kernel
theorem gwX1_openL : GoodIn lw_all (wsV "ColumnStoreLaw" 30 RX1 yX1_open (ws_ yX1_open cX1_open 2 none)) := lw_V q242 q243 q244 q22 q245
theorem nyX1_open : yX1_open.cls = RX1 ∧ yX1_open.cls ≠ "java/lang/invoke/MethodHandle" ∧ yX1_open.cls ≠ "java/lang/invoke/VarHandle" ∧ (parseMethodDescriptor yX1_open.desc).map (fun d => d.parameters.length) = some 0 := by decide +kernel
theorem gwX1_countL : GoodIn lw_all (wsV "ColumnStoreLaw" 35 RX1 yX1_count (ws_ yX1_count cX1_count 3 (some .int))) := lw_V q246 q247 q248 q22 q249
theorem nyX1_count : yX1_count.cls = RX1 ∧ yX1_count.cls ≠ "java/lang/invoke/MethodHandle" ∧ yX1_count.cls ≠ "java/lang/invoke/VarHandle" ∧ (parseMethodDescriptor yX1_count.desc).map (fun d => d.parameters.length) = some 0 := by decide +kernel
theorem gwX1_passes : GoodIn lw_all (wsV RX1 34 RX1 yX1_passes (ws_ yX1_passes cX1_passes 4 (some .boolean))) := lw_V q250 q252 qs18 q22 q253
theorem nyX1_passes : yX1_passes.cls = RX1 ∧ yX1_passes.cls ≠ "java/lang/invoke/MethodHandle" ∧ yX1_passes.cls ≠ "java/lang/invoke/VarHandle" ∧ (parseMethodDescriptor yX1_passes.desc).map (fun d => d.parameters.length) = some 1 := by decide +kernel
theorem gwX1_sumL : GoodIn lw_all (wsV "ColumnStoreLaw" 40 RX1 yX1_sum (ws_ yX1_sum cX1_sum 5 (some .long))) := lw_V q254 q255 q256 q22 q257
theorem nyX1_sum : yX1_sum.cls = RX1 ∧ yX1_sum.cls ≠ "java/lang/invoke/MethodHandle" ∧ yX1_sum.cls ≠ "java/lang/invoke/VarHandle" ∧ (parseMethodDescriptor yX1_sum.desc).map (fun d => d.parameters.length) = some 1 := by decide +kernel
theorem gwX1_extremeL : GoodIn lw_all (wsV "ColumnStoreLaw" 45 RX1 yX1_extreme (ws_ yX1_extreme cX1_extreme 7 (some .int))) := lw_V q258 q259 q260 q22 q261
theorem nyX1_extreme : yX1_extreme.cls = RX1 ∧ yX1_extreme.cls ≠ "java/lang/invoke/MethodHandle" ∧ yX1_extreme.cls ≠ "java/lang/invoke/VarHandle" ∧ (parseMethodDescriptor yX1_extreme.desc).map (fun d => d.parameters.length) = some 2 := by decide +kernel
theorem gwX1_passingL : GoodIn lw_all (wsV "ColumnStoreLaw" 49 RX1 yX1_passing (ws_ yX1_passing cX1_passing 4 (some .int))) := lw_V q262 q263 q264 q22 q265
theorem nyX1_passing : yX1_passing.cls = RX1 ∧ yX1_passing.cls ≠ "java/lang/invoke/MethodHandle" ∧ yX1_passing.cls ≠ "java/lang/invoke/VarHandle" ∧ (parseMethodDescriptor yX1_passing.desc).map (fun d => d.parameters.length) = some 1 := by decide +kernel
theorem gwX1_valueL : GoodIn lw_all (wsV "ColumnStoreLaw" 54 RX1 yX1_value (ws_ yX1_value cX1_value 3 (some .int))) := lw_V q266 q267 q268 q22 q269
theorem nyX1_value : yX1_value.cls = RX1 ∧ yX1_value.cls ≠ "java/lang/invoke/MethodHandle" ∧ yX1_value.cls ≠ "java/lang/invoke/VarHandle" ∧ (parseMethodDescriptor yX1_value.desc).map (fun d => d.parameters.length) = some 2 := by decide +kernel
theorem gwX1_differentL : GoodIn lw_all (wsV "ColumnStoreLaw" 58 RX1 yX1_different (ws_ yX1_different cX1_different 4 (some .int))) := lw_V q270 q271 q272 q22 q273
theorem nyX1_different : yX1_different.cls = RX1 ∧ yX1_different.cls ≠ "java/lang/invoke/MethodHandle" ∧ yX1_different.cls ≠ "java/lang/invoke/VarHandle" ∧ (parseMethodDescriptor yX1_different.desc).map (fun d => d.parameters.length) = some 1 := by decide +kernel
theorem gwX1_seen : GoodIn lw_all (wsV RX1 37 RX1 yX1_seen (ws_ yX1_seen cX1_seen 4 (some .boolean))) := lw_V q274 q276 qs19 q22 q277
theorem nyX1_seen : yX1_seen.cls = RX1 ∧ yX1_seen.cls ≠ "java/lang/invoke/MethodHandle" ∧ yX1_seen.cls ≠ "java/lang/invoke/VarHandle" ∧ (parseMethodDescriptor yX1_seen.desc).map (fun d => d.parameters.length) = some 2 := by decide +kernel
theorem gwX1_liveL : GoodIn lw_all (wsV "ColumnStoreLaw" 62 RX1 yX1_live (ws_ yX1_live cX1_live 3 (some .int))) := lw_V q278 q279 q280 q22 q281
theorem nyX1_live : yX1_live.cls = RX1 ∧ yX1_live.cls ≠ "java/lang/invoke/MethodHandle" ∧ yX1_live.cls ≠ "java/lang/invoke/VarHandle" ∧ (parseMethodDescriptor yX1_live.desc).map (fun d => d.parameters.length) = some 0 := by decide +kernel
end
section
set_option maxRecDepth 100000
set_option maxHeartbeats 1000000
theorem ct_t {p : Nat → Bool} {n : Nat} (h : p n = true) : fb_ct p (n + 1) = fb_ct p n + 1 := by rw [fb_ct_succ, if_pos h]
theorem ct_f {p : Nat → Bool} {n : Nat} (h : p n = false) : fb_ct p (n + 1) = fb_ct p n := by rw [fb_ct_succ, if_neg (by rw [h]; decide)]; rfl
/-- the length of x in bits, of the first k -/
def bl (x : Int32) : Nat → Nat
  | 0 => 0
  | k + 1 => if bt x k then k + 1 else bl x k
theorem bl_t {x : Int32} {k : Nat} (h : bt x k = true) : bl x (k + 1) = k + 1 := by rw [bl, if_pos h]
theorem bl_f {x : Int32} {k : Nat} (h : bt x k = false) : bl x (k + 1) = bl x k := by rw [bl, if_neg (by rw [h]; decide)]
theorem bl_le (x : Int32) : ∀ k, bl x k ≤ k
  | 0 => Nat.le_refl 0
  | k + 1 => by
    cases h : bt x k with
    | true => rw [bl_t h]; exact Nat.le_refl _
    | false => rw [bl_f h]; exact Nat.le_succ_of_le (bl_le x k)
theorem bl_above (x : Int32) : ∀ k i, bl x k ≤ i → i < k → bt x i = false
  | 0, i, _, h => absurd h (Nat.not_lt_zero i)
  | k + 1, i, h1, h2 => by
    cases h : bt x k with
    | true => rw [bl_t h] at h1; omega
    | false =>
      rw [bl_f h] at h1
      rcases Nat.lt_or_ge i k with q | q
      · exact bl_above x k i h1 q
      · have e : i = k := by omega
        rw [e]; exact h
theorem bl_small (x : Int32) (j : Nat) : ∀ k, (∀ i, j ≤ i → i < k → bt x i = false) → bl x k ≤ j
  | 0, _ => Nat.zero_le _
  | k + 1, hh => by
    rcases Nat.lt_or_ge k j with q | q
    · exact Nat.le_trans (bl_le x (k + 1)) q
    · rw [bl_f (hh k q (Nat.lt_succ_self k))]
      exact bl_small x j k (fun i h1 h2 => hh i h1 (Nat.lt_succ_of_lt h2))
theorem col_no {c : Int32} (h : c < 0 ∨ nI 2 < c) : ∀ k, k < 3 → c ≠ nI k := by
  intro k hk e
  subst e
  rcases h with h | h
  · exact nI_pos (by omega) h
  · exact absurd ((nI_ltI (by decide) (by omega)).mp h) (by omega)
theorem col_yes {c : Int32} (h1 : ¬ c < 0) (h2 : ¬ nI 2 < c) : ∃ k, k < 3 ∧ c = nI k := by
  obtain ⟨j, hj, e⟩ := nI_of h1
  subst e
  refine ⟨j, ?_, rfl⟩
  rcases Nat.lt_or_ge j 3 with q | q
  · exact q
  · exact absurd ((nI_ltI (by decide) hj).mpr (by omega)) h2

theorem metX0_isColumn (La : Launch) (a : Nat → Nat) (c : Int32) : MetW La yX0_isColumn cX0_isColumn 1 (some .boolean) 0 a [.int c] [] (rpI (fun r _ => (r = nI 1 ∧ ∃ k, k < 3 ∧ c = nI k) ∨ (r = nI 0 ∧ ∀ k, k < 3 → c ≠ nI k))) := by
  refine MetW.ofI (by decide) (Nat.le_of_ble_eq_true rfl) (fun K hKl hKd ret => ?_)
  subst hKl
  show CW K a cX0_isColumn 1 RX0 0 [(0, .int c)] [] []
  refine x_iload_n 1 0 dX0_isColumn_0 rfl ?_
  refine x_if_lt 4 13 dX0_isColumn_1 (by decide) (fun h_1 => ?_) (fun h_1 => ?_)
  ·
    refine x_iconst 14 (v := nI 0) dX0_isColumn_13 kI_0 ?_
    exact ret 14 _ _ _ dX0_isColumn_14 nb0 (Or.inr ⟨rfl, col_no (by first | exact Or.inl h_1 | exact Or.inr h_6)⟩)
  ·
    refine x_iload_n 5 0 dX0_isColumn_4 rfl ?_
    refine x_iconst 6 (v := nI 2) dX0_isColumn_5 kI_2 ?_
    refine x_icmp_gt 9 13 dX0_isColumn_6 (by decide) (fun h_6 => ?_) (fun h_6 => ?_)
    ·
      refine x_iconst 14 (v := nI 0) dX0_isColumn_13 kI_0 ?_
      exact ret 14 _ _ _ dX0_isColumn_14 nb0 (Or.inr ⟨rfl, col_no (by first | exact Or.inl h_1 | exact Or.inr h_6)⟩)
    ·
      refine x_iconst 10 (v := nI 1) dX0_isColumn_9 kI_1 ?_
      refine x_goto 14 dX0_isColumn_10 (by decide) ?_
      exact ret 14 _ _ _ dX0_isColumn_14 nb1 (Or.inl ⟨rfl, col_yes h_1 h_6⟩)
theorem metX1_bad (La : Launch) (a : Nat → Nat) (c : Int32) : MetW La yX1_bad cX1_bad 1 (some .boolean) 0 a [.int c] [] (rpI (fun r _ => (r = nI 1 ∧ ∀ k, k < 3 → c ≠ nI k) ∨ (r = nI 0 ∧ ∃ k, k < 3 ∧ c = nI k))) := by
  refine MetW.ofI (by decide) (Nat.le_of_ble_eq_true rfl) (fun K hKl hKd ret => ?_)
  subst hKl
  show CW K a cX1_bad 1 RX1 0 [(0, .int c)] [] []
  refine x_iload_n 1 0 dX1_bad_0 rfl ?_
  refine x_if_lt 4 9 dX1_bad_1 (by decide) (fun h_1 => ?_) (fun h_1 => ?_)
  ·
    refine x_iconst 10 (v := nI 1) dX1_bad_9 kI_1 ?_
    refine x_goto 14 dX1_bad_10 (by decide) ?_
    exact ret 14 _ _ _ dX1_bad_14 nb1 (Or.inl ⟨rfl, col_no (by first | exact Or.inl h_1 | exact Or.inr (fa_of_nle h_6))⟩)
  ·
    refine x_iload_n 5 0 dX1_bad_4 rfl ?_
    refine x_iconst 6 (v := nI 2) dX1_bad_5 kI_2 ?_
    refine x_icmp_le 9 13 dX1_bad_6 (by decide) (fun h_6 => ?_) (fun h_6 => ?_)
    ·
      refine x_iconst 14 (v := nI 0) dX1_bad_13 kI_0 ?_
      exact ret 14 _ _ _ dX1_bad_14 nb0 (Or.inr ⟨rfl, col_yes h_1 (fun z => (fa_of_lt z).2.1 h_6)⟩)
    ·
      refine x_iconst 10 (v := nI 1) dX1_bad_9 kI_1 ?_
      refine x_goto 14 dX1_bad_10 (by decide) ?_
      exact ret 14 _ _ _ dX1_bad_14 nb1 (Or.inl ⟨rfl, col_no (by first | exact Or.inl h_1 | exact Or.inr (fa_of_nle h_6))⟩)
theorem metX0_ones (La : Launch) (a : Nat → Nat) (m : Int32) : MetW La yX0_ones cX0_ones 3 (some .int) 0 a [.int m] [] (rpI (fun r _ => r = nI (fb_ct (bt m) 16))) := by
  refine MetW.ofI (by decide) (Nat.le_of_ble_eq_true rfl) (fun K hKl hKd ret => ?_)
  subst hKl
  show CW K a cX0_ones 3 RX0 0 [(0, .int m)] [] []
  refine x_iconst 1 (v := nI 0) dX0_ones_0 kI_0 ?_
  refine x_istore_n 2 (lv' := [(1, .int (nI 0)), (0, .int m)]) dX0_ones_1 (by decide) rfl ?_
  refine x_iconst 3 (v := nI 0) dX0_ones_2 kI_0 ?_
  refine x_istore_n 4 (lv' := [(2, .int (nI 0)), (1, .int (nI 0)), (0, .int m)]) dX0_ones_3 (by decide) rfl ?_
  refine x_sub (lv' := [(0, .int m), (1, .int (nI 0)), (2, .int (nI 0))]) [2, 1, 0] rfl ?_
  refine loop_up (P := fun k => CW K a cX0_ones 3 RX0 4 [(0, .int m), (1, .int (nI (fb_ct (bt m) k))), (2, .int (nI k))] [] []) 16 (fun k hi_k ih_k => ?_) 0 (by omega)  
  refine x_iload_n 5 2 dX0_ones_4 rfl ?_
  refine x_bipush 7 (v := nI 16) dX0_ones_5 kB_16 ?_
  refine n_icmp_ge 10 24 dX0_ones_7 (by decide) (by omega) (by omega) (fun h_7 => ?_) (fun h_7 => ?_)
  ·
    refine x_iload_n 25 1 dX0_ones_24 rfl ?_
    exact ret 25 _ _ _ dX0_ones_25 rfl (by rw [show k = 16 by omega])
  ·
    have hb := fb_ct_le (bt m) k
    refine x_iload_n 11 1 dX0_ones_10 rfl ?_
    refine x_iload_n 12 0 dX0_ones_11 rfl ?_
    refine x_iload_n 13 2 dX0_ones_12 rfl ?_
    refine x_iushr 14 (v := us m k) dX0_ones_13 rfl ?_
    refine x_iconst 15 (v := nI 1) dX0_ones_14 kI_1 ?_
    refine x_iand 16 (v := nI (tb m k)) dX0_ones_15 (us_1 _ (by omega)) ?_
    refine x_iadd 17 (v := nI (fb_ct (bt m) k + tb m k)) dX0_ones_16 (nI_add _ _) ?_
    refine x_istore_n 18 (lv' := [(1, .int (nI (fb_ct (bt m) k + tb m k))), (0, .int m), (2, .int (nI k))]) dX0_ones_17 (by decide) rfl ?_
    refine x_iinc 21 (v := nI (k + 1)) (lv' := [(2, .int (nI (k + 1))), (1, .int (nI (fb_ct (bt m) k + tb m k))), (0, .int m)]) 2 dX0_ones_18 rfl (inc1 _) (by decide) rfl ?_
    refine x_goto 4 dX0_ones_21 (by decide) ?_
    refine x_sub (lv' := [(0, .int m), (1, .int (nI (fb_ct (bt m) k + tb m k))), (2, .int (nI (k + 1)))]) [2, 1, 0] rfl ?_
    exact ih_k (k + 1) (by omega) (by omega)  
theorem metX0_oneAt (La : Launch) (a : Nat → Nat) (m : Int32) (j : Nat) (hj : j < fb_ct (bt m) 16) : MetW La yX0_oneAt cX0_oneAt 4 (some .int) 0 a [.int m, .int (nI j)] [] (rpI (fun r _ => ∃ k, k < 16 ∧ r = nI k ∧ bt m k = true ∧ fb_ct (bt m) k = j)) := by
  refine MetW.ofI (by decide) (Nat.le_of_ble_eq_true rfl) (fun K hKl hKd ret => ?_)
  subst hKl
  show CW K a cX0_oneAt 4 RX0 0 [(0, .int m), (1, .int (nI j))] [] []
  refine x_iload_n 1 1 dX0_oneAt_0 rfl ?_
  refine x_istore_n 2 (lv' := [(2, .int (nI j)), (0, .int m), (1, .int (nI j))]) dX0_oneAt_1 (by decide) rfl ?_
  refine x_iconst 3 (v := nI 0) dX0_oneAt_2 kI_0 ?_
  refine x_istore_n 4 (lv' := [(3, .int (nI 0)), (2, .int (nI j)), (0, .int m), (1, .int (nI j))]) dX0_oneAt_3 (by decide) rfl ?_
  refine x_sub (lv' := [(0, .int m), (1, .int (nI j)), (2, .int (nI j)), (3, .int (nI 0))]) [2, 3, 1, 0] rfl ?_
  refine loop_up (P := fun k => ∀ (u : Nat), (u + fb_ct (bt m) k = j) → CW K a cX0_oneAt 4 RX0 4 [(0, .int m), (1, .int (nI j)), (2, .int (nI u)), (3, .int (nI k))] [] []) 16 (fun k hi_k ih_k => ?_) 0 (by omega) j (by rfl)
  intro u hu
  refine x_iload_n 5 3 dX0_oneAt_4 rfl ?_
  refine x_bipush 7 (v := nI 16) dX0_oneAt_5 kB_16 ?_
  refine n_icmp_ge 10 33 dX0_oneAt_7 (by decide) (by omega) (by omega) (fun h_7 => ?_) (fun h_7 => ?_)
  ·
    exact absurd hj (by rw [show k = 16 by omega] at hu; omega)
  ·
    have hb := fb_ct_le (bt m) 16
    refine x_iload_n 11 0 dX0_oneAt_10 rfl ?_
    refine x_iload_n 12 3 dX0_oneAt_11 rfl ?_
    refine x_iushr 13 (v := us m k) dX0_oneAt_12 rfl ?_
    refine x_iconst 14 (v := nI 1) dX0_oneAt_13 kI_1 ?_
    refine x_iand 15 (v := nI (tb m k)) dX0_oneAt_14 (us_1 _ (by omega)) ?_
    refine b_if_eq 18 27 dX0_oneAt_15 (by decide) (fun h_15 => ?_) (fun h_15 => ?_)
    ·
      refine x_iinc 30 (v := nI (k + 1)) (lv' := [(3, .int (nI (k + 1))), (0, .int m), (1, .int (nI j)), (2, .int (nI u))]) 3 dX0_oneAt_27 rfl (inc1 _) (by decide) rfl ?_
      refine x_goto 4 dX0_oneAt_30 (by decide) ?_
      refine x_sub (lv' := [(0, .int m), (1, .int (nI j)), (2, .int (nI u)), (3, .int (nI (k + 1)))]) [1, 2, 3, 0] rfl ?_
      exact ih_k (k + 1) (by omega) (by omega) _ (by first | (rw [ct_f h_15]; omega) | (rw [ct_t h_15]; omega))
    ·
      refine x_iload_n 19 2 dX0_oneAt_18 rfl ?_
      refine n_if_ne 22 24 dX0_oneAt_19 (by decide) (by omega) (fun h_19 => ?_) (fun h_19 => ?_)
      ·
        refine x_iinc 27 (v := nI (u - 1)) (lv' := [(2, .int (nI (u - 1))), (0, .int m), (1, .int (nI j)), (3, .int (nI k))]) 2 dX0_oneAt_24 rfl (dec1 (by omega)) (by decide) rfl ?_
        refine x_iinc 30 (v := nI (k + 1)) (lv' := [(3, .int (nI (k + 1))), (2, .int (nI (u - 1))), (0, .int m), (1, .int (nI j))]) 3 dX0_oneAt_27 rfl (inc1 _) (by decide) rfl ?_
        refine x_goto 4 dX0_oneAt_30 (by decide) ?_
        refine x_sub (lv' := [(0, .int m), (1, .int (nI j)), (2, .int (nI (u - 1))), (3, .int (nI (k + 1)))]) [2, 3, 1, 0] rfl ?_
        exact ih_k (k + 1) (by omega) (by omega) _ (by first | (rw [ct_f h_15]; omega) | (rw [ct_t h_15]; omega))
      ·
        refine x_iload_n 23 3 dX0_oneAt_22 rfl ?_
        exact ret 23 _ _ _ dX0_oneAt_23 rfl ⟨k, by omega, rfl, h_15, by omega⟩
theorem metX0_bitsFor (La : Launch) (a : Nat → Nat) (x : Int32) : MetW La yX0_bitsFor cX0_bitsFor 3 (some .int) 0 a [.int x] [] (rpI (fun r _ => r = nI (bl x 32))) := by
  refine MetW.ofI (by decide) (Nat.le_of_ble_eq_true rfl) (fun K hKl hKd ret => ?_)
  subst hKl
  show CW K a cX0_bitsFor 3 RX0 0 [(0, .int x)] [] []
  refine x_iconst 1 (v := nI 0) dX0_bitsFor_0 kI_0 ?_
  refine x_istore_n 2 (lv' := [(1, .int (nI 0)), (0, .int x)]) dX0_bitsFor_1 (by decide) rfl ?_
  refine x_iconst 3 (v := nI 0) dX0_bitsFor_2 kI_0 ?_
  refine x_istore_n 4 (lv' := [(2, .int (nI 0)), (1, .int (nI 0)), (0, .int x)]) dX0_bitsFor_3 (by decide) rfl ?_
  refine x_sub (lv' := [(0, .int x), (1, .int (nI 0)), (2, .int (nI 0))]) [2, 1, 0] rfl ?_
  refine loop_up (P := fun k => ∀ (n : Nat), (n = bl x k) → CW K a cX0_bitsFor 3 RX0 4 [(0, .int x), (1, .int (nI n)), (2, .int (nI k))] [] []) 32 (fun k hi_k ih_k => ?_) 0 (by omega) 0 (by rfl)
  intro n hn
  refine x_iload_n 5 2 dX0_bitsFor_4 rfl ?_
  refine x_bipush 7 (v := nI 32) dX0_bitsFor_5 kB_32 ?_
  refine n_icmp_ge 10 32 dX0_bitsFor_7 (by decide) (by omega) (by omega) (fun h_7 => ?_) (fun h_7 => ?_)
  ·
    refine x_iload_n 33 1 dX0_bitsFor_32 rfl ?_
    exact ret 33 _ _ _ dX0_bitsFor_33 rfl (by rw [hn, show k = 32 by omega])
  ·
    refine x_iload_n 11 0 dX0_bitsFor_10 rfl ?_
    refine x_iload_n 12 2 dX0_bitsFor_11 rfl ?_
    refine x_iushr 13 (v := us x k) dX0_bitsFor_12 rfl ?_
    refine x_iconst 14 (v := nI 1) dX0_bitsFor_13 kI_1 ?_
    refine x_iand 15 (v := nI (tb x k)) dX0_bitsFor_14 (us_1 _ (by omega)) ?_
    refine b_if_eq 18 24 dX0_bitsFor_15 (by decide) (fun h_15 => ?_) (fun h_15 => ?_)
    ·
      refine x_iload_n 25 1 dX0_bitsFor_24 rfl ?_
      refine x_istore_n 26 (lv' := [(1, .int (nI n)), (0, .int x), (2, .int (nI k))]) dX0_bitsFor_25 (by decide) rfl ?_
      refine x_iinc 29 (v := nI (k + 1)) (lv' := [(2, .int (nI (k + 1))), (1, .int (nI n)), (0, .int x)]) 2 dX0_bitsFor_26 rfl (inc1 _) (by decide) rfl ?_
      refine x_goto 4 dX0_bitsFor_29 (by decide) ?_
      refine x_sub (lv' := [(0, .int x), (1, .int (nI n)), (2, .int (nI (k + 1)))]) [2, 1, 0] rfl ?_
      exact ih_k (k + 1) (by omega) (by omega) _ (by first | rw [bl_t h_15] | rw [bl_f h_15, hn])
    ·
      refine x_iload_n 19 2 dX0_bitsFor_18 rfl ?_
      refine x_iconst 20 (v := nI 1) dX0_bitsFor_19 kI_1 ?_
      refine x_iadd 21 (v := nI (k + 1)) dX0_bitsFor_20 (nI_add _ _) ?_
      refine x_goto 25 dX0_bitsFor_21 (by decide) ?_
      refine x_istore_n 26 (lv' := [(1, .int (nI (k + 1))), (0, .int x), (2, .int (nI k))]) dX0_bitsFor_25 (by decide) rfl ?_
      refine x_iinc 29 (v := nI (k + 1)) (lv' := [(2, .int (nI (k + 1))), (1, .int (nI (k + 1))), (0, .int x)]) 2 dX0_bitsFor_26 rfl (inc1 _) (by decide) rfl ?_
      refine x_goto 4 dX0_bitsFor_29 (by decide) ?_
      refine x_sub (lv' := [(0, .int x), (1, .int (nI (k + 1))), (2, .int (nI (k + 1)))]) [2, 1, 0] rfl ?_
      exact ih_k (k + 1) (by omega) (by omega) _ (by first | rw [bl_t h_15] | rw [bl_f h_15, hn])
end
section
set_option maxRecDepth 100000
set_option maxHeartbeats 1000000
/-! THE PICTURE OF THE STORE -/
/-- what getBits answers -/
def gb (w : Nat → Int32) (q b i : Nat) : Int32 := if b = 0 then nI 0 else (if b * i % 32 + b ≤ 32 then us (w (q + b * i / 32)) (b * i % 32) else us (w (q + b * i / 32)) (b * i % 32) ||| shl (w (q + b * i / 32 + 1)) (32 - b * i % 32)) &&& (shl (nI 1) b - nI 1)
/-- what putBits leaves -/
def pb (w : Nat → Int32) (q b i : Nat) (v : Int32) : Nat → Int32 := if b = 0 then w else if b * i % 32 + b ≤ 32 then upd w (q + b * i / 32) (w (q + b * i / 32) ||| shl v (b * i % 32)) else upd (upd w (q + b * i / 32) (w (q + b * i / 32) ||| shl v (b * i % 32))) (q + b * i / 32 + 1) (upd w (q + b * i / 32) (w (q + b * i / 32) ||| shl v (b * i % 32)) (q + b * i / 32 + 1) ||| us v (32 - b * i % 32))
/-- the bits of an index into a dictionary of m entries -/
def ib (m : Nat) : Nat := bl (nI (m - 1)) 32
/-- the four ways of a column of a closed group, k its part, X its sixteen values -/
def RunsOk (w : Nat → Int32) (k m : Nat) (X : Nat → Int32) : Prop := m ≤ 16 ∧ ∀ p, p < 16 → ∃ j, j < m ∧ bt (w (34 * k + 2 * j + 1)) p = true ∧ w (34 * k + 2 * j) = X p ∧ ∀ j', j' < m → bt (w (34 * k + 2 * j' + 1)) p = true → j' = j
def DictOk (w : Nat → Int32) (k m : Nat) (X : Nat → Int32) : Prop := 1 ≤ m ∧ m ≤ 16 ∧ (∀ i j, i < j → j < m → w (34 * k + i) < w (34 * k + j)) ∧ ∀ p, p < 16 → ∃ e, e < m ∧ gb w (34 * k + m) (ib m) p = nI e ∧ w (34 * k + e) = X p
def PackOk (lo w : Nat → Int32) (k b : Nat) (X : Nat → Int32) : Prop := b ≤ 31 ∧ ∀ p, p < 16 → lo k + gb w (34 * k) b p = X p
def FormOk (f lo s w : Nat → Int32) (k : Nat) (X : Nat → Int32) : Prop :=
  (f k = nI 0 ∧ ∀ p, p < 16 → w (34 * k + p) = X p) ∨ (f k = nI 1 ∧ ∃ m, s k = nI m ∧ RunsOk w k m X) ∨ (f k = nI 2 ∧ ∃ m, s k = nI m ∧ DictOk w k m X) ∨ (f k = nI 3 ∧ ∃ b, s k = nI b ∧ PackOk lo w k b X)
def PartOk (f lo hi s w : Nat → Int32) (k : Nat) (X : Nat → Int32) : Prop := (∀ p, p < 16 → lo k ≤ X p ∧ X p ≤ hi k) ∧ FormOk f lo s w k X
/-- the store holds n rows: V c r the value of column c in row r (beyond n: what stands in the open group), AL r: it lives -/
def Rep (n : Nat) (V : Nat → Nat → Int32) (AL : Nat → Bool) (o l f lo hi s w : Nat → Int32) : Prop :=
  n ≤ 64 ∧ (∀ c r, c < 3 → n / 16 ≤ r / 16 → V c r = o (16 * c + r % 16)) ∧ (∀ g p, g < 4 → p < 32 → bt (l g) p = (decide (p < 16) && AL (16 * g + p))) ∧ (∀ r, n ≤ r → AL r = false) ∧ ∀ g c, c < 3 → 16 * g + 16 ≤ n → PartOk f lo hi s w (3 * g + c) (fun p => V c (16 * g + p))
theorem ib_le {m : Nat} (h : m ≤ 16) : ib m ≤ 4 := by
  have : ∀ m, m < 17 → bl (nI (m - 1)) 32 ≤ 4 := by decide +kernel
  exact this m (by omega)
/-- a mask of the places where c holds -/
def mk_ (c : Nat → Bool) : Nat → Int32
  | 0 => nI 0
  | p + 1 => mk_ c p ||| (if c p then shl (nI 1) p else nI 0)
theorem mk_t {c : Nat → Bool} {p : Nat} (h : c p = true) : mk_ c (p + 1) = mk_ c p ||| shl (nI 1) p := by rw [mk_, if_pos h]
theorem mk_f {c : Nat → Bool} {p : Nat} (h : c p = false) : mk_ c (p + 1) = mk_ c p ||| nI 0 := by rw [mk_, if_neg (by rw [h]; decide)]
theorem bt_mk (c : Nat → Bool) : ∀ n, n ≤ 32 → ∀ i, i < 32 → bt (mk_ c n) i = (decide (i < n) && c i)
  | 0, _, i, _ => by
    show bt (nI 0) i = _
    rw [bt_nI0]
    simp
  | n + 1, h, i, hi => by
    have ih := bt_mk c n (by omega) i hi
    cases e : c n with
    | true =>
      rw [mk_t e, b_or, ih, bt_s1 (by omega) hi]
      by_cases q : i = n
      · subst q; simp [e]
      · by_cases q2 : i < n
        · simp [q2, q, show i < n + 1 by omega]
        · simp [q2, q, show ¬ i < n + 1 by omega]
    | false =>
      rw [mk_f e, b_or, ih, bt_nI0]
      by_cases q : i = n
      · subst q; simp [e]
      · by_cases q2 : i < n
        · simp [q2, show i < n + 1 by omega]
        · simp [q2, show ¬ i < n + 1 by omega]
/-- the mask of the runs that lie in the range -/
def rmk (w : Nat → Int32) (k : Nat) (fr to : Int32) : Nat → Int32
  | 0 => nI 0
  | j + 1 => rmk w k fr to j ||| (if fr ≤ w (34 * k + 2 * j) ∧ w (34 * k + 2 * j) ≤ to then w (34 * k + 2 * j + 1) else nI 0)
theorem bt_rmk (w : Nat → Int32) (k : Nat) (fr to : Int32) (i : Nat) : ∀ m, bt (rmk w k fr to m) i = true ↔ ∃ j, j < m ∧ bt (w (34 * k + 2 * j + 1)) i = true ∧ fr ≤ w (34 * k + 2 * j) ∧ w (34 * k + 2 * j) ≤ to
  | 0 => by
    show bt (nI 0) i = true ↔ _
    rw [bt_nI0]
    constructor
    · intro h; cases h
    · rintro ⟨j, h, _⟩; omega
  | m + 1 => by
    rw [rmk, b_or, Bool.or_eq_true, bt_rmk w k fr to i m]
    constructor
    · rintro (⟨j, h1, h2⟩ | h)
      · exact ⟨j, by omega, h2⟩
      · split at h
        · rename_i q; exact ⟨m, by omega, h, q⟩
        · rw [bt_nI0] at h; cases h
    · rintro ⟨j, h1, h2, h3⟩
      rcases Nat.lt_or_ge j m with q | q
      · exact Or.inl ⟨j, q, h2, h3⟩
      · have e : j = m := by omega
        subst e
        exact Or.inr (by rw [if_pos h3]; exact h2)
/-- whether a value lies in the range -/
def inR (fr to x : Int32) : Bool := decide (fr ≤ x) && decide (x ≤ to)
theorem inR_t {fr to x : Int32} (h1 : fr ≤ x) (h2 : x ≤ to) : inR fr to x = true := by unfold inR; simp [h1, h2]
theorem inR_f1 {fr to x : Int32} (h : ¬ fr ≤ x) : inR fr to x = false := by unfold inR; simp [h]
theorem inR_f2 {fr to x : Int32} (h : ¬ x ≤ to) : inR fr to x = false := by unfold inR; simp [h]
theorem inR_iff {fr to x : Int32} : inR fr to x = true ↔ fr ≤ x ∧ x ≤ to := by unfold inR; simp
theorem runs_mask {w : Nat → Int32} {k m : Nat} {X : Nat → Int32} (h : RunsOk w k m X) (fr to : Int32) {p : Nat} (hp : p < 16) : bt (rmk w k fr to m) p = inR fr to (X p) := by
  obtain ⟨j, h1, h2, h3, h4⟩ := h.2 p hp
  apply Bool.eq_iff_iff.mpr
  rw [bt_rmk, inR_iff]
  constructor
  · rintro ⟨j', q1, q2, q3⟩
    have e := h4 j' q1 q2
    subst e
    rw [h3] at q3
    exact q3
  · intro q
    exact ⟨j, h1, h2, by rw [h3]; exact q⟩
/-- in an ascending row of m values those under a bound come first -/
theorem asc_ct {x : Nat → Int32} {m : Nat} (hs : ∀ i j, i < j → j < m → x i < x j) {q : Int32 → Bool} (hq : ∀ a b, a < b → q b = true → q a = true) : ∀ t, t ≤ m → ∀ e, e < t → (e < fb_ct (fun e => q (x e)) t ↔ q (x e) = true) := by
  intro t
  induction t with
  | zero => intro _ e he; omega
  | succ t ih =>
    intro ht e he
    have hall : q (x t) = true → fb_ct (fun e => q (x e)) t = t := by
      intro h
      exact fb_ct_all.mpr (fun k hk => hq _ _ (hs k t hk (by omega)) h)
    cases hb : q (x t) with
    | true =>
      rw [ct_t (p := fun e => q (x e)) hb, hall hb]
      constructor
      · intro _
        rcases Nat.lt_or_ge e t with z | z
        · exact hq _ _ (hs e t z (by omega)) hb
        · rw [show e = t by omega]; exact hb
      · intro _; omega
    | false =>
      rw [ct_f (p := fun e => q (x e)) hb]
      rcases Nat.lt_or_ge e t with z | z
      · exact ih (by omega) e z
      · have e1 : e = t := by omega
        subst e1
        constructor
        · intro h; have := fb_ct_le (fun e => q (x e)) e; omega
        · intro h; rw [hb] at h; cases h
theorem lt_tr {a b c : Int32} (h : a < b) (h2 : b < c) : a < c := by rw [fa_lt] at *; omega
theorem lt_le_tr {a b c : Int32} (h : a < b) (h2 : b ≤ c) : a < c := by rw [fa_lt] at *; rw [fa_le] at h2; omega
theorem le_lt_tr {a b c : Int32} (h : a ≤ b) (h2 : b < c) : a < c := by rw [fa_lt] at *; rw [fa_le] at h; omega
theorem le_tr {a b c : Int32} (h : a ≤ b) (h2 : b ≤ c) : a ≤ c := by rw [fa_le] at *; omega
theorem lt_le {a b : Int32} (h : a < b) : a ≤ b := by rw [fa_lt] at h; rw [fa_le]; omega
theorem nle_lt {a b : Int32} (h : ¬ a ≤ b) : b < a := fa_of_nle h
theorem nlt_le {a b : Int32} (h : ¬ a < b) : b ≤ a := fa_of_nlt h
theorem lt_nle {a b : Int32} (h : a < b) : ¬ b ≤ a := (fa_of_lt h).2.1
theorem dict_in {w : Nat → Int32} {k m : Nat} {X : Nat → Int32} (h : DictOk w k m X) (fr to : Int32) {e : Nat} (he : e < m) : (fb_ct (fun e => decide (w (34 * k + e) < fr)) m ≤ e ∧ e < fb_ct (fun e => decide (w (34 * k + e) ≤ to)) m) ↔ (fr ≤ w (34 * k + e) ∧ w (34 * k + e) ≤ to) := by
  have h1 := asc_ct (x := fun e => w (34 * k + e)) h.2.2.1 (q := fun z => decide (z < fr)) (fun a b hab hb => decide_eq_true (lt_tr hab (of_decide_eq_true hb))) m (Nat.le_refl m) e he
  have h2 := asc_ct (x := fun e => w (34 * k + e)) h.2.2.1 (q := fun z => decide (z ≤ to)) (fun a b hab hb => decide_eq_true (lt_le (lt_le_tr hab (of_decide_eq_true hb)))) m (Nat.le_refl m) e he
  rw [decide_eq_true_iff] at h1 h2
  constructor
  · rintro ⟨q1, q2⟩
    exact ⟨nlt_le (fun z => absurd (h1.mpr z) (by omega)), h2.mp q2⟩
  · rintro ⟨q1, q2⟩
    refine ⟨?_, h2.mpr q2⟩
    rcases Nat.lt_or_ge e (fb_ct (fun e => decide (w (34 * k + e) < fr)) m) with z | z
    · exact absurd q1 (lt_nle (h1.mp z))
    · exact z
end
section
set_option maxRecDepth 100000
set_option maxHeartbeats 1000000
/-- whether group g is closed -/
theorem metX0_isClosed (La : Launch) (a : Nat → Nat) (n g : Nat) (hn : n ≤ 64) (hg : g < 4) (o l f lo hi s w rg rl rh : Nat → Int32) (vc : Int32) (vs : Nat → Int32) : MetW La yX0_isClosed cX0_isClosed 2 (some .boolean) 0 a [.ref (a 0), .int (nI g)] (wX0 a (nI n) o l f lo hi s w rg rl rh vc vs) (rpI (fun z w' => w' = (wX0 a (nI n) o l f lo hi s w rg rl rh vc vs) ∧ ((z = nI 1 ∧ 16 * g + 16 ≤ n) ∨ (z = nI 0 ∧ n < 16 * g + 16)))) := by
  refine MetW.ofI (by decide) (Nat.le_of_ble_eq_true rfl) (fun K hKl hKd ret => ?_)
  subst hKl
  show CW K a cX0_isClosed 2 RX0 0 [(0, .ref (a 0)), (1, .int (nI g))] [] (wX0 a (nI n) o l f lo hi s w rg rl rh vc vs)
  refine x_bipush 2 (v := nI 16) dX0_isClosed_0 kB_16 ?_
  refine x_iload_n 3 1 dX0_isClosed_2 rfl ?_
  refine x_imul 4 (v := nI (16 * g)) dX0_isClosed_3 (pk_mul _ _) ?_
  refine x_bipush 6 (v := nI 16) dX0_isClosed_4 kB_16 ?_
  refine x_iadd 7 (v := nI (16 * g + 16)) dX0_isClosed_6 (nI_add _ _) ?_
  refine x_aload_n 8 0 dX0_isClosed_7 rfl ?_
  refine get_X0 11 0 0 (v := .int (nI n)) rfl (by decide) q31 rfl dX0_isClosed_8 ?_
  refine n_icmp_gt 14 18 dX0_isClosed_11 (by decide) (by omega) (by omega) (fun h_11 => ?_) (fun h_11 => ?_)
  ·
    refine x_iconst 19 (v := nI 0) dX0_isClosed_18 kI_0 ?_
    exact ret 19 _ _ _ dX0_isClosed_19 nb0 ⟨rfl, Or.inr ⟨rfl, h_11⟩⟩
  ·
    refine x_iconst 15 (v := nI 1) dX0_isClosed_14 kI_1 ?_
    refine x_goto 19 dX0_isClosed_15 (by decide) ?_
    exact ret 19 _ _ _ dX0_isClosed_19 nb1 ⟨rfl, Or.inl ⟨rfl, h_11⟩⟩
theorem metX0_getBits (La : Launch) (a : Nat → Nat) (q b i : Nat) (hq : q + 15 < 420) (hb : b ≤ 31) (hi2 : i < 16) (r : Int32) (o l f lo hi s w rg rl rh : Nat → Int32) (vc : Int32) (vs : Nat → Int32) : MetW La yX0_getBits cX0_getBits 6 (some .int) 0 a [.ref (a 0), .int (nI q), .int (nI b), .int (nI i)] (wX0 a r o l f lo hi s w rg rl rh vc vs) (rpI (fun z w' => w' = (wX0 a r o l f lo hi s w rg rl rh vc vs) ∧ z = gb w q b i)) := by
  refine MetW.ofI (by decide) (Nat.le_of_ble_eq_true rfl) (fun K hKl hKd ret => ?_)
  subst hKl
  show CW K a cX0_getBits 6 RX0 0 [(0, .ref (a 0)), (1, .int (nI q)), (2, .int (nI b)), (3, .int (nI i))] [] (wX0 a r o l f lo hi s w rg rl rh vc vs)
  have hbi : b * i ≤ 31 * 15 := Nat.mul_le_mul hb (by omega)
  refine x_iload_n 1 2 dX0_getBits_0 rfl ?_
  refine x_iload_n 2 3 dX0_getBits_1 rfl ?_
  refine x_imul 3 (v := nI (b * i)) dX0_getBits_2 (pk_mul _ _) ?_
  refine x_istore 5 (lv' := [(4, .int (nI (b * i))), (0, .ref (a 0)), (1, .int (nI q)), (2, .int (nI b)), (3, .int (nI i))]) dX0_getBits_3 (by decide) rfl ?_
  refine x_iload_n 6 3 dX0_getBits_5 rfl ?_
  refine n_if_ne 9 11 dX0_getBits_6 (by decide) (by omega) (fun h_6 => ?_) (fun h_6 => ?_)
  ·
    refine x_aload_n 12 1 dX0_getBits_11 rfl ?_
    refine get_X0 15 0 7 (v := .ref (a 7)) rfl (by decide) q38 rfl dX0_getBits_12 ?_
    refine x_iload_n 16 2 dX0_getBits_15 rfl ?_
    refine x_iload 18 0 dX0_getBits_16 rfl ?_
    refine x_iconst 19 (v := nI 5) dX0_getBits_18 kI_5 ?_
    refine x_ishr 20 (v := nI ((b * i) / 32)) dX0_getBits_19 (shr5 (by omega)) ?_
    refine x_iadd 21 (v := nI (q + (b * i) / 32)) dX0_getBits_20 (nI_add _ _) ?_
    refine iald 22 7 (f := w) rfl (by omega) (by decide) dX0_getBits_21 ?_
    refine x_iload 24 0 dX0_getBits_22 rfl ?_
    refine x_bipush 26 (v := nI 31) dX0_getBits_24 kB_31 ?_
    refine x_iand 27 (v := nI ((b * i) % 32)) dX0_getBits_26 (and31 (by omega)) ?_
    refine x_iushr 28 (v := us (w (q + (b * i) / 32)) ((b * i) % 32)) dX0_getBits_27 rfl ?_
    refine x_istore 30 (lv' := [(5, .int (us (w (q + (b * i) / 32)) ((b * i) % 32))), (4, .int (nI (b * i))), (0, .ref (a 0)), (1, .int (nI q)), (2, .int (nI b)), (3, .int (nI i))]) dX0_getBits_28 (by decide) rfl ?_
    refine x_iload 32 1 dX0_getBits_30 rfl ?_
    refine x_bipush 34 (v := nI 31) dX0_getBits_32 kB_31 ?_
    refine x_iand 35 (v := nI ((b * i) % 32)) dX0_getBits_34 (and31 (by omega)) ?_
    refine x_iload_n 36 4 dX0_getBits_35 rfl ?_
    refine x_iadd 37 (v := nI ((b * i) % 32 + b)) dX0_getBits_36 (nI_add _ _) ?_
    refine x_bipush 39 (v := nI 32) dX0_getBits_37 kB_32 ?_
    refine n_icmp_le 42 69 dX0_getBits_39 (by decide) (by omega) (by omega) (fun h_39 => ?_) (fun h_39 => ?_)
    ·
      refine x_iload 71 0 dX0_getBits_69 rfl ?_
      refine x_iconst 72 (v := nI 1) dX0_getBits_71 kI_1 ?_
      refine x_iload_n 73 4 dX0_getBits_72 rfl ?_
      refine x_ishl 74 (v := shl (nI 1) b) dX0_getBits_73 rfl ?_
      refine x_iconst 75 (v := nI 1) dX0_getBits_74 kI_1 ?_
      refine x_isub 76 (v := (shl (nI 1) b) - (nI 1)) dX0_getBits_75 rfl ?_
      refine x_iand 77 (v := (us (w (q + (b * i) / 32)) ((b * i) % 32)) &&& ((shl (nI 1) b) - (nI 1))) dX0_getBits_76 rfl ?_
      exact ret 77 _ _ _ dX0_getBits_77 rfl ⟨rfl, by unfold gb; rw [if_neg (by omega)]; first | rw [if_pos h_39] | rw [if_neg (by omega)]⟩
    ·
      refine x_iload 44 0 dX0_getBits_42 rfl ?_
      refine x_aload_n 45 2 dX0_getBits_44 rfl ?_
      refine get_X0 48 0 7 (v := .ref (a 7)) rfl (by decide) q38 rfl dX0_getBits_45 ?_
      refine x_iload_n 49 3 dX0_getBits_48 rfl ?_
      refine x_iload 51 1 dX0_getBits_49 rfl ?_
      refine x_iconst 52 (v := nI 5) dX0_getBits_51 kI_5 ?_
      refine x_ishr 53 (v := nI ((b * i) / 32)) dX0_getBits_52 (shr5 (by omega)) ?_
      refine x_iadd 54 (v := nI (q + (b * i) / 32)) dX0_getBits_53 (nI_add _ _) ?_
      refine x_iconst 55 (v := nI 1) dX0_getBits_54 kI_1 ?_
      refine x_iadd 56 (v := nI (q + (b * i) / 32 + 1)) dX0_getBits_55 (nI_add _ _) ?_
      refine iald 57 7 (f := w) rfl (by omega) (by decide) dX0_getBits_56 ?_
      refine x_bipush 59 (v := nI 32) dX0_getBits_57 kB_32 ?_
      refine x_iload 61 1 dX0_getBits_59 rfl ?_
      refine x_bipush 63 (v := nI 31) dX0_getBits_61 kB_31 ?_
      refine x_iand 64 (v := nI ((b * i) % 32)) dX0_getBits_63 (and31 (by omega)) ?_
      refine x_isub 65 (v := nI (32 - ((b * i) % 32))) dX0_getBits_64 (pk_sub (by omega)) ?_
      refine x_ishl 66 (v := shl (w (q + (b * i) / 32 + 1)) (32 - ((b * i) % 32))) dX0_getBits_65 rfl ?_
      refine x_ior 67 (v := (us (w (q + (b * i) / 32)) ((b * i) % 32)) ||| (shl (w (q + (b * i) / 32 + 1)) (32 - ((b * i) % 32)))) dX0_getBits_66 rfl ?_
      refine x_istore 69 (lv' := [(5, .int ((us (w (q + (b * i) / 32)) ((b * i) % 32)) ||| (shl (w (q + (b * i) / 32 + 1)) (32 - ((b * i) % 32))))), (4, .int (nI (b * i))), (0, .ref (a 0)), (1, .int (nI q)), (2, .int (nI b)), (3, .int (nI i))]) dX0_getBits_67 (by decide) rfl ?_
      refine x_iload 71 0 dX0_getBits_69 rfl ?_
      refine x_iconst 72 (v := nI 1) dX0_getBits_71 kI_1 ?_
      refine x_iload_n 73 4 dX0_getBits_72 rfl ?_
      refine x_ishl 74 (v := shl (nI 1) b) dX0_getBits_73 rfl ?_
      refine x_iconst 75 (v := nI 1) dX0_getBits_74 kI_1 ?_
      refine x_isub 76 (v := (shl (nI 1) b) - (nI 1)) dX0_getBits_75 rfl ?_
      refine x_iand 77 (v := ((us (w (q + (b * i) / 32)) ((b * i) % 32)) ||| (shl (w (q + (b * i) / 32 + 1)) (32 - ((b * i) % 32)))) &&& ((shl (nI 1) b) - (nI 1))) dX0_getBits_76 rfl ?_
      exact ret 77 _ _ _ dX0_getBits_77 rfl ⟨rfl, by unfold gb; rw [if_neg (by omega)]; first | rw [if_pos h_39] | rw [if_neg (by omega)]⟩
  ·
    refine x_iconst 10 (v := nI 0) dX0_getBits_9 kI_0 ?_
    exact ret 10 _ _ _ dX0_getBits_10 rfl ⟨rfl, by unfold gb; rw [if_pos h_6]⟩
theorem metX0_putBits (La : Launch) (a : Nat → Nat) (q b i : Nat) (v : Int32) (hq : q + 15 < 420) (hb : b ≤ 31) (hi2 : i < 16) (r : Int32) (o l f lo hi s w rg rl rh : Nat → Int32) (vc : Int32) (vs : Nat → Int32) : MetW La yX0_putBits cX0_putBits 6 none 0 a [.ref (a 0), .int (nI q), .int (nI b), .int (nI i), .int v] (wX0 a r o l f lo hi s w rg rl rh vc vs) (rpV (fun w' => w' = (wX0 a r o l f lo hi s (pb w q b i v) rg rl rh vc vs))) := by
  refine MetW.ofV (by decide) (Nat.le_of_ble_eq_true rfl) (fun K hKl hKd ret => ?_)
  subst hKl
  show CW K a cX0_putBits 6 RX0 0 [(0, .ref (a 0)), (1, .int (nI q)), (2, .int (nI b)), (3, .int (nI i)), (4, .int v)] [] (wX0 a r o l f lo hi s w rg rl rh vc vs)
  have hbi : b * i ≤ 31 * 15 := Nat.mul_le_mul hb (by omega)
  refine x_iload_n 1 2 dX0_putBits_0 rfl ?_
  refine x_iload_n 2 3 dX0_putBits_1 rfl ?_
  refine x_imul 3 (v := nI (b * i)) dX0_putBits_2 (pk_mul _ _) ?_
  refine x_istore 5 (lv' := [(5, .int (nI (b * i))), (0, .ref (a 0)), (1, .int (nI q)), (2, .int (nI b)), (3, .int (nI i)), (4, .int v)]) dX0_putBits_3 (by decide) rfl ?_
  refine x_iload_n 6 3 dX0_putBits_5 rfl ?_
  refine n_if_ne 9 10 dX0_putBits_6 (by decide) (by omega) (fun h_6 => ?_) (fun h_6 => ?_)
  ·
    refine x_aload_n 11 1 dX0_putBits_10 rfl ?_
    refine get_X0 14 0 7 (v := .ref (a 7)) rfl (by decide) q38 rfl dX0_putBits_11 ?_
    refine x_iload_n 15 2 dX0_putBits_14 rfl ?_
    refine x_iload 17 0 dX0_putBits_15 rfl ?_
    refine x_iconst 18 (v := nI 5) dX0_putBits_17 kI_5 ?_
    refine x_ishr 19 (v := nI ((b * i) / 32)) dX0_putBits_18 (shr5 (by omega)) ?_
    refine x_iadd 20 (v := nI (q + (b * i) / 32)) dX0_putBits_19 (nI_add _ _) ?_
    refine x_dup2 21 dX0_putBits_20 rfl rfl ?_
    refine iald 22 7 (f := w) rfl (by omega) (by decide) dX0_putBits_21 ?_
    refine x_iload 24 5 dX0_putBits_22 rfl ?_
    refine x_iload 26 0 dX0_putBits_24 rfl ?_
    refine x_bipush 28 (v := nI 31) dX0_putBits_26 kB_31 ?_
    refine x_iand 29 (v := nI ((b * i) % 32)) dX0_putBits_28 (and31 (by omega)) ?_
    refine x_ishl 30 (v := shl v ((b * i) % 32)) dX0_putBits_29 rfl ?_
    refine x_ior 31 (v := (w (q + (b * i) / 32)) ||| (shl v ((b * i) % 32))) dX0_putBits_30 rfl ?_
    refine iast 32 7 (w' := (wX0 a r o l f lo hi s (upd w (q + (b * i) / 32) ((w (q + (b * i) / 32)) ||| (shl v ((b * i) % 32)))) rg rl rh vc vs)) rfl (by omega) (by decide) rfl dX0_putBits_31 ?_
    refine x_iload 34 0 dX0_putBits_32 rfl ?_
    refine x_bipush 36 (v := nI 31) dX0_putBits_34 kB_31 ?_
    refine x_iand 37 (v := nI ((b * i) % 32)) dX0_putBits_36 (and31 (by omega)) ?_
    refine x_iload_n 38 3 dX0_putBits_37 rfl ?_
    refine x_iadd 39 (v := nI ((b * i) % 32 + b)) dX0_putBits_38 (nI_add _ _) ?_
    refine x_bipush 41 (v := nI 32) dX0_putBits_39 kB_32 ?_
    refine n_icmp_le 44 71 dX0_putBits_41 (by decide) (by omega) (by omega) (fun h_41 => ?_) (fun h_41 => ?_)
    ·
      exact ret 71 _ _ dX0_putBits_71 (by unfold pb; first | rw [if_pos h_6] | (rw [if_neg (by omega)]; first | rw [if_pos h_41] | rw [if_neg (by omega)]))
    ·
      refine x_aload_n 45 1 dX0_putBits_44 rfl ?_
      refine get_X0 48 0 7 (v := .ref (a 7)) rfl (by decide) q38 rfl dX0_putBits_45 ?_
      refine x_iload_n 49 2 dX0_putBits_48 rfl ?_
      refine x_iload 51 0 dX0_putBits_49 rfl ?_
      refine x_iconst 52 (v := nI 5) dX0_putBits_51 kI_5 ?_
      refine x_ishr 53 (v := nI ((b * i) / 32)) dX0_putBits_52 (shr5 (by omega)) ?_
      refine x_iadd 54 (v := nI (q + (b * i) / 32)) dX0_putBits_53 (nI_add _ _) ?_
      refine x_iconst 55 (v := nI 1) dX0_putBits_54 kI_1 ?_
      refine x_iadd 56 (v := nI (q + (b * i) / 32 + 1)) dX0_putBits_55 (nI_add _ _) ?_
      refine x_dup2 57 dX0_putBits_56 rfl rfl ?_
      refine iald 58 7 (f := upd w (q + (b * i) / 32) ((w (q + (b * i) / 32)) ||| (shl v ((b * i) % 32)))) rfl (by omega) (by decide) dX0_putBits_57 ?_
      refine x_iload 60 5 dX0_putBits_58 rfl ?_
      refine x_bipush 62 (v := nI 32) dX0_putBits_60 kB_32 ?_
      refine x_iload 64 0 dX0_putBits_62 rfl ?_
      refine x_bipush 66 (v := nI 31) dX0_putBits_64 kB_31 ?_
      refine x_iand 67 (v := nI ((b * i) % 32)) dX0_putBits_66 (and31 (by omega)) ?_
      refine x_isub 68 (v := nI (32 - ((b * i) % 32))) dX0_putBits_67 (pk_sub (by omega)) ?_
      refine x_iushr 69 (v := us v (32 - ((b * i) % 32))) dX0_putBits_68 rfl ?_
      refine x_ior 70 (v := ((upd w (q + (b * i) / 32) ((w (q + (b * i) / 32)) ||| (shl v ((b * i) % 32)))) (q + (b * i) / 32 + 1)) ||| (us v (32 - ((b * i) % 32)))) dX0_putBits_69 rfl ?_
      refine iast 71 7 (w' := (wX0 a r o l f lo hi s (upd (upd w (q + (b * i) / 32) ((w (q + (b * i) / 32)) ||| (shl v ((b * i) % 32)))) (q + (b * i) / 32 + 1) (((upd w (q + (b * i) / 32) ((w (q + (b * i) / 32)) ||| (shl v ((b * i) % 32)))) (q + (b * i) / 32 + 1)) ||| (us v (32 - ((b * i) % 32))))) rg rl rh vc vs)) rfl (by omega) (by decide) rfl dX0_putBits_70 ?_
      exact ret 71 _ _ dX0_putBits_71 (by unfold pb; first | rw [if_pos h_6] | (rw [if_neg (by omega)]; first | rw [if_pos h_41] | rw [if_neg (by omega)]))
  ·
    exact ret 9 _ _ dX0_putBits_9 (by unfold pb; first | rw [if_pos h_6] | (rw [if_neg (by omega)]; first | rw [if_pos h_41] | rw [if_neg (by omega)]))
/-- n words from q on are zero -/
def clr (w : Nat → Int32) (q n : Nat) : Nat → Int32 := fun k => if q ≤ k ∧ k < q + n then nI 0 else w k
theorem clr_0 (w : Nat → Int32) (q : Nat) : clr w q 0 = w := funext fun k => if_neg (by omega)
theorem clr_s (w : Nat → Int32) (q n : Nat) : upd (clr w q n) (q + n) (nI 0) = clr w q (n + 1) := by
  funext k
  unfold upd clr
  by_cases h : k = q + n
  · rw [if_pos h, if_pos (by omega)]
  · rw [if_neg h]
    by_cases h2 : q ≤ k ∧ k < q + n
    · rw [if_pos h2, if_pos (by omega)]
    · rw [if_neg h2, if_neg (by omega)]
theorem metX0_clearBits (La : Launch) (a : Nat → Nat) (q b : Nat) (hq : q + 16 < 420) (hb : b ≤ 31) (r : Int32) (o l f lo hi s w rg rl rh : Nat → Int32) (vc : Int32) (vs : Nat → Int32) : MetW La yX0_clearBits cX0_clearBits 4 none 0 a [.ref (a 0), .int (nI q), .int (nI b)] (wX0 a r o l f lo hi s w rg rl rh vc vs) (rpV (fun w' => w' = (wX0 a r o l f lo hi s (clr w q ((b + 1) / 2)) rg rl rh vc vs))) := by
  refine MetW.ofV (by decide) (Nat.le_of_ble_eq_true rfl) (fun K hKl hKd ret => ?_)
  subst hKl
  show CW K a cX0_clearBits 4 RX0 0 [(0, .ref (a 0)), (1, .int (nI q)), (2, .int (nI b))] [] (wX0 a r o l f lo hi s w rg rl rh vc vs)
  refine x_iconst 1 (v := nI 0) dX0_clearBits_0 kI_0 ?_
  refine x_istore_n 2 (lv' := [(3, .int (nI 0)), (0, .ref (a 0)), (1, .int (nI q)), (2, .int (nI b))]) dX0_clearBits_1 (by decide) rfl ?_
  refine x_sub (lv' := [(0, .ref (a 0)), (1, .int (nI q)), (2, .int (nI b)), (3, .int (nI 0))]) [1, 2, 3, 0] rfl ?_
  refine loop_up (P := fun k => ∀ (w1 : Nat → Int32), (w1 = clr w q k) → CW K a cX0_clearBits 4 RX0 2 [(0, .ref (a 0)), (1, .int (nI q)), (2, .int (nI b)), (3, .int (nI k))] [] (wX0 a r o l f lo hi s w1 rg rl rh vc vs)) ((b + 1) / 2) (fun k hi_k ih_k => ?_) 0 (by omega) w (clr_0 w q).symm
  intro w1 hw
  refine x_iconst 3 (v := nI 2) dX0_clearBits_2 kI_2 ?_
  refine x_iload_n 4 3 dX0_clearBits_3 rfl ?_
  refine x_imul 5 (v := nI (2 * k)) dX0_clearBits_4 (pk_mul _ _) ?_
  refine x_iload_n 6 2 dX0_clearBits_5 rfl ?_
  refine n_icmp_ge 9 24 dX0_clearBits_6 (by decide) (by omega) (by omega) (fun h_6 => ?_) (fun h_6 => ?_)
  ·
    exact ret 24 _ _ dX0_clearBits_24 (by rw [hw, show k = (b + 1) / 2 by omega])
  ·
    refine x_aload_n 10 0 dX0_clearBits_9 rfl ?_
    refine get_X0 13 0 7 (v := .ref (a 7)) rfl (by decide) q38 rfl dX0_clearBits_10 ?_
    refine x_iload_n 14 1 dX0_clearBits_13 rfl ?_
    refine x_iload_n 15 3 dX0_clearBits_14 rfl ?_
    refine x_iadd 16 (v := nI (q + k)) dX0_clearBits_15 (nI_add _ _) ?_
    refine x_iconst 17 (v := nI 0) dX0_clearBits_16 kI_0 ?_
    refine iast 18 7 (w' := (wX0 a r o l f lo hi s (upd w1 (q + k) (nI 0)) rg rl rh vc vs)) rfl (by omega) (by decide) rfl dX0_clearBits_17 ?_
    refine x_iinc 21 (v := nI (k + 1)) (lv' := [(3, .int (nI (k + 1))), (0, .ref (a 0)), (1, .int (nI q)), (2, .int (nI b))]) 3 dX0_clearBits_18 rfl (inc1 _) (by decide) rfl ?_
    refine x_goto 2 dX0_clearBits_21 (by decide) ?_
    refine x_sub (lv' := [(0, .ref (a 0)), (1, .int (nI q)), (2, .int (nI b)), (3, .int (nI (k + 1)))]) [1, 2, 3, 0] rfl ?_
    exact ih_k (k + 1) (by omega) (by omega) _ (by rw [hw, clr_s])
theorem metX0_indexBitsOf (La : Launch) (a : Nat → Nat) (k m : Nat) (hk : k < 12) (hm : 1 ≤ m) (r : Int32) (o l f lo hi s w rg rl rh : Nat → Int32) (vc : Int32) (vs : Nat → Int32) (hs : s k = nI m) : MetW La yX0_indexBitsOf cX0_indexBitsOf 2 (some .int) 1 a [.ref (a 0), .int (nI k)] (wX0 a r o l f lo hi s w rg rl rh vc vs) (rpI (fun z w' => w' = (wX0 a r o l f lo hi s w rg rl rh vc vs) ∧ z = nI (ib m))) := by
  refine MetW.ofI (by decide) (Nat.le_of_ble_eq_true rfl) (fun K hKl hKd ret => ?_)
  subst hKl
  show CW K a cX0_indexBitsOf 2 RX0 0 [(0, .ref (a 0)), (1, .int (nI k))] [] (wX0 a r o l f lo hi s w rg rl rh vc vs)
  refine x_aload_n 1 0 dX0_indexBitsOf_0 rfl ?_
  refine get_X0 4 0 6 (v := .ref (a 6)) rfl (by decide) q37 rfl dX0_indexBitsOf_1 ?_
  refine x_iload_n 5 1 dX0_indexBitsOf_4 rfl ?_
  refine iald 6 6 (f := s) rfl (by omega) (by decide) dX0_indexBitsOf_5 ?_
  refine x_st (st' := [.int (nI m)]) (by rw [hs]) ?_
  refine x_iconst 7 (v := nI 1) dX0_indexBitsOf_6 kI_1 ?_
  refine x_isub 8 (v := nI (m - 1)) dX0_indexBitsOf_7 (pk_sub (by omega)) ?_
  refine call_Si 11 (av := [.int (nI (m - 1))]) (metX0_bitsFor (cx_l K) a (nI (m - 1))) gwX0_bitsFor nyX0_bitsFor rfl (by omega) (by decide) (Nat.le_of_ble_eq_true rfl) rfl dX0_indexBitsOf_8 ?_
  intro r_8 w_8 hq_8
  subst hq_8
  exact ret 11 _ _ _ dX0_indexBitsOf_11 rfl ⟨rfl, rfl⟩
theorem metX0_runMask (La : Launch) (a : Nat → Nat) (k m : Nat) (fr to : Int32) (X : Nat → Int32) (hk : k < 12) (r : Int32) (o l f lo hi s w rg rl rh : Nat → Int32) (vc : Int32) (vs : Nat → Int32) (hs : s k = nI m) (hR : RunsOk w k m X) : MetW La yX0_runMask cX0_runMask 7 (some .int) 0 a [.ref (a 0), .int (nI k), .int fr, .int to] (wX0 a r o l f lo hi s w rg rl rh vc vs) (rpI (fun z w' => w' = (wX0 a r o l f lo hi s w rg rl rh vc vs) ∧ ∀ p, p < 16 → bt z p = inR fr to (X p))) := by
  refine MetW.ofI (by decide) (Nat.le_of_ble_eq_true rfl) (fun K hKl hKd ret => ?_)
  subst hKl
  show CW K a cX0_runMask 7 RX0 0 [(0, .ref (a 0)), (1, .int (nI k)), (2, .int fr), (3, .int to)] [] (wX0 a r o l f lo hi s w rg rl rh vc vs)
  have hm16 := hR.1
  refine x_iconst 1 (v := nI 0) dX0_runMask_0 kI_0 ?_
  refine x_istore 3 (lv' := [(4, .int (nI 0)), (0, .ref (a 0)), (1, .int (nI k)), (2, .int fr), (3, .int to)]) dX0_runMask_1 (by decide) rfl ?_
  refine x_iconst 4 (v := nI 0) dX0_runMask_3 kI_0 ?_
  refine x_istore 6 (lv' := [(5, .int (nI 0)), (4, .int (nI 0)), (0, .ref (a 0)), (1, .int (nI k)), (2, .int fr), (3, .int to)]) dX0_runMask_4 (by decide) rfl ?_
  refine x_sub (lv' := [(0, .ref (a 0)), (1, .int (nI k)), (2, .int fr), (3, .int to), (4, .int (nI 0)), (5, .int (nI 0))]) [2, 3, 4, 5, 1, 0] rfl ?_
  refine loop_up (P := fun j => ∀ (mk : Int32), (mk = rmk w k fr to j) → CW K a cX0_runMask 7 RX0 6 [(0, .ref (a 0)), (1, .int (nI k)), (2, .int fr), (3, .int to), (4, .int mk), (5, .int (nI j))] [] (wX0 a r o l f lo hi s w rg rl rh vc vs)) m (fun j hi_j ih_j => ?_) 0 (by omega) (nI 0) rfl
  intro mk hm
  refine x_iload 8 5 dX0_runMask_6 rfl ?_
  refine x_aload_n 9 0 dX0_runMask_8 rfl ?_
  refine get_X0 12 0 6 (v := .ref (a 6)) rfl (by decide) q37 rfl dX0_runMask_9 ?_
  refine x_iload_n 13 1 dX0_runMask_12 rfl ?_
  refine iald 14 6 (f := s) rfl (by omega) (by decide) dX0_runMask_13 ?_
  refine x_st (st' := [.int (nI m), .int (nI j)]) (by rw [hs]) ?_
  refine n_icmp_ge 17 76 dX0_runMask_14 (by decide) (by omega) (by omega) (fun h_14 => ?_) (fun h_14 => ?_)
  ·
    refine x_iload 78 4 dX0_runMask_76 rfl ?_
    exact ret 78 _ _ _ dX0_runMask_78 rfl ⟨rfl, fun p hp => by rw [hm, show j = m by omega]; exact runs_mask hR fr to hp⟩
  ·
    refine x_aload_n 18 0 dX0_runMask_17 rfl ?_
    refine get_X0 21 0 7 (v := .ref (a 7)) rfl (by decide) q38 rfl dX0_runMask_18 ?_
    refine x_bipush 23 (v := nI 34) dX0_runMask_21 kB_34 ?_
    refine x_iload_n 24 1 dX0_runMask_23 rfl ?_
    refine x_imul 25 (v := nI (34 * k)) dX0_runMask_24 (pk_mul _ _) ?_
    refine x_iconst 26 (v := nI 2) dX0_runMask_25 kI_2 ?_
    refine x_iload 28 5 dX0_runMask_26 rfl ?_
    refine x_imul 29 (v := nI (2 * j)) dX0_runMask_28 (pk_mul _ _) ?_
    refine x_iadd 30 (v := nI (34 * k + 2 * j)) dX0_runMask_29 (nI_add _ _) ?_
    refine iald 31 7 (f := w) rfl (by omega) (by decide) dX0_runMask_30 ?_
    refine x_istore 33 (lv' := [(6, .int (w (34 * k + 2 * j))), (0, .ref (a 0)), (1, .int (nI k)), (2, .int fr), (3, .int to), (4, .int mk), (5, .int (nI j))]) dX0_runMask_31 (by decide) rfl ?_
    refine x_iload 35 5 dX0_runMask_33 rfl ?_
    refine x_iload_n 36 3 dX0_runMask_35 rfl ?_
    refine x_iload 38 0 dX0_runMask_36 rfl ?_
    refine x_icmp_gt 41 66 dX0_runMask_38 (by decide) (fun h_38 => ?_) (fun h_38 => ?_)
    ·
      refine x_iconst 67 (v := nI 0) dX0_runMask_66 kI_0 ?_
      refine x_ior 68 (v := mk ||| (nI 0)) dX0_runMask_67 rfl ?_
      refine x_istore 70 (lv' := [(4, .int (mk ||| (nI 0))), (6, .int (w (34 * k + 2 * j))), (0, .ref (a 0)), (1, .int (nI k)), (2, .int fr), (3, .int to), (5, .int (nI j))]) dX0_runMask_68 (by decide) rfl ?_
      refine x_iinc 73 (v := nI (j + 1)) (lv' := [(5, .int (nI (j + 1))), (4, .int (mk ||| (nI 0))), (6, .int (w (34 * k + 2 * j))), (0, .ref (a 0)), (1, .int (nI k)), (2, .int fr), (3, .int to)]) 6 dX0_runMask_70 rfl (inc1 _) (by decide) rfl ?_
      refine x_goto 6 dX0_runMask_73 (by decide) ?_
      refine x_sub (lv' := [(0, .ref (a 0)), (1, .int (nI k)), (2, .int fr), (3, .int to), (4, .int (mk ||| (nI 0))), (5, .int (nI (j + 1)))]) [3, 4, 5, 6, 1, 0] rfl ?_
      exact ih_j (j + 1) (by omega) (by omega) _ (by rw [hm, rmk]; first | rw [if_neg (fun z => absurd z.1 (lt_nle h_38))] | rw [if_neg (fun z => absurd z.2 (lt_nle h_44))] | rw [if_pos ⟨nlt_le h_38, nlt_le h_44⟩])
    ·
      refine x_iload 43 0 dX0_runMask_41 rfl ?_
      refine x_iload_n 44 4 dX0_runMask_43 rfl ?_
      refine x_icmp_gt 47 66 dX0_runMask_44 (by decide) (fun h_44 => ?_) (fun h_44 => ?_)
      ·
        refine x_iconst 67 (v := nI 0) dX0_runMask_66 kI_0 ?_
        refine x_ior 68 (v := mk ||| (nI 0)) dX0_runMask_67 rfl ?_
        refine x_istore 70 (lv' := [(4, .int (mk ||| (nI 0))), (6, .int (w (34 * k + 2 * j))), (0, .ref (a 0)), (1, .int (nI k)), (2, .int fr), (3, .int to), (5, .int (nI j))]) dX0_runMask_68 (by decide) rfl ?_
        refine x_iinc 73 (v := nI (j + 1)) (lv' := [(5, .int (nI (j + 1))), (4, .int (mk ||| (nI 0))), (6, .int (w (34 * k + 2 * j))), (0, .ref (a 0)), (1, .int (nI k)), (2, .int fr), (3, .int to)]) 6 dX0_runMask_70 rfl (inc1 _) (by decide) rfl ?_
        refine x_goto 6 dX0_runMask_73 (by decide) ?_
        refine x_sub (lv' := [(0, .ref (a 0)), (1, .int (nI k)), (2, .int fr), (3, .int to), (4, .int (mk ||| (nI 0))), (5, .int (nI (j + 1)))]) [3, 4, 5, 6, 1, 0] rfl ?_
        exact ih_j (j + 1) (by omega) (by omega) _ (by rw [hm, rmk]; first | rw [if_neg (fun z => absurd z.1 (lt_nle h_38))] | rw [if_neg (fun z => absurd z.2 (lt_nle h_44))] | rw [if_pos ⟨nlt_le h_38, nlt_le h_44⟩])
      ·
        refine x_aload_n 48 1 dX0_runMask_47 rfl ?_
        refine get_X0 51 0 7 (v := .ref (a 7)) rfl (by decide) q38 rfl dX0_runMask_48 ?_
        refine x_bipush 53 (v := nI 34) dX0_runMask_51 kB_34 ?_
        refine x_iload_n 54 2 dX0_runMask_53 rfl ?_
        refine x_imul 55 (v := nI (34 * k)) dX0_runMask_54 (pk_mul _ _) ?_
        refine x_iconst 56 (v := nI 2) dX0_runMask_55 kI_2 ?_
        refine x_iload 58 6 dX0_runMask_56 rfl ?_
        refine x_imul 59 (v := nI (2 * j)) dX0_runMask_58 (pk_mul _ _) ?_
        refine x_iadd 60 (v := nI (34 * k + 2 * j)) dX0_runMask_59 (nI_add _ _) ?_
        refine x_iconst 61 (v := nI 1) dX0_runMask_60 kI_1 ?_
        refine x_iadd 62 (v := nI (34 * k + 2 * j + 1)) dX0_runMask_61 (nI_add _ _) ?_
        refine iald 63 7 (f := w) rfl (by omega) (by decide) dX0_runMask_62 ?_
        refine x_goto 67 dX0_runMask_63 (by decide) ?_
        refine x_ior 68 (v := mk ||| (w (34 * k + 2 * j + 1))) dX0_runMask_67 rfl ?_
        refine x_istore 70 (lv' := [(4, .int (mk ||| (w (34 * k + 2 * j + 1)))), (6, .int (w (34 * k + 2 * j))), (0, .ref (a 0)), (1, .int (nI k)), (2, .int fr), (3, .int to), (5, .int (nI j))]) dX0_runMask_68 (by decide) rfl ?_
        refine x_iinc 73 (v := nI (j + 1)) (lv' := [(5, .int (nI (j + 1))), (4, .int (mk ||| (w (34 * k + 2 * j + 1)))), (6, .int (w (34 * k + 2 * j))), (0, .ref (a 0)), (1, .int (nI k)), (2, .int fr), (3, .int to)]) 6 dX0_runMask_70 rfl (inc1 _) (by decide) rfl ?_
        refine x_goto 6 dX0_runMask_73 (by decide) ?_
        refine x_sub (lv' := [(0, .ref (a 0)), (1, .int (nI k)), (2, .int fr), (3, .int to), (4, .int (mk ||| (w (34 * k + 2 * j + 1)))), (5, .int (nI (j + 1)))]) [3, 4, 5, 6, 1, 0] rfl ?_
        exact ih_j (j + 1) (by omega) (by omega) _ (by rw [hm, rmk]; first | rw [if_neg (fun z => absurd z.1 (lt_nle h_38))] | rw [if_neg (fun z => absurd z.2 (lt_nle h_44))] | rw [if_pos ⟨nlt_le h_38, nlt_le h_44⟩])
theorem dm_f1 {fr to x : Int32} {u v e : Nat} (h : (u ≤ e ∧ e < v) ↔ (fr ≤ x ∧ x ≤ to)) (q : e < u) : inR fr to x = false := by
  cases z : inR fr to x with
  | false => rfl
  | true => exact absurd (h.mpr (inR_iff.mp z)).1 (by omega)
theorem dm_f2 {fr to x : Int32} {u v e : Nat} (h : (u ≤ e ∧ e < v) ↔ (fr ≤ x ∧ x ≤ to)) (q : v ≤ e) : inR fr to x = false := by
  cases z : inR fr to x with
  | false => rfl
  | true => exact absurd (h.mpr (inR_iff.mp z)).2 (by omega)
theorem dm_t {fr to x : Int32} {u v e : Nat} (h : (u ≤ e ∧ e < v) ↔ (fr ≤ x ∧ x ≤ to)) (q : u ≤ e) (q2 : e < v) : inR fr to x = true := inR_iff.mpr (h.mp ⟨q, q2⟩)
theorem metX0_dictionaryMask (La : Launch) (a : Nat → Nat) (k m : Nat) (fr to : Int32) (X : Nat → Int32) (hk : k < 12) (r : Int32) (o l f lo hi s w rg rl rh : Nat → Int32) (vc : Int32) (vs : Nat → Int32) (hs : s k = nI m) (hR : DictOk w k m X) : MetW La yX0_dictionaryMask cX0_dictionaryMask 10 (some .int) 2 a [.ref (a 0), .int (nI k), .int fr, .int to] (wX0 a r o l f lo hi s w rg rl rh vc vs) (rpI (fun z w' => w' = (wX0 a r o l f lo hi s w rg rl rh vc vs) ∧ ∀ p, p < 16 → bt z p = inR fr to (X p))) := by
  refine MetW.ofI (by decide) (Nat.le_of_ble_eq_true rfl) (fun K hKl hKd ret => ?_)
  subst hKl
  show CW K a cX0_dictionaryMask 10 RX0 0 [(0, .ref (a 0)), (1, .int (nI k)), (2, .int fr), (3, .int to)] [] (wX0 a r o l f lo hi s w rg rl rh vc vs)
  have hm16 := hR.2.1
  have hib := ib_le hm16
  refine x_iconst 1 (v := nI 0) dX0_dictionaryMask_0 kI_0 ?_
  refine x_istore 3 (lv' := [(4, .int (nI 0)), (0, .ref (a 0)), (1, .int (nI k)), (2, .int fr), (3, .int to)]) dX0_dictionaryMask_1 (by decide) rfl ?_
  refine x_iconst 4 (v := nI 0) dX0_dictionaryMask_3 kI_0 ?_
  refine x_istore 6 (lv' := [(5, .int (nI 0)), (4, .int (nI 0)), (0, .ref (a 0)), (1, .int (nI k)), (2, .int fr), (3, .int to)]) dX0_dictionaryMask_4 (by decide) rfl ?_
  refine x_iconst 7 (v := nI 0) dX0_dictionaryMask_6 kI_0 ?_
  refine x_istore 9 (lv' := [(6, .int (nI 0)), (5, .int (nI 0)), (4, .int (nI 0)), (0, .ref (a 0)), (1, .int (nI k)), (2, .int fr), (3, .int to)]) dX0_dictionaryMask_7 (by decide) rfl ?_
  refine x_sub (lv' := [(0, .ref (a 0)), (1, .int (nI k)), (2, .int fr), (3, .int to), (4, .int (nI 0)), (5, .int (nI 0)), (6, .int (nI 0))]) [3, 4, 5, 6, 2, 1, 0] rfl ?_
  refine loop_up (P := fun e => ∀ (u : Nat) (v : Nat), (u = fb_ct (fun e => decide (w (34 * k + e) < fr)) e) → (v = fb_ct (fun e => decide (w (34 * k + e) ≤ to)) e) → CW K a cX0_dictionaryMask 10 RX0 9 [(0, .ref (a 0)), (1, .int (nI k)), (2, .int fr), (3, .int to), (4, .int (nI u)), (5, .int (nI v)), (6, .int (nI e))] [] (wX0 a r o l f lo hi s w rg rl rh vc vs)) m (fun e hi_e ih_e => ?_) 0 (by omega) 0 0 rfl rfl
  intro u v hu hv
  refine x_iload 11 6 dX0_dictionaryMask_9 rfl ?_
  refine x_aload_n 12 0 dX0_dictionaryMask_11 rfl ?_
  refine get_X0 15 0 6 (v := .ref (a 6)) rfl (by decide) q37 rfl dX0_dictionaryMask_12 ?_
  refine x_iload_n 16 1 dX0_dictionaryMask_15 rfl ?_
  refine iald 17 6 (f := s) rfl (by omega) (by decide) dX0_dictionaryMask_16 ?_
  refine x_st (st' := [.int (nI m), .int (nI e)]) (by rw [hs]) ?_
  refine n_icmp_ge 20 78 dX0_dictionaryMask_17 (by decide) (by omega) (by omega) (fun h_17 => ?_) (fun h_17 => ?_)
  ·
    refine x_aload_n 79 0 dX0_dictionaryMask_78 rfl ?_
    refine x_iload_n 80 1 dX0_dictionaryMask_79 rfl ?_
    refine call_Vi 83 (av := [.int (nI k)]) (metX0_indexBitsOf (cx_l K) a k m hk hR.1 r o l f lo hi s w rg rl rh vc vs hs) rfl rfl gwX0_indexBitsOf nyX0_indexBitsOf rfl (by omega) (by decide) (Nat.le_of_ble_eq_true rfl) rfl dX0_dictionaryMask_80 ?_
    intro r_80 w_80 hq_80
    obtain ⟨rfl, rfl⟩ := hq_80
    refine x_istore 85 (lv' := [(6, .int (nI (ib m))), (0, .ref (a 0)), (1, .int (nI k)), (2, .int fr), (3, .int to), (4, .int (nI u)), (5, .int (nI v))]) dX0_dictionaryMask_83 (by decide) rfl ?_
    have hem : e = m := by omega
    have hu16 : u ≤ 16 := by rw [hu]; exact Nat.le_trans (fb_ct_le _ _) (by omega)
    have hv16 : v ≤ 16 := by rw [hv]; exact Nat.le_trans (fb_ct_le _ _) (by omega)
    refine x_iconst 86 (v := nI 0) dX0_dictionaryMask_85 kI_0 ?_
    refine x_istore 88 (lv' := [(7, .int (nI 0)), (6, .int (nI (ib m))), (0, .ref (a 0)), (1, .int (nI k)), (2, .int fr), (3, .int to), (4, .int (nI u)), (5, .int (nI v))]) dX0_dictionaryMask_86 (by decide) rfl ?_
    refine x_iconst 89 (v := nI 0) dX0_dictionaryMask_88 kI_0 ?_
    refine x_istore 91 (lv' := [(8, .int (nI 0)), (7, .int (nI 0)), (6, .int (nI (ib m))), (0, .ref (a 0)), (1, .int (nI k)), (2, .int fr), (3, .int to), (4, .int (nI u)), (5, .int (nI v))]) dX0_dictionaryMask_89 (by decide) rfl ?_
    refine x_sub (lv' := [(0, .ref (a 0)), (1, .int (nI k)), (2, .int fr), (3, .int to), (4, .int (nI u)), (5, .int (nI v)), (6, .int (nI (ib m))), (7, .int (nI 0)), (8, .int (nI 0))]) [3, 4, 5, 6, 7, 8, 2, 1, 0] rfl ?_
    refine loop_up (P := fun p => ∀ (mk : Int32), (mk = mk_ (fun p => inR fr to (X p)) p) → CW K a cX0_dictionaryMask 10 RX0 91 [(0, .ref (a 0)), (1, .int (nI k)), (2, .int fr), (3, .int to), (4, .int (nI u)), (5, .int (nI v)), (6, .int (nI (ib m))), (7, .int mk), (8, .int (nI p))] [] (wX0 a r o l f lo hi s w rg rl rh vc vs)) 16 (fun p hi_p ih_p => ?_) 0 (by omega) (nI 0) rfl
    intro mk hmk
    refine x_iload 93 8 dX0_dictionaryMask_91 rfl ?_
    refine x_bipush 95 (v := nI 16) dX0_dictionaryMask_93 kB_16 ?_
    refine n_icmp_ge 98 152 dX0_dictionaryMask_95 (by decide) (by omega) (by omega) (fun h_95 => ?_) (fun h_95 => ?_)
    ·
      refine x_iload 154 7 dX0_dictionaryMask_152 rfl ?_
      exact ret 154 _ _ _ dX0_dictionaryMask_154 rfl ⟨rfl, fun i hi3 => by rw [hmk, show p = 16 by omega, bt_mk _ 16 (by omega) i (by omega), decide_eq_true hi3, Bool.true_and]⟩
    ·
      refine x_aload_n 99 0 dX0_dictionaryMask_98 rfl ?_
      refine x_bipush 101 (v := nI 34) dX0_dictionaryMask_99 kB_34 ?_
      refine x_iload_n 102 1 dX0_dictionaryMask_101 rfl ?_
      refine x_imul 103 (v := nI (34 * k)) dX0_dictionaryMask_102 (pk_mul _ _) ?_
      refine x_aload_n 104 0 dX0_dictionaryMask_103 rfl ?_
      refine get_X0 107 0 6 (v := .ref (a 6)) rfl (by decide) q37 rfl dX0_dictionaryMask_104 ?_
      refine x_iload_n 108 1 dX0_dictionaryMask_107 rfl ?_
      refine iald 109 6 (f := s) rfl (by omega) (by decide) dX0_dictionaryMask_108 ?_
      refine x_st (st' := [.int (nI m), .int (nI (34 * k)), .ref (a 0)]) (by rw [hs]) ?_
      refine x_iadd 110 (v := nI (34 * k + m)) dX0_dictionaryMask_109 (nI_add _ _) ?_
      refine x_iload 112 6 dX0_dictionaryMask_110 rfl ?_
      refine x_iload 114 8 dX0_dictionaryMask_112 rfl ?_
      refine call_Vi 117 (av := [.int (nI (34 * k + m)), .int (nI (ib m)), .int (nI p)]) (metX0_getBits (cx_l K) a (34 * k + m) (ib m) p (by omega) (by omega) (by omega) r o l f lo hi s w rg rl rh vc vs) rfl rfl gwX0_getBits nyX0_getBits rfl (by omega) (by decide) (Nat.le_of_ble_eq_true rfl) rfl dX0_dictionaryMask_114 ?_
      intro r_114 w_114 hq_114
      obtain ⟨rfl, rfl⟩ := hq_114
      obtain ⟨e0, he0, hge, hx⟩ := hR.2.2.2 p (by omega)
      have hdi := dict_in hR fr to he0
      rw [← hem, ← hu, ← hv] at hdi
      rw [hge]
      refine x_istore 119 (lv' := [(9, .int (nI e0)), (0, .ref (a 0)), (1, .int (nI k)), (2, .int fr), (3, .int to), (4, .int (nI u)), (5, .int (nI v)), (6, .int (nI (ib m))), (7, .int mk), (8, .int (nI p))]) dX0_dictionaryMask_117 (by decide) rfl ?_
      refine x_iload 121 8 dX0_dictionaryMask_119 rfl ?_
      refine x_iload 123 5 dX0_dictionaryMask_121 rfl ?_
      refine x_iload 125 0 dX0_dictionaryMask_123 rfl ?_
      refine n_icmp_gt 128 142 dX0_dictionaryMask_125 (by decide) (by omega) (by omega) (fun h_125 => ?_) (fun h_125 => ?_)
      ·
        refine x_iconst 143 (v := nI 0) dX0_dictionaryMask_142 kI_0 ?_
        refine x_ior 144 (v := mk ||| (nI 0)) dX0_dictionaryMask_143 rfl ?_
        refine x_istore 146 (lv' := [(7, .int (mk ||| (nI 0))), (9, .int (nI e0)), (0, .ref (a 0)), (1, .int (nI k)), (2, .int fr), (3, .int to), (4, .int (nI u)), (5, .int (nI v)), (6, .int (nI (ib m))), (8, .int (nI p))]) dX0_dictionaryMask_144 (by decide) rfl ?_
        refine x_iinc 149 (v := nI (p + 1)) (lv' := [(8, .int (nI (p + 1))), (7, .int (mk ||| (nI 0))), (9, .int (nI e0)), (0, .ref (a 0)), (1, .int (nI k)), (2, .int fr), (3, .int to), (4, .int (nI u)), (5, .int (nI v)), (6, .int (nI (ib m)))]) 9 dX0_dictionaryMask_146 rfl (inc1 _) (by decide) rfl ?_
        refine x_goto 91 dX0_dictionaryMask_149 (by decide) ?_
        refine x_sub (lv' := [(0, .ref (a 0)), (1, .int (nI k)), (2, .int fr), (3, .int to), (4, .int (nI u)), (5, .int (nI v)), (6, .int (nI (ib m))), (7, .int (mk ||| (nI 0))), (8, .int (nI (p + 1)))]) [3, 4, 5, 6, 7, 8, 9, 1, 0] rfl ?_
        exact ih_p (p + 1) (by omega) (by omega) _ (by rw [hmk]; first | rw [mk_f (c := fun p => inR fr to (X p)) (by rw [← hx]; exact dm_f1 hdi h_125)] | rw [mk_f (c := fun p => inR fr to (X p)) (by rw [← hx]; exact dm_f2 hdi h_132)] | rw [mk_t (c := fun p => inR fr to (X p)) (by rw [← hx]; exact dm_t hdi h_125 h_132)])
      ·
        refine x_iload 130 0 dX0_dictionaryMask_128 rfl ?_
        refine x_iload 132 6 dX0_dictionaryMask_130 rfl ?_
        refine n_icmp_ge 135 142 dX0_dictionaryMask_132 (by decide) (by omega) (by omega) (fun h_132 => ?_) (fun h_132 => ?_)
        ·
          refine x_iconst 143 (v := nI 0) dX0_dictionaryMask_142 kI_0 ?_
          refine x_ior 144 (v := mk ||| (nI 0)) dX0_dictionaryMask_143 rfl ?_
          refine x_istore 146 (lv' := [(7, .int (mk ||| (nI 0))), (9, .int (nI e0)), (0, .ref (a 0)), (1, .int (nI k)), (2, .int fr), (3, .int to), (4, .int (nI u)), (5, .int (nI v)), (6, .int (nI (ib m))), (8, .int (nI p))]) dX0_dictionaryMask_144 (by decide) rfl ?_
          refine x_iinc 149 (v := nI (p + 1)) (lv' := [(8, .int (nI (p + 1))), (7, .int (mk ||| (nI 0))), (9, .int (nI e0)), (0, .ref (a 0)), (1, .int (nI k)), (2, .int fr), (3, .int to), (4, .int (nI u)), (5, .int (nI v)), (6, .int (nI (ib m)))]) 9 dX0_dictionaryMask_146 rfl (inc1 _) (by decide) rfl ?_
          refine x_goto 91 dX0_dictionaryMask_149 (by decide) ?_
          refine x_sub (lv' := [(0, .ref (a 0)), (1, .int (nI k)), (2, .int fr), (3, .int to), (4, .int (nI u)), (5, .int (nI v)), (6, .int (nI (ib m))), (7, .int (mk ||| (nI 0))), (8, .int (nI (p + 1)))]) [3, 4, 5, 6, 7, 8, 9, 1, 0] rfl ?_
          exact ih_p (p + 1) (by omega) (by omega) _ (by rw [hmk]; first | rw [mk_f (c := fun p => inR fr to (X p)) (by rw [← hx]; exact dm_f1 hdi h_125)] | rw [mk_f (c := fun p => inR fr to (X p)) (by rw [← hx]; exact dm_f2 hdi h_132)] | rw [mk_t (c := fun p => inR fr to (X p)) (by rw [← hx]; exact dm_t hdi h_125 h_132)])
        ·
          refine x_iconst 136 (v := nI 1) dX0_dictionaryMask_135 kI_1 ?_
          refine x_iload 138 9 dX0_dictionaryMask_136 rfl ?_
          refine x_ishl 139 (v := shl (nI 1) p) dX0_dictionaryMask_138 rfl ?_
          refine x_goto 143 dX0_dictionaryMask_139 (by decide) ?_
          refine x_ior 144 (v := mk ||| (shl (nI 1) p)) dX0_dictionaryMask_143 rfl ?_
          refine x_istore 146 (lv' := [(7, .int (mk ||| (shl (nI 1) p))), (9, .int (nI e0)), (0, .ref (a 0)), (1, .int (nI k)), (2, .int fr), (3, .int to), (4, .int (nI u)), (5, .int (nI v)), (6, .int (nI (ib m))), (8, .int (nI p))]) dX0_dictionaryMask_144 (by decide) rfl ?_
          refine x_iinc 149 (v := nI (p + 1)) (lv' := [(8, .int (nI (p + 1))), (7, .int (mk ||| (shl (nI 1) p))), (9, .int (nI e0)), (0, .ref (a 0)), (1, .int (nI k)), (2, .int fr), (3, .int to), (4, .int (nI u)), (5, .int (nI v)), (6, .int (nI (ib m)))]) 9 dX0_dictionaryMask_146 rfl (inc1 _) (by decide) rfl ?_
          refine x_goto 91 dX0_dictionaryMask_149 (by decide) ?_
          refine x_sub (lv' := [(0, .ref (a 0)), (1, .int (nI k)), (2, .int fr), (3, .int to), (4, .int (nI u)), (5, .int (nI v)), (6, .int (nI (ib m))), (7, .int (mk ||| (shl (nI 1) p))), (8, .int (nI (p + 1)))]) [3, 4, 5, 6, 7, 8, 9, 1, 0] rfl ?_
          exact ih_p (p + 1) (by omega) (by omega) _ (by rw [hmk]; first | rw [mk_f (c := fun p => inR fr to (X p)) (by rw [← hx]; exact dm_f1 hdi h_125)] | rw [mk_f (c := fun p => inR fr to (X p)) (by rw [← hx]; exact dm_f2 hdi h_132)] | rw [mk_t (c := fun p => inR fr to (X p)) (by rw [← hx]; exact dm_t hdi h_125 h_132)])
  ·
    refine x_iload 22 4 dX0_dictionaryMask_20 rfl ?_
    refine x_aload_n 23 0 dX0_dictionaryMask_22 rfl ?_
    refine get_X0 26 0 7 (v := .ref (a 7)) rfl (by decide) q38 rfl dX0_dictionaryMask_23 ?_
    refine x_bipush 28 (v := nI 34) dX0_dictionaryMask_26 kB_34 ?_
    refine x_iload_n 29 1 dX0_dictionaryMask_28 rfl ?_
    refine x_imul 30 (v := nI (34 * k)) dX0_dictionaryMask_29 (pk_mul _ _) ?_
    refine x_iload 32 6 dX0_dictionaryMask_30 rfl ?_
    refine x_iadd 33 (v := nI (34 * k + e)) dX0_dictionaryMask_32 (nI_add _ _) ?_
    refine iald 34 7 (f := w) rfl (by omega) (by decide) dX0_dictionaryMask_33 ?_
    refine x_iload_n 35 2 dX0_dictionaryMask_34 rfl ?_
    refine x_icmp_ge 38 42 dX0_dictionaryMask_35 (by decide) (fun h_35 => ?_) (fun h_35 => ?_)
    ·
      refine x_iconst 43 (v := nI 0) dX0_dictionaryMask_42 kI_0 ?_
      refine x_iadd 44 (v := nI (u + 0)) dX0_dictionaryMask_43 (nI_add _ _) ?_
      refine x_istore 46 (lv' := [(4, .int (nI (u + 0))), (0, .ref (a 0)), (1, .int (nI k)), (2, .int fr), (3, .int to), (5, .int (nI v)), (6, .int (nI e))]) dX0_dictionaryMask_44 (by decide) rfl ?_
      refine x_iload 48 5 dX0_dictionaryMask_46 rfl ?_
      refine x_aload_n 49 1 dX0_dictionaryMask_48 rfl ?_
      refine get_X0 52 0 7 (v := .ref (a 7)) rfl (by decide) q38 rfl dX0_dictionaryMask_49 ?_
      refine x_bipush 54 (v := nI 34) dX0_dictionaryMask_52 kB_34 ?_
      refine x_iload_n 55 2 dX0_dictionaryMask_54 rfl ?_
      refine x_imul 56 (v := nI (34 * k)) dX0_dictionaryMask_55 (pk_mul _ _) ?_
      refine x_iload 58 6 dX0_dictionaryMask_56 rfl ?_
      refine x_iadd 59 (v := nI (34 * k + e)) dX0_dictionaryMask_58 (nI_add _ _) ?_
      refine iald 60 7 (f := w) rfl (by omega) (by decide) dX0_dictionaryMask_59 ?_
      refine x_iload_n 61 4 dX0_dictionaryMask_60 rfl ?_
      refine x_icmp_gt 64 68 dX0_dictionaryMask_61 (by decide) (fun h_61 => ?_) (fun h_61 => ?_)
      ·
        refine x_iconst 69 (v := nI 0) dX0_dictionaryMask_68 kI_0 ?_
        refine x_iadd 70 (v := nI (v + 0)) dX0_dictionaryMask_69 (nI_add _ _) ?_
        refine x_istore 72 (lv' := [(5, .int (nI (v + 0))), (4, .int (nI (u + 0))), (0, .ref (a 0)), (1, .int (nI k)), (2, .int fr), (3, .int to), (6, .int (nI e))]) dX0_dictionaryMask_70 (by decide) rfl ?_
        refine x_iinc 75 (v := nI (e + 1)) (lv' := [(6, .int (nI (e + 1))), (5, .int (nI (v + 0))), (4, .int (nI (u + 0))), (0, .ref (a 0)), (1, .int (nI k)), (2, .int fr), (3, .int to)]) 6 dX0_dictionaryMask_72 rfl (inc1 _) (by decide) rfl ?_
        refine x_goto 9 dX0_dictionaryMask_75 (by decide) ?_
        refine x_sub (lv' := [(0, .ref (a 0)), (1, .int (nI k)), (2, .int fr), (3, .int to), (4, .int (nI (u + 0))), (5, .int (nI (v + 0))), (6, .int (nI (e + 1)))]) [3, 4, 5, 6, 2, 1, 0] rfl ?_
        exact ih_e (e + 1) (by omega) (by omega) _ _ (by rw [hu]; first | rw [ct_t (p := fun e => decide (w (34 * k + e) < fr)) (decide_eq_true (nle_lt h_35))] | (rw [ct_f (p := fun e => decide (w (34 * k + e) < fr)) (decide_eq_false (fun z => lt_nle z h_35))]; rfl)) (by rw [hv]; first | rw [ct_t (p := fun e => decide (w (34 * k + e) ≤ to)) (decide_eq_true (nlt_le h_61))] | (rw [ct_f (p := fun e => decide (w (34 * k + e) ≤ to)) (decide_eq_false (lt_nle h_61))]; rfl))
      ·
        refine x_iconst 65 (v := nI 1) dX0_dictionaryMask_64 kI_1 ?_
        refine x_goto 69 dX0_dictionaryMask_65 (by decide) ?_
        refine x_iadd 70 (v := nI (v + 1)) dX0_dictionaryMask_69 (nI_add _ _) ?_
        refine x_istore 72 (lv' := [(5, .int (nI (v + 1))), (4, .int (nI (u + 0))), (0, .ref (a 0)), (1, .int (nI k)), (2, .int fr), (3, .int to), (6, .int (nI e))]) dX0_dictionaryMask_70 (by decide) rfl ?_
        refine x_iinc 75 (v := nI (e + 1)) (lv' := [(6, .int (nI (e + 1))), (5, .int (nI (v + 1))), (4, .int (nI (u + 0))), (0, .ref (a 0)), (1, .int (nI k)), (2, .int fr), (3, .int to)]) 6 dX0_dictionaryMask_72 rfl (inc1 _) (by decide) rfl ?_
        refine x_goto 9 dX0_dictionaryMask_75 (by decide) ?_
        refine x_sub (lv' := [(0, .ref (a 0)), (1, .int (nI k)), (2, .int fr), (3, .int to), (4, .int (nI (u + 0))), (5, .int (nI (v + 1))), (6, .int (nI (e + 1)))]) [3, 4, 5, 6, 2, 1, 0] rfl ?_
        exact ih_e (e + 1) (by omega) (by omega) _ _ (by rw [hu]; first | rw [ct_t (p := fun e => decide (w (34 * k + e) < fr)) (decide_eq_true (nle_lt h_35))] | (rw [ct_f (p := fun e => decide (w (34 * k + e) < fr)) (decide_eq_false (fun z => lt_nle z h_35))]; rfl)) (by rw [hv]; first | rw [ct_t (p := fun e => decide (w (34 * k + e) ≤ to)) (decide_eq_true (nlt_le h_61))] | (rw [ct_f (p := fun e => decide (w (34 * k + e) ≤ to)) (decide_eq_false (lt_nle h_61))]; rfl))
    ·
      refine x_iconst 39 (v := nI 1) dX0_dictionaryMask_38 kI_1 ?_
      refine x_goto 43 dX0_dictionaryMask_39 (by decide) ?_
      refine x_iadd 44 (v := nI (u + 1)) dX0_dictionaryMask_43 (nI_add _ _) ?_
      refine x_istore 46 (lv' := [(4, .int (nI (u + 1))), (0, .ref (a 0)), (1, .int (nI k)), (2, .int fr), (3, .int to), (5, .int (nI v)), (6, .int (nI e))]) dX0_dictionaryMask_44 (by decide) rfl ?_
      refine x_iload 48 5 dX0_dictionaryMask_46 rfl ?_
      refine x_aload_n 49 1 dX0_dictionaryMask_48 rfl ?_
      refine get_X0 52 0 7 (v := .ref (a 7)) rfl (by decide) q38 rfl dX0_dictionaryMask_49 ?_
      refine x_bipush 54 (v := nI 34) dX0_dictionaryMask_52 kB_34 ?_
      refine x_iload_n 55 2 dX0_dictionaryMask_54 rfl ?_
      refine x_imul 56 (v := nI (34 * k)) dX0_dictionaryMask_55 (pk_mul _ _) ?_
      refine x_iload 58 6 dX0_dictionaryMask_56 rfl ?_
      refine x_iadd 59 (v := nI (34 * k + e)) dX0_dictionaryMask_58 (nI_add _ _) ?_
      refine iald 60 7 (f := w) rfl (by omega) (by decide) dX0_dictionaryMask_59 ?_
      refine x_iload_n 61 4 dX0_dictionaryMask_60 rfl ?_
      refine x_icmp_gt 64 68 dX0_dictionaryMask_61 (by decide) (fun h_61 => ?_) (fun h_61 => ?_)
      ·
        refine x_iconst 69 (v := nI 0) dX0_dictionaryMask_68 kI_0 ?_
        refine x_iadd 70 (v := nI (v + 0)) dX0_dictionaryMask_69 (nI_add _ _) ?_
        refine x_istore 72 (lv' := [(5, .int (nI (v + 0))), (4, .int (nI (u + 1))), (0, .ref (a 0)), (1, .int (nI k)), (2, .int fr), (3, .int to), (6, .int (nI e))]) dX0_dictionaryMask_70 (by decide) rfl ?_
        refine x_iinc 75 (v := nI (e + 1)) (lv' := [(6, .int (nI (e + 1))), (5, .int (nI (v + 0))), (4, .int (nI (u + 1))), (0, .ref (a 0)), (1, .int (nI k)), (2, .int fr), (3, .int to)]) 6 dX0_dictionaryMask_72 rfl (inc1 _) (by decide) rfl ?_
        refine x_goto 9 dX0_dictionaryMask_75 (by decide) ?_
        refine x_sub (lv' := [(0, .ref (a 0)), (1, .int (nI k)), (2, .int fr), (3, .int to), (4, .int (nI (u + 1))), (5, .int (nI (v + 0))), (6, .int (nI (e + 1)))]) [3, 4, 5, 6, 2, 1, 0] rfl ?_
        exact ih_e (e + 1) (by omega) (by omega) _ _ (by rw [hu]; first | rw [ct_t (p := fun e => decide (w (34 * k + e) < fr)) (decide_eq_true (nle_lt h_35))] | (rw [ct_f (p := fun e => decide (w (34 * k + e) < fr)) (decide_eq_false (fun z => lt_nle z h_35))]; rfl)) (by rw [hv]; first | rw [ct_t (p := fun e => decide (w (34 * k + e) ≤ to)) (decide_eq_true (nlt_le h_61))] | (rw [ct_f (p := fun e => decide (w (34 * k + e) ≤ to)) (decide_eq_false (lt_nle h_61))]; rfl))
      ·
        refine x_iconst 65 (v := nI 1) dX0_dictionaryMask_64 kI_1 ?_
        refine x_goto 69 dX0_dictionaryMask_65 (by decide) ?_
        refine x_iadd 70 (v := nI (v + 1)) dX0_dictionaryMask_69 (nI_add _ _) ?_
        refine x_istore 72 (lv' := [(5, .int (nI (v + 1))), (4, .int (nI (u + 1))), (0, .ref (a 0)), (1, .int (nI k)), (2, .int fr), (3, .int to), (6, .int (nI e))]) dX0_dictionaryMask_70 (by decide) rfl ?_
        refine x_iinc 75 (v := nI (e + 1)) (lv' := [(6, .int (nI (e + 1))), (5, .int (nI (v + 1))), (4, .int (nI (u + 1))), (0, .ref (a 0)), (1, .int (nI k)), (2, .int fr), (3, .int to)]) 6 dX0_dictionaryMask_72 rfl (inc1 _) (by decide) rfl ?_
        refine x_goto 9 dX0_dictionaryMask_75 (by decide) ?_
        refine x_sub (lv' := [(0, .ref (a 0)), (1, .int (nI k)), (2, .int fr), (3, .int to), (4, .int (nI (u + 1))), (5, .int (nI (v + 1))), (6, .int (nI (e + 1)))]) [3, 4, 5, 6, 2, 1, 0] rfl ?_
        exact ih_e (e + 1) (by omega) (by omega) _ _ (by rw [hu]; first | rw [ct_t (p := fun e => decide (w (34 * k + e) < fr)) (decide_eq_true (nle_lt h_35))] | (rw [ct_f (p := fun e => decide (w (34 * k + e) < fr)) (decide_eq_false (fun z => lt_nle z h_35))]; rfl)) (by rw [hv]; first | rw [ct_t (p := fun e => decide (w (34 * k + e) ≤ to)) (decide_eq_true (nlt_le h_61))] | (rw [ct_f (p := fun e => decide (w (34 * k + e) ≤ to)) (decide_eq_false (lt_nle h_61))]; rfl))
end
section
set_option maxRecDepth 100000
set_option maxHeartbeats 1000000
theorem metX0_valueIn (La : Launch) (a : Nat → Nat) (n g c p : Nat) (hg : g < 4) (hc : c < 3) (hp : p < 16) (V : Nat → Nat → Int32) (AL : Nat → Bool) (o l f lo hi s w rg rl rh : Nat → Int32) (vc : Int32) (vs : Nat → Int32) (hRep : Rep n V AL o l f lo hi s w) : MetW La yX0_valueIn cX0_valueIn 7 (some .int) 2 a [.ref (a 0), .int (nI g), .int (nI c), .int (nI p)] (wX0 a (nI n) o l f lo hi s w rg rl rh vc vs) (rpI (fun z w' => w' = (wX0 a (nI n) o l f lo hi s w rg rl rh vc vs) ∧ z = V c (16 * g + p))) := by
  refine MetW.ofI (by decide) (Nat.le_of_ble_eq_true rfl) (fun K hKl hKd ret => ?_)
  subst hKl
  show CW K a cX0_valueIn 7 RX0 0 [(0, .ref (a 0)), (1, .int (nI g)), (2, .int (nI c)), (3, .int (nI p))] [] (wX0 a (nI n) o l f lo hi s w rg rl rh vc vs)
  refine x_aload_n 1 0 dX0_valueIn_0 rfl ?_
  refine x_iload_n 2 1 dX0_valueIn_1 rfl ?_
  refine call_Vi 5 (av := [.int (nI g)]) (metX0_isClosed (cx_l K) a n g hRep.1 hg o l f lo hi s w rg rl rh vc vs) rfl rfl gwX0_isClosed nyX0_isClosed rfl (by omega) (by decide) (Nat.le_of_ble_eq_true rfl) rfl dX0_valueIn_2 ?_
  intro r_2 w_2 hq_2
  obtain ⟨rfl, hq_2⟩ := hq_2
  rcases hq_2 with ⟨rfl, hcl⟩ | ⟨rfl, hcl⟩
  ·
    refine t_if_ne 20 dX0_valueIn_5 (by decide) (by decide +kernel) ?_
    rcases (hRep.2.2.2.2 g c hc hcl).2 with ⟨hf, hX⟩ | ⟨hf, m, hs, hX⟩ | ⟨hf, m, hs, hX⟩ | ⟨hf, b, hs, hX⟩
    ·
      refine x_iconst 21 (v := nI 3) dX0_valueIn_20 kI_3 ?_
      refine x_iload_n 22 1 dX0_valueIn_21 rfl ?_
      refine x_imul 23 (v := nI (3 * g)) dX0_valueIn_22 (pk_mul _ _) ?_
      refine x_iload_n 24 2 dX0_valueIn_23 rfl ?_
      refine x_iadd 25 (v := nI (3 * g + c)) dX0_valueIn_24 (nI_add _ _) ?_
      refine x_istore 27 (lv' := [(4, .int (nI (3 * g + c))), (0, .ref (a 0)), (1, .int (nI g)), (2, .int (nI c)), (3, .int (nI p))]) dX0_valueIn_25 (by decide) rfl ?_
      refine x_bipush 29 (v := nI 34) dX0_valueIn_27 kB_34 ?_
      refine x_iload 31 0 dX0_valueIn_29 rfl ?_
      refine x_imul 32 (v := nI (34 * (3 * g + c))) dX0_valueIn_31 (pk_mul _ _) ?_
      refine x_istore 34 (lv' := [(5, .int (nI (34 * (3 * g + c)))), (4, .int (nI (3 * g + c))), (0, .ref (a 0)), (1, .int (nI g)), (2, .int (nI c)), (3, .int (nI p))]) dX0_valueIn_32 (by decide) rfl ?_
      refine x_aload_n 35 2 dX0_valueIn_34 rfl ?_
      refine get_X0 38 0 3 (v := .ref (a 3)) rfl (by decide) q34 rfl dX0_valueIn_35 ?_
      refine x_iload 40 1 dX0_valueIn_38 rfl ?_
      refine iald 41 3 (f := f) rfl (by omega) (by decide) dX0_valueIn_40 ?_
      refine x_st (st' := [.int (nI 0)]) (by rw [hf]) ?_
      refine f_if_ne 44 54 dX0_valueIn_41 (by decide) (by decide +kernel) ?_
      refine x_aload_n 45 2 dX0_valueIn_44 rfl ?_
      refine get_X0 48 0 7 (v := .ref (a 7)) rfl (by decide) q38 rfl dX0_valueIn_45 ?_
      refine x_iload 50 0 dX0_valueIn_48 rfl ?_
      refine x_iload_n 51 5 dX0_valueIn_50 rfl ?_
      refine x_iadd 52 (v := nI (34 * (3 * g + c) + p)) dX0_valueIn_51 (nI_add _ _) ?_
      refine iald 53 7 (f := w) rfl (by omega) (by decide) dX0_valueIn_52 ?_
      exact ret 53 _ _ _ dX0_valueIn_53 rfl ⟨rfl, hX p hp⟩
    ·
      have hm16 := hX.1
      refine x_iconst 21 (v := nI 3) dX0_valueIn_20 kI_3 ?_
      refine x_iload_n 22 1 dX0_valueIn_21 rfl ?_
      refine x_imul 23 (v := nI (3 * g)) dX0_valueIn_22 (pk_mul _ _) ?_
      refine x_iload_n 24 2 dX0_valueIn_23 rfl ?_
      refine x_iadd 25 (v := nI (3 * g + c)) dX0_valueIn_24 (nI_add _ _) ?_
      refine x_istore 27 (lv' := [(4, .int (nI (3 * g + c))), (0, .ref (a 0)), (1, .int (nI g)), (2, .int (nI c)), (3, .int (nI p))]) dX0_valueIn_25 (by decide) rfl ?_
      refine x_bipush 29 (v := nI 34) dX0_valueIn_27 kB_34 ?_
      refine x_iload 31 0 dX0_valueIn_29 rfl ?_
      refine x_imul 32 (v := nI (34 * (3 * g + c))) dX0_valueIn_31 (pk_mul _ _) ?_
      refine x_istore 34 (lv' := [(5, .int (nI (34 * (3 * g + c)))), (4, .int (nI (3 * g + c))), (0, .ref (a 0)), (1, .int (nI g)), (2, .int (nI c)), (3, .int (nI p))]) dX0_valueIn_32 (by decide) rfl ?_
      refine x_aload_n 35 2 dX0_valueIn_34 rfl ?_
      refine get_X0 38 0 3 (v := .ref (a 3)) rfl (by decide) q34 rfl dX0_valueIn_35 ?_
      refine x_iload 40 1 dX0_valueIn_38 rfl ?_
      refine iald 41 3 (f := f) rfl (by omega) (by decide) dX0_valueIn_40 ?_
      refine x_st (st' := [.int (nI 1)]) (by rw [hf]) ?_
      refine t_if_ne 54 dX0_valueIn_41 (by decide) (by decide +kernel) ?_
      refine x_aload_n 55 2 dX0_valueIn_54 rfl ?_
      refine get_X0 58 0 3 (v := .ref (a 3)) rfl (by decide) q34 rfl dX0_valueIn_55 ?_
      refine x_iload 60 1 dX0_valueIn_58 rfl ?_
      refine iald 61 3 (f := f) rfl (by omega) (by decide) dX0_valueIn_60 ?_
      refine x_st (st' := [.int (nI 1)]) (by rw [hf]) ?_
      refine x_iconst 62 (v := nI 3) dX0_valueIn_61 kI_3 ?_
      refine t_icmp_ne 88 dX0_valueIn_62 (by decide) (by decide +kernel) ?_
      refine x_aload_n 89 2 dX0_valueIn_88 rfl ?_
      refine get_X0 92 0 3 (v := .ref (a 3)) rfl (by decide) q34 rfl dX0_valueIn_89 ?_
      refine x_iload 94 1 dX0_valueIn_92 rfl ?_
      refine iald 95 3 (f := f) rfl (by omega) (by decide) dX0_valueIn_94 ?_
      refine x_st (st' := [.int (nI 1)]) (by rw [hf]) ?_
      refine x_iconst 96 (v := nI 2) dX0_valueIn_95 kI_2 ?_
      refine t_icmp_ne 133 dX0_valueIn_96 (by decide) (by decide +kernel) ?_
      refine x_iconst 134 (v := nI 0) dX0_valueIn_133 kI_0 ?_
      refine x_istore 136 (lv' := [(6, .int (nI 0)), (5, .int (nI (34 * (3 * g + c)))), (4, .int (nI (3 * g + c))), (0, .ref (a 0)), (1, .int (nI g)), (2, .int (nI c)), (3, .int (nI p))]) dX0_valueIn_134 (by decide) rfl ?_
      refine x_sub (lv' := [(0, .ref (a 0)), (1, .int (nI g)), (2, .int (nI c)), (3, .int (nI p)), (4, .int (nI (3 * g + c))), (5, .int (nI (34 * (3 * g + c)))), (6, .int (nI 0))]) [3, 4, 5, 6, 2, 1, 0] rfl ?_
      refine loop_up (P := fun j => (∀ j', j' < j → bt (w (34 * (3 * g + c) + 2 * j' + 1)) p = false) → CW K a cX0_valueIn 7 RX0 136 [(0, .ref (a 0)), (1, .int (nI g)), (2, .int (nI c)), (3, .int (nI p)), (4, .int (nI (3 * g + c))), (5, .int (nI (34 * (3 * g + c)))), (6, .int (nI j))] [] (wX0 a (nI n) o l f lo hi s w rg rl rh vc vs)) m (fun j hi_j ih_j => ?_) 0 (by omega)  (fun _ h => absurd h (Nat.not_lt_zero _))
      intro hno
      refine x_iload 138 6 dX0_valueIn_136 rfl ?_
      refine x_aload_n 139 0 dX0_valueIn_138 rfl ?_
      refine get_X0 142 0 6 (v := .ref (a 6)) rfl (by decide) q37 rfl dX0_valueIn_139 ?_
      refine x_iload 144 4 dX0_valueIn_142 rfl ?_
      refine iald 145 6 (f := s) rfl (by omega) (by decide) dX0_valueIn_144 ?_
      refine x_st (st' := [.int (nI m), .int (nI j)]) (by rw [hs]) ?_
      refine n_icmp_ge 148 188 dX0_valueIn_145 (by decide) (by omega) (by omega) (fun h_145 => ?_) (fun h_145 => ?_)
      ·
        obtain ⟨j0, a1, a2, a3, a4⟩ := hX.2 p hp
        rw [hno j0 (by omega)] at a2
        cases a2
      ·
        refine x_aload_n 149 0 dX0_valueIn_148 rfl ?_
        refine get_X0 152 0 7 (v := .ref (a 7)) rfl (by decide) q38 rfl dX0_valueIn_149 ?_
        refine x_iload 154 5 dX0_valueIn_152 rfl ?_
        refine x_iconst 155 (v := nI 2) dX0_valueIn_154 kI_2 ?_
        refine x_iload 157 6 dX0_valueIn_155 rfl ?_
        refine x_imul 158 (v := nI (2 * j)) dX0_valueIn_157 (pk_mul _ _) ?_
        refine x_iadd 159 (v := nI (34 * (3 * g + c) + 2 * j)) dX0_valueIn_158 (nI_add _ _) ?_
        refine x_iconst 160 (v := nI 1) dX0_valueIn_159 kI_1 ?_
        refine x_iadd 161 (v := nI (34 * (3 * g + c) + 2 * j + 1)) dX0_valueIn_160 (nI_add _ _) ?_
        refine iald 162 7 (f := w) rfl (by omega) (by decide) dX0_valueIn_161 ?_
        refine x_iload_n 163 3 dX0_valueIn_162 rfl ?_
        refine x_iushr 164 (v := us (w (34 * (3 * g + c) + 2 * j + 1)) p) dX0_valueIn_163 rfl ?_
        refine x_iconst 165 (v := nI 1) dX0_valueIn_164 kI_1 ?_
        refine x_iand 166 (v := nI (tb (w (34 * (3 * g + c) + 2 * j + 1)) p)) dX0_valueIn_165 (us_1 _ (by omega)) ?_
        refine b_if_eq 169 182 dX0_valueIn_166 (by decide) (fun h_166 => ?_) (fun h_166 => ?_)
        ·
          refine x_iinc 185 (v := nI (j + 1)) (lv' := [(6, .int (nI (j + 1))), (0, .ref (a 0)), (1, .int (nI g)), (2, .int (nI c)), (3, .int (nI p)), (4, .int (nI (3 * g + c))), (5, .int (nI (34 * (3 * g + c))))]) 6 dX0_valueIn_182 rfl (inc1 _) (by decide) rfl ?_
          refine x_goto 136 dX0_valueIn_185 (by decide) ?_
          refine x_sub (lv' := [(0, .ref (a 0)), (1, .int (nI g)), (2, .int (nI c)), (3, .int (nI p)), (4, .int (nI (3 * g + c))), (5, .int (nI (34 * (3 * g + c)))), (6, .int (nI (j + 1)))]) [1, 2, 3, 4, 5, 6, 0] rfl ?_
          exact ih_j (j + 1) (by omega) (by omega)  (lt_s hno h_166)
        ·
          refine x_aload_n 170 0 dX0_valueIn_169 rfl ?_
          refine get_X0 173 0 7 (v := .ref (a 7)) rfl (by decide) q38 rfl dX0_valueIn_170 ?_
          refine x_iload 175 5 dX0_valueIn_173 rfl ?_
          refine x_iconst 176 (v := nI 2) dX0_valueIn_175 kI_2 ?_
          refine x_iload 178 6 dX0_valueIn_176 rfl ?_
          refine x_imul 179 (v := nI (2 * j)) dX0_valueIn_178 (pk_mul _ _) ?_
          refine x_iadd 180 (v := nI (34 * (3 * g + c) + 2 * j)) dX0_valueIn_179 (nI_add _ _) ?_
          refine iald 181 7 (f := w) rfl (by omega) (by decide) dX0_valueIn_180 ?_
          exact ret 181 _ _ _ dX0_valueIn_181 rfl ⟨rfl, by obtain ⟨j0, a1, a2, a3, a4⟩ := hX.2 p hp; rw [a4 j (by omega) h_166]; exact a3⟩
    ·
      have hm16 := hX.2.1
      have hib := ib_le hm16
      refine x_iconst 21 (v := nI 3) dX0_valueIn_20 kI_3 ?_
      refine x_iload_n 22 1 dX0_valueIn_21 rfl ?_
      refine x_imul 23 (v := nI (3 * g)) dX0_valueIn_22 (pk_mul _ _) ?_
      refine x_iload_n 24 2 dX0_valueIn_23 rfl ?_
      refine x_iadd 25 (v := nI (3 * g + c)) dX0_valueIn_24 (nI_add _ _) ?_
      refine x_istore 27 (lv' := [(4, .int (nI (3 * g + c))), (0, .ref (a 0)), (1, .int (nI g)), (2, .int (nI c)), (3, .int (nI p))]) dX0_valueIn_25 (by decide) rfl ?_
      refine x_bipush 29 (v := nI 34) dX0_valueIn_27 kB_34 ?_
      refine x_iload 31 0 dX0_valueIn_29 rfl ?_
      refine x_imul 32 (v := nI (34 * (3 * g + c))) dX0_valueIn_31 (pk_mul _ _) ?_
      refine x_istore 34 (lv' := [(5, .int (nI (34 * (3 * g + c)))), (4, .int (nI (3 * g + c))), (0, .ref (a 0)), (1, .int (nI g)), (2, .int (nI c)), (3, .int (nI p))]) dX0_valueIn_32 (by decide) rfl ?_
      refine x_aload_n 35 2 dX0_valueIn_34 rfl ?_
      refine get_X0 38 0 3 (v := .ref (a 3)) rfl (by decide) q34 rfl dX0_valueIn_35 ?_
      refine x_iload 40 1 dX0_valueIn_38 rfl ?_
      refine iald 41 3 (f := f) rfl (by omega) (by decide) dX0_valueIn_40 ?_
      refine x_st (st' := [.int (nI 2)]) (by rw [hf]) ?_
      refine t_if_ne 54 dX0_valueIn_41 (by decide) (by decide +kernel) ?_
      refine x_aload_n 55 2 dX0_valueIn_54 rfl ?_
      refine get_X0 58 0 3 (v := .ref (a 3)) rfl (by decide) q34 rfl dX0_valueIn_55 ?_
      refine x_iload 60 1 dX0_valueIn_58 rfl ?_
      refine iald 61 3 (f := f) rfl (by omega) (by decide) dX0_valueIn_60 ?_
      refine x_st (st' := [.int (nI 2)]) (by rw [hf]) ?_
      refine x_iconst 62 (v := nI 3) dX0_valueIn_61 kI_3 ?_
      refine t_icmp_ne 88 dX0_valueIn_62 (by decide) (by decide +kernel) ?_
      refine x_aload_n 89 2 dX0_valueIn_88 rfl ?_
      refine get_X0 92 0 3 (v := .ref (a 3)) rfl (by decide) q34 rfl dX0_valueIn_89 ?_
      refine x_iload 94 1 dX0_valueIn_92 rfl ?_
      refine iald 95 3 (f := f) rfl (by omega) (by decide) dX0_valueIn_94 ?_
      refine x_st (st' := [.int (nI 2)]) (by rw [hf]) ?_
      refine x_iconst 96 (v := nI 2) dX0_valueIn_95 kI_2 ?_
      refine f_icmp_ne 99 133 dX0_valueIn_96 (by decide) (by decide +kernel) ?_
      refine x_aload_n 100 2 dX0_valueIn_99 rfl ?_
      refine x_iload 102 1 dX0_valueIn_100 rfl ?_
      refine call_Vi 105 (av := [.int (nI (3 * g + c))]) (metX0_indexBitsOf (cx_l K) a (3 * g + c) m (by omega) hX.1 (nI n) o l f lo hi s w rg rl rh vc vs hs) rfl rfl gwX0_indexBitsOf nyX0_indexBitsOf rfl (by omega) (by decide) (Nat.le_of_ble_eq_true rfl) rfl dX0_valueIn_102 ?_
      intro r_102 w_102 hq_102
      obtain ⟨rfl, rfl⟩ := hq_102
      refine x_istore 107 (lv' := [(6, .int (nI (ib m))), (5, .int (nI (34 * (3 * g + c)))), (4, .int (nI (3 * g + c))), (0, .ref (a 0)), (1, .int (nI g)), (2, .int (nI c)), (3, .int (nI p))]) dX0_valueIn_105 (by decide) rfl ?_
      refine x_aload_n 108 3 dX0_valueIn_107 rfl ?_
      refine get_X0 111 0 7 (v := .ref (a 7)) rfl (by decide) q38 rfl dX0_valueIn_108 ?_
      refine x_iload 113 1 dX0_valueIn_111 rfl ?_
      refine x_aload_n 114 3 dX0_valueIn_113 rfl ?_
      refine x_iload 116 1 dX0_valueIn_114 rfl ?_
      refine x_aload_n 117 3 dX0_valueIn_116 rfl ?_
      refine get_X0 120 0 6 (v := .ref (a 6)) rfl (by decide) q37 rfl dX0_valueIn_117 ?_
      refine x_iload 122 2 dX0_valueIn_120 rfl ?_
      refine iald 123 6 (f := s) rfl (by omega) (by decide) dX0_valueIn_122 ?_
      refine x_st (st' := [.int (nI m), .int (nI (34 * (3 * g + c))), .ref (a 0), .int (nI (34 * (3 * g + c))), .ref (a 7)]) (by rw [hs]) ?_
      refine x_iadd 124 (v := nI (34 * (3 * g + c) + m)) dX0_valueIn_123 (nI_add _ _) ?_
      refine x_iload 126 0 dX0_valueIn_124 rfl ?_
      refine x_iload_n 127 6 dX0_valueIn_126 rfl ?_
      refine call_Vi 130 (av := [.int (nI (34 * (3 * g + c) + m)), .int (nI (ib m)), .int (nI p)]) (metX0_getBits (cx_l K) a (34 * (3 * g + c) + m) (ib m) p (by omega) (by omega) (by omega) (nI n) o l f lo hi s w rg rl rh vc vs) rfl rfl gwX0_getBits nyX0_getBits rfl (by omega) (by decide) (Nat.le_of_ble_eq_true rfl) rfl dX0_valueIn_127 ?_
      intro r_127 w_127 hq_127
      obtain ⟨rfl, rfl⟩ := hq_127
      obtain ⟨e0, he0, hge, hx⟩ := hX.2.2.2 p hp
      rw [hge]
      refine x_iadd 131 (v := nI (34 * (3 * g + c) + e0)) dX0_valueIn_130 (nI_add _ _) ?_
      refine iald 132 7 (f := w) rfl (by omega) (by decide) dX0_valueIn_131 ?_
      exact ret 132 _ _ _ dX0_valueIn_132 rfl ⟨rfl, hx⟩
    ·
      have hb31 := hX.1
      refine x_iconst 21 (v := nI 3) dX0_valueIn_20 kI_3 ?_
      refine x_iload_n 22 1 dX0_valueIn_21 rfl ?_
      refine x_imul 23 (v := nI (3 * g)) dX0_valueIn_22 (pk_mul _ _) ?_
      refine x_iload_n 24 2 dX0_valueIn_23 rfl ?_
      refine x_iadd 25 (v := nI (3 * g + c)) dX0_valueIn_24 (nI_add _ _) ?_
      refine x_istore 27 (lv' := [(4, .int (nI (3 * g + c))), (0, .ref (a 0)), (1, .int (nI g)), (2, .int (nI c)), (3, .int (nI p))]) dX0_valueIn_25 (by decide) rfl ?_
      refine x_bipush 29 (v := nI 34) dX0_valueIn_27 kB_34 ?_
      refine x_iload 31 0 dX0_valueIn_29 rfl ?_
      refine x_imul 32 (v := nI (34 * (3 * g + c))) dX0_valueIn_31 (pk_mul _ _) ?_
      refine x_istore 34 (lv' := [(5, .int (nI (34 * (3 * g + c)))), (4, .int (nI (3 * g + c))), (0, .ref (a 0)), (1, .int (nI g)), (2, .int (nI c)), (3, .int (nI p))]) dX0_valueIn_32 (by decide) rfl ?_
      refine x_aload_n 35 2 dX0_valueIn_34 rfl ?_
      refine get_X0 38 0 3 (v := .ref (a 3)) rfl (by decide) q34 rfl dX0_valueIn_35 ?_
      refine x_iload 40 1 dX0_valueIn_38 rfl ?_
      refine iald 41 3 (f := f) rfl (by omega) (by decide) dX0_valueIn_40 ?_
      refine x_st (st' := [.int (nI 3)]) (by rw [hf]) ?_
      refine t_if_ne 54 dX0_valueIn_41 (by decide) (by decide +kernel) ?_
      refine x_aload_n 55 2 dX0_valueIn_54 rfl ?_
      refine get_X0 58 0 3 (v := .ref (a 3)) rfl (by decide) q34 rfl dX0_valueIn_55 ?_
      refine x_iload 60 1 dX0_valueIn_58 rfl ?_
      refine iald 61 3 (f := f) rfl (by omega) (by decide) dX0_valueIn_60 ?_
      refine x_st (st' := [.int (nI 3)]) (by rw [hf]) ?_
      refine x_iconst 62 (v := nI 3) dX0_valueIn_61 kI_3 ?_
      refine f_icmp_ne 65 88 dX0_valueIn_62 (by decide) (by decide +kernel) ?_
      refine x_aload_n 66 2 dX0_valueIn_65 rfl ?_
      refine get_X0 69 0 4 (v := .ref (a 4)) rfl (by decide) q35 rfl dX0_valueIn_66 ?_
      refine x_iload 71 1 dX0_valueIn_69 rfl ?_
      refine iald 72 4 (f := lo) rfl (by omega) (by decide) dX0_valueIn_71 ?_
      refine x_aload_n 73 2 dX0_valueIn_72 rfl ?_
      refine x_iload 75 0 dX0_valueIn_73 rfl ?_
      refine x_aload_n 76 2 dX0_valueIn_75 rfl ?_
      refine get_X0 79 0 6 (v := .ref (a 6)) rfl (by decide) q37 rfl dX0_valueIn_76 ?_
      refine x_iload 81 1 dX0_valueIn_79 rfl ?_
      refine iald 82 6 (f := s) rfl (by omega) (by decide) dX0_valueIn_81 ?_
      refine x_st (st' := [.int (nI b), .int (nI (34 * (3 * g + c))), .ref (a 0), .int (lo (3 * g + c))]) (by rw [hs]) ?_
      refine x_iload_n 83 5 dX0_valueIn_82 rfl ?_
      refine call_Vi 86 (av := [.int (nI (34 * (3 * g + c))), .int (nI b), .int (nI p)]) (metX0_getBits (cx_l K) a (34 * (3 * g + c)) b p (by omega) (by omega) (by omega) (nI n) o l f lo hi s w rg rl rh vc vs) rfl rfl gwX0_getBits nyX0_getBits rfl (by omega) (by decide) (Nat.le_of_ble_eq_true rfl) rfl dX0_valueIn_83 ?_
      intro r_83 w_83 hq_83
      obtain ⟨rfl, rfl⟩ := hq_83
      refine x_iadd 87 (v := (lo (3 * g + c)) + (gb w (34 * (3 * g + c)) b p)) dX0_valueIn_86 rfl ?_
      exact ret 87 _ _ _ dX0_valueIn_87 rfl ⟨rfl, hX.2 p hp⟩
  ·
    refine f_if_ne 8 20 dX0_valueIn_5 (by decide) (by decide +kernel) ?_
    refine x_aload_n 9 0 dX0_valueIn_8 rfl ?_
    refine get_X0 12 0 1 (v := .ref (a 1)) rfl (by decide) q32 rfl dX0_valueIn_9 ?_
    refine x_bipush 14 (v := nI 16) dX0_valueIn_12 kB_16 ?_
    refine x_iload_n 15 2 dX0_valueIn_14 rfl ?_
    refine x_imul 16 (v := nI (16 * c)) dX0_valueIn_15 (pk_mul _ _) ?_
    refine x_iload_n 17 3 dX0_valueIn_16 rfl ?_
    refine x_iadd 18 (v := nI (16 * c + p)) dX0_valueIn_17 (nI_add _ _) ?_
    refine iald 19 1 (f := o) rfl (by omega) (by decide) dX0_valueIn_18 ?_
    exact ret 19 _ _ _ dX0_valueIn_19 rfl ⟨rfl, by rw [hRep.2.1 c (16 * g + p) hc (by omega), show (16 * g + p) % 16 = p by omega]⟩
theorem inR_f3 {fr to x : Int32} (h : ¬ fr ≤ to) : inR fr to x = false := by
  by_cases h1 : fr ≤ x
  · exact inR_f2 (fun z => h (le_tr h1 z))
  · exact inR_f1 h1
theorem metX0_rangeMask (La : Launch) (a : Nat → Nat) (n g c : Nat) (fr to : Int32) (hg : g < 4) (hc : c < 3) (V : Nat → Nat → Int32) (AL : Nat → Bool) (o l f lo hi s w rg rl rh : Nat → Int32) (vc : Int32) (vs : Nat → Int32) (hRep : Rep n V AL o l f lo hi s w) : MetW La yX0_rangeMask cX0_rangeMask 10 (some .int) 3 a [.ref (a 0), .int (nI g), .int (nI c), .int fr, .int to] (wX0 a (nI n) o l f lo hi s w rg rl rh vc vs) (rpI (fun z w' => w' = (wX0 a (nI n) o l f lo hi s w rg rl rh vc vs) ∧ ∀ p, p < 16 → bt z p = inR fr to (V c (16 * g + p)))) := by
  refine MetW.ofI (by decide) (Nat.le_of_ble_eq_true rfl) (fun K hKl hKd ret => ?_)
  subst hKl
  show CW K a cX0_rangeMask 10 RX0 0 [(0, .ref (a 0)), (1, .int (nI g)), (2, .int (nI c)), (3, .int fr), (4, .int to)] [] (wX0 a (nI n) o l f lo hi s w rg rl rh vc vs)
  refine x_iconst 1 (v := nI 3) dX0_rangeMask_0 kI_3 ?_
  refine x_iload_n 2 1 dX0_rangeMask_1 rfl ?_
  refine x_imul 3 (v := nI (3 * g)) dX0_rangeMask_2 (pk_mul _ _) ?_
  refine x_iload_n 4 2 dX0_rangeMask_3 rfl ?_
  refine x_iadd 5 (v := nI (3 * g + c)) dX0_rangeMask_4 (nI_add _ _) ?_
  refine x_istore 7 (lv' := [(5, .int (nI (3 * g + c))), (0, .ref (a 0)), (1, .int (nI g)), (2, .int (nI c)), (3, .int fr), (4, .int to)]) dX0_rangeMask_5 (by decide) rfl ?_
  refine x_aload_n 8 1 dX0_rangeMask_7 rfl ?_
  refine x_iload_n 9 2 dX0_rangeMask_8 rfl ?_
  refine call_Vi 12 (av := [.int (nI g)]) (metX0_isClosed (cx_l K) a n g hRep.1 hg o l f lo hi s w rg rl rh vc vs) rfl rfl gwX0_isClosed nyX0_isClosed rfl (by omega) (by decide) (Nat.le_of_ble_eq_true rfl) rfl dX0_rangeMask_9 ?_
  intro r_9 w_9 hq_9
  obtain ⟨rfl, hq_9⟩ := hq_9
  rcases hq_9 with ⟨rfl, hcl⟩ | ⟨rfl, hcl⟩
  ·
    obtain ⟨hb, hF⟩ := hRep.2.2.2.2 g c hc hcl
    have hb : ∀ p, p < 16 → lo (3 * g + c) ≤ V c (16 * g + p) ∧ V c (16 * g + p) ≤ hi (3 * g + c) := hb
    refine x_istore 14 (lv' := [(6, .int (nI 1)), (5, .int (nI (3 * g + c))), (0, .ref (a 0)), (1, .int (nI g)), (2, .int (nI c)), (3, .int fr), (4, .int to)]) dX0_rangeMask_12 (by decide) rfl ?_
    refine x_iload 16 0 dX0_rangeMask_14 rfl ?_
    refine f_if_eq 19 50 dX0_rangeMask_16 (by decide) (by decide +kernel) ?_
    refine x_aload_n 20 2 dX0_rangeMask_19 rfl ?_
    refine get_X0 23 0 5 (v := .ref (a 5)) rfl (by decide) q36 rfl dX0_rangeMask_20 ?_
    refine x_iload 25 1 dX0_rangeMask_23 rfl ?_
    refine iald 26 5 (f := hi) rfl (by omega) (by decide) dX0_rangeMask_25 ?_
    refine x_iload_n 27 5 dX0_rangeMask_26 rfl ?_
    refine x_icmp_lt 30 48 dX0_rangeMask_27 (by decide) (fun h_27 => ?_) (fun h_27 => ?_)
    ·
      refine x_iconst 49 (v := nI 0) dX0_rangeMask_48 kI_0 ?_
      exact ret 49 _ _ _ dX0_rangeMask_49 rfl ⟨rfl, fun p hp => by rw [bt_nI0]; first | rw [inR_f1 (lt_nle (le_lt_tr (hb p hp).2 h_27))] | rw [inR_f2 (lt_nle (lt_le_tr h_39 (hb p hp).1))] | rw [inR_f3 h_45]⟩
    ·
      refine x_aload_n 31 2 dX0_rangeMask_30 rfl ?_
      refine get_X0 34 0 4 (v := .ref (a 4)) rfl (by decide) q35 rfl dX0_rangeMask_31 ?_
      refine x_iload 36 1 dX0_rangeMask_34 rfl ?_
      refine iald 37 4 (f := lo) rfl (by omega) (by decide) dX0_rangeMask_36 ?_
      refine x_iload 39 6 dX0_rangeMask_37 rfl ?_
      refine x_icmp_gt 42 48 dX0_rangeMask_39 (by decide) (fun h_39 => ?_) (fun h_39 => ?_)
      ·
        refine x_iconst 49 (v := nI 0) dX0_rangeMask_48 kI_0 ?_
        exact ret 49 _ _ _ dX0_rangeMask_49 rfl ⟨rfl, fun p hp => by rw [bt_nI0]; first | rw [inR_f1 (lt_nle (le_lt_tr (hb p hp).2 h_27))] | rw [inR_f2 (lt_nle (lt_le_tr h_39 (hb p hp).1))] | rw [inR_f3 h_45]⟩
      ·
        refine x_iload_n 43 5 dX0_rangeMask_42 rfl ?_
        refine x_iload 45 6 dX0_rangeMask_43 rfl ?_
        refine x_icmp_le 48 50 dX0_rangeMask_45 (by decide) (fun h_45 => ?_) (fun h_45 => ?_)
        ·
          have hj_81 : CW K a cX0_rangeMask 10 RX0 81 [(0, .ref (a 0)), (1, .int (nI g)), (2, .int (nI c)), (3, .int fr), (4, .int to), (5, .int (nI (3 * g + c))), (6, .int (nI 1))] [] (wX0 a (nI n) o l f lo hi s w rg rl rh vc vs) := by
            refine x_iload 83 6 dX0_rangeMask_81 rfl ?_
            refine f_if_eq 86 107 dX0_rangeMask_83 (by decide) (by decide +kernel) ?_
            rcases hF with ⟨hf, hX⟩ | ⟨hf, m, hs, hX⟩ | ⟨hf, m, hs, hX⟩ | ⟨hf, b, hs, hX⟩
            ·
              refine x_aload_n 87 0 dX0_rangeMask_86 rfl ?_
              refine get_X0 90 0 3 (v := .ref (a 3)) rfl (by decide) q34 rfl dX0_rangeMask_87 ?_
              refine x_iload 92 5 dX0_rangeMask_90 rfl ?_
              refine iald 93 3 (f := f) rfl (by omega) (by decide) dX0_rangeMask_92 ?_
              refine x_st (st' := [.int (nI 0)]) (by rw [hf]) ?_
              refine x_iconst 94 (v := nI 1) dX0_rangeMask_93 kI_1 ?_
              refine t_icmp_ne 107 dX0_rangeMask_94 (by decide) (by decide +kernel) ?_
              refine x_iload 109 6 dX0_rangeMask_107 rfl ?_
              refine f_if_eq 112 133 dX0_rangeMask_109 (by decide) (by decide +kernel) ?_
              refine x_aload_n 113 0 dX0_rangeMask_112 rfl ?_
              refine get_X0 116 0 3 (v := .ref (a 3)) rfl (by decide) q34 rfl dX0_rangeMask_113 ?_
              refine x_iload 118 5 dX0_rangeMask_116 rfl ?_
              refine iald 119 3 (f := f) rfl (by omega) (by decide) dX0_rangeMask_118 ?_
              refine x_st (st' := [.int (nI 0)]) (by rw [hf]) ?_
              refine x_iconst 120 (v := nI 2) dX0_rangeMask_119 kI_2 ?_
              refine t_icmp_ne 133 dX0_rangeMask_120 (by decide) (by decide +kernel) ?_
              refine x_iconst 134 (v := nI 0) dX0_rangeMask_133 kI_0 ?_
              refine x_istore 136 (lv' := [(7, .int (nI 0)), (0, .ref (a 0)), (1, .int (nI g)), (2, .int (nI c)), (3, .int fr), (4, .int to), (5, .int (nI (3 * g + c))), (6, .int (nI 1))]) dX0_rangeMask_134 (by decide) rfl ?_
              refine x_iconst 137 (v := nI 0) dX0_rangeMask_136 kI_0 ?_
              refine x_istore 139 (lv' := [(8, .int (nI 0)), (7, .int (nI 0)), (0, .ref (a 0)), (1, .int (nI g)), (2, .int (nI c)), (3, .int fr), (4, .int to), (5, .int (nI (3 * g + c))), (6, .int (nI 1))]) dX0_rangeMask_137 (by decide) rfl ?_
              refine x_sub (lv' := [(0, .ref (a 0)), (1, .int (nI g)), (2, .int (nI c)), (3, .int fr), (4, .int to), (5, .int (nI (3 * g + c))), (6, .int (nI 1)), (7, .int (nI 0)), (8, .int (nI 0))]) [2, 3, 4, 5, 6, 7, 8, 1, 0] rfl ?_
              refine loop_up (P := fun p => ∀ (mk : Int32), (mk = mk_ (fun p => inR fr to (V c (16 * g + p))) p) → CW K a cX0_rangeMask 10 RX0 139 [(0, .ref (a 0)), (1, .int (nI g)), (2, .int (nI c)), (3, .int fr), (4, .int to), (5, .int (nI (3 * g + c))), (6, .int (nI 1)), (7, .int mk), (8, .int (nI p))] [] (wX0 a (nI n) o l f lo hi s w rg rl rh vc vs)) 16 (fun p hi_p ih_p => ?_) 0 (by omega) (nI 0) rfl
              intro mk hmk
              refine x_iload 141 8 dX0_rangeMask_139 rfl ?_
              refine x_bipush 143 (v := nI 16) dX0_rangeMask_141 kB_16 ?_
              refine n_icmp_ge 146 188 dX0_rangeMask_143 (by decide) (by omega) (by omega) (fun h_143 => ?_) (fun h_143 => ?_)
              ·
                refine x_iload 190 7 dX0_rangeMask_188 rfl ?_
                exact ret 190 _ _ _ dX0_rangeMask_190 rfl ⟨rfl, fun i hi3 => by rw [hmk, show p = 16 by omega, bt_mk _ 16 (by omega) i (by omega), decide_eq_true hi3, Bool.true_and]⟩
              ·
                refine x_aload_n 147 0 dX0_rangeMask_146 rfl ?_
                refine x_iload_n 148 1 dX0_rangeMask_147 rfl ?_
                refine x_iload_n 149 2 dX0_rangeMask_148 rfl ?_
                refine x_iload 151 8 dX0_rangeMask_149 rfl ?_
                refine call_Vi 154 (av := [.int (nI g), .int (nI c), .int (nI p)]) (metX0_valueIn (cx_l K) a n g c p hg hc (by omega) V AL o l f lo hi s w rg rl rh vc vs hRep) rfl rfl gwX0_valueIn nyX0_valueIn rfl (by omega) (by decide) (Nat.le_of_ble_eq_true rfl) rfl dX0_rangeMask_151 ?_
                intro r_151 w_151 hq_151
                obtain ⟨rfl, rfl⟩ := hq_151
                refine x_istore 156 (lv' := [(9, .int (V c (16 * g + p))), (0, .ref (a 0)), (1, .int (nI g)), (2, .int (nI c)), (3, .int fr), (4, .int to), (5, .int (nI (3 * g + c))), (6, .int (nI 1)), (7, .int mk), (8, .int (nI p))]) dX0_rangeMask_154 (by decide) rfl ?_
                refine x_iload 158 8 dX0_rangeMask_156 rfl ?_
                refine x_iload_n 159 4 dX0_rangeMask_158 rfl ?_
                refine x_iload 161 0 dX0_rangeMask_159 rfl ?_
                refine x_icmp_gt 164 178 dX0_rangeMask_161 (by decide) (fun h_161 => ?_) (fun h_161 => ?_)
                ·
                  refine x_iconst 179 (v := nI 0) dX0_rangeMask_178 kI_0 ?_
                  refine x_ior 180 (v := mk ||| (nI 0)) dX0_rangeMask_179 rfl ?_
                  refine x_istore 182 (lv' := [(7, .int (mk ||| (nI 0))), (9, .int (V c (16 * g + p))), (0, .ref (a 0)), (1, .int (nI g)), (2, .int (nI c)), (3, .int fr), (4, .int to), (5, .int (nI (3 * g + c))), (6, .int (nI 1)), (8, .int (nI p))]) dX0_rangeMask_180 (by decide) rfl ?_
                  refine x_iinc 185 (v := nI (p + 1)) (lv' := [(8, .int (nI (p + 1))), (7, .int (mk ||| (nI 0))), (9, .int (V c (16 * g + p))), (0, .ref (a 0)), (1, .int (nI g)), (2, .int (nI c)), (3, .int fr), (4, .int to), (5, .int (nI (3 * g + c))), (6, .int (nI 1))]) 9 dX0_rangeMask_182 rfl (inc1 _) (by decide) rfl ?_
                  refine x_goto 139 dX0_rangeMask_185 (by decide) ?_
                  refine x_sub (lv' := [(0, .ref (a 0)), (1, .int (nI g)), (2, .int (nI c)), (3, .int fr), (4, .int to), (5, .int (nI (3 * g + c))), (6, .int (nI 1)), (7, .int (mk ||| (nI 0))), (8, .int (nI (p + 1)))]) [3, 4, 5, 6, 7, 8, 9, 1, 0] rfl ?_
                  exact ih_p (p + 1) (by omega) (by omega) _ (by rw [hmk]; first | rw [mk_f (c := (fun p => inR fr to (V c (16 * g + p)))) (inR_f1 (lt_nle h_161))] | rw [mk_f (c := (fun p => inR fr to (V c (16 * g + p)))) (inR_f2 (lt_nle h_168))] | rw [mk_t (c := (fun p => inR fr to (V c (16 * g + p)))) (inR_t (nlt_le h_161) (nlt_le h_168))])
                ·
                  refine x_iload 166 0 dX0_rangeMask_164 rfl ?_
                  refine x_iload 168 5 dX0_rangeMask_166 rfl ?_
                  refine x_icmp_gt 171 178 dX0_rangeMask_168 (by decide) (fun h_168 => ?_) (fun h_168 => ?_)
                  ·
                    refine x_iconst 179 (v := nI 0) dX0_rangeMask_178 kI_0 ?_
                    refine x_ior 180 (v := mk ||| (nI 0)) dX0_rangeMask_179 rfl ?_
                    refine x_istore 182 (lv' := [(7, .int (mk ||| (nI 0))), (9, .int (V c (16 * g + p))), (0, .ref (a 0)), (1, .int (nI g)), (2, .int (nI c)), (3, .int fr), (4, .int to), (5, .int (nI (3 * g + c))), (6, .int (nI 1)), (8, .int (nI p))]) dX0_rangeMask_180 (by decide) rfl ?_
                    refine x_iinc 185 (v := nI (p + 1)) (lv' := [(8, .int (nI (p + 1))), (7, .int (mk ||| (nI 0))), (9, .int (V c (16 * g + p))), (0, .ref (a 0)), (1, .int (nI g)), (2, .int (nI c)), (3, .int fr), (4, .int to), (5, .int (nI (3 * g + c))), (6, .int (nI 1))]) 9 dX0_rangeMask_182 rfl (inc1 _) (by decide) rfl ?_
                    refine x_goto 139 dX0_rangeMask_185 (by decide) ?_
                    refine x_sub (lv' := [(0, .ref (a 0)), (1, .int (nI g)), (2, .int (nI c)), (3, .int fr), (4, .int to), (5, .int (nI (3 * g + c))), (6, .int (nI 1)), (7, .int (mk ||| (nI 0))), (8, .int (nI (p + 1)))]) [3, 4, 5, 6, 7, 8, 9, 1, 0] rfl ?_
                    exact ih_p (p + 1) (by omega) (by omega) _ (by rw [hmk]; first | rw [mk_f (c := (fun p => inR fr to (V c (16 * g + p)))) (inR_f1 (lt_nle h_161))] | rw [mk_f (c := (fun p => inR fr to (V c (16 * g + p)))) (inR_f2 (lt_nle h_168))] | rw [mk_t (c := (fun p => inR fr to (V c (16 * g + p)))) (inR_t (nlt_le h_161) (nlt_le h_168))])
                  ·
                    refine x_iconst 172 (v := nI 1) dX0_rangeMask_171 kI_1 ?_
                    refine x_iload 174 9 dX0_rangeMask_172 rfl ?_
                    refine x_ishl 175 (v := shl (nI 1) p) dX0_rangeMask_174 rfl ?_
                    refine x_goto 179 dX0_rangeMask_175 (by decide) ?_
                    refine x_ior 180 (v := mk ||| (shl (nI 1) p)) dX0_rangeMask_179 rfl ?_
                    refine x_istore 182 (lv' := [(7, .int (mk ||| (shl (nI 1) p))), (9, .int (V c (16 * g + p))), (0, .ref (a 0)), (1, .int (nI g)), (2, .int (nI c)), (3, .int fr), (4, .int to), (5, .int (nI (3 * g + c))), (6, .int (nI 1)), (8, .int (nI p))]) dX0_rangeMask_180 (by decide) rfl ?_
                    refine x_iinc 185 (v := nI (p + 1)) (lv' := [(8, .int (nI (p + 1))), (7, .int (mk ||| (shl (nI 1) p))), (9, .int (V c (16 * g + p))), (0, .ref (a 0)), (1, .int (nI g)), (2, .int (nI c)), (3, .int fr), (4, .int to), (5, .int (nI (3 * g + c))), (6, .int (nI 1))]) 9 dX0_rangeMask_182 rfl (inc1 _) (by decide) rfl ?_
                    refine x_goto 139 dX0_rangeMask_185 (by decide) ?_
                    refine x_sub (lv' := [(0, .ref (a 0)), (1, .int (nI g)), (2, .int (nI c)), (3, .int fr), (4, .int to), (5, .int (nI (3 * g + c))), (6, .int (nI 1)), (7, .int (mk ||| (shl (nI 1) p))), (8, .int (nI (p + 1)))]) [3, 4, 5, 6, 7, 8, 9, 1, 0] rfl ?_
                    exact ih_p (p + 1) (by omega) (by omega) _ (by rw [hmk]; first | rw [mk_f (c := (fun p => inR fr to (V c (16 * g + p)))) (inR_f1 (lt_nle h_161))] | rw [mk_f (c := (fun p => inR fr to (V c (16 * g + p)))) (inR_f2 (lt_nle h_168))] | rw [mk_t (c := (fun p => inR fr to (V c (16 * g + p)))) (inR_t (nlt_le h_161) (nlt_le h_168))])
            ·
              refine x_aload_n 87 0 dX0_rangeMask_86 rfl ?_
              refine get_X0 90 0 3 (v := .ref (a 3)) rfl (by decide) q34 rfl dX0_rangeMask_87 ?_
              refine x_iload 92 5 dX0_rangeMask_90 rfl ?_
              refine iald 93 3 (f := f) rfl (by omega) (by decide) dX0_rangeMask_92 ?_
              refine x_st (st' := [.int (nI 1)]) (by rw [hf]) ?_
              refine x_iconst 94 (v := nI 1) dX0_rangeMask_93 kI_1 ?_
              refine f_icmp_ne 97 107 dX0_rangeMask_94 (by decide) (by decide +kernel) ?_
              refine x_aload_n 98 0 dX0_rangeMask_97 rfl ?_
              refine x_iload 100 5 dX0_rangeMask_98 rfl ?_
              refine x_iload_n 101 3 dX0_rangeMask_100 rfl ?_
              refine x_iload 103 4 dX0_rangeMask_101 rfl ?_
              refine call_Vi 106 (av := [.int (nI (3 * g + c)), .int fr, .int to]) (metX0_runMask (cx_l K) a (3 * g + c) m fr to _ (by omega) (nI n) o l f lo hi s w rg rl rh vc vs hs hX) rfl rfl gwX0_runMask nyX0_runMask rfl (by omega) (by decide) (Nat.le_of_ble_eq_true rfl) rfl dX0_rangeMask_103 ?_
              intro r_103 w_103 hq_103
              obtain ⟨rfl, hz⟩ := hq_103
              exact ret 106 _ _ _ dX0_rangeMask_106 rfl ⟨rfl, hz⟩
            ·
              refine x_aload_n 87 0 dX0_rangeMask_86 rfl ?_
              refine get_X0 90 0 3 (v := .ref (a 3)) rfl (by decide) q34 rfl dX0_rangeMask_87 ?_
              refine x_iload 92 5 dX0_rangeMask_90 rfl ?_
              refine iald 93 3 (f := f) rfl (by omega) (by decide) dX0_rangeMask_92 ?_
              refine x_st (st' := [.int (nI 2)]) (by rw [hf]) ?_
              refine x_iconst 94 (v := nI 1) dX0_rangeMask_93 kI_1 ?_
              refine t_icmp_ne 107 dX0_rangeMask_94 (by decide) (by decide +kernel) ?_
              refine x_iload 109 6 dX0_rangeMask_107 rfl ?_
              refine f_if_eq 112 133 dX0_rangeMask_109 (by decide) (by decide +kernel) ?_
              refine x_aload_n 113 0 dX0_rangeMask_112 rfl ?_
              refine get_X0 116 0 3 (v := .ref (a 3)) rfl (by decide) q34 rfl dX0_rangeMask_113 ?_
              refine x_iload 118 5 dX0_rangeMask_116 rfl ?_
              refine iald 119 3 (f := f) rfl (by omega) (by decide) dX0_rangeMask_118 ?_
              refine x_st (st' := [.int (nI 2)]) (by rw [hf]) ?_
              refine x_iconst 120 (v := nI 2) dX0_rangeMask_119 kI_2 ?_
              refine f_icmp_ne 123 133 dX0_rangeMask_120 (by decide) (by decide +kernel) ?_
              refine x_aload_n 124 0 dX0_rangeMask_123 rfl ?_
              refine x_iload 126 5 dX0_rangeMask_124 rfl ?_
              refine x_iload_n 127 3 dX0_rangeMask_126 rfl ?_
              refine x_iload 129 4 dX0_rangeMask_127 rfl ?_
              refine call_Vi 132 (av := [.int (nI (3 * g + c)), .int fr, .int to]) (metX0_dictionaryMask (cx_l K) a (3 * g + c) m fr to _ (by omega) (nI n) o l f lo hi s w rg rl rh vc vs hs hX) rfl rfl gwX0_dictionaryMask nyX0_dictionaryMask rfl (by omega) (by decide) (Nat.le_of_ble_eq_true rfl) rfl dX0_rangeMask_129 ?_
              intro r_129 w_129 hq_129
              obtain ⟨rfl, hz⟩ := hq_129
              exact ret 132 _ _ _ dX0_rangeMask_132 rfl ⟨rfl, hz⟩
            ·
              refine x_aload_n 87 0 dX0_rangeMask_86 rfl ?_
              refine get_X0 90 0 3 (v := .ref (a 3)) rfl (by decide) q34 rfl dX0_rangeMask_87 ?_
              refine x_iload 92 5 dX0_rangeMask_90 rfl ?_
              refine iald 93 3 (f := f) rfl (by omega) (by decide) dX0_rangeMask_92 ?_
              refine x_st (st' := [.int (nI 3)]) (by rw [hf]) ?_
              refine x_iconst 94 (v := nI 1) dX0_rangeMask_93 kI_1 ?_
              refine t_icmp_ne 107 dX0_rangeMask_94 (by decide) (by decide +kernel) ?_
              refine x_iload 109 6 dX0_rangeMask_107 rfl ?_
              refine f_if_eq 112 133 dX0_rangeMask_109 (by decide) (by decide +kernel) ?_
              refine x_aload_n 113 0 dX0_rangeMask_112 rfl ?_
              refine get_X0 116 0 3 (v := .ref (a 3)) rfl (by decide) q34 rfl dX0_rangeMask_113 ?_
              refine x_iload 118 5 dX0_rangeMask_116 rfl ?_
              refine iald 119 3 (f := f) rfl (by omega) (by decide) dX0_rangeMask_118 ?_
              refine x_st (st' := [.int (nI 3)]) (by rw [hf]) ?_
              refine x_iconst 120 (v := nI 2) dX0_rangeMask_119 kI_2 ?_
              refine t_icmp_ne 133 dX0_rangeMask_120 (by decide) (by decide +kernel) ?_
              refine x_iconst 134 (v := nI 0) dX0_rangeMask_133 kI_0 ?_
              refine x_istore 136 (lv' := [(7, .int (nI 0)), (0, .ref (a 0)), (1, .int (nI g)), (2, .int (nI c)), (3, .int fr), (4, .int to), (5, .int (nI (3 * g + c))), (6, .int (nI 1))]) dX0_rangeMask_134 (by decide) rfl ?_
              refine x_iconst 137 (v := nI 0) dX0_rangeMask_136 kI_0 ?_
              refine x_istore 139 (lv' := [(8, .int (nI 0)), (7, .int (nI 0)), (0, .ref (a 0)), (1, .int (nI g)), (2, .int (nI c)), (3, .int fr), (4, .int to), (5, .int (nI (3 * g + c))), (6, .int (nI 1))]) dX0_rangeMask_137 (by decide) rfl ?_
              refine x_sub (lv' := [(0, .ref (a 0)), (1, .int (nI g)), (2, .int (nI c)), (3, .int fr), (4, .int to), (5, .int (nI (3 * g + c))), (6, .int (nI 1)), (7, .int (nI 0)), (8, .int (nI 0))]) [2, 3, 4, 5, 6, 7, 8, 1, 0] rfl ?_
              refine loop_up (P := fun p => ∀ (mk : Int32), (mk = mk_ (fun p => inR fr to (V c (16 * g + p))) p) → CW K a cX0_rangeMask 10 RX0 139 [(0, .ref (a 0)), (1, .int (nI g)), (2, .int (nI c)), (3, .int fr), (4, .int to), (5, .int (nI (3 * g + c))), (6, .int (nI 1)), (7, .int mk), (8, .int (nI p))] [] (wX0 a (nI n) o l f lo hi s w rg rl rh vc vs)) 16 (fun p hi_p ih_p => ?_) 0 (by omega) (nI 0) rfl
              intro mk hmk
              refine x_iload 141 8 dX0_rangeMask_139 rfl ?_
              refine x_bipush 143 (v := nI 16) dX0_rangeMask_141 kB_16 ?_
              refine n_icmp_ge 146 188 dX0_rangeMask_143 (by decide) (by omega) (by omega) (fun h_143 => ?_) (fun h_143 => ?_)
              ·
                refine x_iload 190 7 dX0_rangeMask_188 rfl ?_
                exact ret 190 _ _ _ dX0_rangeMask_190 rfl ⟨rfl, fun i hi3 => by rw [hmk, show p = 16 by omega, bt_mk _ 16 (by omega) i (by omega), decide_eq_true hi3, Bool.true_and]⟩
              ·
                refine x_aload_n 147 0 dX0_rangeMask_146 rfl ?_
                refine x_iload_n 148 1 dX0_rangeMask_147 rfl ?_
                refine x_iload_n 149 2 dX0_rangeMask_148 rfl ?_
                refine x_iload 151 8 dX0_rangeMask_149 rfl ?_
                refine call_Vi 154 (av := [.int (nI g), .int (nI c), .int (nI p)]) (metX0_valueIn (cx_l K) a n g c p hg hc (by omega) V AL o l f lo hi s w rg rl rh vc vs hRep) rfl rfl gwX0_valueIn nyX0_valueIn rfl (by omega) (by decide) (Nat.le_of_ble_eq_true rfl) rfl dX0_rangeMask_151 ?_
                intro r_151 w_151 hq_151
                obtain ⟨rfl, rfl⟩ := hq_151
                refine x_istore 156 (lv' := [(9, .int (V c (16 * g + p))), (0, .ref (a 0)), (1, .int (nI g)), (2, .int (nI c)), (3, .int fr), (4, .int to), (5, .int (nI (3 * g + c))), (6, .int (nI 1)), (7, .int mk), (8, .int (nI p))]) dX0_rangeMask_154 (by decide) rfl ?_
                refine x_iload 158 8 dX0_rangeMask_156 rfl ?_
                refine x_iload_n 159 4 dX0_rangeMask_158 rfl ?_
                refine x_iload 161 0 dX0_rangeMask_159 rfl ?_
                refine x_icmp_gt 164 178 dX0_rangeMask_161 (by decide) (fun h_161 => ?_) (fun h_161 => ?_)
                ·
                  refine x_iconst 179 (v := nI 0) dX0_rangeMask_178 kI_0 ?_
                  refine x_ior 180 (v := mk ||| (nI 0)) dX0_rangeMask_179 rfl ?_
                  refine x_istore 182 (lv' := [(7, .int (mk ||| (nI 0))), (9, .int (V c (16 * g + p))), (0, .ref (a 0)), (1, .int (nI g)), (2, .int (nI c)), (3, .int fr), (4, .int to), (5, .int (nI (3 * g + c))), (6, .int (nI 1)), (8, .int (nI p))]) dX0_rangeMask_180 (by decide) rfl ?_
                  refine x_iinc 185 (v := nI (p + 1)) (lv' := [(8, .int (nI (p + 1))), (7, .int (mk ||| (nI 0))), (9, .int (V c (16 * g + p))), (0, .ref (a 0)), (1, .int (nI g)), (2, .int (nI c)), (3, .int fr), (4, .int to), (5, .int (nI (3 * g + c))), (6, .int (nI 1))]) 9 dX0_rangeMask_182 rfl (inc1 _) (by decide) rfl ?_
                  refine x_goto 139 dX0_rangeMask_185 (by decide) ?_
                  refine x_sub (lv' := [(0, .ref (a 0)), (1, .int (nI g)), (2, .int (nI c)), (3, .int fr), (4, .int to), (5, .int (nI (3 * g + c))), (6, .int (nI 1)), (7, .int (mk ||| (nI 0))), (8, .int (nI (p + 1)))]) [3, 4, 5, 6, 7, 8, 9, 1, 0] rfl ?_
                  exact ih_p (p + 1) (by omega) (by omega) _ (by rw [hmk]; first | rw [mk_f (c := (fun p => inR fr to (V c (16 * g + p)))) (inR_f1 (lt_nle h_161))] | rw [mk_f (c := (fun p => inR fr to (V c (16 * g + p)))) (inR_f2 (lt_nle h_168))] | rw [mk_t (c := (fun p => inR fr to (V c (16 * g + p)))) (inR_t (nlt_le h_161) (nlt_le h_168))])
                ·
                  refine x_iload 166 0 dX0_rangeMask_164 rfl ?_
                  refine x_iload 168 5 dX0_rangeMask_166 rfl ?_
                  refine x_icmp_gt 171 178 dX0_rangeMask_168 (by decide) (fun h_168 => ?_) (fun h_168 => ?_)
                  ·
                    refine x_iconst 179 (v := nI 0) dX0_rangeMask_178 kI_0 ?_
                    refine x_ior 180 (v := mk ||| (nI 0)) dX0_rangeMask_179 rfl ?_
                    refine x_istore 182 (lv' := [(7, .int (mk ||| (nI 0))), (9, .int (V c (16 * g + p))), (0, .ref (a 0)), (1, .int (nI g)), (2, .int (nI c)), (3, .int fr), (4, .int to), (5, .int (nI (3 * g + c))), (6, .int (nI 1)), (8, .int (nI p))]) dX0_rangeMask_180 (by decide) rfl ?_
                    refine x_iinc 185 (v := nI (p + 1)) (lv' := [(8, .int (nI (p + 1))), (7, .int (mk ||| (nI 0))), (9, .int (V c (16 * g + p))), (0, .ref (a 0)), (1, .int (nI g)), (2, .int (nI c)), (3, .int fr), (4, .int to), (5, .int (nI (3 * g + c))), (6, .int (nI 1))]) 9 dX0_rangeMask_182 rfl (inc1 _) (by decide) rfl ?_
                    refine x_goto 139 dX0_rangeMask_185 (by decide) ?_
                    refine x_sub (lv' := [(0, .ref (a 0)), (1, .int (nI g)), (2, .int (nI c)), (3, .int fr), (4, .int to), (5, .int (nI (3 * g + c))), (6, .int (nI 1)), (7, .int (mk ||| (nI 0))), (8, .int (nI (p + 1)))]) [3, 4, 5, 6, 7, 8, 9, 1, 0] rfl ?_
                    exact ih_p (p + 1) (by omega) (by omega) _ (by rw [hmk]; first | rw [mk_f (c := (fun p => inR fr to (V c (16 * g + p)))) (inR_f1 (lt_nle h_161))] | rw [mk_f (c := (fun p => inR fr to (V c (16 * g + p)))) (inR_f2 (lt_nle h_168))] | rw [mk_t (c := (fun p => inR fr to (V c (16 * g + p)))) (inR_t (nlt_le h_161) (nlt_le h_168))])
                  ·
                    refine x_iconst 172 (v := nI 1) dX0_rangeMask_171 kI_1 ?_
                    refine x_iload 174 9 dX0_rangeMask_172 rfl ?_
                    refine x_ishl 175 (v := shl (nI 1) p) dX0_rangeMask_174 rfl ?_
                    refine x_goto 179 dX0_rangeMask_175 (by decide) ?_
                    refine x_ior 180 (v := mk ||| (shl (nI 1) p)) dX0_rangeMask_179 rfl ?_
                    refine x_istore 182 (lv' := [(7, .int (mk ||| (shl (nI 1) p))), (9, .int (V c (16 * g + p))), (0, .ref (a 0)), (1, .int (nI g)), (2, .int (nI c)), (3, .int fr), (4, .int to), (5, .int (nI (3 * g + c))), (6, .int (nI 1)), (8, .int (nI p))]) dX0_rangeMask_180 (by decide) rfl ?_
                    refine x_iinc 185 (v := nI (p + 1)) (lv' := [(8, .int (nI (p + 1))), (7, .int (mk ||| (shl (nI 1) p))), (9, .int (V c (16 * g + p))), (0, .ref (a 0)), (1, .int (nI g)), (2, .int (nI c)), (3, .int fr), (4, .int to), (5, .int (nI (3 * g + c))), (6, .int (nI 1))]) 9 dX0_rangeMask_182 rfl (inc1 _) (by decide) rfl ?_
                    refine x_goto 139 dX0_rangeMask_185 (by decide) ?_
                    refine x_sub (lv' := [(0, .ref (a 0)), (1, .int (nI g)), (2, .int (nI c)), (3, .int fr), (4, .int to), (5, .int (nI (3 * g + c))), (6, .int (nI 1)), (7, .int (mk ||| (shl (nI 1) p))), (8, .int (nI (p + 1)))]) [3, 4, 5, 6, 7, 8, 9, 1, 0] rfl ?_
                    exact ih_p (p + 1) (by omega) (by omega) _ (by rw [hmk]; first | rw [mk_f (c := (fun p => inR fr to (V c (16 * g + p)))) (inR_f1 (lt_nle h_161))] | rw [mk_f (c := (fun p => inR fr to (V c (16 * g + p)))) (inR_f2 (lt_nle h_168))] | rw [mk_t (c := (fun p => inR fr to (V c (16 * g + p)))) (inR_t (nlt_le h_161) (nlt_le h_168))])
          refine x_iload 52 0 dX0_rangeMask_50 rfl ?_
          refine f_if_eq 55 81 dX0_rangeMask_52 (by decide) (by decide +kernel) ?_
          refine x_iload_n 56 5 dX0_rangeMask_55 rfl ?_
          refine x_aload_n 57 2 dX0_rangeMask_56 rfl ?_
          refine get_X0 60 0 4 (v := .ref (a 4)) rfl (by decide) q35 rfl dX0_rangeMask_57 ?_
          refine x_iload 62 1 dX0_rangeMask_60 rfl ?_
          refine iald 63 4 (f := lo) rfl (by omega) (by decide) dX0_rangeMask_62 ?_
          refine x_icmp_gt 66 81 dX0_rangeMask_63 (by decide) (fun h_63 => ?_) (fun h_63 => ?_)
          ·
            refine x_sub (lv' := [(0, .ref (a 0)), (1, .int (nI g)), (2, .int (nI c)), (3, .int fr), (4, .int to), (5, .int (nI (3 * g + c))), (6, .int (nI 1))]) [2, 3, 4, 5, 6, 1, 0] rfl ?_
            exact hj_81  
          ·
            refine x_aload_n 67 2 dX0_rangeMask_66 rfl ?_
            refine get_X0 70 0 5 (v := .ref (a 5)) rfl (by decide) q36 rfl dX0_rangeMask_67 ?_
            refine x_iload 72 1 dX0_rangeMask_70 rfl ?_
            refine iald 73 5 (f := hi) rfl (by omega) (by decide) dX0_rangeMask_72 ?_
            refine x_iload 75 6 dX0_rangeMask_73 rfl ?_
            refine x_icmp_gt 78 81 dX0_rangeMask_75 (by decide) (fun h_75 => ?_) (fun h_75 => ?_)
            ·
              refine x_sub (lv' := [(0, .ref (a 0)), (1, .int (nI g)), (2, .int (nI c)), (3, .int fr), (4, .int to), (5, .int (nI (3 * g + c))), (6, .int (nI 1))]) [2, 3, 4, 5, 6, 1, 0] rfl ?_
              exact hj_81  
            ·
              refine x_ldc 80 (v := 65535) dX0_rangeMask_78 q143 ?_
              exact ret 80 _ _ _ dX0_rangeMask_80 rfl ⟨rfl, fun p hp => by rw [b_65535, decide_eq_true hp, inR_t (le_tr (nlt_le h_63) (hb p hp).1) (le_tr (hb p hp).2 (nlt_le h_75))]⟩
        ·
          refine x_iconst 49 (v := nI 0) dX0_rangeMask_48 kI_0 ?_
          exact ret 49 _ _ _ dX0_rangeMask_49 rfl ⟨rfl, fun p hp => by rw [bt_nI0]; first | rw [inR_f1 (lt_nle (le_lt_tr (hb p hp).2 h_27))] | rw [inR_f2 (lt_nle (lt_le_tr h_39 (hb p hp).1))] | rw [inR_f3 h_45]⟩
  ·
    refine x_istore 14 (lv' := [(6, .int (nI 0)), (5, .int (nI (3 * g + c))), (0, .ref (a 0)), (1, .int (nI g)), (2, .int (nI c)), (3, .int fr), (4, .int to)]) dX0_rangeMask_12 (by decide) rfl ?_
    refine x_iload 16 0 dX0_rangeMask_14 rfl ?_
    refine t_if_eq 50 dX0_rangeMask_16 (by decide) (by decide +kernel) ?_
    have hj_81 : CW K a cX0_rangeMask 10 RX0 81 [(0, .ref (a 0)), (1, .int (nI g)), (2, .int (nI c)), (3, .int fr), (4, .int to), (5, .int (nI (3 * g + c))), (6, .int (nI 0))] [] (wX0 a (nI n) o l f lo hi s w rg rl rh vc vs) := by
      refine x_iload 83 6 dX0_rangeMask_81 rfl ?_
      refine t_if_eq 107 dX0_rangeMask_83 (by decide) (by decide +kernel) ?_
      refine x_iload 109 6 dX0_rangeMask_107 rfl ?_
      refine t_if_eq 133 dX0_rangeMask_109 (by decide) (by decide +kernel) ?_
      refine x_iconst 134 (v := nI 0) dX0_rangeMask_133 kI_0 ?_
      refine x_istore 136 (lv' := [(7, .int (nI 0)), (0, .ref (a 0)), (1, .int (nI g)), (2, .int (nI c)), (3, .int fr), (4, .int to), (5, .int (nI (3 * g + c))), (6, .int (nI 0))]) dX0_rangeMask_134 (by decide) rfl ?_
      refine x_iconst 137 (v := nI 0) dX0_rangeMask_136 kI_0 ?_
      refine x_istore 139 (lv' := [(8, .int (nI 0)), (7, .int (nI 0)), (0, .ref (a 0)), (1, .int (nI g)), (2, .int (nI c)), (3, .int fr), (4, .int to), (5, .int (nI (3 * g + c))), (6, .int (nI 0))]) dX0_rangeMask_137 (by decide) rfl ?_
      refine x_sub (lv' := [(0, .ref (a 0)), (1, .int (nI g)), (2, .int (nI c)), (3, .int fr), (4, .int to), (5, .int (nI (3 * g + c))), (6, .int (nI 0)), (7, .int (nI 0)), (8, .int (nI 0))]) [2, 3, 4, 5, 6, 7, 8, 1, 0] rfl ?_
      refine loop_up (P := fun p => ∀ (mk : Int32), (mk = mk_ (fun p => inR fr to (V c (16 * g + p))) p) → CW K a cX0_rangeMask 10 RX0 139 [(0, .ref (a 0)), (1, .int (nI g)), (2, .int (nI c)), (3, .int fr), (4, .int to), (5, .int (nI (3 * g + c))), (6, .int (nI 0)), (7, .int mk), (8, .int (nI p))] [] (wX0 a (nI n) o l f lo hi s w rg rl rh vc vs)) 16 (fun p hi_p ih_p => ?_) 0 (by omega) (nI 0) rfl
      intro mk hmk
      refine x_iload 141 8 dX0_rangeMask_139 rfl ?_
      refine x_bipush 143 (v := nI 16) dX0_rangeMask_141 kB_16 ?_
      refine n_icmp_ge 146 188 dX0_rangeMask_143 (by decide) (by omega) (by omega) (fun h_143 => ?_) (fun h_143 => ?_)
      ·
        refine x_iload 190 7 dX0_rangeMask_188 rfl ?_
        exact ret 190 _ _ _ dX0_rangeMask_190 rfl ⟨rfl, fun i hi3 => by rw [hmk, show p = 16 by omega, bt_mk _ 16 (by omega) i (by omega), decide_eq_true hi3, Bool.true_and]⟩
      ·
        refine x_aload_n 147 0 dX0_rangeMask_146 rfl ?_
        refine x_iload_n 148 1 dX0_rangeMask_147 rfl ?_
        refine x_iload_n 149 2 dX0_rangeMask_148 rfl ?_
        refine x_iload 151 8 dX0_rangeMask_149 rfl ?_
        refine call_Vi 154 (av := [.int (nI g), .int (nI c), .int (nI p)]) (metX0_valueIn (cx_l K) a n g c p hg hc (by omega) V AL o l f lo hi s w rg rl rh vc vs hRep) rfl rfl gwX0_valueIn nyX0_valueIn rfl (by omega) (by decide) (Nat.le_of_ble_eq_true rfl) rfl dX0_rangeMask_151 ?_
        intro r_151 w_151 hq_151
        obtain ⟨rfl, rfl⟩ := hq_151
        refine x_istore 156 (lv' := [(9, .int (V c (16 * g + p))), (0, .ref (a 0)), (1, .int (nI g)), (2, .int (nI c)), (3, .int fr), (4, .int to), (5, .int (nI (3 * g + c))), (6, .int (nI 0)), (7, .int mk), (8, .int (nI p))]) dX0_rangeMask_154 (by decide) rfl ?_
        refine x_iload 158 8 dX0_rangeMask_156 rfl ?_
        refine x_iload_n 159 4 dX0_rangeMask_158 rfl ?_
        refine x_iload 161 0 dX0_rangeMask_159 rfl ?_
        refine x_icmp_gt 164 178 dX0_rangeMask_161 (by decide) (fun h_161 => ?_) (fun h_161 => ?_)
        ·
          refine x_iconst 179 (v := nI 0) dX0_rangeMask_178 kI_0 ?_
          refine x_ior 180 (v := mk ||| (nI 0)) dX0_rangeMask_179 rfl ?_
          refine x_istore 182 (lv' := [(7, .int (mk ||| (nI 0))), (9, .int (V c (16 * g + p))), (0, .ref (a 0)), (1, .int (nI g)), (2, .int (nI c)), (3, .int fr), (4, .int to), (5, .int (nI (3 * g + c))), (6, .int (nI 0)), (8, .int (nI p))]) dX0_rangeMask_180 (by decide) rfl ?_
          refine x_iinc 185 (v := nI (p + 1)) (lv' := [(8, .int (nI (p + 1))), (7, .int (mk ||| (nI 0))), (9, .int (V c (16 * g + p))), (0, .ref (a 0)), (1, .int (nI g)), (2, .int (nI c)), (3, .int fr), (4, .int to), (5, .int (nI (3 * g + c))), (6, .int (nI 0))]) 9 dX0_rangeMask_182 rfl (inc1 _) (by decide) rfl ?_
          refine x_goto 139 dX0_rangeMask_185 (by decide) ?_
          refine x_sub (lv' := [(0, .ref (a 0)), (1, .int (nI g)), (2, .int (nI c)), (3, .int fr), (4, .int to), (5, .int (nI (3 * g + c))), (6, .int (nI 0)), (7, .int (mk ||| (nI 0))), (8, .int (nI (p + 1)))]) [3, 4, 5, 6, 7, 8, 9, 1, 0] rfl ?_
          exact ih_p (p + 1) (by omega) (by omega) _ (by rw [hmk]; first | rw [mk_f (c := (fun p => inR fr to (V c (16 * g + p)))) (inR_f1 (lt_nle h_161))] | rw [mk_f (c := (fun p => inR fr to (V c (16 * g + p)))) (inR_f2 (lt_nle h_168))] | rw [mk_t (c := (fun p => inR fr to (V c (16 * g + p)))) (inR_t (nlt_le h_161) (nlt_le h_168))])
        ·
          refine x_iload 166 0 dX0_rangeMask_164 rfl ?_
          refine x_iload 168 5 dX0_rangeMask_166 rfl ?_
          refine x_icmp_gt 171 178 dX0_rangeMask_168 (by decide) (fun h_168 => ?_) (fun h_168 => ?_)
          ·
            refine x_iconst 179 (v := nI 0) dX0_rangeMask_178 kI_0 ?_
            refine x_ior 180 (v := mk ||| (nI 0)) dX0_rangeMask_179 rfl ?_
            refine x_istore 182 (lv' := [(7, .int (mk ||| (nI 0))), (9, .int (V c (16 * g + p))), (0, .ref (a 0)), (1, .int (nI g)), (2, .int (nI c)), (3, .int fr), (4, .int to), (5, .int (nI (3 * g + c))), (6, .int (nI 0)), (8, .int (nI p))]) dX0_rangeMask_180 (by decide) rfl ?_
            refine x_iinc 185 (v := nI (p + 1)) (lv' := [(8, .int (nI (p + 1))), (7, .int (mk ||| (nI 0))), (9, .int (V c (16 * g + p))), (0, .ref (a 0)), (1, .int (nI g)), (2, .int (nI c)), (3, .int fr), (4, .int to), (5, .int (nI (3 * g + c))), (6, .int (nI 0))]) 9 dX0_rangeMask_182 rfl (inc1 _) (by decide) rfl ?_
            refine x_goto 139 dX0_rangeMask_185 (by decide) ?_
            refine x_sub (lv' := [(0, .ref (a 0)), (1, .int (nI g)), (2, .int (nI c)), (3, .int fr), (4, .int to), (5, .int (nI (3 * g + c))), (6, .int (nI 0)), (7, .int (mk ||| (nI 0))), (8, .int (nI (p + 1)))]) [3, 4, 5, 6, 7, 8, 9, 1, 0] rfl ?_
            exact ih_p (p + 1) (by omega) (by omega) _ (by rw [hmk]; first | rw [mk_f (c := (fun p => inR fr to (V c (16 * g + p)))) (inR_f1 (lt_nle h_161))] | rw [mk_f (c := (fun p => inR fr to (V c (16 * g + p)))) (inR_f2 (lt_nle h_168))] | rw [mk_t (c := (fun p => inR fr to (V c (16 * g + p)))) (inR_t (nlt_le h_161) (nlt_le h_168))])
          ·
            refine x_iconst 172 (v := nI 1) dX0_rangeMask_171 kI_1 ?_
            refine x_iload 174 9 dX0_rangeMask_172 rfl ?_
            refine x_ishl 175 (v := shl (nI 1) p) dX0_rangeMask_174 rfl ?_
            refine x_goto 179 dX0_rangeMask_175 (by decide) ?_
            refine x_ior 180 (v := mk ||| (shl (nI 1) p)) dX0_rangeMask_179 rfl ?_
            refine x_istore 182 (lv' := [(7, .int (mk ||| (shl (nI 1) p))), (9, .int (V c (16 * g + p))), (0, .ref (a 0)), (1, .int (nI g)), (2, .int (nI c)), (3, .int fr), (4, .int to), (5, .int (nI (3 * g + c))), (6, .int (nI 0)), (8, .int (nI p))]) dX0_rangeMask_180 (by decide) rfl ?_
            refine x_iinc 185 (v := nI (p + 1)) (lv' := [(8, .int (nI (p + 1))), (7, .int (mk ||| (shl (nI 1) p))), (9, .int (V c (16 * g + p))), (0, .ref (a 0)), (1, .int (nI g)), (2, .int (nI c)), (3, .int fr), (4, .int to), (5, .int (nI (3 * g + c))), (6, .int (nI 0))]) 9 dX0_rangeMask_182 rfl (inc1 _) (by decide) rfl ?_
            refine x_goto 139 dX0_rangeMask_185 (by decide) ?_
            refine x_sub (lv' := [(0, .ref (a 0)), (1, .int (nI g)), (2, .int (nI c)), (3, .int fr), (4, .int to), (5, .int (nI (3 * g + c))), (6, .int (nI 0)), (7, .int (mk ||| (shl (nI 1) p))), (8, .int (nI (p + 1)))]) [3, 4, 5, 6, 7, 8, 9, 1, 0] rfl ?_
            exact ih_p (p + 1) (by omega) (by omega) _ (by rw [hmk]; first | rw [mk_f (c := (fun p => inR fr to (V c (16 * g + p)))) (inR_f1 (lt_nle h_161))] | rw [mk_f (c := (fun p => inR fr to (V c (16 * g + p)))) (inR_f2 (lt_nle h_168))] | rw [mk_t (c := (fun p => inR fr to (V c (16 * g + p)))) (inR_t (nlt_le h_161) (nlt_le h_168))])
    refine x_iload 52 0 dX0_rangeMask_50 rfl ?_
    refine t_if_eq 81 dX0_rangeMask_52 (by decide) (by decide +kernel) ?_
    refine x_sub (lv' := [(0, .ref (a 0)), (1, .int (nI g)), (2, .int (nI c)), (3, .int fr), (4, .int to), (5, .int (nI (3 * g + c))), (6, .int (nI 0))]) [2, 3, 4, 5, 6, 1, 0] rfl ?_
    exact hj_81  
/-- row r passes the ranges of the first c columns -/
def okc (V : Nat → Nat → Int32) (rg rl rh : Nat → Int32) (r : Nat) : Nat → Bool
  | 0 => true
  | c + 1 => okc V rg rl rh r c && (decide (rg c = 0) || inR (rl c) (rh c) (V c r))
/-- row r passes -/
def ps (V : Nat → Nat → Int32) (AL : Nat → Bool) (rg rl rh : Nat → Int32) (r : Nat) : Bool := AL r && okc V rg rl rh r 3
section PM
variable {V : Nat → Nat → Int32} {AL : Nat → Bool} {rg rl rh : Nat → Int32} {m z : Int32} {g c : Nat}
theorem okc_s {r : Nat} : okc V rg rl rh r (c + 1) = (okc V rg rl rh r c && (decide (rg c = 0) || inR (rl c) (rh c) (V c r))) := rfl
theorem pm_a (hm : ∀ p, p < 32 → bt m p = (decide (p < 16) && (AL (16 * g + p) && okc V rg rl rh (16 * g + p) c))) (h : rg c = 0) : ∀ p, p < 32 → bt m p = (decide (p < 16) && (AL (16 * g + p) && okc V rg rl rh (16 * g + p) (c + 1))) := by
  intro p hp
  rw [hm p hp, okc_s, decide_eq_true h, Bool.true_or, Bool.and_true]
theorem pm_b (hm : ∀ p, p < 32 → bt m p = (decide (p < 16) && (AL (16 * g + p) && okc V rg rl rh (16 * g + p) c))) (h : m = 0) : ∀ p, p < 32 → bt m p = (decide (p < 16) && (AL (16 * g + p) && okc V rg rl rh (16 * g + p) (c + 1))) := by
  intro p hp
  have e := hm p hp
  rw [h, b_0] at e ⊢
  rw [okc_s]
  revert e
  cases decide (p < 16) <;> cases AL (16 * g + p) <;> cases okc V rg rl rh (16 * g + p) c <;> simp
theorem pm_c (hm : ∀ p, p < 32 → bt m p = (decide (p < 16) && (AL (16 * g + p) && okc V rg rl rh (16 * g + p) c))) (h : ¬ rg c = 0) (hz : ∀ p, p < 16 → bt z p = inR (rl c) (rh c) (V c (16 * g + p))) : ∀ p, p < 32 → bt (m &&& z) p = (decide (p < 16) && (AL (16 * g + p) && okc V rg rl rh (16 * g + p) (c + 1))) := by
  intro p hp
  rw [b_and, hm p hp, okc_s, decide_eq_false h, Bool.false_or]
  by_cases q : p < 16
  · rw [hz p q]
    cases decide (p < 16) <;> cases AL (16 * g + p) <;> cases okc V rg rl rh (16 * g + p) c <;> simp
  · rw [decide_eq_false q]; simp
end PM
theorem metX0_passMask (La : Launch) (a : Nat → Nat) (n g : Nat) (hg : g < 4) (V : Nat → Nat → Int32) (AL : Nat → Bool) (o l f lo hi s w rg rl rh : Nat → Int32) (vc : Int32) (vs : Nat → Int32) (hRep : Rep n V AL o l f lo hi s w) : MetW La yX0_passMask cX0_passMask 4 (some .int) 4 a [.ref (a 0), .int (nI g)] (wX0 a (nI n) o l f lo hi s w rg rl rh vc vs) (rpI (fun z w' => w' = (wX0 a (nI n) o l f lo hi s w rg rl rh vc vs) ∧ ∀ p, p < 32 → bt z p = (decide (p < 16) && ps V AL rg rl rh (16 * g + p)))) := by
  refine MetW.ofI (by decide) (Nat.le_of_ble_eq_true rfl) (fun K hKl hKd ret => ?_)
  subst hKl
  show CW K a cX0_passMask 4 RX0 0 [(0, .ref (a 0)), (1, .int (nI g))] [] (wX0 a (nI n) o l f lo hi s w rg rl rh vc vs)
  refine x_aload_n 1 0 dX0_passMask_0 rfl ?_
  refine get_X0 4 0 2 (v := .ref (a 2)) rfl (by decide) q33 rfl dX0_passMask_1 ?_
  refine x_iload_n 5 1 dX0_passMask_4 rfl ?_
  refine iald 6 2 (f := l) rfl (by omega) (by decide) dX0_passMask_5 ?_
  refine x_istore_n 7 (lv' := [(2, .int (l g)), (0, .ref (a 0)), (1, .int (nI g))]) dX0_passMask_6 (by decide) rfl ?_
  refine x_iconst 8 (v := nI 0) dX0_passMask_7 kI_0 ?_
  refine x_istore_n 9 (lv' := [(3, .int (nI 0)), (2, .int (l g)), (0, .ref (a 0)), (1, .int (nI g))]) dX0_passMask_8 (by decide) rfl ?_
  refine x_sub (lv' := [(0, .ref (a 0)), (1, .int (nI g)), (2, .int (l g)), (3, .int (nI 0))]) [2, 3, 1, 0] rfl ?_
  refine loop_up (P := fun c => ∀ (m : Int32), (∀ p, p < 32 → bt m p = (decide (p < 16) && (AL (16 * g + p) && okc V rg rl rh (16 * g + p) c))) → CW K a cX0_passMask 4 RX0 9 [(0, .ref (a 0)), (1, .int (nI g)), (2, .int m), (3, .int (nI c))] [] (wX0 a (nI n) o l f lo hi s w rg rl rh vc vs)) 3 (fun c hi_c ih_c => ?_) 0 (by omega) (l g) (fun p hp => by rw [hRep.2.2.1 g p hg hp]; show _ = (_ && (_ && true)); rw [Bool.and_true])
  intro m hm
  refine x_iload_n 10 3 dX0_passMask_9 rfl ?_
  refine x_iconst 11 (v := nI 3) dX0_passMask_10 kI_3 ?_
  refine n_icmp_ge 14 54 dX0_passMask_11 (by decide) (by omega) (by omega) (fun h_11 => ?_) (fun h_11 => ?_)
  ·
    refine x_iload_n 55 2 dX0_passMask_54 rfl ?_
    exact ret 55 _ _ _ dX0_passMask_55 rfl ⟨rfl, fun p hp => by rw [hm p hp, show c = 3 by omega]; rfl⟩
  ·
    refine x_aload_n 15 0 dX0_passMask_14 rfl ?_
    refine get_X0 18 0 8 (v := .ref (a 8)) rfl (by decide) q39 rfl dX0_passMask_15 ?_
    refine x_iload_n 19 3 dX0_passMask_18 rfl ?_
    refine zald 20 8 (f := rg) rfl (by omega) (by decide) dX0_passMask_19 ?_
    refine x_if_eq 23 48 dX0_passMask_20 (by decide) (fun h_20 => ?_) (fun h_20 => ?_)
    ·
      refine x_iinc 51 (v := nI (c + 1)) (lv' := [(3, .int (nI (c + 1))), (0, .ref (a 0)), (1, .int (nI g)), (2, .int m)]) 3 dX0_passMask_48 rfl (inc1 _) (by decide) rfl ?_
      refine x_goto 9 dX0_passMask_51 (by decide) ?_
      refine x_sub (lv' := [(0, .ref (a 0)), (1, .int (nI g)), (2, .int m), (3, .int (nI (c + 1)))]) [1, 2, 3, 0] rfl ?_
      exact ih_c (c + 1) (by omega) (by omega) _ (by first | exact pm_a hm h_20 | exact pm_b hm h_24 | exact pm_c hm h_20 hz)
    ·
      refine x_iload_n 24 2 dX0_passMask_23 rfl ?_
      refine x_if_eq 27 48 dX0_passMask_24 (by decide) (fun h_24 => ?_) (fun h_24 => ?_)
      ·
        refine x_iinc 51 (v := nI (c + 1)) (lv' := [(3, .int (nI (c + 1))), (0, .ref (a 0)), (1, .int (nI g)), (2, .int m)]) 3 dX0_passMask_48 rfl (inc1 _) (by decide) rfl ?_
        refine x_goto 9 dX0_passMask_51 (by decide) ?_
        refine x_sub (lv' := [(0, .ref (a 0)), (1, .int (nI g)), (2, .int m), (3, .int (nI (c + 1)))]) [1, 2, 3, 0] rfl ?_
        exact ih_c (c + 1) (by omega) (by omega) _ (by first | exact pm_a hm h_20 | exact pm_b hm h_24 | exact pm_c hm h_20 hz)
      ·
        refine x_iload_n 28 2 dX0_passMask_27 rfl ?_
        refine x_aload_n 29 0 dX0_passMask_28 rfl ?_
        refine x_iload_n 30 1 dX0_passMask_29 rfl ?_
        refine x_iload_n 31 3 dX0_passMask_30 rfl ?_
        refine x_aload_n 32 0 dX0_passMask_31 rfl ?_
        refine get_X0 35 0 9 (v := .ref (a 9)) rfl (by decide) q40 rfl dX0_passMask_32 ?_
        refine x_iload_n 36 3 dX0_passMask_35 rfl ?_
        refine iald 37 9 (f := rl) rfl (by omega) (by decide) dX0_passMask_36 ?_
        refine x_aload_n 38 0 dX0_passMask_37 rfl ?_
        refine get_X0 41 0 10 (v := .ref (a 10)) rfl (by decide) q41 rfl dX0_passMask_38 ?_
        refine x_iload_n 42 3 dX0_passMask_41 rfl ?_
        refine iald 43 10 (f := rh) rfl (by omega) (by decide) dX0_passMask_42 ?_
        refine call_Vi 46 (av := [.int (nI g), .int (nI c), .int (rl c), .int (rh c)]) (metX0_rangeMask (cx_l K) a n g c (rl c) (rh c) hg (by omega) V AL o l f lo hi s w rg rl rh vc vs hRep) rfl rfl gwX0_rangeMask nyX0_rangeMask rfl (by omega) (by decide) (Nat.le_of_ble_eq_true rfl) rfl dX0_passMask_43 ?_
        intro r_43 w_43 hq_43
        obtain ⟨rfl, hz⟩ := hq_43
        refine x_iand 47 (v := m &&& r_43) dX0_passMask_46 rfl ?_
        refine x_istore_n 48 (lv' := [(2, .int (m &&& r_43)), (0, .ref (a 0)), (1, .int (nI g)), (3, .int (nI c))]) dX0_passMask_47 (by decide) rfl ?_
        refine x_iinc 51 (v := nI (c + 1)) (lv' := [(3, .int (nI (c + 1))), (2, .int (m &&& r_43)), (0, .ref (a 0)), (1, .int (nI g))]) 3 dX0_passMask_48 rfl (inc1 _) (by decide) rfl ?_
        refine x_goto 9 dX0_passMask_51 (by decide) ?_
        refine x_sub (lv' := [(0, .ref (a 0)), (1, .int (nI g)), (2, .int (m &&& r_43)), (3, .int (nI (c + 1)))]) [2, 3, 1, 0] rfl ?_
        exact ih_c (c + 1) (by omega) (by omega) _ (by first | exact pm_a hm h_20 | exact pm_b hm h_24 | exact pm_c hm h_20 hz)
end
section
set_option maxRecDepth 100000
set_option maxHeartbeats 1000000
/-- the sum of the x k with q k -/
def sml (q : Nat → Bool) (x : Nat → Int32) : Nat → Int64
  | 0 => 0
  | k + 1 => if q k then sml q x k + (x k).toInt64 else sml q x k
theorem sml_t {q : Nat → Bool} {x : Nat → Int32} {k : Nat} (h : q k = true) : sml q x (k + 1) = sml q x k + (x k).toInt64 := by rw [sml, if_pos h]
theorem sml_f {q : Nat → Bool} {x : Nat → Int32} {k : Nat} (h : q k = false) : sml q x (k + 1) = sml q x k := by rw [sml, if_neg (by rw [h]; decide)]
theorem sml_cong {q q' : Nat → Bool} {x x' : Nat → Int32} : ∀ n, (∀ k, k < n → q k = q' k) → (∀ k, k < n → q k = true → x k = x' k) → sml q x n = sml q' x' n
  | 0, _, _ => rfl
  | n + 1, h1, h2 => by
    have ih := sml_cong n (fun k hk => h1 k (by omega)) (fun k hk => h2 k (by omega))
    cases e : q n with
    | true => rw [sml_t e, sml_t (by rw [← h1 n (by omega)]; exact e), ih, h2 n (by omega) e]
    | false => rw [sml_f e, sml_f (by rw [← h1 n (by omega)]; exact e), ih]
theorem sml_split (q : Nat → Bool) (x : Nat → Int32) (m : Nat) : ∀ n, sml q x (m + n) = sml q x m + sml (fun k => q (m + k)) (fun k => x (m + k)) n
  | 0 => by show sml q x m = sml q x m + 0; rw [Int64.add_zero]
  | n + 1 => by
    have ih := sml_split q x m n
    cases e : q (m + n) with
    | true => rw [show m + (n + 1) = (m + n) + 1 by omega, sml_t e, sml_t (q := fun k => q (m + k)) e, ih, Int64.add_assoc]
    | false => rw [show m + (n + 1) = (m + n) + 1 by omega, sml_f e, sml_f (q := fun k => q (m + k)) e, ih]
theorem sml_zero {q : Nat → Bool} {x : Nat → Int32} : ∀ n, (∀ k, k < n → q k = false) → sml q x n = 0
  | 0, _ => rfl
  | n + 1, h => by rw [sml_f (h n (by omega)), sml_zero n (fun k hk => h k (by omega))]
/-- what the runs sum up to -/
def rsum (w : Nat → Int32) (k : Nat) (mk : Int32) : Nat → Int64
  | 0 => 0
  | j + 1 => rsum w k mk j + (nI (fb_ct (bt (w (34 * k + 2 * j + 1) &&& mk)) 16)).toInt64 * (w (34 * k + 2 * j)).toInt64
theorem lN_inc (n : Nat) : lN (n + 1) = lN n + 1 := (lN_1 n).symm
theorem ct_mul (q : Nat → Bool) (x : Int32) : ∀ t, lN (fb_ct q t) * x.toInt64 = sml q (fun _ => x) t
  | 0 => by
    show lN 0 * x.toInt64 = 0
    rw [show lN 0 = 0 from rfl, Int64.zero_mul]
  | t + 1 => by
    cases e : q t with
    | true => rw [ct_t e, sml_t e, ← ct_mul q x t, lN_inc]; grind
    | false => rw [ct_f e, sml_f e, ct_mul q x t]
/-- the sum over the runs of what they hold at the places under t -/
def rs2 (b : Nat → Nat → Bool) (mk : Nat → Bool) (x : Nat → Int32) (t : Nat) : Nat → Int64
  | 0 => 0
  | j + 1 => rs2 b mk x t j + sml (fun p => b j p && mk p) (fun _ => x j) t
def rs1 (b : Nat → Nat → Bool) (x : Nat → Int32) (p : Nat) : Nat → Int64
  | 0 => 0
  | j + 1 => rs1 b x p j + (if b j p then (x j).toInt64 else 0)
theorem rs2_0 (b : Nat → Nat → Bool) (mk : Nat → Bool) (x : Nat → Int32) : ∀ m, rs2 b mk x 0 m = 0
  | 0 => rfl
  | m + 1 => by rw [rs2, rs2_0 b mk x m]; rfl
theorem rs2_t (b : Nat → Nat → Bool) (mk : Nat → Bool) (x : Nat → Int32) (t : Nat) (h : mk t = true) : ∀ m, rs2 b mk x (t + 1) m = rs2 b mk x t m + rs1 b x t m
  | 0 => by show (0 : Int64) = 0 + 0; decide
  | m + 1 => by
    rw [rs2, rs2, rs1, rs2_t b mk x t h m]
    cases e : b m t with
    | true => rw [sml_t (q := fun p => b m p && mk p) (by simp [e, h]), if_pos rfl]; grind
    | false => rw [sml_f (q := fun p => b m p && mk p) (by simp [e]), if_neg (by decide)]; grind
theorem rs2_f (b : Nat → Nat → Bool) (mk : Nat → Bool) (x : Nat → Int32) (t : Nat) (h : mk t = false) : ∀ m, rs2 b mk x (t + 1) m = rs2 b mk x t m
  | 0 => rfl
  | m + 1 => by
    rw [rs2, rs2, rs2_f b mk x t h m, sml_f (q := fun p => b m p && mk p) (by simp [h])]
theorem rs1_none {b : Nat → Nat → Bool} {x : Nat → Int32} {p : Nat} : ∀ m, (∀ j, j < m → b j p = false) → rs1 b x p m = 0
  | 0, _ => rfl
  | m + 1, h => by rw [rs1, rs1_none m (fun j hj => h j (by omega)), h m (by omega)]; simp
theorem rs1_one {b : Nat → Nat → Bool} {x : Nat → Int32} {p j : Nat} : ∀ m, j < m → b j p = true → (∀ j', j' < m → b j' p = true → j' = j) → rs1 b x p m = (x j).toInt64
  | 0, h, _, _ => absurd h (Nat.not_lt_zero j)
  | m + 1, h, h1, h2 => by
    rw [rs1]
    rcases Nat.lt_or_ge j m with q | q
    · have e : b m p = false := by
        cases e : b m p with
        | false => rfl
        | true => have := h2 m (by omega) e; omega
      rw [rs1_one m q h1 (fun j' hj' => h2 j' (by omega)), e, if_neg (by decide), Int64.add_zero]
    · have e : j = m := by omega
      subst e
      rw [rs1_none j (fun j' hj' => by
        cases e : b j' p with
        | false => rfl
        | true => have := h2 j' (by omega) e; omega), h1, if_pos rfl, Int64.zero_add]
theorem rs2_all {b : Nat → Nat → Bool} {mk : Nat → Bool} {x X : Nat → Int32} {m : Nat} : ∀ t, (∀ p, p < t → ∃ j, j < m ∧ b j p = true ∧ x j = X p ∧ ∀ j', j' < m → b j' p = true → j' = j) → rs2 b mk x t m = sml mk X t
  | 0, _ => rs2_0 b mk x m
  | t + 1, h => by
    have ih := rs2_all (mk := mk) t (fun p hp => h p (by omega))
    cases e : mk t with
    | true =>
      obtain ⟨j, h1, h2, h3, h4⟩ := h t (by omega)
      rw [rs2_t b mk x t e m, sml_t e, ih, rs1_one m h1 h2 h4, h3]
    | false => rw [rs2_f b mk x t e m, sml_f e, ih]
theorem rsum_rs2 (w : Nat → Int32) (k : Nat) (mk : Int32) : ∀ m, rsum w k mk m = rs2 (fun j p => bt (w (34 * k + 2 * j + 1)) p) (bt mk) (fun j => w (34 * k + 2 * j)) 16 m
  | 0 => rfl
  | m + 1 => by
    rw [rsum, rs2, rsum_rs2 w k mk m, nI_l (Nat.lt_of_le_of_lt (fb_ct_le _ _) (by decide)), ct_mul]
    congr 1
    exact sml_cong 16 (fun p _ => b_and _ _ p) (fun _ _ _ => rfl)
theorem runs_sum {w : Nat → Int32} {k m : Nat} {X : Nat → Int32} (h : RunsOk w k m X) (mk : Int32) : rsum w k mk m = sml (bt mk) X 16 := by
  rw [rsum_rs2]
  exact rs2_all 16 h.2

theorem metX0_sumOf (La : Launch) (a : Nat → Nat) (n g c : Nat) (mk : Int32) (hg : g < 4) (hc : c < 3) (V : Nat → Nat → Int32) (AL : Nat → Bool) (o l f lo hi s w rg rl rh : Nat → Int32) (vc : Int32) (vs : Nat → Int32) (hRep : Rep n V AL o l f lo hi s w) : MetW La yX0_sumOf cX0_sumOf 9 (some .long) 3 a [.ref (a 0), .int (nI g), .int (nI c), .int mk] (wX0 a (nI n) o l f lo hi s w rg rl rh vc vs) (rpL (fun z w' => w' = (wX0 a (nI n) o l f lo hi s w rg rl rh vc vs) ∧ z = sml (bt mk) (fun p => V c (16 * g + p)) 16)) := by
  refine MetW.ofL (by decide) (Nat.le_of_ble_eq_true rfl) (fun K hKl hKd ret => ?_)
  subst hKl
  show CW K a cX0_sumOf 9 RX0 0 [(0, .ref (a 0)), (1, .int (nI g)), (2, .int (nI c)), (3, .int mk)] [] (wX0 a (nI n) o l f lo hi s w rg rl rh vc vs)
  refine x_iconst 1 (v := nI 3) dX0_sumOf_0 kI_3 ?_
  refine x_iload_n 2 1 dX0_sumOf_1 rfl ?_
  refine x_imul 3 (v := nI (3 * g)) dX0_sumOf_2 (pk_mul _ _) ?_
  refine x_iload_n 4 2 dX0_sumOf_3 rfl ?_
  refine x_iadd 5 (v := nI (3 * g + c)) dX0_sumOf_4 (nI_add _ _) ?_
  refine x_istore 7 (lv' := [(4, .int (nI (3 * g + c))), (0, .ref (a 0)), (1, .int (nI g)), (2, .int (nI c)), (3, .int mk)]) dX0_sumOf_5 (by decide) rfl ?_
  refine x_lconst 8 (v := 0) dX0_sumOf_7 kL_0 ?_
  refine x_lstore 10 (lv' := [(5, .long 0), (4, .int (nI (3 * g + c))), (0, .ref (a 0)), (1, .int (nI g)), (2, .int (nI c)), (3, .int mk)]) dX0_sumOf_8 (by decide) rfl ?_
  have hj_102 : CW K a cX0_sumOf 9 RX0 102 [(0, .ref (a 0)), (1, .int (nI g)), (2, .int (nI c)), (3, .int mk), (4, .int (nI (3 * g + c))), (5, .long 0)] [] (wX0 a (nI n) o l f lo hi s w rg rl rh vc vs) := by
    refine x_iconst 103 (v := nI 0) dX0_sumOf_102 kI_0 ?_
    refine x_istore 105 (lv' := [(7, .int (nI 0)), (0, .ref (a 0)), (1, .int (nI g)), (2, .int (nI c)), (3, .int mk), (4, .int (nI (3 * g + c))), (5, .long 0)]) dX0_sumOf_103 (by decide) rfl ?_
    refine x_sub (lv' := [(0, .ref (a 0)), (1, .int (nI g)), (2, .int (nI c)), (3, .int mk), (4, .int (nI (3 * g + c))), (5, .long 0), (7, .int (nI 0))]) [1, 2, 3, 4, 5, 6, 0] rfl ?_
    refine loop_up (P := fun p => ∀ (t : Int64), (t = sml (bt mk) (fun p => V c (16 * g + p)) p) → CW K a cX0_sumOf 9 RX0 105 [(0, .ref (a 0)), (1, .int (nI g)), (2, .int (nI c)), (3, .int mk), (4, .int (nI (3 * g + c))), (5, .long t), (7, .int (nI p))] [] (wX0 a (nI n) o l f lo hi s w rg rl rh vc vs)) 16 (fun p hi_p ih_p => ?_) 0 (by omega) 0 rfl
    intro t ht
    refine x_iload 107 6 dX0_sumOf_105 rfl ?_
    refine x_bipush 109 (v := nI 16) dX0_sumOf_107 kB_16 ?_
    refine n_icmp_ge 112 141 dX0_sumOf_109 (by decide) (by omega) (by omega) (fun h_109 => ?_) (fun h_109 => ?_)
    ·
      refine x_lload 143 5 dX0_sumOf_141 rfl ?_
      exact ret 143 _ _ _ dX0_sumOf_143 ⟨rfl, by rw [ht, show p = 16 by omega]⟩
    ·
      refine x_iload_n 113 3 dX0_sumOf_112 rfl ?_
      refine x_iload 115 6 dX0_sumOf_113 rfl ?_
      refine x_iushr 116 (v := us mk p) dX0_sumOf_115 rfl ?_
      refine x_iconst 117 (v := nI 1) dX0_sumOf_116 kI_1 ?_
      refine x_iand 118 (v := nI (tb mk p)) dX0_sumOf_117 (us_1 _ (by omega)) ?_
      refine b_if_eq 121 135 dX0_sumOf_118 (by decide) (fun h_118 => ?_) (fun h_118 => ?_)
      ·
        refine x_iinc 138 (v := nI (p + 1)) (lv' := [(7, .int (nI (p + 1))), (0, .ref (a 0)), (1, .int (nI g)), (2, .int (nI c)), (3, .int mk), (4, .int (nI (3 * g + c))), (5, .long t)]) 6 dX0_sumOf_135 rfl (inc1 _) (by decide) rfl ?_
        refine x_goto 105 dX0_sumOf_138 (by decide) ?_
        refine x_sub (lv' := [(0, .ref (a 0)), (1, .int (nI g)), (2, .int (nI c)), (3, .int mk), (4, .int (nI (3 * g + c))), (5, .long t), (7, .int (nI (p + 1)))]) [1, 2, 3, 4, 5, 6, 0] rfl ?_
        exact ih_p (p + 1) (by omega) (by omega) _ (by rw [ht]; first | rw [sml_f (q := bt mk) h_118] | rw [sml_t (q := bt mk) h_118])
      ·
        refine x_lload 123 5 dX0_sumOf_121 rfl ?_
        refine x_aload_n 124 0 dX0_sumOf_123 rfl ?_
        refine x_iload_n 125 1 dX0_sumOf_124 rfl ?_
        refine x_iload_n 126 2 dX0_sumOf_125 rfl ?_
        refine x_iload 128 6 dX0_sumOf_126 rfl ?_
        refine call_Vi 131 (av := [.int (nI g), .int (nI c), .int (nI p)]) (metX0_valueIn (cx_l K) a n g c p hg hc (by omega) V AL o l f lo hi s w rg rl rh vc vs hRep) rfl rfl gwX0_valueIn nyX0_valueIn rfl (by omega) (by decide) (Nat.le_of_ble_eq_true rfl) rfl dX0_sumOf_128 ?_
        intro r_128 w_128 hq_128
        obtain ⟨rfl, rfl⟩ := hq_128
        refine x_i2l 132 (v := (V c (16 * g + p)).toInt64) dX0_sumOf_131 rfl ?_
        refine x_ladd 133 (v := t + ((V c (16 * g + p)).toInt64)) dX0_sumOf_132 rfl ?_
        refine x_lstore 135 (lv' := [(5, .long (t + ((V c (16 * g + p)).toInt64))), (0, .ref (a 0)), (1, .int (nI g)), (2, .int (nI c)), (3, .int mk), (4, .int (nI (3 * g + c))), (7, .int (nI p))]) dX0_sumOf_133 (by decide) rfl ?_
        refine x_iinc 138 (v := nI (p + 1)) (lv' := [(7, .int (nI (p + 1))), (5, .long (t + ((V c (16 * g + p)).toInt64))), (0, .ref (a 0)), (1, .int (nI g)), (2, .int (nI c)), (3, .int mk), (4, .int (nI (3 * g + c)))]) 6 dX0_sumOf_135 rfl (inc1 _) (by decide) rfl ?_
        refine x_goto 105 dX0_sumOf_138 (by decide) ?_
        refine x_sub (lv' := [(0, .ref (a 0)), (1, .int (nI g)), (2, .int (nI c)), (3, .int mk), (4, .int (nI (3 * g + c))), (5, .long (t + ((V c (16 * g + p)).toInt64))), (7, .int (nI (p + 1)))]) [2, 3, 4, 5, 6, 1, 0] rfl ?_
        exact ih_p (p + 1) (by omega) (by omega) _ (by rw [ht]; first | rw [sml_f (q := bt mk) h_118] | rw [sml_t (q := bt mk) h_118])
  refine x_aload_n 11 2 dX0_sumOf_10 rfl ?_
  refine x_iload_n 12 3 dX0_sumOf_11 rfl ?_
  refine call_Vi 15 (av := [.int (nI g)]) (metX0_isClosed (cx_l K) a n g hRep.1 hg o l f lo hi s w rg rl rh vc vs) rfl rfl gwX0_isClosed nyX0_isClosed rfl (by omega) (by decide) (Nat.le_of_ble_eq_true rfl) rfl dX0_sumOf_12 ?_
  intro r_12 w_12 hq_12
  obtain ⟨rfl, hq_12⟩ := hq_12
  rcases hq_12 with ⟨rfl, hcl⟩ | ⟨rfl, hcl⟩
  ·
    refine f_if_eq 18 102 dX0_sumOf_15 (by decide) (by decide +kernel) ?_
    rcases (hRep.2.2.2.2 g c hc hcl).2 with ⟨hf, hX⟩ | ⟨hf, m, hs, hX⟩ | ⟨hf, m, hs, hX⟩ | ⟨hf, b, hs, hX⟩
    ·
      refine x_aload_n 19 2 dX0_sumOf_18 rfl ?_
      refine get_X0 22 0 3 (v := .ref (a 3)) rfl (by decide) q34 rfl dX0_sumOf_19 ?_
      refine x_iload 24 1 dX0_sumOf_22 rfl ?_
      refine iald 25 3 (f := f) rfl (by omega) (by decide) dX0_sumOf_24 ?_
      refine x_st (st' := [.int (nI 0)]) (by rw [hf]) ?_
      refine x_iconst 26 (v := nI 1) dX0_sumOf_25 kI_1 ?_
      refine t_icmp_ne 102 dX0_sumOf_26 (by decide) (by decide +kernel) ?_
      refine x_sub (lv' := [(0, .ref (a 0)), (1, .int (nI g)), (2, .int (nI c)), (3, .int mk), (4, .int (nI (3 * g + c))), (5, .long 0)]) [2, 3, 4, 5, 1, 0] rfl ?_
      exact hj_102  
    ·
      have hm16 := hX.1
      refine x_aload_n 19 2 dX0_sumOf_18 rfl ?_
      refine get_X0 22 0 3 (v := .ref (a 3)) rfl (by decide) q34 rfl dX0_sumOf_19 ?_
      refine x_iload 24 1 dX0_sumOf_22 rfl ?_
      refine iald 25 3 (f := f) rfl (by omega) (by decide) dX0_sumOf_24 ?_
      refine x_st (st' := [.int (nI 1)]) (by rw [hf]) ?_
      refine x_iconst 26 (v := nI 1) dX0_sumOf_25 kI_1 ?_
      refine f_icmp_ne 29 102 dX0_sumOf_26 (by decide) (by decide +kernel) ?_
      refine x_iconst 30 (v := nI 0) dX0_sumOf_29 kI_0 ?_
      refine x_istore 32 (lv' := [(7, .int (nI 0)), (5, .long 0), (4, .int (nI (3 * g + c))), (0, .ref (a 0)), (1, .int (nI g)), (2, .int (nI c)), (3, .int mk)]) dX0_sumOf_30 (by decide) rfl ?_
      refine x_sub (lv' := [(0, .ref (a 0)), (1, .int (nI g)), (2, .int (nI c)), (3, .int mk), (4, .int (nI (3 * g + c))), (5, .long 0), (7, .int (nI 0))]) [3, 4, 5, 6, 2, 1, 0] rfl ?_
      refine loop_up (P := fun j => ∀ (t : Int64), (t = rsum w (3 * g + c) mk j) → CW K a cX0_sumOf 9 RX0 32 [(0, .ref (a 0)), (1, .int (nI g)), (2, .int (nI c)), (3, .int mk), (4, .int (nI (3 * g + c))), (5, .long t), (7, .int (nI j))] [] (wX0 a (nI n) o l f lo hi s w rg rl rh vc vs)) m (fun j hi_j ih_j => ?_) 0 (by omega) 0 rfl
      intro t ht
      refine x_iload 34 6 dX0_sumOf_32 rfl ?_
      refine x_aload_n 35 0 dX0_sumOf_34 rfl ?_
      refine get_X0 38 0 6 (v := .ref (a 6)) rfl (by decide) q37 rfl dX0_sumOf_35 ?_
      refine x_iload 40 4 dX0_sumOf_38 rfl ?_
      refine iald 41 6 (f := s) rfl (by omega) (by decide) dX0_sumOf_40 ?_
      refine x_st (st' := [.int (nI m), .int (nI j)]) (by rw [hs]) ?_
      refine n_icmp_ge 44 99 dX0_sumOf_41 (by decide) (by omega) (by omega) (fun h_41 => ?_) (fun h_41 => ?_)
      ·
        refine x_lload 101 5 dX0_sumOf_99 rfl ?_
        exact ret 101 _ _ _ dX0_sumOf_101 ⟨rfl, by rw [ht, show j = m by omega]; exact runs_sum hX mk⟩
      ·
        refine x_aload_n 45 0 dX0_sumOf_44 rfl ?_
        refine get_X0 48 0 7 (v := .ref (a 7)) rfl (by decide) q38 rfl dX0_sumOf_45 ?_
        refine x_bipush 50 (v := nI 34) dX0_sumOf_48 kB_34 ?_
        refine x_iload 52 4 dX0_sumOf_50 rfl ?_
        refine x_imul 53 (v := nI (34 * (3 * g + c))) dX0_sumOf_52 (pk_mul _ _) ?_
        refine x_iconst 54 (v := nI 2) dX0_sumOf_53 kI_2 ?_
        refine x_iload 56 6 dX0_sumOf_54 rfl ?_
        refine x_imul 57 (v := nI (2 * j)) dX0_sumOf_56 (pk_mul _ _) ?_
        refine x_iadd 58 (v := nI (34 * (3 * g + c) + 2 * j)) dX0_sumOf_57 (nI_add _ _) ?_
        refine x_iconst 59 (v := nI 1) dX0_sumOf_58 kI_1 ?_
        refine x_iadd 60 (v := nI (34 * (3 * g + c) + 2 * j + 1)) dX0_sumOf_59 (nI_add _ _) ?_
        refine iald 61 7 (f := w) rfl (by omega) (by decide) dX0_sumOf_60 ?_
        refine x_iload_n 62 3 dX0_sumOf_61 rfl ?_
        refine x_iand 63 (v := (w (34 * (3 * g + c) + 2 * j + 1)) &&& mk) dX0_sumOf_62 rfl ?_
        refine call_Si 66 (av := [.int ((w (34 * (3 * g + c) + 2 * j + 1)) &&& mk)]) (metX0_ones (cx_l K) a (w (34 * (3 * g + c) + 2 * j + 1) &&& mk)) gwX0_ones nyX0_ones rfl (by omega) (by decide) (Nat.le_of_ble_eq_true rfl) rfl dX0_sumOf_63 ?_
        intro r_63 w_63 hq_63
        subst hq_63
        refine x_istore 68 (lv' := [(8, .int (nI (fb_ct (bt (w (34 * (3 * g + c) + 2 * j + 1) &&& mk)) 16))), (0, .ref (a 0)), (1, .int (nI g)), (2, .int (nI c)), (3, .int mk), (4, .int (nI (3 * g + c))), (5, .long t), (7, .int (nI j))]) dX0_sumOf_66 (by decide) rfl ?_
        refine x_lload 70 6 dX0_sumOf_68 rfl ?_
        refine x_iload 72 0 dX0_sumOf_70 rfl ?_
        refine x_i2l 73 (v := (nI (fb_ct (bt (w (34 * (3 * g + c) + 2 * j + 1) &&& mk)) 16)).toInt64) dX0_sumOf_72 rfl ?_
        refine x_aload_n 74 1 dX0_sumOf_73 rfl ?_
        refine get_X0 77 0 7 (v := .ref (a 7)) rfl (by decide) q38 rfl dX0_sumOf_74 ?_
        refine x_bipush 79 (v := nI 34) dX0_sumOf_77 kB_34 ?_
        refine x_iload 81 5 dX0_sumOf_79 rfl ?_
        refine x_imul 82 (v := nI (34 * (3 * g + c))) dX0_sumOf_81 (pk_mul _ _) ?_
        refine x_iconst 83 (v := nI 2) dX0_sumOf_82 kI_2 ?_
        refine x_iload 85 7 dX0_sumOf_83 rfl ?_
        refine x_imul 86 (v := nI (2 * j)) dX0_sumOf_85 (pk_mul _ _) ?_
        refine x_iadd 87 (v := nI (34 * (3 * g + c) + 2 * j)) dX0_sumOf_86 (nI_add _ _) ?_
        refine iald 88 7 (f := w) rfl (by omega) (by decide) dX0_sumOf_87 ?_
        refine x_i2l 89 (v := (w (34 * (3 * g + c) + 2 * j)).toInt64) dX0_sumOf_88 rfl ?_
        refine x_lmul 90 (v := ((nI (fb_ct (bt (w (34 * (3 * g + c) + 2 * j + 1) &&& mk)) 16)).toInt64) * ((w (34 * (3 * g + c) + 2 * j)).toInt64)) dX0_sumOf_89 rfl ?_
        refine x_ladd 91 (v := t + (((nI (fb_ct (bt (w (34 * (3 * g + c) + 2 * j + 1) &&& mk)) 16)).toInt64) * ((w (34 * (3 * g + c) + 2 * j)).toInt64))) dX0_sumOf_90 rfl ?_
        refine x_lstore 93 (lv' := [(5, .long (t + (((nI (fb_ct (bt (w (34 * (3 * g + c) + 2 * j + 1) &&& mk)) 16)).toInt64) * ((w (34 * (3 * g + c) + 2 * j)).toInt64)))), (8, .int (nI (fb_ct (bt (w (34 * (3 * g + c) + 2 * j + 1) &&& mk)) 16))), (0, .ref (a 0)), (1, .int (nI g)), (2, .int (nI c)), (3, .int mk), (4, .int (nI (3 * g + c))), (7, .int (nI j))]) dX0_sumOf_91 (by decide) rfl ?_
        refine x_iinc 96 (v := nI (j + 1)) (lv' := [(7, .int (nI (j + 1))), (5, .long (t + (((nI (fb_ct (bt (w (34 * (3 * g + c) + 2 * j + 1) &&& mk)) 16)).toInt64) * ((w (34 * (3 * g + c) + 2 * j)).toInt64)))), (8, .int (nI (fb_ct (bt (w (34 * (3 * g + c) + 2 * j + 1) &&& mk)) 16))), (0, .ref (a 0)), (1, .int (nI g)), (2, .int (nI c)), (3, .int mk), (4, .int (nI (3 * g + c)))]) 7 dX0_sumOf_93 rfl (inc1 _) (by decide) rfl ?_
        refine x_goto 32 dX0_sumOf_96 (by decide) ?_
        refine x_sub (lv' := [(0, .ref (a 0)), (1, .int (nI g)), (2, .int (nI c)), (3, .int mk), (4, .int (nI (3 * g + c))), (5, .long (t + (((nI (fb_ct (bt (w (34 * (3 * g + c) + 2 * j + 1) &&& mk)) 16)).toInt64) * ((w (34 * (3 * g + c) + 2 * j)).toInt64)))), (7, .int (nI (j + 1)))]) [3, 4, 5, 6, 7, 1, 0] rfl ?_
        exact ih_j (j + 1) (by omega) (by omega) _ (by rw [ht]; rfl)
    ·
      refine x_aload_n 19 2 dX0_sumOf_18 rfl ?_
      refine get_X0 22 0 3 (v := .ref (a 3)) rfl (by decide) q34 rfl dX0_sumOf_19 ?_
      refine x_iload 24 1 dX0_sumOf_22 rfl ?_
      refine iald 25 3 (f := f) rfl (by omega) (by decide) dX0_sumOf_24 ?_
      refine x_st (st' := [.int (nI 2)]) (by rw [hf]) ?_
      refine x_iconst 26 (v := nI 1) dX0_sumOf_25 kI_1 ?_
      refine t_icmp_ne 102 dX0_sumOf_26 (by decide) (by decide +kernel) ?_
      refine x_sub (lv' := [(0, .ref (a 0)), (1, .int (nI g)), (2, .int (nI c)), (3, .int mk), (4, .int (nI (3 * g + c))), (5, .long 0)]) [2, 3, 4, 5, 1, 0] rfl ?_
      exact hj_102  
    ·
      refine x_aload_n 19 2 dX0_sumOf_18 rfl ?_
      refine get_X0 22 0 3 (v := .ref (a 3)) rfl (by decide) q34 rfl dX0_sumOf_19 ?_
      refine x_iload 24 1 dX0_sumOf_22 rfl ?_
      refine iald 25 3 (f := f) rfl (by omega) (by decide) dX0_sumOf_24 ?_
      refine x_st (st' := [.int (nI 3)]) (by rw [hf]) ?_
      refine x_iconst 26 (v := nI 1) dX0_sumOf_25 kI_1 ?_
      refine t_icmp_ne 102 dX0_sumOf_26 (by decide) (by decide +kernel) ?_
      refine x_sub (lv' := [(0, .ref (a 0)), (1, .int (nI g)), (2, .int (nI c)), (3, .int mk), (4, .int (nI (3 * g + c))), (5, .long 0)]) [2, 3, 4, 5, 1, 0] rfl ?_
      exact hj_102  
  ·
    refine t_if_eq 102 dX0_sumOf_15 (by decide) (by decide +kernel) ?_
    refine x_sub (lv' := [(0, .ref (a 0)), (1, .int (nI g)), (2, .int (nI c)), (3, .int mk), (4, .int (nI (3 * g + c))), (5, .long 0)]) [2, 3, 4, 5, 1, 0] rfl ?_
    exact hj_102  
theorem metX0_mayBeat (La : Launch) (a : Nat → Nat) (n g c gr sm : Nat) (bs : Int32) (hg : g < 4) (hc : c < 3) (hgr : gr < 2) (hsm : sm < 2) (V : Nat → Nat → Int32) (AL : Nat → Bool) (o l f lo hi s w rg rl rh : Nat → Int32) (vc : Int32) (vs : Nat → Int32) (hRep : Rep n V AL o l f lo hi s w) : MetW La yX0_mayBeat cX0_mayBeat 7 (some .boolean) 1 a [.ref (a 0), .int (nI g), .int (nI c), .int (nI gr), .int (nI sm), .int bs] (wX0 a (nI n) o l f lo hi s w rg rl rh vc vs) (rpI (fun z w' => w' = (wX0 a (nI n) o l f lo hi s w rg rl rh vc vs) ∧ (z = nI 1 ∨ (z = nI 0 ∧ 0 < sm ∧ ∀ p, p < 16 → (gr = 1 → V c (16 * g + p) ≤ bs) ∧ (gr = 0 → bs ≤ V c (16 * g + p)))))) := by
  refine MetW.ofI (by decide) (Nat.le_of_ble_eq_true rfl) (fun K hKl hKd ret => ?_)
  subst hKl
  show CW K a cX0_mayBeat 7 RX0 0 [(0, .ref (a 0)), (1, .int (nI g)), (2, .int (nI c)), (3, .int (nI gr)), (4, .int (nI sm)), (5, .int bs)] [] (wX0 a (nI n) o l f lo hi s w rg rl rh vc vs)
  refine x_iload 2 4 dX0_mayBeat_0 rfl ?_
  refine n_if_eq 5 13 dX0_mayBeat_2 (by decide) (by omega) (fun h_2 => ?_) (fun h_2 => ?_)
  ·
    refine x_iconst 14 (v := nI 1) dX0_mayBeat_13 kI_1 ?_
    exact ret 14 _ _ _ dX0_mayBeat_14 nb1 ⟨rfl, Or.inl rfl⟩
  ·
    refine x_aload_n 6 0 dX0_mayBeat_5 rfl ?_
    refine x_iload_n 7 1 dX0_mayBeat_6 rfl ?_
    refine call_Vi 10 (av := [.int (nI g)]) (metX0_isClosed (cx_l K) a n g hRep.1 hg o l f lo hi s w rg rl rh vc vs) rfl rfl gwX0_isClosed nyX0_isClosed rfl (by omega) (by decide) (Nat.le_of_ble_eq_true rfl) rfl dX0_mayBeat_7 ?_
    intro r_7 w_7 hq_7
    obtain ⟨rfl, hq_7⟩ := hq_7
    rcases hq_7 with ⟨rfl, hcl⟩ | ⟨rfl, hcl⟩
    ·
      obtain ⟨hb, hF⟩ := hRep.2.2.2.2 g c hc hcl
      have hb : ∀ p, p < 16 → lo (3 * g + c) ≤ V c (16 * g + p) ∧ V c (16 * g + p) ≤ hi (3 * g + c) := hb
      refine t_if_ne 15 dX0_mayBeat_10 (by decide) (by decide +kernel) ?_
      refine x_iconst 16 (v := nI 3) dX0_mayBeat_15 kI_3 ?_
      refine x_iload_n 17 1 dX0_mayBeat_16 rfl ?_
      refine x_imul 18 (v := nI (3 * g)) dX0_mayBeat_17 (pk_mul _ _) ?_
      refine x_iload_n 19 2 dX0_mayBeat_18 rfl ?_
      refine x_iadd 20 (v := nI (3 * g + c)) dX0_mayBeat_19 (nI_add _ _) ?_
      refine x_istore 22 (lv' := [(6, .int (nI (3 * g + c))), (0, .ref (a 0)), (1, .int (nI g)), (2, .int (nI c)), (3, .int (nI gr)), (4, .int (nI sm)), (5, .int bs)]) dX0_mayBeat_20 (by decide) rfl ?_
      refine x_iload_n 23 4 dX0_mayBeat_22 rfl ?_
      refine n_if_eq 26 46 dX0_mayBeat_23 (by decide) (by omega) (fun h_23 => ?_) (fun h_23 => ?_)
      ·
        refine x_aload_n 47 1 dX0_mayBeat_46 rfl ?_
        refine get_X0 50 0 4 (v := .ref (a 4)) rfl (by decide) q35 rfl dX0_mayBeat_47 ?_
        refine x_iload 52 0 dX0_mayBeat_50 rfl ?_
        refine iald 53 4 (f := lo) rfl (by omega) (by decide) dX0_mayBeat_52 ?_
        refine x_iload 55 6 dX0_mayBeat_53 rfl ?_
        refine x_icmp_ge 58 62 dX0_mayBeat_55 (by decide) (fun h_55 => ?_) (fun h_55 => ?_)
        ·
          refine x_iconst 63 (v := nI 0) dX0_mayBeat_62 kI_0 ?_
          exact ret 63 _ _ _ dX0_mayBeat_63 nb0 ⟨rfl, Or.inr ⟨rfl, h_2, fun p hp => by first | exact ⟨fun _ => le_tr (hb p hp).2 h_35, fun q => absurd q (by omega)⟩ | exact ⟨fun q => absurd q (by omega), fun _ => le_tr h_55 (hb p hp).1⟩⟩⟩
        ·
          refine x_iconst 59 (v := nI 1) dX0_mayBeat_58 kI_1 ?_
          refine x_goto 63 dX0_mayBeat_59 (by decide) ?_
          exact ret 63 _ _ _ dX0_mayBeat_63 nb1 ⟨rfl, Or.inl rfl⟩
      ·
        refine x_aload_n 27 1 dX0_mayBeat_26 rfl ?_
        refine get_X0 30 0 5 (v := .ref (a 5)) rfl (by decide) q36 rfl dX0_mayBeat_27 ?_
        refine x_iload 32 0 dX0_mayBeat_30 rfl ?_
        refine iald 33 5 (f := hi) rfl (by omega) (by decide) dX0_mayBeat_32 ?_
        refine x_iload 35 6 dX0_mayBeat_33 rfl ?_
        refine x_icmp_le 38 42 dX0_mayBeat_35 (by decide) (fun h_35 => ?_) (fun h_35 => ?_)
        ·
          refine x_iconst 43 (v := nI 0) dX0_mayBeat_42 kI_0 ?_
          refine x_goto 63 dX0_mayBeat_43 (by decide) ?_
          exact ret 63 _ _ _ dX0_mayBeat_63 nb0 ⟨rfl, Or.inr ⟨rfl, h_2, fun p hp => by first | exact ⟨fun _ => le_tr (hb p hp).2 h_35, fun q => absurd q (by omega)⟩ | exact ⟨fun q => absurd q (by omega), fun _ => le_tr h_55 (hb p hp).1⟩⟩⟩
        ·
          refine x_iconst 39 (v := nI 1) dX0_mayBeat_38 kI_1 ?_
          refine x_goto 63 dX0_mayBeat_39 (by decide) ?_
          exact ret 63 _ _ _ dX0_mayBeat_63 nb1 ⟨rfl, Or.inl rfl⟩
    ·
      refine f_if_ne 13 15 dX0_mayBeat_10 (by decide) (by decide +kernel) ?_
      refine x_iconst 14 (v := nI 1) dX0_mayBeat_13 kI_1 ?_
      exact ret 14 _ _ _ dX0_mayBeat_14 nb1 ⟨rfl, Or.inl rfl⟩
end
section
set_option maxRecDepth 100000
set_option maxHeartbeats 1000000
/-! folds over the rows: a group of sixteen at a time -/
theorem ct_ext {p : Nat → Bool} {n : Nat} (h : ∀ r, n ≤ r → p r = false) : ∀ d, fb_ct p (n + d) = fb_ct p n
  | 0 => rfl
  | d + 1 => by rw [show n + (d + 1) = (n + d) + 1 by omega, ct_f (h (n + d) (by omega)), ct_ext h d]
theorem ct_ext' {p : Nat → Bool} {n m : Nat} (h : ∀ r, n ≤ r → p r = false) (hm : n ≤ m) : fb_ct p m = fb_ct p n := by
  have := ct_ext h (m - n)
  rw [show n + (m - n) = m by omega] at this
  exact this
theorem sml_ext {q : Nat → Bool} {x : Nat → Int32} {n m : Nat} (h : ∀ r, n ≤ r → q r = false) (hm : n ≤ m) : sml q x m = sml q x n := by
  rw [show m = n + (m - n) by omega, sml_split, sml_zero (q := fun k => q (n + k)) (m - n) (fun k _ => h (n + k) (by omega)), Int64.add_zero]
theorem ps_out {n : Nat} {V : Nat → Nat → Int32} {AL : Nat → Bool} {rg rl rh : Nat → Int32} (h : ∀ r, n ≤ r → AL r = false) : ∀ r, n ≤ r → ps V AL rg rl rh r = false := by
  intro r hr
  unfold ps
  rw [h r hr, Bool.false_and]
theorem grp_ct {q : Nat → Bool} {m : Int32} {g : Nat} (hz : ∀ p, p < 32 → bt m p = (decide (p < 16) && q (16 * g + p))) : fb_ct q (16 * (g + 1)) = fb_ct q (16 * g) + fb_ct (bt m) 16 := by
  rw [show 16 * (g + 1) = 16 * g + 16 by omega, fb_ct_split]
  congr 1
  refine fb_ct_cong (fun k hk => ?_)
  rw [hz k (by omega), decide_eq_true hk, Bool.true_and]
theorem grp_sml {q : Nat → Bool} {x : Nat → Int32} {m : Int32} {g : Nat} (hz : ∀ p, p < 32 → bt m p = (decide (p < 16) && q (16 * g + p))) : sml q x (16 * (g + 1)) = sml q x (16 * g) + sml (bt m) (fun p => x (16 * g + p)) 16 := by
  rw [show 16 * (g + 1) = 16 * g + 16 by omega, sml_split]
  congr 1
  refine sml_cong 16 (fun k hk => ?_) (fun _ _ _ => rfl)
  rw [hz k (by omega), decide_eq_true hk, Bool.true_and]
theorem grp_sml0 {q : Nat → Bool} {x : Nat → Int32} {m : Int32} {g : Nat} (hz : ∀ p, p < 32 → bt m p = (decide (p < 16) && q (16 * g + p))) (h : m = 0) : sml q x (16 * (g + 1)) = sml q x (16 * g) := by
  rw [grp_sml hz, sml_zero 16 (fun k _ => by rw [h, b_0]), Int64.add_zero]
theorem row_in {x : Int32} {n : Nat} (hn : n ≤ 64) (h1 : ¬ x < 0) (h2 : ¬ nI n ≤ x) : ∃ j, j < n ∧ x = nI j := by
  rcases pk_ix x (n := n) (by omega) with h | h | h
  · exact absurd h h1
  · exact absurd h h2
  · exact h
theorem row_out {x : Int32} {n : Nat} (hn : n ≤ 64) (h : x < 0 ∨ nI n ≤ x) : ∀ j, j < n → x ≠ nI j := by
  intro j hj e
  subst e
  rcases h with h | h
  · exact nI_pos (by omega) h
  · exact absurd ((nI_leI (by omega) (by omega)).mp h) (by omega)

theorem metX0_count (La : Launch) (a : Nat → Nat) (n : Nat) (V : Nat → Nat → Int32) (AL : Nat → Bool) (o l f lo hi s w rg rl rh : Nat → Int32) (vc : Int32) (vs : Nat → Int32) (hRep : Rep n V AL o l f lo hi s w) : MetW La yX0_count cX0_count 4 (some .int) 5 a [.ref (a 0)] (wX0 a (nI n) o l f lo hi s w rg rl rh vc vs) (rpI (fun z w' => w' = (wX0 a (nI n) o l f lo hi s w rg rl rh vc vs) ∧ z = nI (fb_ct (ps V AL rg rl rh) n))) := by
  refine MetW.ofI (by decide) (Nat.le_of_ble_eq_true rfl) (fun K hKl hKd ret => ?_)
  subst hKl
  show CW K a cX0_count 4 RX0 0 [(0, .ref (a 0))] [] (wX0 a (nI n) o l f lo hi s w rg rl rh vc vs)
  have hn := hRep.1
  refine x_iconst 1 (v := nI 0) dX0_count_0 kI_0 ?_
  refine x_istore_n 2 (lv' := [(1, .int (nI 0)), (0, .ref (a 0))]) dX0_count_1 (by decide) rfl ?_
  refine x_iconst 3 (v := nI 0) dX0_count_2 kI_0 ?_
  refine x_istore_n 4 (lv' := [(2, .int (nI 0)), (1, .int (nI 0)), (0, .ref (a 0))]) dX0_count_3 (by decide) rfl ?_
  refine x_sub (lv' := [(0, .ref (a 0)), (1, .int (nI 0)), (2, .int (nI 0))]) [2, 1, 0] rfl ?_
  refine loop_up (P := fun g => ∀ (u : Nat), (u = fb_ct (ps V AL rg rl rh) (16 * g)) → CW K a cX0_count 4 RX0 4 [(0, .ref (a 0)), (1, .int (nI u)), (2, .int (nI g))] [] (wX0 a (nI n) o l f lo hi s w rg rl rh vc vs)) 4 (fun g hi_g ih_g => ?_) 0 (by omega) 0 rfl
  intro u hu
  refine x_bipush 6 (v := nI 16) dX0_count_4 kB_16 ?_
  refine x_iload_n 7 2 dX0_count_6 rfl ?_
  refine x_imul 8 (v := nI (16 * g)) dX0_count_7 (pk_mul _ _) ?_
  refine x_aload_n 9 0 dX0_count_8 rfl ?_
  refine get_X0 12 0 0 (v := .int (nI n)) rfl (by decide) q31 rfl dX0_count_9 ?_
  refine n_icmp_ge 15 34 dX0_count_12 (by decide) (by omega) (by omega) (fun h_12 => ?_) (fun h_12 => ?_)
  ·
    refine x_iload_n 35 1 dX0_count_34 rfl ?_
    exact ret 35 _ _ _ dX0_count_35 rfl ⟨rfl, by rw [hu, ct_ext' (ps_out hRep.2.2.2.1) h_12]⟩
  ·
    refine x_aload_n 16 0 dX0_count_15 rfl ?_
    refine x_iload_n 17 2 dX0_count_16 rfl ?_
    refine call_Vi 20 (av := [.int (nI g)]) (metX0_passMask (cx_l K) a n g (by omega) V AL o l f lo hi s w rg rl rh vc vs hRep) rfl rfl gwX0_passMask nyX0_passMask rfl (by omega) (by decide) (Nat.le_of_ble_eq_true rfl) rfl dX0_count_17 ?_
    intro r_17 w_17 hq_17
    obtain ⟨rfl, hz⟩ := hq_17
    refine x_istore_n 21 (lv' := [(3, .int r_17), (0, .ref (a 0)), (1, .int (nI u)), (2, .int (nI g))]) dX0_count_20 (by decide) rfl ?_
    refine x_iload_n 22 2 dX0_count_21 rfl ?_
    refine x_iload_n 23 0 dX0_count_22 rfl ?_
    refine call_Si 26 (av := [.int r_17]) (metX0_ones (cx_l K) a r_17) gwX0_ones nyX0_ones rfl (by omega) (by decide) (Nat.le_of_ble_eq_true rfl) rfl dX0_count_23 ?_
    intro r_23 w_23 hq_23
    subst hq_23
    refine x_iadd 27 (v := nI (u + fb_ct (bt r_17) 16)) dX0_count_26 (nI_add _ _) ?_
    refine x_istore_n 28 (lv' := [(1, .int (nI (u + fb_ct (bt r_17) 16))), (3, .int r_17), (0, .ref (a 0)), (2, .int (nI g))]) dX0_count_27 (by decide) rfl ?_
    refine x_iinc 31 (v := nI (g + 1)) (lv' := [(2, .int (nI (g + 1))), (1, .int (nI (u + fb_ct (bt r_17) 16))), (3, .int r_17), (0, .ref (a 0))]) 3 dX0_count_28 rfl (inc1 _) (by decide) rfl ?_
    refine x_goto 4 dX0_count_31 (by decide) ?_
    refine x_sub (lv' := [(0, .ref (a 0)), (1, .int (nI (u + fb_ct (bt r_17) 16))), (2, .int (nI (g + 1)))]) [3, 1, 0] rfl ?_
    exact ih_g (g + 1) (by omega) (by omega) _ (by rw [hu, grp_ct hz])
theorem metX0_sum (La : Launch) (a : Nat → Nat) (n : Nat) (cv : Int32) (V : Nat → Nat → Int32) (AL : Nat → Bool) (o l f lo hi s w rg rl rh : Nat → Int32) (vc : Int32) (vs : Nat → Int32) (hRep : Rep n V AL o l f lo hi s w) : MetW La yX0_sum cX0_sum 6 (some .long) 5 a [.ref (a 0), .int cv] (wX0 a (nI n) o l f lo hi s w rg rl rh vc vs) (rpL (fun z w' => w' = (wX0 a (nI n) o l f lo hi s w rg rl rh vc vs) ∧ ((∃ k, k < 3 ∧ cv = nI k ∧ z = sml (ps V AL rg rl rh) (V k) n) ∨ (z = 0 ∧ ∀ k, k < 3 → cv ≠ nI k)))) := by
  refine MetW.ofL (by decide) (Nat.le_of_ble_eq_true rfl) (fun K hKl hKd ret => ?_)
  subst hKl
  show CW K a cX0_sum 6 RX0 0 [(0, .ref (a 0)), (1, .int cv)] [] (wX0 a (nI n) o l f lo hi s w rg rl rh vc vs)
  refine x_iload_n 1 1 dX0_sum_0 rfl ?_
  refine call_Si 4 (av := [.int cv]) (metX0_isColumn (cx_l K) a cv) gwX0_isColumn nyX0_isColumn rfl (by omega) (by decide) (Nat.le_of_ble_eq_true rfl) rfl dX0_sum_1 ?_
  intro r_1 w_1 hq_1
  rcases hq_1 with ⟨rfl, k, hk, rfl⟩ | ⟨rfl, hno⟩
  ·
    refine t_if_ne 9 dX0_sum_4 (by decide) (by decide +kernel) ?_
    have hn := hRep.1
    refine x_lconst 10 (v := 0) dX0_sum_9 kL_0 ?_
    refine x_lstore_n 11 (lv' := [(2, .long 0), (0, .ref (a 0)), (1, .int (nI k))]) dX0_sum_10 (by decide) rfl ?_
    refine x_iconst 12 (v := nI 0) dX0_sum_11 kI_0 ?_
    refine x_istore 14 (lv' := [(4, .int (nI 0)), (2, .long 0), (0, .ref (a 0)), (1, .int (nI k))]) dX0_sum_12 (by decide) rfl ?_
    refine x_sub (lv' := [(0, .ref (a 0)), (1, .int (nI k)), (2, .long 0), (4, .int (nI 0))]) [2, 3, 1, 0] rfl ?_
    refine loop_up (P := fun g => ∀ (t : Int64), (t = sml (ps V AL rg rl rh) (V k) (16 * g)) → CW K a cX0_sum 6 RX0 14 [(0, .ref (a 0)), (1, .int (nI k)), (2, .long t), (4, .int (nI g))] [] (wX0 a (nI n) o l f lo hi s w rg rl rh vc vs)) 4 (fun g hi_g ih_g => ?_) 0 (by omega) 0 rfl
    intro t ht
    refine x_bipush 16 (v := nI 16) dX0_sum_14 kB_16 ?_
    refine x_iload 18 3 dX0_sum_16 rfl ?_
    refine x_imul 19 (v := nI (16 * g)) dX0_sum_18 (pk_mul _ _) ?_
    refine x_aload_n 20 0 dX0_sum_19 rfl ?_
    refine get_X0 23 0 0 (v := .int (nI n)) rfl (by decide) q31 rfl dX0_sum_20 ?_
    refine n_icmp_ge 26 57 dX0_sum_23 (by decide) (by omega) (by omega) (fun h_23 => ?_) (fun h_23 => ?_)
    ·
      refine x_lload_n 58 2 dX0_sum_57 rfl ?_
      exact ret 58 _ _ _ dX0_sum_58 ⟨rfl, Or.inl ⟨k, hk, rfl, by rw [ht, sml_ext (ps_out hRep.2.2.2.1) h_23]⟩⟩
    ·
      refine x_aload_n 27 0 dX0_sum_26 rfl ?_
      refine x_iload 29 3 dX0_sum_27 rfl ?_
      refine call_Vi 32 (av := [.int (nI g)]) (metX0_passMask (cx_l K) a n g (by omega) V AL o l f lo hi s w rg rl rh vc vs hRep) rfl rfl gwX0_passMask nyX0_passMask rfl (by omega) (by decide) (Nat.le_of_ble_eq_true rfl) rfl dX0_sum_29 ?_
      intro r_29 w_29 hq_29
      obtain ⟨rfl, hz⟩ := hq_29
      refine x_istore 34 (lv' := [(5, .int r_29), (0, .ref (a 0)), (1, .int (nI k)), (2, .long t), (4, .int (nI g))]) dX0_sum_32 (by decide) rfl ?_
      refine x_iload 36 0 dX0_sum_34 rfl ?_
      refine x_if_eq 39 51 dX0_sum_36 (by decide) (fun h_36 => ?_) (fun h_36 => ?_)
      ·
        refine x_iinc 54 (v := nI (g + 1)) (lv' := [(4, .int (nI (g + 1))), (5, .int r_29), (0, .ref (a 0)), (1, .int (nI k)), (2, .long t)]) 4 dX0_sum_51 rfl (inc1 _) (by decide) rfl ?_
        refine x_goto 14 dX0_sum_54 (by decide) ?_
        refine x_sub (lv' := [(0, .ref (a 0)), (1, .int (nI k)), (2, .long t), (4, .int (nI (g + 1)))]) [2, 3, 4, 0] rfl ?_
        exact ih_g (g + 1) (by omega) (by omega) _ (by rw [ht]; first | rw [grp_sml0 hz h_36] | rw [grp_sml hz])
      ·
        refine x_lload_n 40 3 dX0_sum_39 rfl ?_
        refine x_aload_n 41 1 dX0_sum_40 rfl ?_
        refine x_iload 43 4 dX0_sum_41 rfl ?_
        refine x_iload_n 44 2 dX0_sum_43 rfl ?_
        refine x_iload 46 0 dX0_sum_44 rfl ?_
        refine call_Vl 49 (av := [.int (nI g), .int (nI k), .int r_29]) (metX0_sumOf (cx_l K) a n g k r_29 (by omega) hk V AL o l f lo hi s w rg rl rh vc vs hRep) rfl rfl gwX0_sumOf nyX0_sumOf rfl (by omega) (by decide) (Nat.le_of_ble_eq_true rfl) rfl dX0_sum_46 ?_
        intro r_46 w_46 hq_46
        obtain ⟨rfl, rfl⟩ := hq_46
        refine x_ladd 50 (v := t + (sml (bt r_29) (fun p => V k (16 * g + p)) 16)) dX0_sum_49 rfl ?_
        refine x_lstore_n 51 (lv' := [(2, .long (t + (sml (bt r_29) (fun p => V k (16 * g + p)) 16))), (5, .int r_29), (0, .ref (a 0)), (1, .int (nI k)), (4, .int (nI g))]) dX0_sum_50 (by decide) rfl ?_
        refine x_iinc 54 (v := nI (g + 1)) (lv' := [(4, .int (nI (g + 1))), (2, .long (t + (sml (bt r_29) (fun p => V k (16 * g + p)) 16))), (5, .int r_29), (0, .ref (a 0)), (1, .int (nI k))]) 4 dX0_sum_51 rfl (inc1 _) (by decide) rfl ?_
        refine x_goto 14 dX0_sum_54 (by decide) ?_
        refine x_sub (lv' := [(0, .ref (a 0)), (1, .int (nI k)), (2, .long (t + (sml (bt r_29) (fun p => V k (16 * g + p)) 16))), (4, .int (nI (g + 1)))]) [3, 4, 1, 0] rfl ?_
        exact ih_g (g + 1) (by omega) (by omega) _ (by rw [ht]; first | rw [grp_sml0 hz h_36] | rw [grp_sml hz])
  ·
    refine f_if_ne 7 9 dX0_sum_4 (by decide) (by decide +kernel) ?_
    refine x_lconst 8 (v := 0) dX0_sum_7 kL_0 ?_
    exact ret 8 _ _ _ dX0_sum_8 ⟨rfl, Or.inr ⟨rfl, hno⟩⟩
theorem nle_lt_0 {x : Int32} (h : 0 ≤ x) : ¬ x < 0 := fun z => lt_nle z h
theorem neg_ne {x : Int32} (h : ¬ 0 ≤ x) {j : Nat} (hj : j < 2147483648) : x ≠ nI j := by
  intro e
  subst e
  exact h (nI_pos' hj)
theorem metX0_passing (La : Launch) (a : Nat → Nat) (n : Nat) (pl : Int32) (V : Nat → Nat → Int32) (AL : Nat → Bool) (o l f lo hi s w rg rl rh : Nat → Int32) (vc : Int32) (vs : Nat → Int32) (hRep : Rep n V AL o l f lo hi s w) : MetW La yX0_passing cX0_passing 6 (some .int) 5 a [.ref (a 0), .int pl] (wX0 a (nI n) o l f lo hi s w rg rl rh vc vs) (rpI (fun z w' => w' = (wX0 a (nI n) o l f lo hi s w rg rl rh vc vs) ∧ ((∃ r, r < n ∧ ps V AL rg rl rh r = true ∧ pl = nI (fb_ct (ps V AL rg rl rh) r) ∧ z = nI r) ∨ (z = -1 ∧ ∀ r, r < n → ps V AL rg rl rh r = true → pl ≠ nI (fb_ct (ps V AL rg rl rh) r))))) := by
  refine MetW.ofI (by decide) (Nat.le_of_ble_eq_true rfl) (fun K hKl hKd ret => ?_)
  subst hKl
  show CW K a cX0_passing 6 RX0 0 [(0, .ref (a 0)), (1, .int pl)] [] (wX0 a (nI n) o l f lo hi s w rg rl rh vc vs)
  have hn := hRep.1
  refine x_iload_n 1 1 dX0_passing_0 rfl ?_
  refine x_if_ge 4 6 dX0_passing_1 (by decide) (fun h_1 => ?_) (fun h_1 => ?_)
  ·
    obtain ⟨j, hj, rfl⟩ := nI_of (nle_lt_0 h_1)
    refine x_iload_n 7 1 dX0_passing_6 rfl ?_
    refine x_istore_n 8 (lv' := [(2, .int (nI j)), (0, .ref (a 0)), (1, .int (nI j))]) dX0_passing_7 (by decide) rfl ?_
    refine x_iconst 9 (v := nI 0) dX0_passing_8 kI_0 ?_
    refine x_istore_n 10 (lv' := [(3, .int (nI 0)), (2, .int (nI j)), (0, .ref (a 0)), (1, .int (nI j))]) dX0_passing_9 (by decide) rfl ?_
    refine x_sub (lv' := [(0, .ref (a 0)), (1, .int (nI j)), (2, .int (nI j)), (3, .int (nI 0))]) [2, 3, 1, 0] rfl ?_
    refine loop_up (P := fun g => ∀ (u : Nat), (u + fb_ct (ps V AL rg rl rh) (16 * g) = j) → CW K a cX0_passing 6 RX0 10 [(0, .ref (a 0)), (1, .int (nI j)), (2, .int (nI u)), (3, .int (nI g))] [] (wX0 a (nI n) o l f lo hi s w rg rl rh vc vs)) 4 (fun g hi_g ih_g => ?_) 0 (by omega) j rfl
    intro u hu
    refine x_bipush 12 (v := nI 16) dX0_passing_10 kB_16 ?_
    refine x_iload_n 13 3 dX0_passing_12 rfl ?_
    refine x_imul 14 (v := nI (16 * g)) dX0_passing_13 (pk_mul _ _) ?_
    refine x_aload_n 15 0 dX0_passing_14 rfl ?_
    refine get_X0 18 0 0 (v := .int (nI n)) rfl (by decide) q31 rfl dX0_passing_15 ?_
    refine n_icmp_ge 21 64 dX0_passing_18 (by decide) (by omega) (by omega) (fun h_18 => ?_) (fun h_18 => ?_)
    ·
      refine x_iconst 65 (v := -1) dX0_passing_64 kI_m1 ?_
      exact ret 65 _ _ _ dX0_passing_65 rfl ⟨rfl, Or.inr ⟨rfl, fun r hr hp e => by
        have q1 := (nI_eq (by omega) (Nat.lt_of_le_of_lt (fb_ct_le _ _) (by omega))).mp e
        have q2 := ct_t hp
        have q3 := fb_ct_mono (ps V AL rg rl rh) (show r + 1 ≤ 16 * g by omega)
        omega⟩⟩
    ·
      refine x_aload_n 22 0 dX0_passing_21 rfl ?_
      refine x_iload_n 23 3 dX0_passing_22 rfl ?_
      refine call_Vi 26 (av := [.int (nI g)]) (metX0_passMask (cx_l K) a n g (by omega) V AL o l f lo hi s w rg rl rh vc vs hRep) rfl rfl gwX0_passMask nyX0_passMask rfl (by omega) (by decide) (Nat.le_of_ble_eq_true rfl) rfl dX0_passing_23 ?_
      intro r_23 w_23 hq_23
      obtain ⟨rfl, hz⟩ := hq_23
      refine x_istore 28 (lv' := [(4, .int r_23), (0, .ref (a 0)), (1, .int (nI j)), (2, .int (nI u)), (3, .int (nI g))]) dX0_passing_26 (by decide) rfl ?_
      refine x_iload 30 0 dX0_passing_28 rfl ?_
      refine call_Si 33 (av := [.int r_23]) (metX0_ones (cx_l K) a r_23) gwX0_ones nyX0_ones rfl (by omega) (by decide) (Nat.le_of_ble_eq_true rfl) rfl dX0_passing_30 ?_
      intro r_30 w_30 hq_30
      subst hq_30
      refine x_istore 35 (lv' := [(5, .int (nI (fb_ct (bt r_23) 16))), (4, .int r_23), (0, .ref (a 0)), (1, .int (nI j)), (2, .int (nI u)), (3, .int (nI g))]) dX0_passing_33 (by decide) rfl ?_
      have hle := fb_ct_le (bt r_23) 16
      refine x_iload_n 36 4 dX0_passing_35 rfl ?_
      refine x_iload 38 0 dX0_passing_36 rfl ?_
      refine n_icmp_ge 41 53 dX0_passing_38 (by decide) (by omega) (by omega) (fun h_38 => ?_) (fun h_38 => ?_)
      ·
        refine x_iload_n 54 4 dX0_passing_53 rfl ?_
        refine x_iload 56 0 dX0_passing_54 rfl ?_
        refine x_isub 57 (v := nI (u - (fb_ct (bt r_23) 16))) dX0_passing_56 (pk_sub (by omega)) ?_
        refine x_istore_n 58 (lv' := [(2, .int (nI (u - (fb_ct (bt r_23) 16)))), (5, .int (nI (fb_ct (bt r_23) 16))), (4, .int r_23), (0, .ref (a 0)), (1, .int (nI j)), (3, .int (nI g))]) dX0_passing_57 (by decide) rfl ?_
        refine x_iinc 61 (v := nI (g + 1)) (lv' := [(3, .int (nI (g + 1))), (2, .int (nI (u - (fb_ct (bt r_23) 16)))), (5, .int (nI (fb_ct (bt r_23) 16))), (4, .int r_23), (0, .ref (a 0)), (1, .int (nI j))]) 5 dX0_passing_58 rfl (inc1 _) (by decide) rfl ?_
        refine x_goto 10 dX0_passing_61 (by decide) ?_
        refine x_sub (lv' := [(0, .ref (a 0)), (1, .int (nI j)), (2, .int (nI (u - (fb_ct (bt r_23) 16)))), (3, .int (nI (g + 1)))]) [4, 5, 1, 0] rfl ?_
        exact ih_g (g + 1) (by omega) (by omega) _ (by rw [grp_ct hz]; omega)
      ·
        refine x_bipush 43 (v := nI 16) dX0_passing_41 kB_16 ?_
        refine x_iload_n 44 5 dX0_passing_43 rfl ?_
        refine x_imul 45 (v := nI (16 * g)) dX0_passing_44 (pk_mul _ _) ?_
        refine x_iload 47 1 dX0_passing_45 rfl ?_
        refine x_iload_n 48 4 dX0_passing_47 rfl ?_
        refine call_Si 51 (av := [.int r_23, .int (nI u)]) (metX0_oneAt (cx_l K) a r_23 u h_38) gwX0_oneAt nyX0_oneAt rfl (by omega) (by decide) (Nat.le_of_ble_eq_true rfl) rfl dX0_passing_48 ?_
        intro r_48 w_48 hq_48
        obtain ⟨e, he, rfl, hbe, hce⟩ := hq_48
        refine x_iadd 52 (v := nI (16 * g + e)) dX0_passing_51 (nI_add _ _) ?_
        exact ret 52 _ _ _ dX0_passing_52 rfl ⟨rfl, Or.inl (by
          have hp : ps V AL rg rl rh (16 * g + e) = true := by
            have q := hz e (by omega)
            rw [hbe, decide_eq_true he, Bool.true_and] at q
            exact q.symm
          have hlt : 16 * g + e < n := by
            rcases Nat.lt_or_ge (16 * g + e) n with q | q
            · exact q
            · rw [ps_out hRep.2.2.2.1 _ q] at hp; cases hp
          refine ⟨16 * g + e, hlt, hp, ?_, rfl⟩
          rw [fb_ct_split, fb_ct_cong (p := fun k => ps V AL rg rl rh (16 * g + k)) (q := bt r_23) (fun k hk => by rw [hz k (by omega), decide_eq_true (by omega), Bool.true_and]), hce]
          congr 1
          omega)⟩
  ·
    refine x_iconst 5 (v := -1) dX0_passing_4 kI_m1 ?_
    exact ret 5 _ _ _ dX0_passing_5 rfl ⟨rfl, Or.inr ⟨rfl, fun r _ _ => neg_ne h_1 (Nat.lt_of_le_of_lt (fb_ct_le _ _) (by omega))⟩⟩
theorem metX0_value (La : Launch) (a : Nat → Nat) (n : Nat) (rv cv : Int32) (V : Nat → Nat → Int32) (AL : Nat → Bool) (o l f lo hi s w rg rl rh : Nat → Int32) (vc : Int32) (vs : Nat → Int32) (hRep : Rep n V AL o l f lo hi s w) : MetW La yX0_value cX0_value 3 (some .int) 3 a [.ref (a 0), .int rv, .int cv] (wX0 a (nI n) o l f lo hi s w rg rl rh vc vs) (rpI (fun z w' => w' = (wX0 a (nI n) o l f lo hi s w rg rl rh vc vs) ∧ ((∃ j k, j < n ∧ k < 3 ∧ rv = nI j ∧ cv = nI k ∧ z = V k j) ∨ (z = nI 0 ∧ ((∀ j, j < n → rv ≠ nI j) ∨ ∀ k, k < 3 → cv ≠ nI k))))) := by
  refine MetW.ofI (by decide) (Nat.le_of_ble_eq_true rfl) (fun K hKl hKd ret => ?_)
  subst hKl
  show CW K a cX0_value 3 RX0 0 [(0, .ref (a 0)), (1, .int rv), (2, .int cv)] [] (wX0 a (nI n) o l f lo hi s w rg rl rh vc vs)
  refine x_iload_n 1 1 dX0_value_0 rfl ?_
  refine x_if_lt 4 19 dX0_value_1 (by decide) (fun h_1 => ?_) (fun h_1 => ?_)
  ·
    refine x_iconst 20 (v := nI 0) dX0_value_19 kI_0 ?_
    exact ret 20 _ _ _ dX0_value_20 rfl ⟨rfl, Or.inr ⟨rfl, by first | exact Or.inl (row_out hRep.1 (Or.inl h_1)) | exact Or.inl (row_out hRep.1 (Or.inr h_9)) | exact Or.inr hno⟩⟩
  ·
    refine x_iload_n 5 1 dX0_value_4 rfl ?_
    refine x_aload_n 6 0 dX0_value_5 rfl ?_
    refine get_X0 9 0 0 (v := .int (nI n)) rfl (by decide) q31 rfl dX0_value_6 ?_
    refine x_icmp_ge 12 19 dX0_value_9 (by decide) (fun h_9 => ?_) (fun h_9 => ?_)
    ·
      refine x_iconst 20 (v := nI 0) dX0_value_19 kI_0 ?_
      exact ret 20 _ _ _ dX0_value_20 rfl ⟨rfl, Or.inr ⟨rfl, by first | exact Or.inl (row_out hRep.1 (Or.inl h_1)) | exact Or.inl (row_out hRep.1 (Or.inr h_9)) | exact Or.inr hno⟩⟩
    ·
      obtain ⟨j, hj, rfl⟩ := row_in hRep.1 h_1 h_9
      have hn := hRep.1
      refine x_iload_n 13 2 dX0_value_12 rfl ?_
      refine call_Si 16 (av := [.int cv]) (metX0_isColumn (cx_l K) a cv) gwX0_isColumn nyX0_isColumn rfl (by omega) (by decide) (Nat.le_of_ble_eq_true rfl) rfl dX0_value_13 ?_
      intro r_13 w_13 hq_13
      rcases hq_13 with ⟨rfl, k, hk, rfl⟩ | ⟨rfl, hno⟩
      ·
        refine t_if_ne 21 dX0_value_16 (by decide) (by decide +kernel) ?_
        refine x_aload_n 22 0 dX0_value_21 rfl ?_
        refine x_iload_n 23 1 dX0_value_22 rfl ?_
        refine x_iconst 24 (v := nI 4) dX0_value_23 kI_4 ?_
        refine x_ishr 25 (v := nI (j / 16)) dX0_value_24 (shr4 (by omega)) ?_
        refine x_iload_n 26 2 dX0_value_25 rfl ?_
        refine x_iload_n 27 1 dX0_value_26 rfl ?_
        refine x_bipush 29 (v := nI 15) dX0_value_27 kB_15 ?_
        refine x_iand 30 (v := nI (j % 16)) dX0_value_29 (and15 (by omega)) ?_
        refine call_Vi 33 (av := [.int (nI (j / 16)), .int (nI k), .int (nI (j % 16))]) (metX0_valueIn (cx_l K) a n (j / 16) k (j % 16) (by omega) hk (by omega) V AL o l f lo hi s w rg rl rh vc vs hRep) rfl rfl gwX0_valueIn nyX0_valueIn rfl (by omega) (by decide) (Nat.le_of_ble_eq_true rfl) rfl dX0_value_30 ?_
        intro r_30 w_30 hq_30
        obtain ⟨rfl, rfl⟩ := hq_30
        exact ret 33 _ _ _ dX0_value_33 rfl ⟨rfl, Or.inl ⟨j, k, hj, hk, rfl, rfl, by rw [show 16 * (j / 16) + j % 16 = j by omega]⟩⟩
      ·
        refine f_if_ne 19 21 dX0_value_16 (by decide) (by decide +kernel) ?_
        refine x_iconst 20 (v := nI 0) dX0_value_19 kI_0 ?_
        exact ret 20 _ _ _ dX0_value_20 rfl ⟨rfl, Or.inr ⟨rfl, by first | exact Or.inl (row_out hRep.1 (Or.inl h_1)) | exact Or.inl (row_out hRep.1 (Or.inr h_9)) | exact Or.inr hno⟩⟩
theorem metX0_live (La : Launch) (a : Nat → Nat) (n : Nat) (V : Nat → Nat → Int32) (AL : Nat → Bool) (o l f lo hi s w rg rl rh : Nat → Int32) (vc : Int32) (vs : Nat → Int32) (hRep : Rep n V AL o l f lo hi s w) : MetW La yX0_live cX0_live 3 (some .int) 1 a [.ref (a 0)] (wX0 a (nI n) o l f lo hi s w rg rl rh vc vs) (rpI (fun z w' => w' = (wX0 a (nI n) o l f lo hi s w rg rl rh vc vs) ∧ z = nI (fb_ct AL n))) := by
  refine MetW.ofI (by decide) (Nat.le_of_ble_eq_true rfl) (fun K hKl hKd ret => ?_)
  subst hKl
  show CW K a cX0_live 3 RX0 0 [(0, .ref (a 0))] [] (wX0 a (nI n) o l f lo hi s w rg rl rh vc vs)
  have hn := hRep.1
  refine x_iconst 1 (v := nI 0) dX0_live_0 kI_0 ?_
  refine x_istore_n 2 (lv' := [(1, .int (nI 0)), (0, .ref (a 0))]) dX0_live_1 (by decide) rfl ?_
  refine x_iconst 3 (v := nI 0) dX0_live_2 kI_0 ?_
  refine x_istore_n 4 (lv' := [(2, .int (nI 0)), (1, .int (nI 0)), (0, .ref (a 0))]) dX0_live_3 (by decide) rfl ?_
  refine x_sub (lv' := [(0, .ref (a 0)), (1, .int (nI 0)), (2, .int (nI 0))]) [2, 1, 0] rfl ?_
  refine loop_up (P := fun g => ∀ (u : Nat), (u = fb_ct AL (16 * g)) → CW K a cX0_live 3 RX0 4 [(0, .ref (a 0)), (1, .int (nI u)), (2, .int (nI g))] [] (wX0 a (nI n) o l f lo hi s w rg rl rh vc vs)) 4 (fun g hi_g ih_g => ?_) 0 (by omega) 0 rfl
  intro u hu
  refine x_iload_n 5 2 dX0_live_4 rfl ?_
  refine x_iconst 6 (v := nI 4) dX0_live_5 kI_4 ?_
  refine n_icmp_ge 9 27 dX0_live_6 (by decide) (by omega) (by omega) (fun h_6 => ?_) (fun h_6 => ?_)
  ·
    refine x_iload_n 28 1 dX0_live_27 rfl ?_
    exact ret 28 _ _ _ dX0_live_28 rfl ⟨rfl, by rw [hu, ct_ext' hRep.2.2.2.1 (show n ≤ 16 * g by omega)]⟩
  ·
    refine x_iload_n 10 1 dX0_live_9 rfl ?_
    refine x_aload_n 11 0 dX0_live_10 rfl ?_
    refine get_X0 14 0 2 (v := .ref (a 2)) rfl (by decide) q33 rfl dX0_live_11 ?_
    refine x_iload_n 15 2 dX0_live_14 rfl ?_
    refine iald 16 2 (f := l) rfl (by omega) (by decide) dX0_live_15 ?_
    refine call_Si 19 (av := [.int (l g)]) (metX0_ones (cx_l K) a (l g)) gwX0_ones nyX0_ones rfl (by omega) (by decide) (Nat.le_of_ble_eq_true rfl) rfl dX0_live_16 ?_
    intro r_16 w_16 hq_16
    subst hq_16
    refine x_iadd 20 (v := nI (u + fb_ct (bt (l g)) 16)) dX0_live_19 (nI_add _ _) ?_
    refine x_istore_n 21 (lv' := [(1, .int (nI (u + fb_ct (bt (l g)) 16))), (0, .ref (a 0)), (2, .int (nI g))]) dX0_live_20 (by decide) rfl ?_
    refine x_iinc 24 (v := nI (g + 1)) (lv' := [(2, .int (nI (g + 1))), (1, .int (nI (u + fb_ct (bt (l g)) 16))), (0, .ref (a 0))]) 2 dX0_live_21 rfl (inc1 _) (by decide) rfl ?_
    refine x_goto 4 dX0_live_24 (by decide) ?_
    refine x_sub (lv' := [(0, .ref (a 0)), (1, .int (nI (u + fb_ct (bt (l g)) 16))), (2, .int (nI (g + 1)))]) [2, 1, 0] rfl ?_
    exact ih_g (g + 1) (by omega) (by omega) _ (by rw [hu, grp_ct (fun p hp => hRep.2.2.1 g p (by omega) hp)])
end
section
set_option maxRecDepth 100000
set_option maxHeartbeats 1000000
/-! the extreme: (1, the best) or (0, ..) -/
def bet (gr : Nat) (v b : Int32) : Bool := if gr = 0 then decide (v < b) else decide (b < v)
def exf (gr : Nat) (q : Nat → Bool) (x : Nat → Int32) (st : Nat × Int32) : Nat → Nat × Int32
  | 0 => st
  | k + 1 => if q k then (1, if (exf gr q x st k).1 = 0 ∨ bet gr (x k) (exf gr q x st k).2 = true then x k else (exf gr q x st k).2) else exf gr q x st k
theorem exf_s (gr : Nat) (q : Nat → Bool) (x : Nat → Int32) (st : Nat × Int32) (k : Nat) : exf gr q x st (k + 1) = if q k then (1, if (exf gr q x st k).1 = 0 ∨ bet gr (x k) (exf gr q x st k).2 = true then x k else (exf gr q x st k).2) else exf gr q x st k := rfl
section EX
variable {gr : Nat} {q q' : Nat → Bool} {x x' : Nat → Int32} {st : Nat × Int32} {k sm : Nat} {bs : Int32}
theorem ex_no (h : (sm, bs) = exf gr q x st k) (hq : q k = false) : (sm, bs) = exf gr q x st (k + 1) := by
  rw [exf_s, if_neg (by rw [hq]; decide)]
  exact h
theorem ex_new (h : (sm, bs) = exf gr q x st k) (hq : q k = true) (hb : sm = 0 ∨ bet gr (x k) bs = true) : (1, x k) = exf gr q x st (k + 1) := by
  rw [exf_s, if_pos hq, ← h, if_pos hb]
theorem ex_old (h : (sm, bs) = exf gr q x st k) (hq : q k = true) (h1 : 0 < sm) (hb : bet gr (x k) bs = false) : (1, bs) = exf gr q x st (k + 1) := by
  rw [exf_s, if_pos hq, ← h, if_neg (by rw [hb]; rintro (z | z); exact absurd z (by show ¬ sm = 0; omega); cases z)]
theorem ex_cong (n : Nat) : (∀ k, k < n → q k = q' k) → (∀ k, k < n → q k = true → x k = x' k) → exf gr q x st n = exf gr q' x' st n := by
  induction n with
  | zero => intro _ _; rfl
  | succ n ih =>
    intro h1 h2
    have ih := ih (fun k hk => h1 k (by omega)) (fun k hk => h2 k (by omega))
    cases e : q n with
    | false => rw [exf_s gr q x, exf_s gr q' x', if_neg (by rw [e]; decide), if_neg (by rw [← h1 n (by omega), e]; decide)]; exact ih
    | true => rw [exf_s gr q x, exf_s gr q' x', if_pos e, if_pos (show q' n = true by rw [← h1 n (by omega), e]), ih, h2 n (by omega) e]
theorem ex_split (m n : Nat) : exf gr q x st (m + n) = exf gr (fun k => q (m + k)) (fun k => x (m + k)) (exf gr q x st m) n := by
  induction n with
  | zero => rfl
  | succ n ih => rw [show m + (n + 1) = (m + n) + 1 by omega, exf_s gr q x st (m + n), exf_s gr (fun k => q (m + k)), ih]
theorem ex_zero (n : Nat) : (∀ k, k < n → q k = false) → exf gr q x st n = st := by
  induction n with
  | zero => intro _; rfl
  | succ n ih => intro h; rw [exf_s, if_neg (by rw [h n (by omega)]; decide), ih (fun k hk => h k (by omega))]
theorem ex_ext {n m : Nat} (h : ∀ r, n ≤ r → q r = false) (hm : n ≤ m) : exf gr q x st m = exf gr q x st n := by
  rw [show m = n + (m - n) by omega, ex_split, ex_zero (q := fun k => q (n + k)) (m - n) (fun k _ => h (n + k) (by omega))]
theorem ex_stay (h1 : 0 < sm) (h2 : sm < 2) (n : Nat) : (∀ k, k < n → q k = true → bet gr (x k) bs = false) → exf gr q x (sm, bs) n = (sm, bs) := by
  induction n with
  | zero => intro _; rfl
  | succ n ih =>
    intro h
    have ih := ih (fun k hk => h k (by omega))
    cases e : q n with
    | false => rw [exf_s, if_neg (by rw [e]; decide), ih]
    | true =>
      have z := ex_old (gr := gr) (x := x) (h := ih.symm) e h1 (h n (by omega) e)
      rw [← z, show sm = 1 by omega]
theorem ex_pass {m : Int32} {g : Nat} (hst : (sm, bs) = exf gr q x st (16 * g)) (hz : ∀ p, p < 32 → bt m p = (decide (p < 16) && q (16 * g + p))) : exf gr (bt m) (fun p => x (16 * g + p)) (sm, bs) 16 = exf gr q x st (16 * (g + 1)) := by
  rw [show 16 * (g + 1) = 16 * g + 16 by omega, ex_split, ← hst]
  refine ex_cong 16 (fun k hk => ?_) (fun _ _ _ => rfl)
  rw [hz k (by omega), decide_eq_true hk, Bool.true_and]
theorem ex_skip {g : Nat} (hst : (sm, bs) = exf gr q x st (16 * g)) (h1 : 0 < sm) (h2 : sm < 2) (hgr : gr < 2) (hno : ∀ p, p < 16 → (gr = 1 → x (16 * g + p) ≤ bs) ∧ (gr = 0 → bs ≤ x (16 * g + p))) : exf gr (bt (nI 0)) (fun p => x (16 * g + p)) (sm, bs) 16 = exf gr q x st (16 * (g + 1)) := by
  rw [ex_zero 16 (fun k _ => bt_nI0 k), show 16 * (g + 1) = 16 * g + 16 by omega, ex_split, ← hst]
  refine (ex_stay h1 h2 16 (fun k hk _ => ?_)).symm
  have z := hno k hk
  unfold bet
  by_cases e : gr = 0
  · rw [if_pos e]; exact decide_eq_false (fun q => lt_nle q (z.2 e))
  · rw [if_neg e]; exact decide_eq_false (fun q => lt_nle q (z.1 (by omega)))
theorem bet_lt {v b : Int32} (h : gr = 0) (h2 : v < b) : bet gr v b = true := by unfold bet; rw [if_pos h]; exact decide_eq_true h2
theorem bet_nlt {v b : Int32} (h : gr = 0) (h2 : b ≤ v) : bet gr v b = false := by unfold bet; rw [if_pos h]; exact decide_eq_false (fun z => lt_nle z h2)
theorem bet_gt {v b : Int32} (h : 0 < gr) (h2 : b < v) : bet gr v b = true := by unfold bet; rw [if_neg (by omega)]; exact decide_eq_true h2
theorem bet_ngt {v b : Int32} (h : 0 < gr) (h2 : v ≤ b) : bet gr v b = false := by unfold bet; rw [if_neg (by omega)]; exact decide_eq_false (fun z => lt_nle z h2)
end EX

theorem metX0_extreme (La : Launch) (a : Nat → Nat) (n : Nat) (cv : Int32) (gr : Nat) (hgr : gr < 2) (V : Nat → Nat → Int32) (AL : Nat → Bool) (o l f lo hi s w rg rl rh : Nat → Int32) (vc : Int32) (vs : Nat → Int32) (hRep : Rep n V AL o l f lo hi s w) : MetW La yX0_extreme cX0_extreme 9 (some .int) 5 a [.ref (a 0), .int cv, .int (nI gr)] (wX0 a (nI n) o l f lo hi s w rg rl rh vc vs) (rpI (fun z w' => w' = (wX0 a (nI n) o l f lo hi s w rg rl rh vc vs) ∧ ((∃ k, k < 3 ∧ cv = nI k ∧ z = (exf gr (ps V AL rg rl rh) (V k) (0, nI 0) n).2) ∨ (z = nI 0 ∧ ∀ k, k < 3 → cv ≠ nI k)))) := by
  refine MetW.ofI (by decide) (Nat.le_of_ble_eq_true rfl) (fun K hKl hKd ret => ?_)
  subst hKl
  show CW K a cX0_extreme 9 RX0 0 [(0, .ref (a 0)), (1, .int cv), (2, .int (nI gr))] [] (wX0 a (nI n) o l f lo hi s w rg rl rh vc vs)
  refine x_iload_n 1 1 dX0_extreme_0 rfl ?_
  refine call_Si 4 (av := [.int cv]) (metX0_isColumn (cx_l K) a cv) gwX0_isColumn nyX0_isColumn rfl (by omega) (by decide) (Nat.le_of_ble_eq_true rfl) rfl dX0_extreme_1 ?_
  intro r_1 w_1 hq_1
  rcases hq_1 with ⟨rfl, k, hk, rfl⟩ | ⟨rfl, hno⟩
  ·
    refine t_if_ne 9 dX0_extreme_4 (by decide) (by decide +kernel) ?_
    have hn := hRep.1
    refine x_iconst 10 (v := nI 0) dX0_extreme_9 kI_0 ?_
    refine x_istore_n 11 (lv' := [(3, .int (nI 0)), (0, .ref (a 0)), (1, .int (nI k)), (2, .int (nI gr))]) dX0_extreme_10 (by decide) rfl ?_
    refine x_iconst 12 (v := nI 0) dX0_extreme_11 kI_0 ?_
    refine x_istore 14 (lv' := [(4, .int (nI 0)), (3, .int (nI 0)), (0, .ref (a 0)), (1, .int (nI k)), (2, .int (nI gr))]) dX0_extreme_12 (by decide) rfl ?_
    refine x_iconst 15 (v := nI 0) dX0_extreme_14 kI_0 ?_
    refine x_istore 17 (lv' := [(5, .int (nI 0)), (4, .int (nI 0)), (3, .int (nI 0)), (0, .ref (a 0)), (1, .int (nI k)), (2, .int (nI gr))]) dX0_extreme_15 (by decide) rfl ?_
    refine x_sub (lv' := [(0, .ref (a 0)), (1, .int (nI k)), (2, .int (nI gr)), (3, .int (nI 0)), (4, .int (nI 0)), (5, .int (nI 0))]) [3, 4, 5, 2, 1, 0] rfl ?_
    refine loop_up (P := fun g => ∀ (sm : Nat) (bs : Int32), ((sm, bs) = exf gr (ps V AL rg rl rh) (V k) (0, nI 0) (16 * g)) → (sm < 2) → CW K a cX0_extreme 9 RX0 17 [(0, .ref (a 0)), (1, .int (nI k)), (2, .int (nI gr)), (3, .int (nI sm)), (4, .int bs), (5, .int (nI g))] [] (wX0 a (nI n) o l f lo hi s w rg rl rh vc vs)) 4 (fun g hi_g ih_g => ?_) 0 (by omega) 0 (nI 0) rfl (by decide)
    intro sm bs hst hsm
    refine x_bipush 19 (v := nI 16) dX0_extreme_17 kB_16 ?_
    refine x_iload 21 5 dX0_extreme_19 rfl ?_
    refine x_imul 22 (v := nI (16 * g)) dX0_extreme_21 (pk_mul _ _) ?_
    refine x_aload_n 23 0 dX0_extreme_22 rfl ?_
    refine get_X0 26 0 0 (v := .int (nI n)) rfl (by decide) q31 rfl dX0_extreme_23 ?_
    refine n_icmp_ge 29 134 dX0_extreme_26 (by decide) (by omega) (by omega) (fun h_26 => ?_) (fun h_26 => ?_)
    ·
      refine x_iload 136 4 dX0_extreme_134 rfl ?_
      exact ret 136 _ _ _ dX0_extreme_136 rfl ⟨rfl, Or.inl ⟨k, hk, rfl, by rw [← ex_ext (ps_out hRep.2.2.2.1) h_26, ← hst]⟩⟩
    ·
      have hj_53 : ∀ (m : Int32), (exf gr (bt m) (fun p => V k (16 * g + p)) (sm, bs) 16 = exf gr (ps V AL rg rl rh) (V k) (0, nI 0) (16 * (g + 1))) → CW K a cX0_extreme 9 RX0 53 [(0, .ref (a 0)), (1, .int (nI k)), (2, .int (nI gr)), (3, .int (nI sm)), (4, .int bs), (5, .int (nI g))] [.int m] (wX0 a (nI n) o l f lo hi s w rg rl rh vc vs) := by
        intro m hm
        refine x_istore 55 (lv' := [(6, .int m), (0, .ref (a 0)), (1, .int (nI k)), (2, .int (nI gr)), (3, .int (nI sm)), (4, .int bs), (5, .int (nI g))]) dX0_extreme_53 (by decide) rfl ?_
        refine x_iconst 56 (v := nI 0) dX0_extreme_55 kI_0 ?_
        refine x_istore 58 (lv' := [(7, .int (nI 0)), (6, .int m), (0, .ref (a 0)), (1, .int (nI k)), (2, .int (nI gr)), (3, .int (nI sm)), (4, .int bs), (5, .int (nI g))]) dX0_extreme_56 (by decide) rfl ?_
        refine x_sub (lv' := [(0, .ref (a 0)), (1, .int (nI k)), (2, .int (nI gr)), (3, .int (nI sm)), (4, .int bs), (5, .int (nI g)), (6, .int m), (7, .int (nI 0))]) [2, 3, 4, 5, 6, 7, 1, 0] rfl ?_
        refine loop_up (P := fun p => ∀ (sm2 : Nat) (bs2 : Int32), ((sm2, bs2) = exf gr (bt m) (fun p => V k (16 * g + p)) (sm, bs) p) → (sm2 < 2) → CW K a cX0_extreme 9 RX0 58 [(0, .ref (a 0)), (1, .int (nI k)), (2, .int (nI gr)), (3, .int (nI sm2)), (4, .int bs2), (5, .int (nI g)), (6, .int m), (7, .int (nI p))] [] (wX0 a (nI n) o l f lo hi s w rg rl rh vc vs)) 16 (fun p hi_p ih_p => ?_) 0 (by omega) sm bs rfl hsm
        intro sm2 bs2 hst2 hsm2
        refine x_iload 60 7 dX0_extreme_58 rfl ?_
        refine x_bipush 62 (v := nI 16) dX0_extreme_60 kB_16 ?_
        refine n_icmp_ge 65 128 dX0_extreme_62 (by decide) (by omega) (by omega) (fun h_62 => ?_) (fun h_62 => ?_)
        ·
          refine x_iinc 131 (v := nI (g + 1)) (lv' := [(5, .int (nI (g + 1))), (0, .ref (a 0)), (1, .int (nI k)), (2, .int (nI gr)), (3, .int (nI sm2)), (4, .int bs2), (6, .int m), (7, .int (nI p))]) 5 dX0_extreme_128 rfl (inc1 _) (by decide) rfl ?_
          refine x_goto 17 dX0_extreme_131 (by decide) ?_
          refine x_sub (lv' := [(0, .ref (a 0)), (1, .int (nI k)), (2, .int (nI gr)), (3, .int (nI sm2)), (4, .int bs2), (5, .int (nI (g + 1)))]) [1, 2, 3, 4, 5, 0] rfl ?_
          exact ih_g (g + 1) (by omega) (by omega) _ _ (by rw [hst2, show p = 16 by omega, hm]) hsm2
        ·
          refine x_iload 67 6 dX0_extreme_65 rfl ?_
          refine x_iload 69 7 dX0_extreme_67 rfl ?_
          refine x_iushr 70 (v := us m p) dX0_extreme_69 rfl ?_
          refine x_iconst 71 (v := nI 1) dX0_extreme_70 kI_1 ?_
          refine x_iand 72 (v := nI (tb m p)) dX0_extreme_71 (us_1 _ (by omega)) ?_
          refine b_if_eq 75 122 dX0_extreme_72 (by decide) (fun h_72 => ?_) (fun h_72 => ?_)
          ·
            refine x_iinc 125 (v := nI (p + 1)) (lv' := [(7, .int (nI (p + 1))), (0, .ref (a 0)), (1, .int (nI k)), (2, .int (nI gr)), (3, .int (nI sm2)), (4, .int bs2), (5, .int (nI g)), (6, .int m)]) 7 dX0_extreme_122 rfl (inc1 _) (by decide) rfl ?_
            refine x_goto 58 dX0_extreme_125 (by decide) ?_
            refine x_sub (lv' := [(0, .ref (a 0)), (1, .int (nI k)), (2, .int (nI gr)), (3, .int (nI sm2)), (4, .int bs2), (5, .int (nI g)), (6, .int m), (7, .int (nI (p + 1)))]) [1, 2, 3, 4, 5, 6, 7, 0] rfl ?_
            exact ih_p (p + 1) (by omega) (by omega) _ _ (by first | exact ex_no hst2 h_72 | exact ex_new (q := bt m) (x := (fun p => V k (16 * g + p))) hst2 h_72 (Or.inl h_87) | exact ex_new (q := bt m) (x := (fun p => V k (16 * g + p))) hst2 h_72 (Or.inr (bet_lt h_91 (nle_lt h_108))) | exact ex_new (q := bt m) (x := (fun p => V k (16 * g + p))) hst2 h_72 (Or.inr (bet_gt h_91 (nle_lt h_98))) | exact ex_old (q := bt m) (x := (fun p => V k (16 * g + p))) hst2 h_72 h_87 (bet_nlt h_91 h_108) | exact ex_old (q := bt m) (x := (fun p => V k (16 * g + p))) hst2 h_72 h_87 (bet_ngt h_91 h_98)) (by first | exact hsm2 | decide)
          ·
            refine x_aload_n 76 0 dX0_extreme_75 rfl ?_
            refine x_iload 78 5 dX0_extreme_76 rfl ?_
            refine x_iload_n 79 1 dX0_extreme_78 rfl ?_
            refine x_iload 81 7 dX0_extreme_79 rfl ?_
            refine call_Vi 84 (av := [.int (nI g), .int (nI k), .int (nI p)]) (metX0_valueIn (cx_l K) a n g k p (by omega) hk (by omega) V AL o l f lo hi s w rg rl rh vc vs hRep) rfl rfl gwX0_valueIn nyX0_valueIn rfl (by omega) (by decide) (Nat.le_of_ble_eq_true rfl) rfl dX0_extreme_81 ?_
            intro r_81 w_81 hq_81
            obtain ⟨rfl, rfl⟩ := hq_81
            refine x_istore 86 (lv' := [(8, .int (V k (16 * g + p))), (0, .ref (a 0)), (1, .int (nI k)), (2, .int (nI gr)), (3, .int (nI sm2)), (4, .int bs2), (5, .int (nI g)), (6, .int m), (7, .int (nI p))]) dX0_extreme_84 (by decide) rfl ?_
            refine x_iload_n 87 4 dX0_extreme_86 rfl ?_
            refine n_if_eq 90 111 dX0_extreme_87 (by decide) (by omega) (fun h_87 => ?_) (fun h_87 => ?_)
            ·
              refine x_iload 113 0 dX0_extreme_111 rfl ?_
              refine x_goto 118 dX0_extreme_113 (by decide) ?_
              refine x_istore 120 (lv' := [(4, .int (V k (16 * g + p))), (8, .int (V k (16 * g + p))), (0, .ref (a 0)), (1, .int (nI k)), (2, .int (nI gr)), (3, .int (nI sm2)), (5, .int (nI g)), (6, .int m), (7, .int (nI p))]) dX0_extreme_118 (by decide) rfl ?_
              refine x_iconst 121 (v := nI 1) dX0_extreme_120 kI_1 ?_
              refine x_istore_n 122 (lv' := [(3, .int (nI 1)), (4, .int (V k (16 * g + p))), (8, .int (V k (16 * g + p))), (0, .ref (a 0)), (1, .int (nI k)), (2, .int (nI gr)), (5, .int (nI g)), (6, .int m), (7, .int (nI p))]) dX0_extreme_121 (by decide) rfl ?_
              refine x_iinc 125 (v := nI (p + 1)) (lv' := [(7, .int (nI (p + 1))), (3, .int (nI 1)), (4, .int (V k (16 * g + p))), (8, .int (V k (16 * g + p))), (0, .ref (a 0)), (1, .int (nI k)), (2, .int (nI gr)), (5, .int (nI g)), (6, .int m)]) 8 dX0_extreme_122 rfl (inc1 _) (by decide) rfl ?_
              refine x_goto 58 dX0_extreme_125 (by decide) ?_
              refine x_sub (lv' := [(0, .ref (a 0)), (1, .int (nI k)), (2, .int (nI gr)), (3, .int (nI 1)), (4, .int (V k (16 * g + p))), (5, .int (nI g)), (6, .int m), (7, .int (nI (p + 1)))]) [4, 5, 6, 1, 2, 7, 8, 0] rfl ?_
              exact ih_p (p + 1) (by omega) (by omega) _ _ (by first | exact ex_no hst2 h_72 | exact ex_new (q := bt m) (x := (fun p => V k (16 * g + p))) hst2 h_72 (Or.inl h_87) | exact ex_new (q := bt m) (x := (fun p => V k (16 * g + p))) hst2 h_72 (Or.inr (bet_lt h_91 (nle_lt h_108))) | exact ex_new (q := bt m) (x := (fun p => V k (16 * g + p))) hst2 h_72 (Or.inr (bet_gt h_91 (nle_lt h_98))) | exact ex_old (q := bt m) (x := (fun p => V k (16 * g + p))) hst2 h_72 h_87 (bet_nlt h_91 h_108) | exact ex_old (q := bt m) (x := (fun p => V k (16 * g + p))) hst2 h_72 h_87 (bet_ngt h_91 h_98)) (by first | exact hsm2 | decide)
            ·
              refine x_iload_n 91 3 dX0_extreme_90 rfl ?_
              refine n_if_eq 94 104 dX0_extreme_91 (by decide) (by omega) (fun h_91 => ?_) (fun h_91 => ?_)
              ·
                refine x_iload 106 0 dX0_extreme_104 rfl ?_
                refine x_iload 108 5 dX0_extreme_106 rfl ?_
                refine x_icmp_ge 111 116 dX0_extreme_108 (by decide) (fun h_108 => ?_) (fun h_108 => ?_)
                ·
                  refine x_iload 118 5 dX0_extreme_116 rfl ?_
                  refine x_istore 120 (lv' := [(4, .int bs2), (8, .int (V k (16 * g + p))), (0, .ref (a 0)), (1, .int (nI k)), (2, .int (nI gr)), (3, .int (nI sm2)), (5, .int (nI g)), (6, .int m), (7, .int (nI p))]) dX0_extreme_118 (by decide) rfl ?_
                  refine x_iconst 121 (v := nI 1) dX0_extreme_120 kI_1 ?_
                  refine x_istore_n 122 (lv' := [(3, .int (nI 1)), (4, .int bs2), (8, .int (V k (16 * g + p))), (0, .ref (a 0)), (1, .int (nI k)), (2, .int (nI gr)), (5, .int (nI g)), (6, .int m), (7, .int (nI p))]) dX0_extreme_121 (by decide) rfl ?_
                  refine x_iinc 125 (v := nI (p + 1)) (lv' := [(7, .int (nI (p + 1))), (3, .int (nI 1)), (4, .int bs2), (8, .int (V k (16 * g + p))), (0, .ref (a 0)), (1, .int (nI k)), (2, .int (nI gr)), (5, .int (nI g)), (6, .int m)]) 8 dX0_extreme_122 rfl (inc1 _) (by decide) rfl ?_
                  refine x_goto 58 dX0_extreme_125 (by decide) ?_
                  refine x_sub (lv' := [(0, .ref (a 0)), (1, .int (nI k)), (2, .int (nI gr)), (3, .int (nI 1)), (4, .int bs2), (5, .int (nI g)), (6, .int m), (7, .int (nI (p + 1)))]) [4, 5, 6, 1, 2, 7, 8, 0] rfl ?_
                  exact ih_p (p + 1) (by omega) (by omega) _ _ (by first | exact ex_no hst2 h_72 | exact ex_new (q := bt m) (x := (fun p => V k (16 * g + p))) hst2 h_72 (Or.inl h_87) | exact ex_new (q := bt m) (x := (fun p => V k (16 * g + p))) hst2 h_72 (Or.inr (bet_lt h_91 (nle_lt h_108))) | exact ex_new (q := bt m) (x := (fun p => V k (16 * g + p))) hst2 h_72 (Or.inr (bet_gt h_91 (nle_lt h_98))) | exact ex_old (q := bt m) (x := (fun p => V k (16 * g + p))) hst2 h_72 h_87 (bet_nlt h_91 h_108) | exact ex_old (q := bt m) (x := (fun p => V k (16 * g + p))) hst2 h_72 h_87 (bet_ngt h_91 h_98)) (by first | exact hsm2 | decide)
                ·
                  refine x_iload 113 0 dX0_extreme_111 rfl ?_
                  refine x_goto 118 dX0_extreme_113 (by decide) ?_
                  refine x_istore 120 (lv' := [(4, .int (V k (16 * g + p))), (8, .int (V k (16 * g + p))), (0, .ref (a 0)), (1, .int (nI k)), (2, .int (nI gr)), (3, .int (nI sm2)), (5, .int (nI g)), (6, .int m), (7, .int (nI p))]) dX0_extreme_118 (by decide) rfl ?_
                  refine x_iconst 121 (v := nI 1) dX0_extreme_120 kI_1 ?_
                  refine x_istore_n 122 (lv' := [(3, .int (nI 1)), (4, .int (V k (16 * g + p))), (8, .int (V k (16 * g + p))), (0, .ref (a 0)), (1, .int (nI k)), (2, .int (nI gr)), (5, .int (nI g)), (6, .int m), (7, .int (nI p))]) dX0_extreme_121 (by decide) rfl ?_
                  refine x_iinc 125 (v := nI (p + 1)) (lv' := [(7, .int (nI (p + 1))), (3, .int (nI 1)), (4, .int (V k (16 * g + p))), (8, .int (V k (16 * g + p))), (0, .ref (a 0)), (1, .int (nI k)), (2, .int (nI gr)), (5, .int (nI g)), (6, .int m)]) 8 dX0_extreme_122 rfl (inc1 _) (by decide) rfl ?_
                  refine x_goto 58 dX0_extreme_125 (by decide) ?_
                  refine x_sub (lv' := [(0, .ref (a 0)), (1, .int (nI k)), (2, .int (nI gr)), (3, .int (nI 1)), (4, .int (V k (16 * g + p))), (5, .int (nI g)), (6, .int m), (7, .int (nI (p + 1)))]) [4, 5, 6, 1, 2, 7, 8, 0] rfl ?_
                  exact ih_p (p + 1) (by omega) (by omega) _ _ (by first | exact ex_no hst2 h_72 | exact ex_new (q := bt m) (x := (fun p => V k (16 * g + p))) hst2 h_72 (Or.inl h_87) | exact ex_new (q := bt m) (x := (fun p => V k (16 * g + p))) hst2 h_72 (Or.inr (bet_lt h_91 (nle_lt h_108))) | exact ex_new (q := bt m) (x := (fun p => V k (16 * g + p))) hst2 h_72 (Or.inr (bet_gt h_91 (nle_lt h_98))) | exact ex_old (q := bt m) (x := (fun p => V k (16 * g + p))) hst2 h_72 h_87 (bet_nlt h_91 h_108) | exact ex_old (q := bt m) (x := (fun p => V k (16 * g + p))) hst2 h_72 h_87 (bet_ngt h_91 h_98)) (by first | exact hsm2 | decide)
              ·
                refine x_iload 96 0 dX0_extreme_94 rfl ?_
                refine x_iload 98 5 dX0_extreme_96 rfl ?_
                refine x_icmp_le 101 116 dX0_extreme_98 (by decide) (fun h_98 => ?_) (fun h_98 => ?_)
                ·
                  refine x_iload 118 5 dX0_extreme_116 rfl ?_
                  refine x_istore 120 (lv' := [(4, .int bs2), (8, .int (V k (16 * g + p))), (0, .ref (a 0)), (1, .int (nI k)), (2, .int (nI gr)), (3, .int (nI sm2)), (5, .int (nI g)), (6, .int m), (7, .int (nI p))]) dX0_extreme_118 (by decide) rfl ?_
                  refine x_iconst 121 (v := nI 1) dX0_extreme_120 kI_1 ?_
                  refine x_istore_n 122 (lv' := [(3, .int (nI 1)), (4, .int bs2), (8, .int (V k (16 * g + p))), (0, .ref (a 0)), (1, .int (nI k)), (2, .int (nI gr)), (5, .int (nI g)), (6, .int m), (7, .int (nI p))]) dX0_extreme_121 (by decide) rfl ?_
                  refine x_iinc 125 (v := nI (p + 1)) (lv' := [(7, .int (nI (p + 1))), (3, .int (nI 1)), (4, .int bs2), (8, .int (V k (16 * g + p))), (0, .ref (a 0)), (1, .int (nI k)), (2, .int (nI gr)), (5, .int (nI g)), (6, .int m)]) 8 dX0_extreme_122 rfl (inc1 _) (by decide) rfl ?_
                  refine x_goto 58 dX0_extreme_125 (by decide) ?_
                  refine x_sub (lv' := [(0, .ref (a 0)), (1, .int (nI k)), (2, .int (nI gr)), (3, .int (nI 1)), (4, .int bs2), (5, .int (nI g)), (6, .int m), (7, .int (nI (p + 1)))]) [4, 5, 6, 1, 2, 7, 8, 0] rfl ?_
                  exact ih_p (p + 1) (by omega) (by omega) _ _ (by first | exact ex_no hst2 h_72 | exact ex_new (q := bt m) (x := (fun p => V k (16 * g + p))) hst2 h_72 (Or.inl h_87) | exact ex_new (q := bt m) (x := (fun p => V k (16 * g + p))) hst2 h_72 (Or.inr (bet_lt h_91 (nle_lt h_108))) | exact ex_new (q := bt m) (x := (fun p => V k (16 * g + p))) hst2 h_72 (Or.inr (bet_gt h_91 (nle_lt h_98))) | exact ex_old (q := bt m) (x := (fun p => V k (16 * g + p))) hst2 h_72 h_87 (bet_nlt h_91 h_108) | exact ex_old (q := bt m) (x := (fun p => V k (16 * g + p))) hst2 h_72 h_87 (bet_ngt h_91 h_98)) (by first | exact hsm2 | decide)
                ·
                  refine x_goto 111 dX0_extreme_101 (by decide) ?_
                  refine x_iload 113 0 dX0_extreme_111 rfl ?_
                  refine x_goto 118 dX0_extreme_113 (by decide) ?_
                  refine x_istore 120 (lv' := [(4, .int (V k (16 * g + p))), (8, .int (V k (16 * g + p))), (0, .ref (a 0)), (1, .int (nI k)), (2, .int (nI gr)), (3, .int (nI sm2)), (5, .int (nI g)), (6, .int m), (7, .int (nI p))]) dX0_extreme_118 (by decide) rfl ?_
                  refine x_iconst 121 (v := nI 1) dX0_extreme_120 kI_1 ?_
                  refine x_istore_n 122 (lv' := [(3, .int (nI 1)), (4, .int (V k (16 * g + p))), (8, .int (V k (16 * g + p))), (0, .ref (a 0)), (1, .int (nI k)), (2, .int (nI gr)), (5, .int (nI g)), (6, .int m), (7, .int (nI p))]) dX0_extreme_121 (by decide) rfl ?_
                  refine x_iinc 125 (v := nI (p + 1)) (lv' := [(7, .int (nI (p + 1))), (3, .int (nI 1)), (4, .int (V k (16 * g + p))), (8, .int (V k (16 * g + p))), (0, .ref (a 0)), (1, .int (nI k)), (2, .int (nI gr)), (5, .int (nI g)), (6, .int m)]) 8 dX0_extreme_122 rfl (inc1 _) (by decide) rfl ?_
                  refine x_goto 58 dX0_extreme_125 (by decide) ?_
                  refine x_sub (lv' := [(0, .ref (a 0)), (1, .int (nI k)), (2, .int (nI gr)), (3, .int (nI 1)), (4, .int (V k (16 * g + p))), (5, .int (nI g)), (6, .int m), (7, .int (nI (p + 1)))]) [4, 5, 6, 1, 2, 7, 8, 0] rfl ?_
                  exact ih_p (p + 1) (by omega) (by omega) _ _ (by first | exact ex_no hst2 h_72 | exact ex_new (q := bt m) (x := (fun p => V k (16 * g + p))) hst2 h_72 (Or.inl h_87) | exact ex_new (q := bt m) (x := (fun p => V k (16 * g + p))) hst2 h_72 (Or.inr (bet_lt h_91 (nle_lt h_108))) | exact ex_new (q := bt m) (x := (fun p => V k (16 * g + p))) hst2 h_72 (Or.inr (bet_gt h_91 (nle_lt h_98))) | exact ex_old (q := bt m) (x := (fun p => V k (16 * g + p))) hst2 h_72 h_87 (bet_nlt h_91 h_108) | exact ex_old (q := bt m) (x := (fun p => V k (16 * g + p))) hst2 h_72 h_87 (bet_ngt h_91 h_98)) (by first | exact hsm2 | decide)
      refine x_aload_n 30 0 dX0_extreme_29 rfl ?_
      refine x_iload 32 5 dX0_extreme_30 rfl ?_
      refine x_iload_n 33 1 dX0_extreme_32 rfl ?_
      refine x_iload_n 34 2 dX0_extreme_33 rfl ?_
      refine x_iload_n 35 3 dX0_extreme_34 rfl ?_
      refine x_iload 37 4 dX0_extreme_35 rfl ?_
      refine call_Vi 40 (av := [.int (nI g), .int (nI k), .int (nI gr), .int (nI sm), .int bs]) (metX0_mayBeat (cx_l K) a n g k gr sm bs (by omega) hk hgr hsm V AL o l f lo hi s w rg rl rh vc vs hRep) rfl rfl gwX0_mayBeat nyX0_mayBeat rfl (by omega) (by decide) (Nat.le_of_ble_eq_true rfl) rfl dX0_extreme_37 ?_
      intro r_37 w_37 hq_37
      obtain ⟨rfl, hq_37⟩ := hq_37
      rcases hq_37 with rfl | ⟨rfl, hs1, hno⟩
      ·
        refine f_if_eq 43 52 dX0_extreme_40 (by decide) (by decide +kernel) ?_
        refine x_aload_n 44 0 dX0_extreme_43 rfl ?_
        refine x_iload 46 5 dX0_extreme_44 rfl ?_
        refine call_Vi 49 (av := [.int (nI g)]) (metX0_passMask (cx_l K) a n g (by omega) V AL o l f lo hi s w rg rl rh vc vs hRep) rfl rfl gwX0_passMask nyX0_passMask rfl (by omega) (by decide) (Nat.le_of_ble_eq_true rfl) rfl dX0_extreme_46 ?_
        intro r_46 w_46 hq_46
        obtain ⟨rfl, hz⟩ := hq_46
        refine x_goto 53 dX0_extreme_49 (by decide) ?_
        exact hj_53 _ (ex_pass hst hz)
      ·
        refine t_if_eq 52 dX0_extreme_40 (by decide) (by decide +kernel) ?_
        refine x_iconst 53 (v := nI 0) dX0_extreme_52 kI_0 ?_
        exact hj_53 _ (ex_skip hst hs1 hsm hgr hno)
  ·
    refine f_if_ne 7 9 dX0_extreme_4 (by decide) (by decide +kernel) ?_
    refine x_iconst 8 (v := nI 0) dX0_extreme_7 kI_0 ?_
    exact ret 8 _ _ _ dX0_extreme_8 rfl ⟨rfl, Or.inr ⟨rfl, hno⟩⟩
theorem metX0_range (La : Launch) (a : Nat → Nat) (n : Nat) (cv lw hw : Int32) (o l f lo hi s w rg rl rh : Nat → Int32) (vc : Int32) (vs : Nat → Int32) : MetW La yX0_range cX0_range 4 (some .int) 1 a [.ref (a 0), .int cv, .int lw, .int hw] (wX0 a (nI n) o l f lo hi s w rg rl rh vc vs) (rpI (fun z w' => (∃ k, k < 3 ∧ cv = nI k ∧ z = nI 0 ∧ w' = (wX0 a (nI n) o l f lo hi s w (upd rg k (nI 1)) (upd rl k lw) (upd rh k hw) vc vs)) ∨ (z = -1 ∧ w' = (wX0 a (nI n) o l f lo hi s w rg rl rh vc vs) ∧ ∀ k, k < 3 → cv ≠ nI k))) := by
  refine MetW.ofI (by decide) (Nat.le_of_ble_eq_true rfl) (fun K hKl hKd ret => ?_)
  subst hKl
  show CW K a cX0_range 4 RX0 0 [(0, .ref (a 0)), (1, .int cv), (2, .int lw), (3, .int hw)] [] (wX0 a (nI n) o l f lo hi s w rg rl rh vc vs)
  refine x_iload_n 1 1 dX0_range_0 rfl ?_
  refine call_Si 4 (av := [.int cv]) (metX0_isColumn (cx_l K) a cv) gwX0_isColumn nyX0_isColumn rfl (by omega) (by decide) (Nat.le_of_ble_eq_true rfl) rfl dX0_range_1 ?_
  intro r_1 w_1 hq_1
  rcases hq_1 with ⟨rfl, k, hk, rfl⟩ | ⟨rfl, hno⟩
  ·
    refine t_if_ne 9 dX0_range_4 (by decide) (by decide +kernel) ?_
    refine x_aload_n 10 0 dX0_range_9 rfl ?_
    refine get_X0 13 0 8 (v := .ref (a 8)) rfl (by decide) q39 rfl dX0_range_10 ?_
    refine x_iload_n 14 1 dX0_range_13 rfl ?_
    refine x_iconst 15 (v := nI 1) dX0_range_14 kI_1 ?_
    refine zast 16 8 (w' := (wX0 a (nI n) o l f lo hi s w (upd rg k (nI 1)) rl rh vc vs)) rfl (by omega) (by decide) vz1 rfl dX0_range_15 ?_
    refine x_aload_n 17 0 dX0_range_16 rfl ?_
    refine get_X0 20 0 9 (v := .ref (a 9)) rfl (by decide) q40 rfl dX0_range_17 ?_
    refine x_iload_n 21 1 dX0_range_20 rfl ?_
    refine x_iload_n 22 2 dX0_range_21 rfl ?_
    refine iast 23 9 (w' := (wX0 a (nI n) o l f lo hi s w (upd rg k (nI 1)) (upd rl k lw) rh vc vs)) rfl (by omega) (by decide) rfl dX0_range_22 ?_
    refine x_aload_n 24 0 dX0_range_23 rfl ?_
    refine get_X0 27 0 10 (v := .ref (a 10)) rfl (by decide) q41 rfl dX0_range_24 ?_
    refine x_iload_n 28 1 dX0_range_27 rfl ?_
    refine x_iload_n 29 3 dX0_range_28 rfl ?_
    refine iast 30 10 (w' := (wX0 a (nI n) o l f lo hi s w (upd rg k (nI 1)) (upd rl k lw) (upd rh k hw) vc vs)) rfl (by omega) (by decide) rfl dX0_range_29 ?_
    refine x_iconst 31 (v := nI 0) dX0_range_30 kI_0 ?_
    exact ret 31 _ _ _ dX0_range_31 rfl (Or.inl ⟨k, hk, rfl, rfl, rfl⟩)
  ·
    refine f_if_ne 7 9 dX0_range_4 (by decide) (by decide +kernel) ?_
    refine x_iconst 8 (v := -1) dX0_range_7 kI_m1 ?_
    exact ret 8 _ _ _ dX0_range_8 rfl (Or.inr ⟨rfl, rfl, hno⟩)
theorem metX0_open (La : Launch) (a : Nat → Nat) (n : Nat) (o l f lo hi s w rg rl rh : Nat → Int32) (vc : Int32) (vs : Nat → Int32) : MetW La yX0_open cX0_open 2 none 0 a [.ref (a 0)] (wX0 a (nI n) o l f lo hi s w rg rl rh vc vs) (rpV (fun w' => w' = (wX0 a (nI n) o l f lo hi s w (clr rg 0 3) rl rh vc vs))) := by
  refine MetW.ofV (by decide) (Nat.le_of_ble_eq_true rfl) (fun K hKl hKd ret => ?_)
  subst hKl
  show CW K a cX0_open 2 RX0 0 [(0, .ref (a 0))] [] (wX0 a (nI n) o l f lo hi s w rg rl rh vc vs)
  refine x_iconst 1 (v := nI 0) dX0_open_0 kI_0 ?_
  refine x_istore_n 2 (lv' := [(1, .int (nI 0)), (0, .ref (a 0))]) dX0_open_1 (by decide) rfl ?_
  refine x_sub (lv' := [(0, .ref (a 0)), (1, .int (nI 0))]) [1, 0] rfl ?_
  refine loop_up (P := fun k => ∀ (rg1 : Nat → Int32), (rg1 = clr rg 0 k) → CW K a cX0_open 2 RX0 2 [(0, .ref (a 0)), (1, .int (nI k))] [] (wX0 a (nI n) o l f lo hi s w rg1 rl rh vc vs)) 3 (fun k hi_k ih_k => ?_) 0 (by omega) rg (clr_0 rg 0).symm
  intro rg1 hr
  refine x_iload_n 3 1 dX0_open_2 rfl ?_
  refine x_iconst 4 (v := nI 3) dX0_open_3 kI_3 ?_
  refine n_icmp_ge 7 20 dX0_open_4 (by decide) (by omega) (by omega) (fun h_4 => ?_) (fun h_4 => ?_)
  ·
    exact ret 20 _ _ dX0_open_20 (by rw [hr, show k = 3 by omega])
  ·
    refine x_aload_n 8 0 dX0_open_7 rfl ?_
    refine get_X0 11 0 8 (v := .ref (a 8)) rfl (by decide) q39 rfl dX0_open_8 ?_
    refine x_iload_n 12 1 dX0_open_11 rfl ?_
    refine x_iconst 13 (v := nI 0) dX0_open_12 kI_0 ?_
    refine zast 14 8 (w' := (wX0 a (nI n) o l f lo hi s w (upd rg1 k (nI 0)) rl rh vc vs)) rfl (by omega) (by decide) vz0 rfl dX0_open_13 ?_
    refine x_iinc 17 (v := nI (k + 1)) (lv' := [(1, .int (nI (k + 1))), (0, .ref (a 0))]) 1 dX0_open_14 rfl (inc1 _) (by decide) rfl ?_
    refine x_goto 2 dX0_open_17 (by decide) ?_
    refine x_sub (lv' := [(0, .ref (a 0)), (1, .int (nI (k + 1)))]) [1, 0] rfl ?_
    exact ih_k (k + 1) (by omega) (by omega) _ (by rw [hr]; have z := clr_s rg 0 k; rw [Nat.zero_add] at z; exact z)
theorem strike_rep {n j : Nat} {V : Nat → Nat → Int32} {AL : Nat → Bool} {o l f lo hi s w : Nat → Int32} (h : Rep n V AL o l f lo hi s w) (hj : j < n) : Rep n V (fun r => if r = j then false else AL r) o (upd l (j / 16) (l (j / 16) &&& (shl (nI 1) (j % 16) ^^^ (-1)))) f lo hi s w := by
  obtain ⟨h1, h2, h3, h4, h5⟩ := h
  refine ⟨h1, h2, fun g p hg hp => ?_, fun r hr => ?_, h5⟩
  · by_cases e : g = j / 16
    · subst e
      rw [pk_us, b_and, h3 _ p hg hp, b_xor, bt_s1 (by omega) hp, b_m1 p hp]
      by_cases q : p = j % 16
      · have e2 : 16 * (j / 16) + p = j := by omega
        show _ = (_ && (if 16 * (j / 16) + p = j then false else AL (16 * (j / 16) + p)))
        rw [if_pos e2, decide_eq_true q]
        simp
      · show _ = (_ && (if 16 * (j / 16) + p = j then false else AL (16 * (j / 16) + p)))
        by_cases q2 : p < 16
        · rw [if_neg (by omega), decide_eq_false q]
          simp
        · rw [decide_eq_false q2]; simp
    · rw [pk_un e, h3 g p hg hp]
      show _ = (_ && (if 16 * g + p = j then false else AL (16 * g + p)))
      by_cases q2 : p < 16
      · rw [if_neg (by omega)]
      · rw [decide_eq_false q2]; simp
  · show (if r = j then false else AL r) = false
    split
    · rfl
    · exact h4 r hr
theorem metX0_strike (La : Launch) (a : Nat → Nat) (n : Nat) (rv : Int32) (V : Nat → Nat → Int32) (AL : Nat → Bool) (o l f lo hi s w rg rl rh : Nat → Int32) (vc : Int32) (vs : Nat → Int32) (hRep : Rep n V AL o l f lo hi s w) : MetW La yX0_strike cX0_strike 2 (some .int) 0 a [.ref (a 0), .int rv] (wX0 a (nI n) o l f lo hi s w rg rl rh vc vs) (rpI (fun z w' => (∃ j, j < n ∧ rv = nI j ∧ AL j = true ∧ z = nI 0 ∧ w' = (wX0 a (nI n) o (upd l (j / 16) (l (j / 16) &&& (shl (nI 1) (j % 16) ^^^ (-1)))) f lo hi s w rg rl rh vc vs)) ∨ (z = -1 ∧ w' = (wX0 a (nI n) o l f lo hi s w rg rl rh vc vs) ∧ ∀ j, j < n → rv = nI j → AL j = false))) := by
  refine MetW.ofI (by decide) (Nat.le_of_ble_eq_true rfl) (fun K hKl hKd ret => ?_)
  subst hKl
  show CW K a cX0_strike 2 RX0 0 [(0, .ref (a 0)), (1, .int rv)] [] (wX0 a (nI n) o l f lo hi s w rg rl rh vc vs)
  refine x_iload_n 1 1 dX0_strike_0 rfl ?_
  refine x_if_lt 4 30 dX0_strike_1 (by decide) (fun h_1 => ?_) (fun h_1 => ?_)
  ·
    refine x_iconst 31 (v := -1) dX0_strike_30 kI_m1 ?_
    exact ret 31 _ _ _ dX0_strike_31 rfl (Or.inr ⟨rfl, rfl, by first | exact fun j hj e => absurd e (row_out hRep.1 (Or.inl h_1) j hj) | exact fun j hj e => absurd e (row_out hRep.1 (Or.inr h_9) j hj) | exact (fun j2 hj2 e => by rw [← (nI_eq (by omega) (by omega)).mp e, ← hal]; exact h_27)⟩)
  ·
    refine x_iload_n 5 1 dX0_strike_4 rfl ?_
    refine x_aload_n 6 0 dX0_strike_5 rfl ?_
    refine get_X0 9 0 0 (v := .int (nI n)) rfl (by decide) q31 rfl dX0_strike_6 ?_
    refine x_icmp_ge 12 30 dX0_strike_9 (by decide) (fun h_9 => ?_) (fun h_9 => ?_)
    ·
      refine x_iconst 31 (v := -1) dX0_strike_30 kI_m1 ?_
      exact ret 31 _ _ _ dX0_strike_31 rfl (Or.inr ⟨rfl, rfl, by first | exact fun j hj e => absurd e (row_out hRep.1 (Or.inl h_1) j hj) | exact fun j hj e => absurd e (row_out hRep.1 (Or.inr h_9) j hj) | exact (fun j2 hj2 e => by rw [← (nI_eq (by omega) (by omega)).mp e, ← hal]; exact h_27)⟩)
    ·
      obtain ⟨j, hj, rfl⟩ := row_in hRep.1 h_1 h_9
      have hn := hRep.1
      have hal := hRep.2.2.1 (j / 16) (j % 16) (by omega) (by omega)
      rw [decide_eq_true (by omega), Bool.true_and, show 16 * (j / 16) + j % 16 = j by omega] at hal
      refine x_aload_n 13 0 dX0_strike_12 rfl ?_
      refine get_X0 16 0 2 (v := .ref (a 2)) rfl (by decide) q33 rfl dX0_strike_13 ?_
      refine x_iload_n 17 1 dX0_strike_16 rfl ?_
      refine x_iconst 18 (v := nI 4) dX0_strike_17 kI_4 ?_
      refine x_ishr 19 (v := nI (j / 16)) dX0_strike_18 (shr4 (by omega)) ?_
      refine iald 20 2 (f := l) rfl (by omega) (by decide) dX0_strike_19 ?_
      refine x_iload_n 21 1 dX0_strike_20 rfl ?_
      refine x_bipush 23 (v := nI 15) dX0_strike_21 kB_15 ?_
      refine x_iand 24 (v := nI (j % 16)) dX0_strike_23 (and15 (by omega)) ?_
      refine x_iushr 25 (v := us (l (j / 16)) (j % 16)) dX0_strike_24 rfl ?_
      refine x_iconst 26 (v := nI 1) dX0_strike_25 kI_1 ?_
      refine x_iand 27 (v := nI (tb (l (j / 16)) (j % 16))) dX0_strike_26 (us_1 _ (by omega)) ?_
      refine b_if_ne 30 32 dX0_strike_27 (by decide) (fun h_27 => ?_) (fun h_27 => ?_)
      ·
        refine x_aload_n 33 0 dX0_strike_32 rfl ?_
        refine get_X0 36 0 2 (v := .ref (a 2)) rfl (by decide) q33 rfl dX0_strike_33 ?_
        refine x_iload_n 37 1 dX0_strike_36 rfl ?_
        refine x_iconst 38 (v := nI 4) dX0_strike_37 kI_4 ?_
        refine x_ishr 39 (v := nI (j / 16)) dX0_strike_38 (shr4 (by omega)) ?_
        refine x_dup2 40 dX0_strike_39 rfl rfl ?_
        refine iald 41 2 (f := l) rfl (by omega) (by decide) dX0_strike_40 ?_
        refine x_iconst 42 (v := nI 1) dX0_strike_41 kI_1 ?_
        refine x_iload_n 43 1 dX0_strike_42 rfl ?_
        refine x_bipush 45 (v := nI 15) dX0_strike_43 kB_15 ?_
        refine x_iand 46 (v := nI (j % 16)) dX0_strike_45 (and15 (by omega)) ?_
        refine x_ishl 47 (v := shl (nI 1) (j % 16)) dX0_strike_46 rfl ?_
        refine x_iconst 48 (v := -1) dX0_strike_47 kI_m1 ?_
        refine x_ixor 49 (v := (shl (nI 1) (j % 16)) ^^^ (-1)) dX0_strike_48 rfl ?_
        refine x_iand 50 (v := (l (j / 16)) &&& ((shl (nI 1) (j % 16)) ^^^ (-1))) dX0_strike_49 rfl ?_
        refine iast 51 2 (w' := (wX0 a (nI n) o (upd l (j / 16) ((l (j / 16)) &&& ((shl (nI 1) (j % 16)) ^^^ (-1)))) f lo hi s w rg rl rh vc vs)) rfl (by omega) (by decide) rfl dX0_strike_50 ?_
        refine x_iconst 52 (v := nI 0) dX0_strike_51 kI_0 ?_
        exact ret 52 _ _ _ dX0_strike_52 rfl (Or.inl ⟨j, hj, rfl, by rw [← hal]; exact h_27, rfl, rfl⟩)
      ·
        refine x_iconst 31 (v := -1) dX0_strike_30 kI_m1 ?_
        exact ret 31 _ _ _ dX0_strike_31 rfl (Or.inr ⟨rfl, rfl, by first | exact fun j hj e => absurd e (row_out hRep.1 (Or.inl h_1) j hj) | exact fun j hj e => absurd e (row_out hRep.1 (Or.inr h_9) j hj) | exact (fun j2 hj2 e => by rw [← (nI_eq (by omega) (by omega)).mp e, ← hal]; exact h_27)⟩)
end
section
set_option maxRecDepth 100000
set_option maxHeartbeats 1000000
/-! the ascending row of different values -/
def Asc (vs : Nat → Int32) (m : Nat) : Prop := ∀ i j, i < j → j < m → vs i < vs j
def AddOk (cnt : Nat) (vs : Nat → Int32) (v : Int32) (cnt' : Nat) (vs' : Nat → Int32) : Prop :=
  Asc vs' cnt' ∧ (∀ x, (∃ j, j < cnt' ∧ vs' j = x) ↔ (x = v ∨ ∃ j, j < cnt ∧ vs j = x)) ∧ ((cnt' = cnt ∧ ∃ j, j < cnt ∧ vs j = v) ∨ (cnt' = cnt + 1 ∧ ¬ ∃ j, j < cnt ∧ vs j = v))
def sh (vs : Nat → Int32) (kk cnt : Nat) : Nat → Int32 := fun j => if kk < j ∧ j ≤ cnt then vs (j - 1) else vs j
theorem sh_0 (vs : Nat → Int32) (cnt : Nat) : sh vs cnt cnt = vs := funext fun j => if_neg (by omega)
theorem sh_s (vs : Nat → Int32) {kk cnt : Nat} (h0 : 0 < kk) (h : kk ≤ cnt) : upd (sh vs kk cnt) kk (sh vs kk cnt (kk - 1)) = sh vs (kk - 1) cnt := by
  funext j
  unfold upd sh
  by_cases e : j = kk
  · subst e
    rw [if_pos rfl, if_neg (by omega), if_pos (by omega)]
  · rw [if_neg e]
    by_cases e2 : kk < j ∧ j ≤ cnt
    · rw [if_pos e2, if_pos (by omega)]
    · rw [if_neg e2, if_neg (by omega)]
section AV
variable {vs : Nat → Int32} {cnt mid fr t x y : Nat} {v : Int32}
theorem av_lo (hs : Asc vs cnt) (hm : mid < cnt) (h : vs mid < v) : ∀ j, j < mid + 1 → vs j < v := by
  intro j hj
  rcases Nat.lt_or_ge j mid with q | q
  · exact lt_tr (hs j mid q hm) h
  · rw [show j = mid by omega]; exact h
theorem av_hi (hs : Asc vs cnt) (h : v ≤ vs mid) : ∀ j, mid ≤ j → j < cnt → v ≤ vs j := by
  intro j hj hc
  rcases Nat.lt_or_ge mid j with q | q
  · exact lt_le (le_lt_tr h (hs mid j q hc))
  · rw [show j = mid by omega]; exact h
theorem av_half (h : x ≤ 63 / 2 ^ t) (hy : y ≤ x / 2) : y ≤ 63 / 2 ^ (t + 1) := by
  rw [Nat.pow_succ, ← Nat.div_div_eq_div_mul]
  omega
theorem av_no1 (h3 : ∀ j, j < fr → vs j < v) (h : cnt ≤ fr) : ¬ ∃ j, j < cnt ∧ vs j = v := by
  rintro ⟨j, hj, e⟩
  exact (fa_of_lt (h3 j (by omega))).2.2.2.1 e
theorem av_no2 (hs : Asc vs cnt) (h3 : ∀ j, j < fr → vs j < v) (h4 : ∀ j, fr ≤ j → j < cnt → v ≤ vs j) (hf : fr < cnt) (h : ¬ vs fr = v) : ¬ ∃ j, j < cnt ∧ vs j = v := by
  rintro ⟨j, hj, e⟩
  rcases Nat.lt_or_ge j fr with q | q
  · exact (fa_of_lt (h3 j q)).2.2.2.1 e
  · rcases Nat.lt_or_ge fr j with q2 | q2
    · exact (fa_of_lt (le_lt_tr (h4 fr (Nat.le_refl _) hf) (hs fr j q2 hj))).2.2.2.2 e
    · rw [show j = fr by omega] at e; exact h e
theorem add_same (hs : Asc vs cnt) (hf : fr < cnt) (h : vs fr = v) : AddOk cnt vs v cnt vs := by
  refine ⟨hs, fun x => ⟨fun z => Or.inr z, ?_⟩, Or.inl ⟨rfl, fr, hf, h⟩⟩
  rintro (z | z)
  · exact ⟨fr, hf, by rw [z]; exact h⟩
  · exact z
theorem add_new (hs : Asc vs cnt) (hf : fr ≤ cnt) (h3 : ∀ j, j < fr → vs j < v) (h4 : ∀ j, fr ≤ j → j < cnt → v ≤ vs j) (hne : ¬ ∃ j, j < cnt ∧ vs j = v) : AddOk cnt vs v (cnt + 1) (upd (sh vs fr cnt) fr v) := by
  have h5 : ∀ j, fr ≤ j → j < cnt → v < vs j := fun j a b => fa_le_ne (h4 j a b) (fun e => hne ⟨j, b, e.symm⟩)
  have e1 : ∀ j, j < fr → upd (sh vs fr cnt) fr v j = vs j := by
    intro j hj
    rw [pk_un (by omega)]
    exact if_neg (by omega)
  have e2 : upd (sh vs fr cnt) fr v fr = v := pk_us
  have e3 : ∀ j, fr < j → j ≤ cnt → upd (sh vs fr cnt) fr v j = vs (j - 1) := by
    intro j hj hc
    rw [pk_un (by omega)]
    exact if_pos ⟨hj, hc⟩
  refine ⟨?_, fun x => ⟨?_, ?_⟩, Or.inr ⟨rfl, hne⟩⟩
  · intro i j hij hj
    rcases Nat.lt_or_ge j fr with q | q
    · rw [e1 i (by omega), e1 j q]; exact hs i j hij (by omega)
    · rcases Nat.lt_or_ge fr j with q2 | q2
      · rw [e3 j q2 (by omega)]
        rcases Nat.lt_or_ge i fr with p | p
        · rw [e1 i p]; exact lt_tr (h3 i p) (h5 (j - 1) (by omega) (by omega))
        · rcases Nat.lt_or_ge fr i with p2 | p2
          · rw [e3 i p2 (by omega)]; exact hs (i - 1) (j - 1) (by omega) (by omega)
          · rw [show i = fr by omega, e2]; exact h5 (j - 1) (by omega) (by omega)
      · rw [show j = fr by omega, e2, e1 i (by omega)]; exact h3 i (by omega)
  · rintro ⟨j, hj, e⟩
    rcases Nat.lt_or_ge j fr with q | q
    · rw [e1 j q] at e; exact Or.inr ⟨j, by omega, e⟩
    · rcases Nat.lt_or_ge fr j with q2 | q2
      · rw [e3 j q2 (by omega)] at e; exact Or.inr ⟨j - 1, by omega, e⟩
      · rw [show j = fr by omega, e2] at e; exact Or.inl e.symm
  · rintro (e | ⟨j, hj, e⟩)
    · exact ⟨fr, by omega, by rw [e2, e]⟩
    · rcases Nat.lt_or_ge j fr with q | q
      · exact ⟨j, by omega, by rw [e1 j q]; exact e⟩
      · exact ⟨j + 1, by omega, by rw [e3 (j + 1) (by omega) (by omega)]; exact e⟩
end AV
/-- among the first rows that q takes one has the value v -/
def sn (q : Nat → Bool) (x : Nat → Int32) (v : Int32) : Nat → Bool
  | 0 => false
  | k + 1 => sn q x v k || (q k && decide (x k = v))
theorem sn_s (q : Nat → Bool) (x : Nat → Int32) (v : Int32) (k : Nat) : sn q x v (k + 1) = (sn q x v k || (q k && decide (x k = v))) := rfl
/-- row r is the first of its value -/
def dn (q : Nat → Bool) (x : Nat → Int32) (r : Nat) : Bool := q r && !sn q x (x r) r
/-- the row of values behind R rows -/
def DI (q : Nat → Bool) (x : Nat → Int32) (R cnt : Nat) (vs : Nat → Int32) : Prop := cnt = fb_ct (dn q x) R ∧ Asc vs cnt ∧ ∀ v, (∃ j, j < cnt ∧ vs j = v) ↔ sn q x v R = true
theorem DI_0 (q : Nat → Bool) (x vs : Nat → Int32) : DI q x 0 0 vs := by
  refine ⟨rfl, fun i j _ h => absurd h (Nat.not_lt_zero j), fun v => ⟨?_, fun h => by cases h⟩⟩
  rintro ⟨j, h, _⟩
  exact absurd h (Nat.not_lt_zero j)
theorem DI_no {q : Nat → Bool} {x : Nat → Int32} {R cnt : Nat} {vs : Nat → Int32} (h : DI q x R cnt vs) (hq : q R = false) : DI q x (R + 1) cnt vs := by
  refine ⟨?_, h.2.1, fun v => ?_⟩
  · rw [ct_f (by unfold dn; rw [hq, Bool.false_and])]; exact h.1
  · rw [sn_s, hq, Bool.false_and, Bool.or_false]; exact h.2.2 v
theorem DI_add {q : Nat → Bool} {x : Nat → Int32} {R cnt cnt' : Nat} {vs vs' : Nat → Int32} (h : DI q x R cnt vs) (hq : q R = true) (ha : AddOk cnt vs (x R) cnt' vs') : DI q x (R + 1) cnt' vs' := by
  refine ⟨?_, ha.1, fun v => ?_⟩
  · rcases ha.2.2 with ⟨e, z⟩ | ⟨e, z⟩
    · rw [ct_f (by unfold dn; rw [hq, (h.2.2 (x R)).mp z]; rfl), e]; exact h.1
    · have z2 : sn q x (x R) R = false := by
        cases e2 : sn q x (x R) R with
        | false => rfl
        | true => exact absurd ((h.2.2 (x R)).mpr e2) z
      rw [ct_t (by unfold dn; rw [hq, z2]; rfl), e, h.1]
  · rw [ha.2.1 v, sn_s, hq, Bool.true_and, Bool.or_eq_true, decide_eq_true_iff, h.2.2 v]
    constructor
    · rintro (z | z)
      · exact Or.inr z.symm
      · exact Or.inl z
    · rintro (z | z)
      · exact Or.inr z
      · exact Or.inl z.symm
theorem DI_cnt {q : Nat → Bool} {x : Nat → Int32} {R cnt : Nat} {vs : Nat → Int32} (h : DI q x R cnt vs) : cnt ≤ R := by rw [h.1]; exact fb_ct_le _ _

theorem metX0_addValue (La : Launch) (a : Nat → Nat) (cnt : Nat) (v : Int32) (hc : cnt ≤ 63) (r : Int32) (o l f lo hi s w rg rl rh : Nat → Int32) (vs : Nat → Int32) (hs : Asc vs cnt) : MetW La yX0_addValue cX0_addValue 6 none 0 a [.ref (a 0), .int v] (wX0 a r o l f lo hi s w rg rl rh (nI cnt) vs) (rpV (fun w' => ∃ cnt' vs', w' = (wX0 a r o l f lo hi s w rg rl rh (nI cnt') vs') ∧ AddOk cnt vs v cnt' vs')) := by
  refine MetW.ofV (by decide) (Nat.le_of_ble_eq_true rfl) (fun K hKl hKd ret => ?_)
  subst hKl
  show CW K a cX0_addValue 6 RX0 0 [(0, .ref (a 0)), (1, .int v)] [] (wX0 a r o l f lo hi s w rg rl rh (nI cnt) vs)
  refine x_iconst 1 (v := nI 0) dX0_addValue_0 kI_0 ?_
  refine x_istore_n 2 (lv' := [(2, .int (nI 0)), (0, .ref (a 0)), (1, .int v)]) dX0_addValue_1 (by decide) rfl ?_
  refine x_aload_n 3 1 dX0_addValue_2 rfl ?_
  refine get_X0 6 0 11 (v := .int (nI cnt)) rfl (by decide) q42 rfl dX0_addValue_3 ?_
  refine x_istore_n 7 (lv' := [(3, .int (nI cnt)), (2, .int (nI 0)), (0, .ref (a 0)), (1, .int v)]) dX0_addValue_6 (by decide) rfl ?_
  refine x_iconst 8 (v := nI 0) dX0_addValue_7 kI_0 ?_
  refine x_istore 10 (lv' := [(4, .int (nI 0)), (3, .int (nI cnt)), (2, .int (nI 0)), (0, .ref (a 0)), (1, .int v)]) dX0_addValue_8 (by decide) rfl ?_
  refine x_sub (lv' := [(0, .ref (a 0)), (1, .int v), (2, .int (nI 0)), (3, .int (nI cnt)), (4, .int (nI 0))]) [3, 4, 2, 1, 0] rfl ?_
  refine loop_up (P := fun t => ∀ (fr : Nat) (to2 : Nat), (fr ≤ to2) → (to2 ≤ cnt) → (∀ j, j < fr → vs j < v) → (∀ j, to2 ≤ j → j < cnt → v ≤ vs j) → (to2 - fr ≤ 63 / 2 ^ t) → CW K a cX0_addValue 6 RX0 10 [(0, .ref (a 0)), (1, .int v), (2, .int (nI fr)), (3, .int (nI to2)), (4, .int (nI t))] [] (wX0 a r o l f lo hi s w rg rl rh (nI cnt) vs)) 7 (fun t hi_t ih_t => ?_) 0 (by omega) 0 cnt (by omega) (by omega) (fun j h => absurd h (Nat.not_lt_zero j)) (fun j a b => absurd b (by omega)) (by show cnt - 0 ≤ 63 / 1; omega)
  intro fr to2 h1 h2 h3 h4 h5
  refine x_iload 12 4 dX0_addValue_10 rfl ?_
  refine x_bipush 14 (v := nI 7) dX0_addValue_12 kB_7 ?_
  refine n_icmp_ge 17 57 dX0_addValue_14 (by decide) (by omega) (by omega) (fun h_14 => ?_) (fun h_14 => ?_)
  ·
    have hft : fr = to2 := by rw [show t = 7 by omega] at h5; omega
    subst hft
    have hj_76 : (¬ ∃ j, j < cnt ∧ vs j = v) → CW K a cX0_addValue 6 RX0 76 [(0, .ref (a 0)), (1, .int v), (2, .int (nI fr))] [] (wX0 a r o l f lo hi s w rg rl rh (nI cnt) vs) := by
      intro hne
      refine x_aload_n 77 0 dX0_addValue_76 rfl ?_
      refine get_X0 80 0 11 (v := .int (nI cnt)) rfl (by decide) q42 rfl dX0_addValue_77 ?_
      refine x_istore 82 (lv' := [(4, .int (nI cnt)), (0, .ref (a 0)), (1, .int v), (2, .int (nI fr))]) dX0_addValue_80 (by decide) rfl ?_
      refine x_sub (lv' := [(0, .ref (a 0)), (1, .int v), (2, .int (nI fr)), (4, .int (nI cnt))]) [1, 2, 3, 0] rfl ?_
      refine loop_down (P := fun kk => ∀ (vs1 : Nat → Int32), (vs1 = sh vs kk cnt) → (fr ≤ kk) → (kk ≤ cnt) → CW K a cX0_addValue 6 RX0 82 [(0, .ref (a 0)), (1, .int v), (2, .int (nI fr)), (4, .int (nI kk))] [] (wX0 a r o l f lo hi s w rg rl rh (nI cnt) vs1)) (fun kk ih_kk => ?_) cnt vs (sh_0 vs cnt).symm (by omega) (Nat.le_refl _)
      intro vs1 hv1 hk1 hk2
      refine x_iload 84 3 dX0_addValue_82 rfl ?_
      refine x_iload_n 85 2 dX0_addValue_84 rfl ?_
      refine n_icmp_le 88 110 dX0_addValue_85 (by decide) (by omega) (by omega) (fun h_85 => ?_) (fun h_85 => ?_)
      ·
        refine x_aload_n 111 0 dX0_addValue_110 rfl ?_
        refine get_X0 114 0 12 (v := .ref (a 12)) rfl (by decide) q43 rfl dX0_addValue_111 ?_
        refine x_iload_n 115 2 dX0_addValue_114 rfl ?_
        refine x_iload_n 116 1 dX0_addValue_115 rfl ?_
        refine iast 117 11 (w' := (wX0 a r o l f lo hi s w rg rl rh (nI cnt) (upd vs1 fr v))) rfl (by omega) (by decide) rfl dX0_addValue_116 ?_
        refine x_aload_n 118 0 dX0_addValue_117 rfl ?_
        refine x_dup 119 dX0_addValue_118 rfl ?_
        refine get_X0 122 0 11 (v := .int (nI cnt)) rfl (by decide) q42 rfl dX0_addValue_119 ?_
        refine x_iconst 123 (v := nI 1) dX0_addValue_122 kI_1 ?_
        refine x_iadd 124 (v := nI (cnt + 1)) dX0_addValue_123 (nI_add _ _) ?_
        refine put_X0 127 (w' := (wX0 a r o l f lo hi s w rg rl rh (nI (cnt + 1)) (upd vs1 fr v))) 0 11 rfl (by decide) q42 rfl (by decide +kernel) (Nat.le_of_ble_eq_true rfl) rfl dX0_addValue_124 ?_
        exact ret 127 _ _ dX0_addValue_127 ⟨cnt + 1, _, rfl, by rw [hv1, show kk = fr by omega]; exact add_new hs h2 h3 h4 hne⟩
      ·
        refine x_aload_n 89 0 dX0_addValue_88 rfl ?_
        refine get_X0 92 0 12 (v := .ref (a 12)) rfl (by decide) q43 rfl dX0_addValue_89 ?_
        refine x_iload 94 3 dX0_addValue_92 rfl ?_
        refine x_aload_n 95 0 dX0_addValue_94 rfl ?_
        refine get_X0 98 0 12 (v := .ref (a 12)) rfl (by decide) q43 rfl dX0_addValue_95 ?_
        refine x_iload 100 3 dX0_addValue_98 rfl ?_
        refine x_iconst 101 (v := nI 1) dX0_addValue_100 kI_1 ?_
        refine x_isub 102 (v := nI (kk - 1)) dX0_addValue_101 (pk_sub (by omega)) ?_
        refine iald 103 11 (f := vs1) rfl (by omega) (by decide) dX0_addValue_102 ?_
        refine iast 104 11 (w' := (wX0 a r o l f lo hi s w rg rl rh (nI cnt) (upd vs1 kk (vs1 (kk - 1))))) rfl (by omega) (by decide) rfl dX0_addValue_103 ?_
        refine x_iinc 107 (v := nI (kk - 1)) (lv' := [(4, .int (nI (kk - 1))), (0, .ref (a 0)), (1, .int v), (2, .int (nI fr))]) 3 dX0_addValue_104 rfl (dec1 (by omega)) (by decide) rfl ?_
        refine x_goto 82 dX0_addValue_107 (by decide) ?_
        refine x_sub (lv' := [(0, .ref (a 0)), (1, .int v), (2, .int (nI fr)), (4, .int (nI (kk - 1)))]) [1, 2, 3, 0] rfl ?_
        exact ih_kk (kk - 1) (by omega) _ (by rw [hv1, sh_s vs (by omega) hk2]) (by omega) (by omega)
    refine x_iload_n 58 2 dX0_addValue_57 rfl ?_
    refine x_aload_n 59 0 dX0_addValue_58 rfl ?_
    refine get_X0 62 0 11 (v := .int (nI cnt)) rfl (by decide) q42 rfl dX0_addValue_59 ?_
    refine n_icmp_ge 65 76 dX0_addValue_62 (by decide) (by omega) (by omega) (fun h_62 => ?_) (fun h_62 => ?_)
    ·
      refine x_sub (lv' := [(0, .ref (a 0)), (1, .int v), (2, .int (nI fr))]) [0, 1, 2] rfl ?_
      exact hj_76  (by first | exact av_no2 hs h3 h4 h_62 h_72 | exact av_no1 h3 h_62)
    ·
      refine x_aload_n 66 0 dX0_addValue_65 rfl ?_
      refine get_X0 69 0 12 (v := .ref (a 12)) rfl (by decide) q43 rfl dX0_addValue_66 ?_
      refine x_iload_n 70 2 dX0_addValue_69 rfl ?_
      refine iald 71 11 (f := vs) rfl (by omega) (by decide) dX0_addValue_70 ?_
      refine x_iload_n 72 1 dX0_addValue_71 rfl ?_
      refine x_icmp_ne 75 76 dX0_addValue_72 (by decide) (fun h_72 => ?_) (fun h_72 => ?_)
      ·
        refine x_sub (lv' := [(0, .ref (a 0)), (1, .int v), (2, .int (nI fr))]) [0, 1, 2] rfl ?_
        exact hj_76  (by first | exact av_no2 hs h3 h4 h_62 h_72 | exact av_no1 h3 h_62)
      ·
        exact ret 75 _ _ dX0_addValue_75 ⟨cnt, vs, rfl, add_same hs h_62 h_72⟩
  ·
    refine x_iload_n 18 2 dX0_addValue_17 rfl ?_
    refine x_iload_n 19 3 dX0_addValue_18 rfl ?_
    refine n_icmp_ge 22 57 dX0_addValue_19 (by decide) (by omega) (by omega) (fun h_19 => ?_) (fun h_19 => ?_)
    ·
      have hft : fr = to2 := by omega
      subst hft
      have hj_76 : (¬ ∃ j, j < cnt ∧ vs j = v) → CW K a cX0_addValue 6 RX0 76 [(0, .ref (a 0)), (1, .int v), (2, .int (nI fr))] [] (wX0 a r o l f lo hi s w rg rl rh (nI cnt) vs) := by
        intro hne
        refine x_aload_n 77 0 dX0_addValue_76 rfl ?_
        refine get_X0 80 0 11 (v := .int (nI cnt)) rfl (by decide) q42 rfl dX0_addValue_77 ?_
        refine x_istore 82 (lv' := [(4, .int (nI cnt)), (0, .ref (a 0)), (1, .int v), (2, .int (nI fr))]) dX0_addValue_80 (by decide) rfl ?_
        refine x_sub (lv' := [(0, .ref (a 0)), (1, .int v), (2, .int (nI fr)), (4, .int (nI cnt))]) [1, 2, 3, 0] rfl ?_
        refine loop_down (P := fun kk => ∀ (vs1 : Nat → Int32), (vs1 = sh vs kk cnt) → (fr ≤ kk) → (kk ≤ cnt) → CW K a cX0_addValue 6 RX0 82 [(0, .ref (a 0)), (1, .int v), (2, .int (nI fr)), (4, .int (nI kk))] [] (wX0 a r o l f lo hi s w rg rl rh (nI cnt) vs1)) (fun kk ih_kk => ?_) cnt vs (sh_0 vs cnt).symm (by omega) (Nat.le_refl _)
        intro vs1 hv1 hk1 hk2
        refine x_iload 84 3 dX0_addValue_82 rfl ?_
        refine x_iload_n 85 2 dX0_addValue_84 rfl ?_
        refine n_icmp_le 88 110 dX0_addValue_85 (by decide) (by omega) (by omega) (fun h_85 => ?_) (fun h_85 => ?_)
        ·
          refine x_aload_n 111 0 dX0_addValue_110 rfl ?_
          refine get_X0 114 0 12 (v := .ref (a 12)) rfl (by decide) q43 rfl dX0_addValue_111 ?_
          refine x_iload_n 115 2 dX0_addValue_114 rfl ?_
          refine x_iload_n 116 1 dX0_addValue_115 rfl ?_
          refine iast 117 11 (w' := (wX0 a r o l f lo hi s w rg rl rh (nI cnt) (upd vs1 fr v))) rfl (by omega) (by decide) rfl dX0_addValue_116 ?_
          refine x_aload_n 118 0 dX0_addValue_117 rfl ?_
          refine x_dup 119 dX0_addValue_118 rfl ?_
          refine get_X0 122 0 11 (v := .int (nI cnt)) rfl (by decide) q42 rfl dX0_addValue_119 ?_
          refine x_iconst 123 (v := nI 1) dX0_addValue_122 kI_1 ?_
          refine x_iadd 124 (v := nI (cnt + 1)) dX0_addValue_123 (nI_add _ _) ?_
          refine put_X0 127 (w' := (wX0 a r o l f lo hi s w rg rl rh (nI (cnt + 1)) (upd vs1 fr v))) 0 11 rfl (by decide) q42 rfl (by decide +kernel) (Nat.le_of_ble_eq_true rfl) rfl dX0_addValue_124 ?_
          exact ret 127 _ _ dX0_addValue_127 ⟨cnt + 1, _, rfl, by rw [hv1, show kk = fr by omega]; exact add_new hs h2 h3 h4 hne⟩
        ·
          refine x_aload_n 89 0 dX0_addValue_88 rfl ?_
          refine get_X0 92 0 12 (v := .ref (a 12)) rfl (by decide) q43 rfl dX0_addValue_89 ?_
          refine x_iload 94 3 dX0_addValue_92 rfl ?_
          refine x_aload_n 95 0 dX0_addValue_94 rfl ?_
          refine get_X0 98 0 12 (v := .ref (a 12)) rfl (by decide) q43 rfl dX0_addValue_95 ?_
          refine x_iload 100 3 dX0_addValue_98 rfl ?_
          refine x_iconst 101 (v := nI 1) dX0_addValue_100 kI_1 ?_
          refine x_isub 102 (v := nI (kk - 1)) dX0_addValue_101 (pk_sub (by omega)) ?_
          refine iald 103 11 (f := vs1) rfl (by omega) (by decide) dX0_addValue_102 ?_
          refine iast 104 11 (w' := (wX0 a r o l f lo hi s w rg rl rh (nI cnt) (upd vs1 kk (vs1 (kk - 1))))) rfl (by omega) (by decide) rfl dX0_addValue_103 ?_
          refine x_iinc 107 (v := nI (kk - 1)) (lv' := [(4, .int (nI (kk - 1))), (0, .ref (a 0)), (1, .int v), (2, .int (nI fr))]) 3 dX0_addValue_104 rfl (dec1 (by omega)) (by decide) rfl ?_
          refine x_goto 82 dX0_addValue_107 (by decide) ?_
          refine x_sub (lv' := [(0, .ref (a 0)), (1, .int v), (2, .int (nI fr)), (4, .int (nI (kk - 1)))]) [1, 2, 3, 0] rfl ?_
          exact ih_kk (kk - 1) (by omega) _ (by rw [hv1, sh_s vs (by omega) hk2]) (by omega) (by omega)
      refine x_iload_n 58 2 dX0_addValue_57 rfl ?_
      refine x_aload_n 59 0 dX0_addValue_58 rfl ?_
      refine get_X0 62 0 11 (v := .int (nI cnt)) rfl (by decide) q42 rfl dX0_addValue_59 ?_
      refine n_icmp_ge 65 76 dX0_addValue_62 (by decide) (by omega) (by omega) (fun h_62 => ?_) (fun h_62 => ?_)
      ·
        refine x_sub (lv' := [(0, .ref (a 0)), (1, .int v), (2, .int (nI fr))]) [0, 1, 2] rfl ?_
        exact hj_76  (by first | exact av_no2 hs h3 h4 h_62 h_72 | exact av_no1 h3 h_62)
      ·
        refine x_aload_n 66 0 dX0_addValue_65 rfl ?_
        refine get_X0 69 0 12 (v := .ref (a 12)) rfl (by decide) q43 rfl dX0_addValue_66 ?_
        refine x_iload_n 70 2 dX0_addValue_69 rfl ?_
        refine iald 71 11 (f := vs) rfl (by omega) (by decide) dX0_addValue_70 ?_
        refine x_iload_n 72 1 dX0_addValue_71 rfl ?_
        refine x_icmp_ne 75 76 dX0_addValue_72 (by decide) (fun h_72 => ?_) (fun h_72 => ?_)
        ·
          refine x_sub (lv' := [(0, .ref (a 0)), (1, .int v), (2, .int (nI fr))]) [0, 1, 2] rfl ?_
          exact hj_76  (by first | exact av_no2 hs h3 h4 h_62 h_72 | exact av_no1 h3 h_62)
        ·
          exact ret 75 _ _ dX0_addValue_75 ⟨cnt, vs, rfl, add_same hs h_62 h_72⟩
    ·
      refine x_iload_n 23 2 dX0_addValue_22 rfl ?_
      refine x_iload_n 24 3 dX0_addValue_23 rfl ?_
      refine x_iadd 25 (v := nI (fr + to2)) dX0_addValue_24 (nI_add _ _) ?_
      refine x_iconst 26 (v := nI 2) dX0_addValue_25 kI_2 ?_
      refine x_idiv 27 (v := nI ((fr + to2) / 2)) dX0_addValue_26 ne2 (div2 (by omega)) ?_
      refine x_istore 29 (lv' := [(5, .int (nI ((fr + to2) / 2))), (0, .ref (a 0)), (1, .int v), (2, .int (nI fr)), (3, .int (nI to2)), (4, .int (nI t))]) dX0_addValue_27 (by decide) rfl ?_
      refine x_aload_n 30 1 dX0_addValue_29 rfl ?_
      refine get_X0 33 0 12 (v := .ref (a 12)) rfl (by decide) q43 rfl dX0_addValue_30 ?_
      refine x_iload 35 0 dX0_addValue_33 rfl ?_
      refine iald 36 11 (f := vs) rfl (by omega) (by decide) dX0_addValue_35 ?_
      refine x_iload_n 37 2 dX0_addValue_36 rfl ?_
      refine x_icmp_ge 40 48 dX0_addValue_37 (by decide) (fun h_37 => ?_) (fun h_37 => ?_)
      ·
        refine x_iload 50 0 dX0_addValue_48 rfl ?_
        refine x_istore_n 51 (lv' := [(3, .int (nI ((fr + to2) / 2))), (5, .int (nI ((fr + to2) / 2))), (0, .ref (a 0)), (1, .int v), (2, .int (nI fr)), (4, .int (nI t))]) dX0_addValue_50 (by decide) rfl ?_
        refine x_iinc 54 (v := nI (t + 1)) (lv' := [(4, .int (nI (t + 1))), (3, .int (nI ((fr + to2) / 2))), (5, .int (nI ((fr + to2) / 2))), (0, .ref (a 0)), (1, .int v), (2, .int (nI fr))]) 5 dX0_addValue_51 rfl (inc1 _) (by decide) rfl ?_
        refine x_goto 10 dX0_addValue_54 (by decide) ?_
        refine x_sub (lv' := [(0, .ref (a 0)), (1, .int v), (2, .int (nI fr)), (3, .int (nI ((fr + to2) / 2))), (4, .int (nI (t + 1)))]) [3, 4, 5, 1, 0] rfl ?_
        exact ih_t (t + 1) (by omega) (by omega) _ _ (by omega) (by omega) (by first | exact h3 | exact av_lo hs (by omega) (nle_lt h_37)) (by first | exact h4 | exact av_hi hs h_37) (av_half h5 (by omega))
      ·
        refine x_iload 42 0 dX0_addValue_40 rfl ?_
        refine x_iconst 43 (v := nI 1) dX0_addValue_42 kI_1 ?_
        refine x_iadd 44 (v := nI ((fr + to2) / 2 + 1)) dX0_addValue_43 (nI_add _ _) ?_
        refine x_istore_n 45 (lv' := [(2, .int (nI ((fr + to2) / 2 + 1))), (5, .int (nI ((fr + to2) / 2))), (0, .ref (a 0)), (1, .int v), (3, .int (nI to2)), (4, .int (nI t))]) dX0_addValue_44 (by decide) rfl ?_
        refine x_goto 51 dX0_addValue_45 (by decide) ?_
        refine x_iinc 54 (v := nI (t + 1)) (lv' := [(4, .int (nI (t + 1))), (2, .int (nI ((fr + to2) / 2 + 1))), (5, .int (nI ((fr + to2) / 2))), (0, .ref (a 0)), (1, .int v), (3, .int (nI to2))]) 5 dX0_addValue_51 rfl (inc1 _) (by decide) rfl ?_
        refine x_goto 10 dX0_addValue_54 (by decide) ?_
        refine x_sub (lv' := [(0, .ref (a 0)), (1, .int v), (2, .int (nI ((fr + to2) / 2 + 1))), (3, .int (nI to2)), (4, .int (nI (t + 1)))]) [3, 4, 1, 5, 0] rfl ?_
        exact ih_t (t + 1) (by omega) (by omega) _ _ (by omega) (by omega) (by first | exact h3 | exact av_lo hs (by omega) (nle_lt h_37)) (by first | exact h4 | exact av_hi hs h_37) (av_half h5 (by omega))
theorem metX0_different (La : Launch) (a : Nat → Nat) (n : Nat) (cv : Int32) (V : Nat → Nat → Int32) (AL : Nat → Bool) (o l f lo hi s w rg rl rh : Nat → Int32) (vc : Int32) (vs : Nat → Int32) (hRep : Rep n V AL o l f lo hi s w) : MetW La yX0_different cX0_different 6 (some .int) 5 a [.ref (a 0), .int cv] (wX0 a (nI n) o l f lo hi s w rg rl rh vc vs) (rpI (fun z w' => (∃ k, k < 3 ∧ cv = nI k ∧ (∃ vc' vs', w' = (wX0 a (nI n) o l f lo hi s w rg rl rh vc' vs')) ∧ z = nI (fb_ct (dn (ps V AL rg rl rh) (V k)) n)) ∨ (z = -1 ∧ w' = (wX0 a (nI n) o l f lo hi s w rg rl rh vc vs) ∧ ∀ k, k < 3 → cv ≠ nI k))) := by
  refine MetW.ofI (by decide) (Nat.le_of_ble_eq_true rfl) (fun K hKl hKd ret => ?_)
  subst hKl
  show CW K a cX0_different 6 RX0 0 [(0, .ref (a 0)), (1, .int cv)] [] (wX0 a (nI n) o l f lo hi s w rg rl rh vc vs)
  refine x_iload_n 1 1 dX0_different_0 rfl ?_
  refine call_Si 4 (av := [.int cv]) (metX0_isColumn (cx_l K) a cv) gwX0_isColumn nyX0_isColumn rfl (by omega) (by decide) (Nat.le_of_ble_eq_true rfl) rfl dX0_different_1 ?_
  intro r_1 w_1 hq_1
  rcases hq_1 with ⟨rfl, k, hk, rfl⟩ | ⟨rfl, hno⟩
  ·
    refine t_if_ne 9 dX0_different_4 (by decide) (by decide +kernel) ?_
    have hn := hRep.1
    refine x_aload_n 10 0 dX0_different_9 rfl ?_
    refine x_iconst 11 (v := nI 0) dX0_different_10 kI_0 ?_
    refine put_X0 14 (w' := (wX0 a (nI n) o l f lo hi s w rg rl rh (nI 0) vs)) 0 11 rfl (by decide) q42 rfl (by decide +kernel) (Nat.le_of_ble_eq_true rfl) rfl dX0_different_11 ?_
    refine x_iconst 15 (v := nI 0) dX0_different_14 kI_0 ?_
    refine x_istore_n 16 (lv' := [(2, .int (nI 0)), (0, .ref (a 0)), (1, .int (nI k))]) dX0_different_15 (by decide) rfl ?_
    refine x_sub (lv' := [(0, .ref (a 0)), (1, .int (nI k)), (2, .int (nI 0))]) [1, 2, 0] rfl ?_
    refine loop_up (P := fun g => ∀ (cnt : Nat) (vs1 : Nat → Int32), (DI (ps V AL rg rl rh) (V k) (16 * g) cnt vs1) → CW K a cX0_different 6 RX0 16 [(0, .ref (a 0)), (1, .int (nI k)), (2, .int (nI g))] [] (wX0 a (nI n) o l f lo hi s w rg rl rh (nI cnt) vs1)) 4 (fun g hi_g ih_g => ?_) 0 (by omega) 0 vs (DI_0 _ _ _)
    intro cnt vs1 hd
    refine x_bipush 18 (v := nI 16) dX0_different_16 kB_16 ?_
    refine x_iload_n 19 2 dX0_different_18 rfl ?_
    refine x_imul 20 (v := nI (16 * g)) dX0_different_19 (pk_mul _ _) ?_
    refine x_aload_n 21 0 dX0_different_20 rfl ?_
    refine get_X0 24 0 0 (v := .int (nI n)) rfl (by decide) q31 rfl dX0_different_21 ?_
    refine n_icmp_ge 27 80 dX0_different_24 (by decide) (by omega) (by omega) (fun h_24 => ?_) (fun h_24 => ?_)
    ·
      refine x_aload_n 81 0 dX0_different_80 rfl ?_
      refine get_X0 84 0 11 (v := .int (nI cnt)) rfl (by decide) q42 rfl dX0_different_81 ?_
      exact ret 84 _ _ _ dX0_different_84 rfl (Or.inl ⟨k, hk, rfl, ⟨_, _, rfl⟩, by rw [hd.1, ct_ext' (fun r hr => by unfold dn; rw [ps_out hRep.2.2.2.1 r hr, Bool.false_and]) h_24]⟩)
    ·
      refine x_aload_n 28 0 dX0_different_27 rfl ?_
      refine x_iload_n 29 2 dX0_different_28 rfl ?_
      refine call_Vi 32 (av := [.int (nI g)]) (metX0_passMask (cx_l K) a n g (by omega) V AL o l f lo hi s w rg rl rh (nI cnt) vs1 hRep) rfl rfl gwX0_passMask nyX0_passMask rfl (by omega) (by decide) (Nat.le_of_ble_eq_true rfl) rfl dX0_different_29 ?_
      intro r_29 w_29 hq_29
      obtain ⟨rfl, hz⟩ := hq_29
      refine x_istore_n 33 (lv' := [(3, .int r_29), (0, .ref (a 0)), (1, .int (nI k)), (2, .int (nI g))]) dX0_different_32 (by decide) rfl ?_
      refine x_iconst 34 (v := nI 0) dX0_different_33 kI_0 ?_
      refine x_istore 36 (lv' := [(4, .int (nI 0)), (3, .int r_29), (0, .ref (a 0)), (1, .int (nI k)), (2, .int (nI g))]) dX0_different_34 (by decide) rfl ?_
      refine x_sub (lv' := [(0, .ref (a 0)), (1, .int (nI k)), (2, .int (nI g)), (3, .int r_29), (4, .int (nI 0))]) [2, 3, 4, 1, 0] rfl ?_
      refine loop_up (P := fun p => ∀ (cnt2 : Nat) (vs2 : Nat → Int32), (DI (ps V AL rg rl rh) (V k) (16 * g + p) cnt2 vs2) → CW K a cX0_different 6 RX0 36 [(0, .ref (a 0)), (1, .int (nI k)), (2, .int (nI g)), (3, .int r_29), (4, .int (nI p))] [] (wX0 a (nI n) o l f lo hi s w rg rl rh (nI cnt2) vs2)) 16 (fun p hi_p ih_p => ?_) 0 (by omega) cnt vs1 hd
      intro cnt2 vs2 hd2
      refine x_iload 38 4 dX0_different_36 rfl ?_
      refine x_bipush 40 (v := nI 16) dX0_different_38 kB_16 ?_
      refine n_icmp_ge 43 74 dX0_different_40 (by decide) (by omega) (by omega) (fun h_40 => ?_) (fun h_40 => ?_)
      ·
        refine x_iinc 77 (v := nI (g + 1)) (lv' := [(2, .int (nI (g + 1))), (0, .ref (a 0)), (1, .int (nI k)), (3, .int r_29), (4, .int (nI p))]) 2 dX0_different_74 rfl (inc1 _) (by decide) rfl ?_
        refine x_goto 16 dX0_different_77 (by decide) ?_
        refine x_sub (lv' := [(0, .ref (a 0)), (1, .int (nI k)), (2, .int (nI (g + 1)))]) [1, 2, 0] rfl ?_
        exact ih_g (g + 1) (by omega) (by omega) _ _ (by rw [show p = 16 by omega] at hd2; exact hd2)
      ·
        refine x_iload_n 44 3 dX0_different_43 rfl ?_
        refine x_iload 46 4 dX0_different_44 rfl ?_
        refine x_iushr 47 (v := us r_29 p) dX0_different_46 rfl ?_
        refine x_iconst 48 (v := nI 1) dX0_different_47 kI_1 ?_
        refine x_iand 49 (v := nI (tb r_29 p)) dX0_different_48 (us_1 _ (by omega)) ?_
        have hzp := hz p (by omega)
        rw [decide_eq_true (by omega), Bool.true_and] at hzp
        refine b_if_eq 52 68 dX0_different_49 (by decide) (fun h_49 => ?_) (fun h_49 => ?_)
        ·
          refine x_iinc 71 (v := nI (p + 1)) (lv' := [(4, .int (nI (p + 1))), (0, .ref (a 0)), (1, .int (nI k)), (2, .int (nI g)), (3, .int r_29)]) 4 dX0_different_68 rfl (inc1 _) (by decide) rfl ?_
          refine x_goto 36 dX0_different_71 (by decide) ?_
          refine x_sub (lv' := [(0, .ref (a 0)), (1, .int (nI k)), (2, .int (nI g)), (3, .int r_29), (4, .int (nI (p + 1)))]) [1, 2, 3, 4, 0] rfl ?_
          exact ih_p (p + 1) (by omega) (by omega) _ _ (by first | exact DI_no hd2 (hzp.symm.trans h_49) | exact DI_add hd2 (hzp.symm.trans h_49) had)
        ·
          refine x_aload_n 53 0 dX0_different_52 rfl ?_
          refine x_iload_n 54 2 dX0_different_53 rfl ?_
          refine x_iload_n 55 1 dX0_different_54 rfl ?_
          refine x_iload 57 4 dX0_different_55 rfl ?_
          refine call_Vi 60 (av := [.int (nI g), .int (nI k), .int (nI p)]) (metX0_valueIn (cx_l K) a n g k p (by omega) hk (by omega) V AL o l f lo hi s w rg rl rh (nI cnt2) vs2 hRep) rfl rfl gwX0_valueIn nyX0_valueIn rfl (by omega) (by decide) (Nat.le_of_ble_eq_true rfl) rfl dX0_different_57 ?_
          intro r_57 w_57 hq_57
          obtain ⟨rfl, rfl⟩ := hq_57
          refine x_istore 62 (lv' := [(5, .int (V k (16 * g + p))), (0, .ref (a 0)), (1, .int (nI k)), (2, .int (nI g)), (3, .int r_29), (4, .int (nI p))]) dX0_different_60 (by decide) rfl ?_
          refine x_aload_n 63 1 dX0_different_62 rfl ?_
          refine x_iload 65 0 dX0_different_63 rfl ?_
          refine call_Vv 68 (av := [.int (V k (16 * g + p))]) (metX0_addValue (cx_l K) a cnt2 (V k (16 * g + p)) (by have z := DI_cnt hd2; omega) (nI n) o l f lo hi s w rg rl rh vs2 hd2.2.1) rfl rfl gwX0_addValue nyX0_addValue rfl (by omega) (by decide) (Nat.le_of_ble_eq_true rfl) rfl dX0_different_65 ?_
          intro w_65 hq_65
          obtain ⟨cnt3, vs3, rfl, had⟩ := hq_65
          refine x_iinc 71 (v := nI (p + 1)) (lv' := [(4, .int (nI (p + 1))), (5, .int (V k (16 * g + p))), (0, .ref (a 0)), (1, .int (nI k)), (2, .int (nI g)), (3, .int r_29)]) 5 dX0_different_68 rfl (inc1 _) (by decide) rfl ?_
          refine x_goto 36 dX0_different_71 (by decide) ?_
          refine x_sub (lv' := [(0, .ref (a 0)), (1, .int (nI k)), (2, .int (nI g)), (3, .int r_29), (4, .int (nI (p + 1)))]) [2, 3, 4, 5, 0] rfl ?_
          exact ih_p (p + 1) (by omega) (by omega) _ _ (by first | exact DI_no hd2 (hzp.symm.trans h_49) | exact DI_add hd2 (hzp.symm.trans h_49) had)
  ·
    refine f_if_ne 7 9 dX0_different_4 (by decide) (by decide +kernel) ?_
    refine x_iconst 8 (v := -1) dX0_different_7 kI_m1 ?_
    exact ret 8 _ _ _ dX0_different_8 rfl (Or.inr ⟨rfl, rfl, hno⟩)
end
section
set_option maxRecDepth 100000
set_option maxHeartbeats 1000000
/-! an array as one row of bits -/
def B_ (w : Nat → Int32) (T : Nat) : Bool := bt (w (T / 32)) (T % 32)
theorem B_at (w : Nat → Int32) {y z : Nat} (hz : z < 32) : B_ w (32 * y + z) = bt (w y) z := by
  unfold B_
  rw [show (32 * y + z) / 32 = y by omega, show (32 * y + z) % 32 = z by omega]
theorem B_eq (w : Nat → Int32) {T y z : Nat} (h : T = 32 * y + z) (hz : z < 32) : B_ w T = bt (w y) z := by rw [h, B_at w hz]
theorem bt_mask : ∀ b, b < 32 → ∀ j, j < 32 → bt (shl (nI 1) b - nI 1) j = decide (j < b) := by decide +kernel
theorem bt_gb (w : Nat → Int32) (q b i : Nat) (hb : b ≤ 31) {j : Nat} (hj : j < 32) : bt (gb w q b i) j = (decide (j < b) && B_ w (32 * q + b * i + j)) := by
  unfold gb
  by_cases h0 : b = 0
  · rw [if_pos h0, bt_nI0, decide_eq_false (by omega), Bool.false_and]
  rw [if_neg h0, b_and, bt_mask b (by omega) j hj]
  generalize b * i = t
  by_cases hjb : j < b
  · rw [decide_eq_true hjb, Bool.and_true, Bool.true_and]
    by_cases h1 : t % 32 + b ≤ 32
    · rw [if_pos h1, bt_us _ (by omega), B_eq w (y := q + t / 32) (z := t % 32 + j) (by omega) (by omega)]
    · rw [if_neg h1, b_or, bt_us _ (by omega), bt_shl _ (by omega) _ hj]
      by_cases h2 : t % 32 + j < 32
      · rw [B_eq w (y := q + t / 32) (z := t % 32 + j) (by omega) (by omega), decide_eq_false (show ¬ 32 - t % 32 ≤ j by omega), Bool.false_and, Bool.or_false]
      · rw [B_eq w (y := q + t / 32 + 1) (z := j - (32 - t % 32)) (by omega) (by omega), b_big (by omega), Bool.false_or, decide_eq_true (show 32 - t % 32 ≤ j by omega), Bool.true_and]
  · rw [decide_eq_false hjb, Bool.and_false, Bool.false_and]
theorem B_pb (w : Nat → Int32) (q b i : Nat) (v : Int32) (hb : b ≤ 31) (hv : ∀ j, b ≤ j → j < 32 → bt v j = false) (T : Nat) : B_ (pb w q b i v) T = (B_ w T || (decide (32 * q + b * i ≤ T ∧ T < 32 * q + b * i + b) && bt v (T - (32 * q + b * i)))) := by
  unfold pb
  by_cases h0 : b = 0
  · rw [if_pos h0, decide_eq_false (by omega), Bool.false_and, Bool.or_false]
  rw [if_neg h0]
  generalize b * i = t
  have eT : T = 32 * (T / 32) + T % 32 := by omega
  have hz : T % 32 < 32 := Nat.mod_lt _ (by decide)
  have one : ∀ u : Nat → Int32, (T / 32 ≠ q + t / 32 → u (T / 32) = w (T / 32)) → u (q + t / 32) = w (q + t / 32) ||| shl v (t % 32) → (T / 32 ≠ q + t / 32 + 1 ∨ t % 32 + b ≤ 32) → B_ u T = (B_ w T || (decide (32 * q + t ≤ T ∧ T < 32 * q + t + b) && bt v (T - (32 * q + t)))) := by
    intro u hu1 hu2 hu3
    by_cases e : T / 32 = q + t / 32
    · show bt (u (T / 32)) (T % 32) = (bt (w (T / 32)) (T % 32) || _)
      rw [e, hu2, b_or, bt_shl _ (by omega) _ hz]
      congr 1
      by_cases h1 : t % 32 ≤ T % 32
      · rw [decide_eq_true h1, Bool.true_and, show T - (32 * q + t) = T % 32 - t % 32 by omega]
        by_cases h2 : T % 32 - t % 32 < b
        · rw [decide_eq_true (by omega), Bool.true_and]
        · rw [hv _ (by omega) (by omega), Bool.and_false]
      · rw [decide_eq_false h1, decide_eq_false (by omega), Bool.false_and, Bool.false_and]
    · show bt (u (T / 32)) (T % 32) = (bt (w (T / 32)) (T % 32) || _)
      rw [hu1 e, decide_eq_false (by omega), Bool.false_and, Bool.or_false]
  by_cases h1 : t % 32 + b ≤ 32
  · rw [if_pos h1]
    exact one _ (fun hy => pk_un hy) pk_us (Or.inr h1)
  · rw [if_neg h1]
    by_cases e : T / 32 = q + t / 32 + 1
    · show bt (upd (upd w (q + t / 32) (w (q + t / 32) ||| shl v (t % 32))) (q + t / 32 + 1) (upd w (q + t / 32) (w (q + t / 32) ||| shl v (t % 32)) (q + t / 32 + 1) ||| us v (32 - t % 32)) (T / 32)) (T % 32) = (bt (w (T / 32)) (T % 32) || _)
      rw [e, pk_us, pk_un (by omega), b_or, bt_us _ (by omega)]
      congr 1
      rw [show T - (32 * q + t) = 32 - t % 32 + T % 32 by omega]
      by_cases h2 : 32 - t % 32 + T % 32 < b
      · rw [decide_eq_true (by omega), Bool.true_and]
      · rw [decide_eq_false (by omega), Bool.false_and]
        rcases Nat.lt_or_ge (32 - t % 32 + T % 32) 32 with z | z
        · exact hv _ (by omega) z
        · exact b_big z
    · refine one _ (fun hy => ?_) ?_ (Or.inl e)
      · rw [pk_un e, pk_un hy]
      · rw [pk_un (by omega), pk_us]
/-- sixteen numbers put one after the other -/
def pks (w : Nat → Int32) (q b : Nat) (x : Nat → Int32) : Nat → Nat → Int32
  | 0 => w
  | i + 1 => pb (pks w q b x i) q b i (x i)
theorem pks_s (w : Nat → Int32) (q b : Nat) (x : Nat → Int32) (i : Nat) : pks w q b x (i + 1) = pb (pks w q b x i) q b i (x i) := rfl
theorem pb_out (w : Nat → Int32) (q b i : Nat) (v : Int32) (hb : b ≤ 31) (hi : i < 16) {y : Nat} (hy : y < q ∨ q + 16 ≤ y) : pb w q b i v y = w y := by
  have hbi : b * i ≤ 31 * 15 := Nat.mul_le_mul hb (by omega)
  unfold pb
  split
  · rfl
  · split
    · rw [pk_un (by omega)]
    · rw [pk_un (by omega), pk_un (by omega)]
theorem pks_out (w : Nat → Int32) (q b : Nat) (x : Nat → Int32) (hb : b ≤ 31) {y : Nat} (hy : y < q ∨ q + 16 ≤ y) (n : Nat) : n ≤ 16 → pks w q b x n y = w y := by
  induction n with
  | zero => intro _; rfl
  | succ n ih => intro h; rw [pks_s, pb_out _ _ _ _ _ hb (by omega) hy, ih (by omega)]
theorem mul_lt_of {b i n j : Nat} (h : i < n) (hj : j < b) : b * i + j < b * n := by
  have := Nat.mul_le_mul_left b (show i + 1 ≤ n from h)
  rw [Nat.mul_succ] at this
  omega
theorem B_pks (w : Nat → Int32) (q b : Nat) (x : Nat → Int32) (hb : b ≤ 31) (hx : ∀ i, i < 16 → ∀ j, b ≤ j → j < 32 → bt (x i) j = false) {i j : Nat} (hi : i < 16) (hj : j < b) (h0 : B_ w (32 * q + b * i + j) = false) (n : Nat) : n ≤ 16 → B_ (pks w q b x n) (32 * q + b * i + j) = (decide (i < n) && bt (x i) j) := by
  induction n with
  | zero => intro _; exact h0
  | succ n ih =>
    intro h
    rw [pks_s, B_pb _ q b n (x n) hb (hx n (by omega)), ih (by omega)]
    rcases Nat.lt_trichotomy i n with e | e | e
    · have z := mul_lt_of e hj
      rw [decide_eq_true e, decide_eq_true (show i < n + 1 by omega), decide_eq_false (show ¬ (32 * q + b * n ≤ 32 * q + b * i + j ∧ 32 * q + b * i + j < 32 * q + b * n + b) by omega), Bool.false_and, Bool.or_false]
    · subst e
      rw [decide_eq_false (Nat.lt_irrefl i), decide_eq_true (Nat.lt_succ_self i), decide_eq_true (show 32 * q + b * i ≤ 32 * q + b * i + j ∧ 32 * q + b * i + j < 32 * q + b * i + b by omega), show 32 * q + b * i + j - (32 * q + b * i) = j by omega, Bool.false_and, Bool.false_or]
    · have z := mul_lt_of (j := 0) e (show 0 < b by omega)
      have z2 := Nat.mul_le_mul_left b (show n + 1 ≤ i from e)
      rw [Nat.mul_succ] at z2
      rw [decide_eq_false (show ¬ i < n by omega), decide_eq_false (show ¬ i < n + 1 by omega), decide_eq_false (show ¬ (32 * q + b * n ≤ 32 * q + b * i + j ∧ 32 * q + b * i + j < 32 * q + b * n + b) by omega), Bool.false_and, Bool.false_and, Bool.or_false]
theorem B_clr (w : Nat → Int32) {q m T : Nat} (h1 : 32 * q ≤ T) (h2 : T < 32 * (q + m)) : B_ (clr w q m) T = false := by
  unfold B_ clr
  rw [if_pos (by omega), bt_nI0]
theorem gb_pks (w : Nat → Int32) (q b : Nat) (x : Nat → Int32) (hb : b ≤ 31) (hx : ∀ i, i < 16 → ∀ j, b ≤ j → j < 32 → bt (x i) j = false) {i : Nat} (hi : i < 16) : gb (pks (clr w q ((b + 1) / 2)) q b x 16) q b i = x i := by
  apply b_ext
  intro j hj
  rw [bt_gb _ _ _ _ hb hj]
  by_cases h : j < b
  · have z := mul_lt_of hi h
    rw [decide_eq_true h, Bool.true_and, B_pks _ q b x hb hx hi h (B_clr w (by omega) (by omega)) 16 (Nat.le_refl _), decide_eq_true hi, Bool.true_and]
  · rw [decide_eq_false h, Bool.false_and, hx i hi j (by omega) hj]
theorem gb_cong {w w' : Nat → Int32} {q b i : Nat} (hb : b ≤ 31) (hi : i < 16) (h : ∀ y, q ≤ y → y < q + 16 → w' y = w y) : gb w' q b i = gb w q b i := by
  have hbi : b * i ≤ 31 * 15 := Nat.mul_le_mul hb (by omega)
  unfold gb
  rw [h (q + b * i / 32) (by omega) (by omega), h (q + b * i / 32 + 1) (by omega) (by omega)]
/-! the bits of a difference -/
theorem bt_nat (x : Int32) (j : Nat) : bt x j = x.toBitVec.toNat.testBit j := rfl
theorem nat_lt_of_bt {x : Int32} {k : Nat} (h : ∀ j, k ≤ j → j < 32 → bt x j = false) : x.toBitVec.toNat < 2 ^ k := by
  apply Nat.lt_pow_two_of_testBit
  intro j hj
  rcases Nat.lt_or_ge j 32 with q | q
  · exact h j hj q
  · exact b_big (x := x) q
theorem bt_of_nat_lt {x : Int32} {k j : Nat} (h : x.toBitVec.toNat < 2 ^ k) (hj : k ≤ j) : bt x j = false := by
  rw [bt_nat]
  exact Nat.testBit_lt_two_pow (Nat.lt_of_lt_of_le h (Nat.pow_le_pow_right (by decide) hj))
theorem sub_nat {x y : Int32} (h : y ≤ x) : ((x - y).toBitVec.toNat : Int) = x.toInt - y.toInt := by
  rw [fa_le] at h
  have ex : x.toInt = x.toBitVec.toInt := rfl
  have ey : y.toInt = y.toBitVec.toInt := rfl
  rw [ex, ey] at h
  rw [ex, ey, Int32.toBitVec_sub, BitVec.toNat_sub]
  rw [BitVec.toInt_eq_toNat_cond, BitVec.toInt_eq_toNat_cond] at h ⊢
  have h1 := x.toBitVec.isLt
  have h2 := y.toBitVec.isLt
  split at h <;> split at h <;> simp_all <;> omega
theorem diff_bits {lo x hi : Int32} (h1 : lo ≤ x) (h2 : x ≤ hi) : ∀ j, bl (hi - lo) 32 ≤ j → j < 32 → bt (x - lo) j = false := by
  intro j hj hj2
  have e1 := sub_nat h1
  have e2 := sub_nat (le_tr h1 h2)
  have h3 := nat_lt_of_bt (x := hi - lo) (fun j a b => bl_above (hi - lo) 32 j a b)
  rw [fa_le] at h2
  exact bt_of_nat_lt (k := bl (hi - lo) 32) (by omega) hj
theorem idx_lt : ∀ m, m < 17 → ∀ e, e < m → e < 2 ^ ib m := by decide +kernel
theorem idx_bits {m e : Nat} (hm : m ≤ 16) (he : e < m) : ∀ j, ib m ≤ j → j < 32 → bt (nI e) j = false := by
  intro j hj _
  refine bt_of_nat_lt (k := ib m) ?_ hj
  rw [pk_tn (by omega)]
  exact idx_lt m (by omega) e he
theorem add_sub_x (x y : Int32) : y + (x - y) = x := by grind
end
section
set_option maxRecDepth 100000
set_option maxHeartbeats 1000000
theorem n_if_le {K : Cx} {a : Nat → Nat} {cc : ByteArray} {nL : Nat} {own : String} {pc : Nat} (pc' : Nat) {lv : List (Nat × Value)} {st : List Value} {w : va_W} (tgt : Nat) {i : Nat} {off : Int} (hd : decode cc pc = .ok (.ifCond .le off, 3)) (ht : (pc : Int) + off = (tgt : Int)) (hi : i < 2147483648) (kt : i = 0 → CW K a cc nL own tgt lv st w) (kf : 0 < i → CW K a cc nL own pc' lv st w) (hp : pc + 3 = pc' := by rfl) : CW K a cc nL own pc lv (.int (nI i) :: st) w := by
  have q : nI i ≤ 0 ↔ i ≤ 0 := nI_leI hi (by decide)
  exact x_if_le pc' tgt hd ht (fun h => kt (by have := q.mp h; omega)) (fun h => kf (by have z : ¬ (i ≤ 0) := fun z => h (q.mpr z); omega)) hp
/-! the four ways of writing -/
def RI (w w1 : Nat → Int32) (k : Nat) (X : Nat → Int32) (t n : Nat) : Prop :=
  n ≤ t ∧ (0 < t → 0 < n ∧ w1 (34 * k + 2 * (n - 1)) = X (t - 1)) ∧ (∀ q, (q < 34 * k ∨ 34 * k + 34 ≤ q) → w1 q = w q) ∧ (∀ p, p < t → ∃ j, j < n ∧ bt (w1 (34 * k + 2 * j + 1)) p = true ∧ w1 (34 * k + 2 * j) = X p ∧ ∀ j', j' < n → bt (w1 (34 * k + 2 * j' + 1)) p = true → j' = j) ∧ ∀ j, j < n → ∀ p, t ≤ p → p < 32 → bt (w1 (34 * k + 2 * j + 1)) p = false
theorem RI_0 (w : Nat → Int32) (k : Nat) (X : Nat → Int32) : RI w w k X 0 0 :=
  ⟨Nat.le_refl 0, fun h => absurd h (Nat.lt_irrefl 0), fun _ _ => rfl, fun p h => absurd h (Nat.not_lt_zero p), fun j h => absurd h (Nat.not_lt_zero j)⟩
theorem RI_new {w w1 : Nat → Int32} {k : Nat} {X : Nat → Int32} {t n i : Nat} (h : RI w w1 k X t n) (ht : t < 16) (hi : i = 34 * k + 2 * n + 1) : RI w (upd (upd (upd w1 (34 * k + 2 * n) (X t)) (34 * k + 2 * n + 1) (nI 0)) i (upd (upd w1 (34 * k + 2 * n) (X t)) (34 * k + 2 * n + 1) (nI 0) i ||| shl (nI 1) t)) k X (t + 1) (n + 1) := by
  obtain ⟨h1, h2, h3, h4, h5⟩ := h
  subst hi
  generalize hw : upd (upd (upd w1 (34 * k + 2 * n) (X t)) (34 * k + 2 * n + 1) (nI 0)) (34 * k + 2 * n + 1) (upd (upd w1 (34 * k + 2 * n) (X t)) (34 * k + 2 * n + 1) (nI 0) (34 * k + 2 * n + 1) ||| shl (nI 1) t) = w2
  have ea : w2 (34 * k + 2 * n) = X t := by rw [← hw, pk_un (by omega), pk_un (by omega), pk_us]
  have eb : w2 (34 * k + 2 * n + 1) = nI 0 ||| shl (nI 1) t := by rw [← hw, pk_us, pk_us]
  have ec : ∀ q, q ≠ 34 * k + 2 * n → q ≠ 34 * k + 2 * n + 1 → w2 q = w1 q := fun q a b => by rw [← hw, pk_un b, pk_un b, pk_un a]
  have em : ∀ p, p < 32 → bt (w2 (34 * k + 2 * n + 1)) p = decide (p = t) := fun p hp => by rw [eb, b_or, bt_nI0, Bool.false_or, bt_s1 (by omega) hp]
  refine ⟨by omega, fun _ => ⟨by omega, by rw [show n + 1 - 1 = n by omega, show t + 1 - 1 = t by omega]; exact ea⟩, fun q hq => by rw [ec q (by omega) (by omega)]; exact h3 q hq, fun p hp => ?_, fun j hj p a b => ?_⟩
  · rcases Nat.lt_or_ge p t with q | q
    · obtain ⟨j, a1, a2, a3, a4⟩ := h4 p q
      refine ⟨j, by omega, by rw [ec _ (by omega) (by omega)]; exact a2, by rw [ec _ (by omega) (by omega)]; exact a3, fun j' b1 b2 => ?_⟩
      rcases Nat.lt_or_ge j' n with z | z
      · rw [ec _ (by omega) (by omega)] at b2; exact a4 j' z b2
      · rw [show j' = n by omega, em p (by omega)] at b2
        exact absurd (of_decide_eq_true b2) (by omega)
    · have e : p = t := by omega
      subst e
      refine ⟨n, by omega, by rw [em p (by omega)]; exact decide_eq_true rfl, ea, fun j' b1 b2 => ?_⟩
      rcases Nat.lt_or_ge j' n with z | z
      · rw [ec _ (by omega) (by omega), h5 j' z p (Nat.le_refl _) (by omega)] at b2; cases b2
      · omega
  · rcases Nat.lt_or_ge j n with z | z
    · rw [ec _ (by omega) (by omega)]; exact h5 j z p (by omega) b
    · rw [show j = n by omega, em p b]; exact decide_eq_false (by omega)
theorem RI_same {w w1 : Nat → Int32} {k : Nat} {X : Nat → Int32} {t n i : Nat} (h : RI w w1 k X t n) (ht : t < 16) (h0 : 0 < t) (he : X t = X (t - 1)) (hi : i = 34 * k + 2 * n - 1) : RI w (upd w1 i (w1 i ||| shl (nI 1) t)) k X (t + 1) n := by
  obtain ⟨h1, h2, h3, h4, h5⟩ := h
  obtain ⟨h2a, h2b⟩ := h2 h0
  have hi : i = 34 * k + 2 * (n - 1) + 1 := by omega
  subst hi
  generalize hw : upd w1 (34 * k + 2 * (n - 1) + 1) (w1 (34 * k + 2 * (n - 1) + 1) ||| shl (nI 1) t) = w2
  have ec : ∀ q, q ≠ 34 * k + 2 * (n - 1) + 1 → w2 q = w1 q := fun q a => by rw [← hw, pk_un a]
  have em : ∀ p, p < 32 → bt (w2 (34 * k + 2 * (n - 1) + 1)) p = (bt (w1 (34 * k + 2 * (n - 1) + 1)) p || decide (p = t)) := fun p hp => by rw [← hw, pk_us, b_or, bt_s1 (by omega) hp]
  have eold : ∀ j, j < n → ∀ p, p < 32 → p ≠ t → bt (w2 (34 * k + 2 * j + 1)) p = bt (w1 (34 * k + 2 * j + 1)) p := by
    intro j hj p hp hne
    by_cases e : j = n - 1
    · rw [e, em p hp, decide_eq_false hne, Bool.or_false]
    · rw [ec _ (by omega)]
  have enew : ∀ j, j < n → bt (w2 (34 * k + 2 * j + 1)) t = decide (j = n - 1) := by
    intro j hj
    by_cases e : j = n - 1
    · rw [decide_eq_true e, e, em t (by omega), decide_eq_true rfl, Bool.or_true]
    · rw [decide_eq_false e, ec _ (by omega)]; exact h5 j hj t (Nat.le_refl _) (by omega)
  refine ⟨by omega, fun _ => ⟨h2a, by rw [ec _ (by omega), h2b, show t + 1 - 1 = t by omega, he]⟩, fun q hq => by rw [ec q (by omega)]; exact h3 q hq, fun p hp => ?_, fun j hj p a b => ?_⟩
  · rcases Nat.lt_or_ge p t with q | q
    · obtain ⟨j, a1, a2, a3, a4⟩ := h4 p q
      refine ⟨j, a1, by rw [eold j a1 p (by omega) (by omega)]; exact a2, by rw [ec _ (by omega)]; exact a3, fun j' b1 b2 => ?_⟩
      rw [eold j' b1 p (by omega) (by omega)] at b2
      exact a4 j' b1 b2
    · have e : p = t := by omega
      subst e
      refine ⟨n - 1, by omega, by rw [enew _ (by omega)]; exact decide_eq_true rfl, by rw [ec _ (by omega), h2b, he], fun j' b1 b2 => ?_⟩
      rw [enew j' b1] at b2
      exact of_decide_eq_true b2
  · rw [eold j hj p b (by omega)]; exact h5 j hj p (by omega) b
theorem RI_ok {w w1 : Nat → Int32} {k : Nat} {X : Nat → Int32} {n : Nat} (h : RI w w1 k X 16 n) : RunsOk w1 k n X := ⟨h.1, h.2.2.2.1⟩
/-- the place of v in the row vs, of the first e -/
def ixf (vs : Nat → Int32) (v : Int32) : Nat → Nat
  | 0 => 0
  | e + 1 => if vs e = v then e else ixf vs v e
theorem ixf_t {vs : Nat → Int32} {v : Int32} {e : Nat} (h : vs e = v) : ixf vs v (e + 1) = e := by rw [ixf, if_pos h]
theorem ixf_f {vs : Nat → Int32} {v : Int32} {e : Nat} (h : ¬ vs e = v) : ixf vs v (e + 1) = ixf vs v e := by rw [ixf, if_neg h]
theorem ixf_ok {vs : Nat → Int32} {v : Int32} (m : Nat) : (∃ j, j < m ∧ vs j = v) → ixf vs v m < m ∧ vs (ixf vs v m) = v := by
  induction m with
  | zero => rintro ⟨j, h, _⟩; omega
  | succ m ih =>
    rintro ⟨j, h1, h2⟩
    by_cases e : vs m = v
    · rw [ixf_t e]; exact ⟨by omega, e⟩
    · rw [ixf_f e]
      have z := ih ⟨j, by rcases Nat.lt_or_ge j m with q | q; exact q; exact absurd (by rw [show m = j by omega]; exact h2) e, h2⟩
      exact ⟨by omega, z.2⟩

theorem metX0_writeRuns (La : Launch) (a : Nat → Nat) (k fo : Nat) (hk : k < 12) (hf : fo + 16 ≤ 48) (r : Int32) (o l f lo hi s w rg rl rh : Nat → Int32) (vc : Int32) (vs : Nat → Int32) : MetW La yX0_writeRuns cX0_writeRuns 5 none 0 a [.ref (a 0), .int (nI k), .int (nI fo)] (wX0 a r o l f lo hi s w rg rl rh vc vs) (rpV (fun w' => ∃ n w1, w' = (wX0 a r o l (upd f k (nI 1)) lo hi (upd s k (nI n)) w1 rg rl rh vc vs) ∧ RunsOk w1 k n (fun p => o (fo + p)) ∧ ∀ q, (q < 34 * k ∨ 34 * k + 34 ≤ q) → w1 q = w q)) := by
  refine MetW.ofV (by decide) (Nat.le_of_ble_eq_true rfl) (fun K hKl hKd ret => ?_)
  subst hKl
  show CW K a cX0_writeRuns 5 RX0 0 [(0, .ref (a 0)), (1, .int (nI k)), (2, .int (nI fo))] [] (wX0 a r o l f lo hi s w rg rl rh vc vs)
  refine x_aload_n 1 0 dX0_writeRuns_0 rfl ?_
  refine get_X0 4 0 3 (v := .ref (a 3)) rfl (by decide) q34 rfl dX0_writeRuns_1 ?_
  refine x_iload_n 5 1 dX0_writeRuns_4 rfl ?_
  refine x_iconst 6 (v := nI 1) dX0_writeRuns_5 kI_1 ?_
  refine iast 7 3 (w' := (wX0 a r o l (upd f k (nI 1)) lo hi s w rg rl rh vc vs)) rfl (by omega) (by decide) rfl dX0_writeRuns_6 ?_
  refine x_iconst 8 (v := nI 0) dX0_writeRuns_7 kI_0 ?_
  refine x_istore_n 9 (lv' := [(3, .int (nI 0)), (0, .ref (a 0)), (1, .int (nI k)), (2, .int (nI fo))]) dX0_writeRuns_8 (by decide) rfl ?_
  refine x_iconst 10 (v := nI 0) dX0_writeRuns_9 kI_0 ?_
  refine x_istore 12 (lv' := [(4, .int (nI 0)), (3, .int (nI 0)), (0, .ref (a 0)), (1, .int (nI k)), (2, .int (nI fo))]) dX0_writeRuns_10 (by decide) rfl ?_
  refine x_sub (lv' := [(0, .ref (a 0)), (1, .int (nI k)), (2, .int (nI fo)), (3, .int (nI 0)), (4, .int (nI 0))]) [2, 3, 4, 1, 0] rfl ?_
  refine loop_up (P := fun t => ∀ (n : Nat) (w1 : Nat → Int32), (RI w w1 k (fun p => o (fo + p)) t n) → CW K a cX0_writeRuns 5 RX0 12 [(0, .ref (a 0)), (1, .int (nI k)), (2, .int (nI fo)), (3, .int (nI n)), (4, .int (nI t))] [] (wX0 a r o l (upd f k (nI 1)) lo hi s w1 rg rl rh vc vs)) 16 (fun t hi_t ih_t => ?_) 0 (by omega) 0 w (RI_0 _ _ _)
  intro n w1 hw
  refine x_iload 14 4 dX0_writeRuns_12 rfl ?_
  refine x_bipush 16 (v := nI 16) dX0_writeRuns_14 kB_16 ?_
  refine n_icmp_ge 19 116 dX0_writeRuns_16 (by decide) (by omega) (by omega) (fun h_16 => ?_) (fun h_16 => ?_)
  ·
    refine x_aload_n 117 0 dX0_writeRuns_116 rfl ?_
    refine get_X0 120 0 6 (v := .ref (a 6)) rfl (by decide) q37 rfl dX0_writeRuns_117 ?_
    refine x_iload_n 121 1 dX0_writeRuns_120 rfl ?_
    refine x_iload_n 122 3 dX0_writeRuns_121 rfl ?_
    refine iast 123 6 (w' := (wX0 a r o l (upd f k (nI 1)) lo hi (upd s k (nI n)) w1 rg rl rh vc vs)) rfl (by omega) (by decide) rfl dX0_writeRuns_122 ?_
    exact ret 123 _ _ dX0_writeRuns_123 ⟨n, w1, rfl, by rw [show t = 16 by omega] at hw; exact RI_ok hw, hw.2.2.1⟩
  ·
    have hnt := hw.1
    have hn0 := hw.2.1
    refine x_iload 21 4 dX0_writeRuns_19 rfl ?_
    refine n_if_eq 24 47 dX0_writeRuns_21 (by decide) (by omega) (fun h_21 => ?_) (fun h_21 => ?_)
    ·
      refine x_aload_n 48 0 dX0_writeRuns_47 rfl ?_
      refine get_X0 51 0 7 (v := .ref (a 7)) rfl (by decide) q38 rfl dX0_writeRuns_48 ?_
      refine x_bipush 53 (v := nI 34) dX0_writeRuns_51 kB_34 ?_
      refine x_iload_n 54 1 dX0_writeRuns_53 rfl ?_
      refine x_imul 55 (v := nI (34 * k)) dX0_writeRuns_54 (pk_mul _ _) ?_
      refine x_iconst 56 (v := nI 2) dX0_writeRuns_55 kI_2 ?_
      refine x_iload_n 57 3 dX0_writeRuns_56 rfl ?_
      refine x_imul 58 (v := nI (2 * n)) dX0_writeRuns_57 (pk_mul _ _) ?_
      refine x_iadd 59 (v := nI (34 * k + 2 * n)) dX0_writeRuns_58 (nI_add _ _) ?_
      refine x_aload_n 60 0 dX0_writeRuns_59 rfl ?_
      refine get_X0 63 0 1 (v := .ref (a 1)) rfl (by decide) q32 rfl dX0_writeRuns_60 ?_
      refine x_iload_n 64 2 dX0_writeRuns_63 rfl ?_
      refine x_iload 66 4 dX0_writeRuns_64 rfl ?_
      refine x_iadd 67 (v := nI (fo + t)) dX0_writeRuns_66 (nI_add _ _) ?_
      refine iald 68 1 (f := o) rfl (by omega) (by decide) dX0_writeRuns_67 ?_
      refine iast 69 7 (w' := (wX0 a r o l (upd f k (nI 1)) lo hi s (upd w1 (34 * k + 2 * n) (o (fo + t))) rg rl rh vc vs)) rfl (by omega) (by decide) rfl dX0_writeRuns_68 ?_
      refine x_aload_n 70 0 dX0_writeRuns_69 rfl ?_
      refine get_X0 73 0 7 (v := .ref (a 7)) rfl (by decide) q38 rfl dX0_writeRuns_70 ?_
      refine x_bipush 75 (v := nI 34) dX0_writeRuns_73 kB_34 ?_
      refine x_iload_n 76 1 dX0_writeRuns_75 rfl ?_
      refine x_imul 77 (v := nI (34 * k)) dX0_writeRuns_76 (pk_mul _ _) ?_
      refine x_iconst 78 (v := nI 2) dX0_writeRuns_77 kI_2 ?_
      refine x_iload_n 79 3 dX0_writeRuns_78 rfl ?_
      refine x_imul 80 (v := nI (2 * n)) dX0_writeRuns_79 (pk_mul _ _) ?_
      refine x_iadd 81 (v := nI (34 * k + 2 * n)) dX0_writeRuns_80 (nI_add _ _) ?_
      refine x_iconst 82 (v := nI 1) dX0_writeRuns_81 kI_1 ?_
      refine x_iadd 83 (v := nI (34 * k + 2 * n + 1)) dX0_writeRuns_82 (nI_add _ _) ?_
      refine x_iconst 84 (v := nI 0) dX0_writeRuns_83 kI_0 ?_
      refine iast 85 7 (w' := (wX0 a r o l (upd f k (nI 1)) lo hi s (upd (upd w1 (34 * k + 2 * n) (o (fo + t))) (34 * k + 2 * n + 1) (nI 0)) rg rl rh vc vs)) rfl (by omega) (by decide) rfl dX0_writeRuns_84 ?_
      refine x_iinc 88 (v := nI (n + 1)) (lv' := [(3, .int (nI (n + 1))), (0, .ref (a 0)), (1, .int (nI k)), (2, .int (nI fo)), (4, .int (nI t))]) 3 dX0_writeRuns_85 rfl (inc1 _) (by decide) rfl ?_
      refine x_aload_n 89 1 dX0_writeRuns_88 rfl ?_
      refine get_X0 92 0 7 (v := .ref (a 7)) rfl (by decide) q38 rfl dX0_writeRuns_89 ?_
      refine x_bipush 94 (v := nI 34) dX0_writeRuns_92 kB_34 ?_
      refine x_iload_n 95 2 dX0_writeRuns_94 rfl ?_
      refine x_imul 96 (v := nI (34 * k)) dX0_writeRuns_95 (pk_mul _ _) ?_
      refine x_iconst 97 (v := nI 2) dX0_writeRuns_96 kI_2 ?_
      refine x_iload_n 98 0 dX0_writeRuns_97 rfl ?_
      refine x_imul 99 (v := nI (2 * (n + 1))) dX0_writeRuns_98 (pk_mul _ _) ?_
      refine x_iadd 100 (v := nI (34 * k + 2 * (n + 1))) dX0_writeRuns_99 (nI_add _ _) ?_
      refine x_iconst 101 (v := nI 1) dX0_writeRuns_100 kI_1 ?_
      refine x_isub 102 (v := nI ((34 * k + 2 * (n + 1)) - 1)) dX0_writeRuns_101 (pk_sub (by omega)) ?_
      refine x_dup2 103 dX0_writeRuns_102 rfl rfl ?_
      refine iald 104 7 (f := upd (upd w1 (34 * k + 2 * n) (o (fo + t))) (34 * k + 2 * n + 1) (nI 0)) rfl (by omega) (by decide) dX0_writeRuns_103 ?_
      refine x_iconst 105 (v := nI 1) dX0_writeRuns_104 kI_1 ?_
      refine x_iload 107 4 dX0_writeRuns_105 rfl ?_
      refine x_ishl 108 (v := shl (nI 1) t) dX0_writeRuns_107 rfl ?_
      refine x_ior 109 (v := ((upd (upd w1 (34 * k + 2 * n) (o (fo + t))) (34 * k + 2 * n + 1) (nI 0)) ((34 * k + 2 * (n + 1)) - 1)) ||| (shl (nI 1) t)) dX0_writeRuns_108 rfl ?_
      refine iast 110 7 (w' := (wX0 a r o l (upd f k (nI 1)) lo hi s (upd (upd (upd w1 (34 * k + 2 * n) (o (fo + t))) (34 * k + 2 * n + 1) (nI 0)) ((34 * k + 2 * (n + 1)) - 1) (((upd (upd w1 (34 * k + 2 * n) (o (fo + t))) (34 * k + 2 * n + 1) (nI 0)) ((34 * k + 2 * (n + 1)) - 1)) ||| (shl (nI 1) t))) rg rl rh vc vs)) rfl (by omega) (by decide) rfl dX0_writeRuns_109 ?_
      refine x_iinc 113 (v := nI (t + 1)) (lv' := [(4, .int (nI (t + 1))), (3, .int (nI (n + 1))), (0, .ref (a 0)), (1, .int (nI k)), (2, .int (nI fo))]) 4 dX0_writeRuns_110 rfl (inc1 _) (by decide) rfl ?_
      refine x_goto 12 dX0_writeRuns_113 (by decide) ?_
      refine x_sub (lv' := [(0, .ref (a 0)), (1, .int (nI k)), (2, .int (nI fo)), (3, .int (nI (n + 1))), (4, .int (nI (t + 1)))]) [2, 3, 4, 1, 0] rfl ?_
      exact ih_t (t + 1) (by omega) (by omega) _ _ (by first | exact RI_same (X := (fun p => o (fo + p))) hw h_16 h_21 (by show o (fo + t) = o (fo + (t - 1)); rw [h_44]; congr 1; omega) (by omega) | exact RI_new (X := (fun p => o (fo + p))) hw h_16 (by omega))
    ·
      refine x_aload_n 25 0 dX0_writeRuns_24 rfl ?_
      refine get_X0 28 0 1 (v := .ref (a 1)) rfl (by decide) q32 rfl dX0_writeRuns_25 ?_
      refine x_iload_n 29 2 dX0_writeRuns_28 rfl ?_
      refine x_iload 31 4 dX0_writeRuns_29 rfl ?_
      refine x_iadd 32 (v := nI (fo + t)) dX0_writeRuns_31 (nI_add _ _) ?_
      refine iald 33 1 (f := o) rfl (by omega) (by decide) dX0_writeRuns_32 ?_
      refine x_aload_n 34 0 dX0_writeRuns_33 rfl ?_
      refine get_X0 37 0 1 (v := .ref (a 1)) rfl (by decide) q32 rfl dX0_writeRuns_34 ?_
      refine x_iload_n 38 2 dX0_writeRuns_37 rfl ?_
      refine x_iload 40 4 dX0_writeRuns_38 rfl ?_
      refine x_iadd 41 (v := nI (fo + t)) dX0_writeRuns_40 (nI_add _ _) ?_
      refine x_iconst 42 (v := nI 1) dX0_writeRuns_41 kI_1 ?_
      refine x_isub 43 (v := nI ((fo + t) - 1)) dX0_writeRuns_42 (pk_sub (by omega)) ?_
      refine iald 44 1 (f := o) rfl (by omega) (by decide) dX0_writeRuns_43 ?_
      refine x_icmp_eq 47 88 dX0_writeRuns_44 (by decide) (fun h_44 => ?_) (fun h_44 => ?_)
      ·
        have hn1 : 0 < n := (hn0 h_21).1
        refine x_aload_n 89 0 dX0_writeRuns_88 rfl ?_
        refine get_X0 92 0 7 (v := .ref (a 7)) rfl (by decide) q38 rfl dX0_writeRuns_89 ?_
        refine x_bipush 94 (v := nI 34) dX0_writeRuns_92 kB_34 ?_
        refine x_iload_n 95 1 dX0_writeRuns_94 rfl ?_
        refine x_imul 96 (v := nI (34 * k)) dX0_writeRuns_95 (pk_mul _ _) ?_
        refine x_iconst 97 (v := nI 2) dX0_writeRuns_96 kI_2 ?_
        refine x_iload_n 98 3 dX0_writeRuns_97 rfl ?_
        refine x_imul 99 (v := nI (2 * n)) dX0_writeRuns_98 (pk_mul _ _) ?_
        refine x_iadd 100 (v := nI (34 * k + 2 * n)) dX0_writeRuns_99 (nI_add _ _) ?_
        refine x_iconst 101 (v := nI 1) dX0_writeRuns_100 kI_1 ?_
        refine x_isub 102 (v := nI ((34 * k + 2 * n) - 1)) dX0_writeRuns_101 (pk_sub (by omega)) ?_
        refine x_dup2 103 dX0_writeRuns_102 rfl rfl ?_
        refine iald 104 7 (f := w1) rfl (by omega) (by decide) dX0_writeRuns_103 ?_
        refine x_iconst 105 (v := nI 1) dX0_writeRuns_104 kI_1 ?_
        refine x_iload 107 4 dX0_writeRuns_105 rfl ?_
        refine x_ishl 108 (v := shl (nI 1) t) dX0_writeRuns_107 rfl ?_
        refine x_ior 109 (v := (w1 ((34 * k + 2 * n) - 1)) ||| (shl (nI 1) t)) dX0_writeRuns_108 rfl ?_
        refine iast 110 7 (w' := (wX0 a r o l (upd f k (nI 1)) lo hi s (upd w1 ((34 * k + 2 * n) - 1) ((w1 ((34 * k + 2 * n) - 1)) ||| (shl (nI 1) t))) rg rl rh vc vs)) rfl (by omega) (by decide) rfl dX0_writeRuns_109 ?_
        refine x_iinc 113 (v := nI (t + 1)) (lv' := [(4, .int (nI (t + 1))), (0, .ref (a 0)), (1, .int (nI k)), (2, .int (nI fo)), (3, .int (nI n))]) 4 dX0_writeRuns_110 rfl (inc1 _) (by decide) rfl ?_
        refine x_goto 12 dX0_writeRuns_113 (by decide) ?_
        refine x_sub (lv' := [(0, .ref (a 0)), (1, .int (nI k)), (2, .int (nI fo)), (3, .int (nI n)), (4, .int (nI (t + 1)))]) [1, 2, 3, 4, 0] rfl ?_
        exact ih_t (t + 1) (by omega) (by omega) _ _ (by first | exact RI_same (X := (fun p => o (fo + p))) hw h_16 h_21 (by show o (fo + t) = o (fo + (t - 1)); rw [h_44]; congr 1; omega) (by omega) | exact RI_new (X := (fun p => o (fo + p))) hw h_16 (by omega))
      ·
        refine x_aload_n 48 0 dX0_writeRuns_47 rfl ?_
        refine get_X0 51 0 7 (v := .ref (a 7)) rfl (by decide) q38 rfl dX0_writeRuns_48 ?_
        refine x_bipush 53 (v := nI 34) dX0_writeRuns_51 kB_34 ?_
        refine x_iload_n 54 1 dX0_writeRuns_53 rfl ?_
        refine x_imul 55 (v := nI (34 * k)) dX0_writeRuns_54 (pk_mul _ _) ?_
        refine x_iconst 56 (v := nI 2) dX0_writeRuns_55 kI_2 ?_
        refine x_iload_n 57 3 dX0_writeRuns_56 rfl ?_
        refine x_imul 58 (v := nI (2 * n)) dX0_writeRuns_57 (pk_mul _ _) ?_
        refine x_iadd 59 (v := nI (34 * k + 2 * n)) dX0_writeRuns_58 (nI_add _ _) ?_
        refine x_aload_n 60 0 dX0_writeRuns_59 rfl ?_
        refine get_X0 63 0 1 (v := .ref (a 1)) rfl (by decide) q32 rfl dX0_writeRuns_60 ?_
        refine x_iload_n 64 2 dX0_writeRuns_63 rfl ?_
        refine x_iload 66 4 dX0_writeRuns_64 rfl ?_
        refine x_iadd 67 (v := nI (fo + t)) dX0_writeRuns_66 (nI_add _ _) ?_
        refine iald 68 1 (f := o) rfl (by omega) (by decide) dX0_writeRuns_67 ?_
        refine iast 69 7 (w' := (wX0 a r o l (upd f k (nI 1)) lo hi s (upd w1 (34 * k + 2 * n) (o (fo + t))) rg rl rh vc vs)) rfl (by omega) (by decide) rfl dX0_writeRuns_68 ?_
        refine x_aload_n 70 0 dX0_writeRuns_69 rfl ?_
        refine get_X0 73 0 7 (v := .ref (a 7)) rfl (by decide) q38 rfl dX0_writeRuns_70 ?_
        refine x_bipush 75 (v := nI 34) dX0_writeRuns_73 kB_34 ?_
        refine x_iload_n 76 1 dX0_writeRuns_75 rfl ?_
        refine x_imul 77 (v := nI (34 * k)) dX0_writeRuns_76 (pk_mul _ _) ?_
        refine x_iconst 78 (v := nI 2) dX0_writeRuns_77 kI_2 ?_
        refine x_iload_n 79 3 dX0_writeRuns_78 rfl ?_
        refine x_imul 80 (v := nI (2 * n)) dX0_writeRuns_79 (pk_mul _ _) ?_
        refine x_iadd 81 (v := nI (34 * k + 2 * n)) dX0_writeRuns_80 (nI_add _ _) ?_
        refine x_iconst 82 (v := nI 1) dX0_writeRuns_81 kI_1 ?_
        refine x_iadd 83 (v := nI (34 * k + 2 * n + 1)) dX0_writeRuns_82 (nI_add _ _) ?_
        refine x_iconst 84 (v := nI 0) dX0_writeRuns_83 kI_0 ?_
        refine iast 85 7 (w' := (wX0 a r o l (upd f k (nI 1)) lo hi s (upd (upd w1 (34 * k + 2 * n) (o (fo + t))) (34 * k + 2 * n + 1) (nI 0)) rg rl rh vc vs)) rfl (by omega) (by decide) rfl dX0_writeRuns_84 ?_
        refine x_iinc 88 (v := nI (n + 1)) (lv' := [(3, .int (nI (n + 1))), (0, .ref (a 0)), (1, .int (nI k)), (2, .int (nI fo)), (4, .int (nI t))]) 3 dX0_writeRuns_85 rfl (inc1 _) (by decide) rfl ?_
        refine x_aload_n 89 1 dX0_writeRuns_88 rfl ?_
        refine get_X0 92 0 7 (v := .ref (a 7)) rfl (by decide) q38 rfl dX0_writeRuns_89 ?_
        refine x_bipush 94 (v := nI 34) dX0_writeRuns_92 kB_34 ?_
        refine x_iload_n 95 2 dX0_writeRuns_94 rfl ?_
        refine x_imul 96 (v := nI (34 * k)) dX0_writeRuns_95 (pk_mul _ _) ?_
        refine x_iconst 97 (v := nI 2) dX0_writeRuns_96 kI_2 ?_
        refine x_iload_n 98 0 dX0_writeRuns_97 rfl ?_
        refine x_imul 99 (v := nI (2 * (n + 1))) dX0_writeRuns_98 (pk_mul _ _) ?_
        refine x_iadd 100 (v := nI (34 * k + 2 * (n + 1))) dX0_writeRuns_99 (nI_add _ _) ?_
        refine x_iconst 101 (v := nI 1) dX0_writeRuns_100 kI_1 ?_
        refine x_isub 102 (v := nI ((34 * k + 2 * (n + 1)) - 1)) dX0_writeRuns_101 (pk_sub (by omega)) ?_
        refine x_dup2 103 dX0_writeRuns_102 rfl rfl ?_
        refine iald 104 7 (f := upd (upd w1 (34 * k + 2 * n) (o (fo + t))) (34 * k + 2 * n + 1) (nI 0)) rfl (by omega) (by decide) dX0_writeRuns_103 ?_
        refine x_iconst 105 (v := nI 1) dX0_writeRuns_104 kI_1 ?_
        refine x_iload 107 4 dX0_writeRuns_105 rfl ?_
        refine x_ishl 108 (v := shl (nI 1) t) dX0_writeRuns_107 rfl ?_
        refine x_ior 109 (v := ((upd (upd w1 (34 * k + 2 * n) (o (fo + t))) (34 * k + 2 * n + 1) (nI 0)) ((34 * k + 2 * (n + 1)) - 1)) ||| (shl (nI 1) t)) dX0_writeRuns_108 rfl ?_
        refine iast 110 7 (w' := (wX0 a r o l (upd f k (nI 1)) lo hi s (upd (upd (upd w1 (34 * k + 2 * n) (o (fo + t))) (34 * k + 2 * n + 1) (nI 0)) ((34 * k + 2 * (n + 1)) - 1) (((upd (upd w1 (34 * k + 2 * n) (o (fo + t))) (34 * k + 2 * n + 1) (nI 0)) ((34 * k + 2 * (n + 1)) - 1)) ||| (shl (nI 1) t))) rg rl rh vc vs)) rfl (by omega) (by decide) rfl dX0_writeRuns_109 ?_
        refine x_iinc 113 (v := nI (t + 1)) (lv' := [(4, .int (nI (t + 1))), (3, .int (nI (n + 1))), (0, .ref (a 0)), (1, .int (nI k)), (2, .int (nI fo))]) 4 dX0_writeRuns_110 rfl (inc1 _) (by decide) rfl ?_
        refine x_goto 12 dX0_writeRuns_113 (by decide) ?_
        refine x_sub (lv' := [(0, .ref (a 0)), (1, .int (nI k)), (2, .int (nI fo)), (3, .int (nI (n + 1))), (4, .int (nI (t + 1)))]) [2, 3, 4, 1, 0] rfl ?_
        exact ih_t (t + 1) (by omega) (by omega) _ _ (by first | exact RI_same (X := (fun p => o (fo + p))) hw h_16 h_21 (by show o (fo + t) = o (fo + (t - 1)); rw [h_44]; congr 1; omega) (by omega) | exact RI_new (X := (fun p => o (fo + p))) hw h_16 (by omega))
theorem metX0_writePlain (La : Launch) (a : Nat → Nat) (k fo : Nat) (hk : k < 12) (hf : fo + 16 ≤ 48) (r : Int32) (o l f lo hi s w rg rl rh : Nat → Int32) (vc : Int32) (vs : Nat → Int32) : MetW La yX0_writePlain cX0_writePlain 4 none 0 a [.ref (a 0), .int (nI k), .int (nI fo)] (wX0 a r o l f lo hi s w rg rl rh vc vs) (rpV (fun w' => w' = (wX0 a r o l (upd f k (nI 0)) lo hi s (fb_put w (fun p => o (fo + p)) (34 * k) 16) rg rl rh vc vs))) := by
  refine MetW.ofV (by decide) (Nat.le_of_ble_eq_true rfl) (fun K hKl hKd ret => ?_)
  subst hKl
  show CW K a cX0_writePlain 4 RX0 0 [(0, .ref (a 0)), (1, .int (nI k)), (2, .int (nI fo))] [] (wX0 a r o l f lo hi s w rg rl rh vc vs)
  refine x_aload_n 1 0 dX0_writePlain_0 rfl ?_
  refine get_X0 4 0 3 (v := .ref (a 3)) rfl (by decide) q34 rfl dX0_writePlain_1 ?_
  refine x_iload_n 5 1 dX0_writePlain_4 rfl ?_
  refine x_iconst 6 (v := nI 0) dX0_writePlain_5 kI_0 ?_
  refine iast 7 3 (w' := (wX0 a r o l (upd f k (nI 0)) lo hi s w rg rl rh vc vs)) rfl (by omega) (by decide) rfl dX0_writePlain_6 ?_
  refine x_iconst 8 (v := nI 0) dX0_writePlain_7 kI_0 ?_
  refine x_istore_n 9 (lv' := [(3, .int (nI 0)), (0, .ref (a 0)), (1, .int (nI k)), (2, .int (nI fo))]) dX0_writePlain_8 (by decide) rfl ?_
  refine x_sub (lv' := [(0, .ref (a 0)), (1, .int (nI k)), (2, .int (nI fo)), (3, .int (nI 0))]) [1, 2, 3, 0] rfl ?_
  refine loop_up (P := fun t => ∀ (w1 : Nat → Int32), (w1 = fb_put w (fun p => o (fo + p)) (34 * k) t) → CW K a cX0_writePlain 4 RX0 9 [(0, .ref (a 0)), (1, .int (nI k)), (2, .int (nI fo)), (3, .int (nI t))] [] (wX0 a r o l (upd f k (nI 0)) lo hi s w1 rg rl rh vc vs)) 16 (fun t hi_t ih_t => ?_) 0 (by omega) w (fb_put_0 _ _ _).symm
  intro w1 hw
  refine x_iload_n 10 3 dX0_writePlain_9 rfl ?_
  refine x_bipush 12 (v := nI 16) dX0_writePlain_10 kB_16 ?_
  refine n_icmp_ge 15 40 dX0_writePlain_12 (by decide) (by omega) (by omega) (fun h_12 => ?_) (fun h_12 => ?_)
  ·
    exact ret 40 _ _ dX0_writePlain_40 (by rw [hw, show t = 16 by omega])
  ·
    refine x_aload_n 16 0 dX0_writePlain_15 rfl ?_
    refine get_X0 19 0 7 (v := .ref (a 7)) rfl (by decide) q38 rfl dX0_writePlain_16 ?_
    refine x_bipush 21 (v := nI 34) dX0_writePlain_19 kB_34 ?_
    refine x_iload_n 22 1 dX0_writePlain_21 rfl ?_
    refine x_imul 23 (v := nI (34 * k)) dX0_writePlain_22 (pk_mul _ _) ?_
    refine x_iload_n 24 3 dX0_writePlain_23 rfl ?_
    refine x_iadd 25 (v := nI (34 * k + t)) dX0_writePlain_24 (nI_add _ _) ?_
    refine x_aload_n 26 0 dX0_writePlain_25 rfl ?_
    refine get_X0 29 0 1 (v := .ref (a 1)) rfl (by decide) q32 rfl dX0_writePlain_26 ?_
    refine x_iload_n 30 2 dX0_writePlain_29 rfl ?_
    refine x_iload_n 31 3 dX0_writePlain_30 rfl ?_
    refine x_iadd 32 (v := nI (fo + t)) dX0_writePlain_31 (nI_add _ _) ?_
    refine iald 33 1 (f := o) rfl (by omega) (by decide) dX0_writePlain_32 ?_
    refine iast 34 7 (w' := (wX0 a r o l (upd f k (nI 0)) lo hi s (upd w1 (34 * k + t) (o (fo + t))) rg rl rh vc vs)) rfl (by omega) (by decide) rfl dX0_writePlain_33 ?_
    refine x_iinc 37 (v := nI (t + 1)) (lv' := [(3, .int (nI (t + 1))), (0, .ref (a 0)), (1, .int (nI k)), (2, .int (nI fo))]) 3 dX0_writePlain_34 rfl (inc1 _) (by decide) rfl ?_
    refine x_goto 9 dX0_writePlain_37 (by decide) ?_
    refine x_sub (lv' := [(0, .ref (a 0)), (1, .int (nI k)), (2, .int (nI fo)), (3, .int (nI (t + 1)))]) [1, 2, 3, 0] rfl ?_
    exact ih_t (t + 1) (by omega) (by omega) _ (by rw [hw]; exact fb_put_succ w (fun p => o (fo + p)) (34 * k) t)
theorem metX0_writePacked (La : Launch) (a : Nat → Nat) (k fo b : Nat) (hk : k < 12) (hf : fo + 16 ≤ 48) (hb : b ≤ 31) (r : Int32) (o l f lo hi s w rg rl rh : Nat → Int32) (vc : Int32) (vs : Nat → Int32) : MetW La yX0_writePacked cX0_writePacked 5 none 1 a [.ref (a 0), .int (nI k), .int (nI fo), .int (nI b)] (wX0 a r o l f lo hi s w rg rl rh vc vs) (rpV (fun w' => w' = (wX0 a r o l (upd f k (nI 3)) lo hi (upd s k (nI b)) (pks (clr w (34 * k) ((b + 1) / 2)) (34 * k) b (fun i => o (fo + i) - lo k) 16) rg rl rh vc vs))) := by
  refine MetW.ofV (by decide) (Nat.le_of_ble_eq_true rfl) (fun K hKl hKd ret => ?_)
  subst hKl
  show CW K a cX0_writePacked 5 RX0 0 [(0, .ref (a 0)), (1, .int (nI k)), (2, .int (nI fo)), (3, .int (nI b))] [] (wX0 a r o l f lo hi s w rg rl rh vc vs)
  refine x_aload_n 1 0 dX0_writePacked_0 rfl ?_
  refine get_X0 4 0 3 (v := .ref (a 3)) rfl (by decide) q34 rfl dX0_writePacked_1 ?_
  refine x_iload_n 5 1 dX0_writePacked_4 rfl ?_
  refine x_iconst 6 (v := nI 3) dX0_writePacked_5 kI_3 ?_
  refine iast 7 3 (w' := (wX0 a r o l (upd f k (nI 3)) lo hi s w rg rl rh vc vs)) rfl (by omega) (by decide) rfl dX0_writePacked_6 ?_
  refine x_aload_n 8 0 dX0_writePacked_7 rfl ?_
  refine get_X0 11 0 6 (v := .ref (a 6)) rfl (by decide) q37 rfl dX0_writePacked_8 ?_
  refine x_iload_n 12 1 dX0_writePacked_11 rfl ?_
  refine x_iload_n 13 3 dX0_writePacked_12 rfl ?_
  refine iast 14 6 (w' := (wX0 a r o l (upd f k (nI 3)) lo hi (upd s k (nI b)) w rg rl rh vc vs)) rfl (by omega) (by decide) rfl dX0_writePacked_13 ?_
  refine x_aload_n 15 0 dX0_writePacked_14 rfl ?_
  refine x_bipush 17 (v := nI 34) dX0_writePacked_15 kB_34 ?_
  refine x_iload_n 18 1 dX0_writePacked_17 rfl ?_
  refine x_imul 19 (v := nI (34 * k)) dX0_writePacked_18 (pk_mul _ _) ?_
  refine x_iload_n 20 3 dX0_writePacked_19 rfl ?_
  refine call_Vv 23 (av := [.int (nI (34 * k)), .int (nI b)]) (metX0_clearBits (cx_l K) a (34 * k) b (by omega) hb r o l (upd f k (nI 3)) lo hi (upd s k (nI b)) w rg rl rh vc vs) rfl rfl gwX0_clearBits nyX0_clearBits rfl (by omega) (by decide) (Nat.le_of_ble_eq_true rfl) rfl dX0_writePacked_20 ?_
  intro w_20 hq_20
  subst hq_20
  refine x_iconst 24 (v := nI 0) dX0_writePacked_23 kI_0 ?_
  refine x_istore 26 (lv' := [(4, .int (nI 0)), (0, .ref (a 0)), (1, .int (nI k)), (2, .int (nI fo)), (3, .int (nI b))]) dX0_writePacked_24 (by decide) rfl ?_
  refine x_sub (lv' := [(0, .ref (a 0)), (1, .int (nI k)), (2, .int (nI fo)), (3, .int (nI b)), (4, .int (nI 0))]) [1, 2, 3, 4, 0] rfl ?_
  refine loop_up (P := fun i => ∀ (w1 : Nat → Int32), (w1 = pks (clr w (34 * k) ((b + 1) / 2)) (34 * k) b (fun i => o (fo + i) - lo k) i) → CW K a cX0_writePacked 5 RX0 26 [(0, .ref (a 0)), (1, .int (nI k)), (2, .int (nI fo)), (3, .int (nI b)), (4, .int (nI i))] [] (wX0 a r o l (upd f k (nI 3)) lo hi (upd s k (nI b)) w1 rg rl rh vc vs)) 16 (fun i hi_i ih_i => ?_) 0 (by omega) (clr w (34 * k) ((b + 1) / 2)) rfl
  intro w1 hw
  refine x_iload 28 4 dX0_writePacked_26 rfl ?_
  refine x_bipush 30 (v := nI 16) dX0_writePacked_28 kB_16 ?_
  refine n_icmp_ge 33 66 dX0_writePacked_30 (by decide) (by omega) (by omega) (fun h_30 => ?_) (fun h_30 => ?_)
  ·
    exact ret 66 _ _ dX0_writePacked_66 (by rw [hw, show i = 16 by omega])
  ·
    refine x_aload_n 34 0 dX0_writePacked_33 rfl ?_
    refine x_bipush 36 (v := nI 34) dX0_writePacked_34 kB_34 ?_
    refine x_iload_n 37 1 dX0_writePacked_36 rfl ?_
    refine x_imul 38 (v := nI (34 * k)) dX0_writePacked_37 (pk_mul _ _) ?_
    refine x_iload_n 39 3 dX0_writePacked_38 rfl ?_
    refine x_iload 41 4 dX0_writePacked_39 rfl ?_
    refine x_aload_n 42 0 dX0_writePacked_41 rfl ?_
    refine get_X0 45 0 1 (v := .ref (a 1)) rfl (by decide) q32 rfl dX0_writePacked_42 ?_
    refine x_iload_n 46 2 dX0_writePacked_45 rfl ?_
    refine x_iload 48 4 dX0_writePacked_46 rfl ?_
    refine x_iadd 49 (v := nI (fo + i)) dX0_writePacked_48 (nI_add _ _) ?_
    refine iald 50 1 (f := o) rfl (by omega) (by decide) dX0_writePacked_49 ?_
    refine x_aload_n 51 0 dX0_writePacked_50 rfl ?_
    refine get_X0 54 0 4 (v := .ref (a 4)) rfl (by decide) q35 rfl dX0_writePacked_51 ?_
    refine x_iload_n 55 1 dX0_writePacked_54 rfl ?_
    refine iald 56 4 (f := lo) rfl (by omega) (by decide) dX0_writePacked_55 ?_
    refine x_isub 57 (v := (o (fo + i)) - (lo k)) dX0_writePacked_56 rfl ?_
    refine call_Vv 60 (av := [.int (nI (34 * k)), .int (nI b), .int (nI i), .int ((o (fo + i)) - (lo k))]) (metX0_putBits (cx_l K) a (34 * k) b i (o (fo + i) - lo k) (by omega) hb (by omega) r o l (upd f k (nI 3)) lo hi (upd s k (nI b)) w1 rg rl rh vc vs) rfl rfl gwX0_putBits nyX0_putBits rfl (by omega) (by decide) (Nat.le_of_ble_eq_true rfl) rfl dX0_writePacked_57 ?_
    intro w_57 hq_57
    subst hq_57
    refine x_iinc 63 (v := nI (i + 1)) (lv' := [(4, .int (nI (i + 1))), (0, .ref (a 0)), (1, .int (nI k)), (2, .int (nI fo)), (3, .int (nI b))]) 4 dX0_writePacked_60 rfl (inc1 _) (by decide) rfl ?_
    refine x_goto 26 dX0_writePacked_63 (by decide) ?_
    refine x_sub (lv' := [(0, .ref (a 0)), (1, .int (nI k)), (2, .int (nI fo)), (3, .int (nI b)), (4, .int (nI (i + 1)))]) [1, 2, 3, 4, 0] rfl ?_
    exact ih_i (i + 1) (by omega) (by omega) _ (by rw [hw, pks_s])
theorem metX0_writeDictionary (La : Launch) (a : Nat → Nat) (k fo b m : Nat) (hk : k < 12) (hf : fo + 16 ≤ 48) (hb : b ≤ 4) (hm : m ≤ 16) (r : Int32) (o l f lo hi s w rg rl rh : Nat → Int32) (vs : Nat → Int32) : MetW La yX0_writeDictionary cX0_writeDictionary 7 none 1 a [.ref (a 0), .int (nI k), .int (nI fo), .int (nI b)] (wX0 a r o l f lo hi s w rg rl rh (nI m) vs) (rpV (fun w' => w' = (wX0 a r o l (upd f k (nI 2)) lo hi (upd s k (nI m)) (pks (clr (fb_put w vs (34 * k) m) (34 * k + m) ((b + 1) / 2)) (34 * k + m) b (fun i => nI (ixf vs (o (fo + i)) m)) 16) rg rl rh (nI m) vs))) := by
  refine MetW.ofV (by decide) (Nat.le_of_ble_eq_true rfl) (fun K hKl hKd ret => ?_)
  subst hKl
  show CW K a cX0_writeDictionary 7 RX0 0 [(0, .ref (a 0)), (1, .int (nI k)), (2, .int (nI fo)), (3, .int (nI b))] [] (wX0 a r o l f lo hi s w rg rl rh (nI m) vs)
  refine x_aload_n 1 0 dX0_writeDictionary_0 rfl ?_
  refine get_X0 4 0 3 (v := .ref (a 3)) rfl (by decide) q34 rfl dX0_writeDictionary_1 ?_
  refine x_iload_n 5 1 dX0_writeDictionary_4 rfl ?_
  refine x_iconst 6 (v := nI 2) dX0_writeDictionary_5 kI_2 ?_
  refine iast 7 3 (w' := (wX0 a r o l (upd f k (nI 2)) lo hi s w rg rl rh (nI m) vs)) rfl (by omega) (by decide) rfl dX0_writeDictionary_6 ?_
  refine x_aload_n 8 0 dX0_writeDictionary_7 rfl ?_
  refine get_X0 11 0 6 (v := .ref (a 6)) rfl (by decide) q37 rfl dX0_writeDictionary_8 ?_
  refine x_iload_n 12 1 dX0_writeDictionary_11 rfl ?_
  refine x_aload_n 13 0 dX0_writeDictionary_12 rfl ?_
  refine get_X0 16 0 11 (v := .int (nI m)) rfl (by decide) q42 rfl dX0_writeDictionary_13 ?_
  refine iast 17 6 (w' := (wX0 a r o l (upd f k (nI 2)) lo hi (upd s k (nI m)) w rg rl rh (nI m) vs)) rfl (by omega) (by decide) rfl dX0_writeDictionary_16 ?_
  refine x_iconst 18 (v := nI 0) dX0_writeDictionary_17 kI_0 ?_
  refine x_istore 20 (lv' := [(4, .int (nI 0)), (0, .ref (a 0)), (1, .int (nI k)), (2, .int (nI fo)), (3, .int (nI b))]) dX0_writeDictionary_18 (by decide) rfl ?_
  refine x_sub (lv' := [(0, .ref (a 0)), (1, .int (nI k)), (2, .int (nI fo)), (3, .int (nI b)), (4, .int (nI 0))]) [1, 2, 3, 4, 0] rfl ?_
  refine loop_up (P := fun e => ∀ (w1 : Nat → Int32), (w1 = fb_put w vs (34 * k) e) → CW K a cX0_writeDictionary 7 RX0 20 [(0, .ref (a 0)), (1, .int (nI k)), (2, .int (nI fo)), (3, .int (nI b)), (4, .int (nI e))] [] (wX0 a r o l (upd f k (nI 2)) lo hi (upd s k (nI m)) w1 rg rl rh (nI m) vs)) m (fun e hi_e ih_e => ?_) 0 (by omega) w (fb_put_0 _ _ _).symm
  intro w1 hw
  refine x_iload 22 4 dX0_writeDictionary_20 rfl ?_
  refine x_aload_n 23 0 dX0_writeDictionary_22 rfl ?_
  refine get_X0 26 0 11 (v := .int (nI m)) rfl (by decide) q42 rfl dX0_writeDictionary_23 ?_
  refine n_icmp_ge 29 54 dX0_writeDictionary_26 (by decide) (by omega) (by omega) (fun h_26 => ?_) (fun h_26 => ?_)
  ·
    refine x_aload_n 55 0 dX0_writeDictionary_54 rfl ?_
    refine x_bipush 57 (v := nI 34) dX0_writeDictionary_55 kB_34 ?_
    refine x_iload_n 58 1 dX0_writeDictionary_57 rfl ?_
    refine x_imul 59 (v := nI (34 * k)) dX0_writeDictionary_58 (pk_mul _ _) ?_
    refine x_aload_n 60 0 dX0_writeDictionary_59 rfl ?_
    refine get_X0 63 0 11 (v := .int (nI m)) rfl (by decide) q42 rfl dX0_writeDictionary_60 ?_
    refine x_iadd 64 (v := nI (34 * k + m)) dX0_writeDictionary_63 (nI_add _ _) ?_
    refine x_iload_n 65 3 dX0_writeDictionary_64 rfl ?_
    refine call_Vv 68 (av := [.int (nI (34 * k + m)), .int (nI b)]) (metX0_clearBits (cx_l K) a (34 * k + m) b (by omega) (by omega) r o l (upd f k (nI 2)) lo hi (upd s k (nI m)) w1 rg rl rh (nI m) vs) rfl rfl gwX0_clearBits nyX0_clearBits rfl (by omega) (by decide) (Nat.le_of_ble_eq_true rfl) rfl dX0_writeDictionary_65 ?_
    intro w_65 hq_65
    subst hq_65
    refine x_iconst 69 (v := nI 0) dX0_writeDictionary_68 kI_0 ?_
    refine x_istore 71 (lv' := [(4, .int (nI 0)), (0, .ref (a 0)), (1, .int (nI k)), (2, .int (nI fo)), (3, .int (nI b))]) dX0_writeDictionary_69 (by decide) rfl ?_
    refine x_sub (lv' := [(0, .ref (a 0)), (1, .int (nI k)), (2, .int (nI fo)), (3, .int (nI b)), (4, .int (nI 0))]) [1, 2, 3, 4, 0] rfl ?_
    refine loop_up (P := fun i => ∀ (w2 : Nat → Int32), (w2 = pks (clr w1 (34 * k + m) ((b + 1) / 2)) (34 * k + m) b (fun i => nI (ixf vs (o (fo + i)) m)) i) → CW K a cX0_writeDictionary 7 RX0 71 [(0, .ref (a 0)), (1, .int (nI k)), (2, .int (nI fo)), (3, .int (nI b)), (4, .int (nI i))] [] (wX0 a r o l (upd f k (nI 2)) lo hi (upd s k (nI m)) w2 rg rl rh (nI m) vs)) 16 (fun i hi_i ih_i => ?_) 0 (by omega) (clr w1 (34 * k + m) ((b + 1) / 2)) rfl
    intro w2 hw2
    refine x_iload 73 4 dX0_writeDictionary_71 rfl ?_
    refine x_bipush 75 (v := nI 16) dX0_writeDictionary_73 kB_16 ?_
    refine n_icmp_ge 78 151 dX0_writeDictionary_75 (by decide) (by omega) (by omega) (fun h_75 => ?_) (fun h_75 => ?_)
    ·
      exact ret 151 _ _ dX0_writeDictionary_151 (by rw [hw2, hw, show i = 16 by omega, show e = m by omega])
    ·
      refine x_iconst 79 (v := nI 0) dX0_writeDictionary_78 kI_0 ?_
      refine x_istore 81 (lv' := [(5, .int (nI 0)), (0, .ref (a 0)), (1, .int (nI k)), (2, .int (nI fo)), (3, .int (nI b)), (4, .int (nI i))]) dX0_writeDictionary_79 (by decide) rfl ?_
      refine x_iconst 82 (v := nI 0) dX0_writeDictionary_81 kI_0 ?_
      refine x_istore 84 (lv' := [(6, .int (nI 0)), (5, .int (nI 0)), (0, .ref (a 0)), (1, .int (nI k)), (2, .int (nI fo)), (3, .int (nI b)), (4, .int (nI i))]) dX0_writeDictionary_82 (by decide) rfl ?_
      refine x_sub (lv' := [(0, .ref (a 0)), (1, .int (nI k)), (2, .int (nI fo)), (3, .int (nI b)), (4, .int (nI i)), (5, .int (nI 0)), (6, .int (nI 0))]) [2, 3, 4, 5, 6, 1, 0] rfl ?_
      refine loop_up (P := fun e2 => ∀ (ix : Nat), (ix = ixf vs (o (fo + i)) e2) → CW K a cX0_writeDictionary 7 RX0 84 [(0, .ref (a 0)), (1, .int (nI k)), (2, .int (nI fo)), (3, .int (nI b)), (4, .int (nI i)), (5, .int (nI ix)), (6, .int (nI e2))] [] (wX0 a r o l (upd f k (nI 2)) lo hi (upd s k (nI m)) w2 rg rl rh (nI m) vs)) m (fun e2 hi_e2 ih_e2 => ?_) 0 (by omega) 0 rfl
      intro ix hix
      refine x_iload 86 6 dX0_writeDictionary_84 rfl ?_
      refine x_aload_n 87 0 dX0_writeDictionary_86 rfl ?_
      refine get_X0 90 0 11 (v := .int (nI m)) rfl (by decide) q42 rfl dX0_writeDictionary_87 ?_
      refine n_icmp_ge 93 127 dX0_writeDictionary_90 (by decide) (by omega) (by omega) (fun h_90 => ?_) (fun h_90 => ?_)
      ·
        refine x_aload_n 128 0 dX0_writeDictionary_127 rfl ?_
        refine x_bipush 130 (v := nI 34) dX0_writeDictionary_128 kB_34 ?_
        refine x_iload_n 131 1 dX0_writeDictionary_130 rfl ?_
        refine x_imul 132 (v := nI (34 * k)) dX0_writeDictionary_131 (pk_mul _ _) ?_
        refine x_aload_n 133 0 dX0_writeDictionary_132 rfl ?_
        refine get_X0 136 0 11 (v := .int (nI m)) rfl (by decide) q42 rfl dX0_writeDictionary_133 ?_
        refine x_iadd 137 (v := nI (34 * k + m)) dX0_writeDictionary_136 (nI_add _ _) ?_
        refine x_iload_n 138 3 dX0_writeDictionary_137 rfl ?_
        refine x_iload 140 4 dX0_writeDictionary_138 rfl ?_
        refine x_iload 142 5 dX0_writeDictionary_140 rfl ?_
        refine call_Vv 145 (av := [.int (nI (34 * k + m)), .int (nI b), .int (nI i), .int (nI ix)]) (metX0_putBits (cx_l K) a (34 * k + m) b i (nI ix) (by omega) (by omega) (by omega) r o l (upd f k (nI 2)) lo hi (upd s k (nI m)) w2 rg rl rh (nI m) vs) rfl rfl gwX0_putBits nyX0_putBits rfl (by omega) (by decide) (Nat.le_of_ble_eq_true rfl) rfl dX0_writeDictionary_142 ?_
        intro w_142 hq_142
        subst hq_142
        refine x_iinc 148 (v := nI (i + 1)) (lv' := [(4, .int (nI (i + 1))), (0, .ref (a 0)), (1, .int (nI k)), (2, .int (nI fo)), (3, .int (nI b)), (5, .int (nI ix)), (6, .int (nI e2))]) 4 dX0_writeDictionary_145 rfl (inc1 _) (by decide) rfl ?_
        refine x_goto 71 dX0_writeDictionary_148 (by decide) ?_
        refine x_sub (lv' := [(0, .ref (a 0)), (1, .int (nI k)), (2, .int (nI fo)), (3, .int (nI b)), (4, .int (nI (i + 1)))]) [1, 2, 3, 4, 0] rfl ?_
        exact ih_i (i + 1) (by omega) (by omega) _ (by rw [hw2, hix, show e2 = m by omega, pks_s])
      ·
        refine x_aload_n 94 0 dX0_writeDictionary_93 rfl ?_
        refine get_X0 97 0 12 (v := .ref (a 12)) rfl (by decide) q43 rfl dX0_writeDictionary_94 ?_
        refine x_iload 99 6 dX0_writeDictionary_97 rfl ?_
        refine iald 100 11 (f := vs) rfl (by omega) (by decide) dX0_writeDictionary_99 ?_
        refine x_aload_n 101 0 dX0_writeDictionary_100 rfl ?_
        refine get_X0 104 0 1 (v := .ref (a 1)) rfl (by decide) q32 rfl dX0_writeDictionary_101 ?_
        refine x_iload_n 105 2 dX0_writeDictionary_104 rfl ?_
        refine x_iload 107 4 dX0_writeDictionary_105 rfl ?_
        refine x_iadd 108 (v := nI (fo + i)) dX0_writeDictionary_107 (nI_add _ _) ?_
        refine iald 109 1 (f := o) rfl (by omega) (by decide) dX0_writeDictionary_108 ?_
        refine x_icmp_ne 112 117 dX0_writeDictionary_109 (by decide) (fun h_109 => ?_) (fun h_109 => ?_)
        ·
          refine x_iload 119 5 dX0_writeDictionary_117 rfl ?_
          refine x_istore 121 (lv' := [(5, .int (nI ix)), (0, .ref (a 0)), (1, .int (nI k)), (2, .int (nI fo)), (3, .int (nI b)), (4, .int (nI i)), (6, .int (nI e2))]) dX0_writeDictionary_119 (by decide) rfl ?_
          refine x_iinc 124 (v := nI (e2 + 1)) (lv' := [(6, .int (nI (e2 + 1))), (5, .int (nI ix)), (0, .ref (a 0)), (1, .int (nI k)), (2, .int (nI fo)), (3, .int (nI b)), (4, .int (nI i))]) 6 dX0_writeDictionary_121 rfl (inc1 _) (by decide) rfl ?_
          refine x_goto 84 dX0_writeDictionary_124 (by decide) ?_
          refine x_sub (lv' := [(0, .ref (a 0)), (1, .int (nI k)), (2, .int (nI fo)), (3, .int (nI b)), (4, .int (nI i)), (5, .int (nI ix)), (6, .int (nI (e2 + 1)))]) [2, 3, 4, 5, 6, 1, 0] rfl ?_
          exact ih_e2 (e2 + 1) (by omega) (by omega) _ (by first | rw [ixf_t h_109] | rw [ixf_f h_109, hix])
        ·
          refine x_iload 114 6 dX0_writeDictionary_112 rfl ?_
          refine x_goto 119 dX0_writeDictionary_114 (by decide) ?_
          refine x_istore 121 (lv' := [(5, .int (nI e2)), (0, .ref (a 0)), (1, .int (nI k)), (2, .int (nI fo)), (3, .int (nI b)), (4, .int (nI i)), (6, .int (nI e2))]) dX0_writeDictionary_119 (by decide) rfl ?_
          refine x_iinc 124 (v := nI (e2 + 1)) (lv' := [(6, .int (nI (e2 + 1))), (5, .int (nI e2)), (0, .ref (a 0)), (1, .int (nI k)), (2, .int (nI fo)), (3, .int (nI b)), (4, .int (nI i))]) 6 dX0_writeDictionary_121 rfl (inc1 _) (by decide) rfl ?_
          refine x_goto 84 dX0_writeDictionary_124 (by decide) ?_
          refine x_sub (lv' := [(0, .ref (a 0)), (1, .int (nI k)), (2, .int (nI fo)), (3, .int (nI b)), (4, .int (nI i)), (5, .int (nI e2)), (6, .int (nI (e2 + 1)))]) [2, 3, 4, 5, 6, 1, 0] rfl ?_
          exact ih_e2 (e2 + 1) (by omega) (by omega) _ (by first | rw [ixf_t h_109] | rw [ixf_f h_109, hix])
  ·
    refine x_aload_n 30 0 dX0_writeDictionary_29 rfl ?_
    refine get_X0 33 0 7 (v := .ref (a 7)) rfl (by decide) q38 rfl dX0_writeDictionary_30 ?_
    refine x_bipush 35 (v := nI 34) dX0_writeDictionary_33 kB_34 ?_
    refine x_iload_n 36 1 dX0_writeDictionary_35 rfl ?_
    refine x_imul 37 (v := nI (34 * k)) dX0_writeDictionary_36 (pk_mul _ _) ?_
    refine x_iload 39 4 dX0_writeDictionary_37 rfl ?_
    refine x_iadd 40 (v := nI (34 * k + e)) dX0_writeDictionary_39 (nI_add _ _) ?_
    refine x_aload_n 41 0 dX0_writeDictionary_40 rfl ?_
    refine get_X0 44 0 12 (v := .ref (a 12)) rfl (by decide) q43 rfl dX0_writeDictionary_41 ?_
    refine x_iload 46 4 dX0_writeDictionary_44 rfl ?_
    refine iald 47 11 (f := vs) rfl (by omega) (by decide) dX0_writeDictionary_46 ?_
    refine iast 48 7 (w' := (wX0 a r o l (upd f k (nI 2)) lo hi (upd s k (nI m)) (upd w1 (34 * k + e) (vs e)) rg rl rh (nI m) vs)) rfl (by omega) (by decide) rfl dX0_writeDictionary_47 ?_
    refine x_iinc 51 (v := nI (e + 1)) (lv' := [(4, .int (nI (e + 1))), (0, .ref (a 0)), (1, .int (nI k)), (2, .int (nI fo)), (3, .int (nI b))]) 4 dX0_writeDictionary_48 rfl (inc1 _) (by decide) rfl ?_
    refine x_goto 20 dX0_writeDictionary_51 (by decide) ?_
    refine x_sub (lv' := [(0, .ref (a 0)), (1, .int (nI k)), (2, .int (nI fo)), (3, .int (nI b)), (4, .int (nI (e + 1)))]) [1, 2, 3, 4, 0] rfl ?_
    exact ih_e (e + 1) (by omega) (by omega) _ (by rw [hw]; exact fb_put_succ w vs (34 * k) e)
end
section
set_option maxRecDepth 100000
set_option maxHeartbeats 1000000
theorem le_rf (x : Int32) : x ≤ x := Int32.le_refl x
/-! closing a column -/
def CI (o lo hi : Nat → Int32) (k fo t : Nat) (lo1 hi1 : Nat → Int32) (cnt : Nat) (vs1 : Nat → Int32) : Prop :=
  (∀ j, j ≠ k → lo1 j = lo j ∧ hi1 j = hi j) ∧ (∀ p, p < t → lo1 k ≤ o (fo + p) ∧ o (fo + p) ≤ hi1 k) ∧ Asc vs1 cnt ∧ cnt ≤ t ∧ (0 < t → 0 < cnt) ∧ ∀ p, p < t → ∃ j, j < cnt ∧ vs1 j = o (fo + p)
theorem CI_0 (o lo hi : Nat → Int32) (k fo : Nat) (x y : Int32) (vs : Nat → Int32) : CI o lo hi k fo 0 (upd lo k x) (upd hi k y) 0 vs :=
  ⟨fun j hj => ⟨pk_un hj, pk_un hj⟩, fun p h => absurd h (Nat.not_lt_zero p), fun i j _ h => absurd h (Nat.not_lt_zero j), Nat.le_refl 0, fun h => absurd h (Nat.lt_irrefl 0), fun p h => absurd h (Nat.not_lt_zero p)⟩
theorem CI_s {o lo hi : Nat → Int32} {k fo t : Nat} {lo1 hi1 : Nat → Int32} {cnt cnt' : Nat} {vs1 vs' : Nat → Int32} {ml mh : Int32} (h : CI o lo hi k fo t lo1 hi1 cnt vs1) (a1 : ml ≤ o (fo + t)) (a2 : ml ≤ lo1 k) (a3 : o (fo + t) ≤ mh) (a4 : hi1 k ≤ mh) (ha : AddOk cnt vs1 (o (fo + t)) cnt' vs') : CI o lo hi k fo (t + 1) (upd lo1 k ml) (upd hi1 k mh) cnt' vs' := by
  obtain ⟨h1, h2, h3, h4, h5, h6⟩ := h
  have hme := (ha.2.1 (o (fo + t))).mpr (Or.inl rfl)
  refine ⟨fun j hj => ⟨by rw [pk_un hj]; exact (h1 j hj).1, by rw [pk_un hj]; exact (h1 j hj).2⟩, fun p hp => ?_, ha.1, ?_, fun _ => ?_, fun p hp => ?_⟩
  · rw [pk_us, pk_us]
    rcases Nat.lt_or_ge p t with q | q
    · exact ⟨le_tr a2 (h2 p q).1, le_tr (h2 p q).2 a4⟩
    · rw [show p = t by omega]; exact ⟨a1, a3⟩
  · rcases ha.2.2 with z | z <;> omega
  · obtain ⟨j, hj, _⟩ := hme; omega
  · rcases Nat.lt_or_ge p t with q | q
    · exact (ha.2.1 _).mpr (Or.inr (h6 p q))
    · rw [show p = t by omega]; exact hme
/-- what lies outside part k stays -/
def CFr (k : Nat) (f lo hi s w f' lo' hi' s' w' : Nat → Int32) : Prop := (∀ j, j ≠ k → f' j = f j ∧ lo' j = lo j ∧ hi' j = hi j ∧ s' j = s j) ∧ ∀ q, (q < 34 * k ∨ 34 * k + 34 ≤ q) → w' q = w q
theorem FormOk_cong {f lo s w : Nat → Int32} {k : Nat} {X X' : Nat → Int32} (hX : ∀ p, p < 16 → X p = X' p) (h : FormOk f lo s w k X) : FormOk f lo s w k X' := by
  rcases h with ⟨a, b⟩ | ⟨a, m, b, c1, c2⟩ | ⟨a, m, b, c1, c2, c3, c4⟩ | ⟨a, m, b, c1, c2⟩
  · exact Or.inl ⟨a, fun p hp => by rw [b p hp, hX p hp]⟩
  · exact Or.inr (Or.inl ⟨a, m, b, c1, fun p hp => by rw [← hX p hp]; exact c2 p hp⟩)
  · exact Or.inr (Or.inr (Or.inl ⟨a, m, b, c1, c2, c3, fun p hp => by rw [← hX p hp]; exact c4 p hp⟩))
  · exact Or.inr (Or.inr (Or.inr ⟨a, m, b, c1, fun p hp => by rw [c2 p hp, hX p hp]⟩))
theorem PartOk_cong {f lo hi s w : Nat → Int32} {k : Nat} {X X' : Nat → Int32} (hX : ∀ p, p < 16 → X p = X' p) (h : PartOk f lo hi s w k X) : PartOk f lo hi s w k X' :=
  ⟨fun p hp => by rw [← hX p hp]; exact h.1 p hp, FormOk_cong hX h.2⟩
theorem PartOk_frame {k j : Nat} {f lo hi s w f' lo' hi' s' w' X : Nat → Int32} (hF : CFr k f lo hi s w f' lo' hi' s' w') (hj : j ≠ k) (h : PartOk f lo hi s w j X) : PartOk f' lo' hi' s' w' j X := by
  obtain ⟨e1, e2, e3, e4⟩ := hF.1 j hj
  have ew : ∀ d, d < 34 → w' (34 * j + d) = w (34 * j + d) := fun d hd => hF.2 _ (by omega)
  refine ⟨fun p hp => by rw [e2, e3]; exact h.1 p hp, ?_⟩
  rcases h.2 with ⟨a, b⟩ | ⟨a, m, b, c1, c2⟩ | ⟨a, m, b, c1, c2, c3, c4⟩ | ⟨a, m, b, c1, c2⟩
  · exact Or.inl ⟨by rw [e1]; exact a, fun p hp => by rw [ew p (by omega)]; exact b p hp⟩
  · refine Or.inr (Or.inl ⟨by rw [e1]; exact a, m, by rw [e4]; exact b, c1, fun p hp => ?_⟩)
    obtain ⟨i, q1, q2, q3, q4⟩ := c2 p hp
    have ea : ∀ i, i < m → w' (34 * j + 2 * i + 1) = w (34 * j + 2 * i + 1) := fun i hi => hF.2 _ (by omega)
    exact ⟨i, q1, by rw [ea i q1]; exact q2, by rw [ew (2 * i) (by omega)]; exact q3, fun i' z1 z2 => q4 i' z1 (by rw [ea i' z1] at z2; exact z2)⟩
  · refine Or.inr (Or.inr (Or.inl ⟨by rw [e1]; exact a, m, by rw [e4]; exact b, c1, c2, fun x y hxy hy => by rw [ew x (by omega), ew y (by omega)]; exact c3 x y hxy hy, fun p hp => ?_⟩))
    obtain ⟨e, q1, q2, q3⟩ := c4 p hp
    have hib := ib_le c2
    exact ⟨e, q1, by rw [gb_cong (by omega) hp (fun y y1 y2 => hF.2 y (by omega))]; exact q2, by rw [ew e (by omega)]; exact q3⟩
  · exact Or.inr (Or.inr (Or.inr ⟨by rw [e1]; exact a, m, by rw [e4]; exact b, c1, fun p hp => by rw [e2, gb_cong c1 hp (fun y y1 y2 => hF.2 y (by omega))]; exact c2 p hp⟩))
section CC
variable {o lo hi f s w lo1 hi1 vs1 w2 : Nat → Int32} {k fo cnt m wd : Nat}
theorem cc_runs (h : CI o lo hi k fo 16 lo1 hi1 cnt vs1) (hR : RunsOk w2 k m (fun p => o (fo + p))) (hfr : ∀ q, (q < 34 * k ∨ 34 * k + 34 ≤ q) → w2 q = w q) : PartOk (upd f k (nI 1)) lo1 hi1 (upd s k (nI m)) w2 k (fun p => o (fo + p)) ∧ CFr k f lo hi s w (upd f k (nI 1)) lo1 hi1 (upd s k (nI m)) w2 :=
  ⟨⟨h.2.1, Or.inr (Or.inl ⟨pk_us, m, pk_us, hR⟩)⟩, fun j hj => ⟨pk_un hj, (h.1 j hj).1, (h.1 j hj).2, pk_un hj⟩, hfr⟩
theorem cc_plain (h : CI o lo hi k fo 16 lo1 hi1 cnt vs1) : PartOk (upd f k (nI 0)) lo1 hi1 s (fb_put w (fun p => o (fo + p)) (34 * k) 16) k (fun p => o (fo + p)) ∧ CFr k f lo hi s w (upd f k (nI 0)) lo1 hi1 s (fb_put w (fun p => o (fo + p)) (34 * k) 16) :=
  ⟨⟨h.2.1, Or.inl ⟨pk_us, fun p hp => by rw [fb_put_in (by omega) (by omega), show 34 * k + p - 34 * k = p by omega]⟩⟩, fun j hj => ⟨pk_un hj, (h.1 j hj).1, (h.1 j hj).2, rfl⟩, fun q hq => fb_put_out (by omega)⟩
theorem clr_out {q n y : Nat} (h : y < q ∨ q + n ≤ y) : clr w q n y = w y := if_neg (by omega)
theorem cc_pack (h : CI o lo hi k fo 16 lo1 hi1 cnt vs1) (hwd : bl (hi1 k - lo1 k) 32 = wd) (hw : wd ≤ 31) : PartOk (upd f k (nI 3)) lo1 hi1 (upd s k (nI wd)) (pks (clr w (34 * k) ((wd + 1) / 2)) (34 * k) wd (fun i => o (fo + i) - lo1 k) 16) k (fun p => o (fo + p)) ∧ CFr k f lo hi s w (upd f k (nI 3)) lo1 hi1 (upd s k (nI wd)) (pks (clr w (34 * k) ((wd + 1) / 2)) (34 * k) wd (fun i => o (fo + i) - lo1 k) 16) := by
  refine ⟨⟨h.2.1, Or.inr (Or.inr (Or.inr ⟨pk_us, wd, pk_us, hw, fun p hp => ?_⟩))⟩, fun j hj => ⟨pk_un hj, (h.1 j hj).1, (h.1 j hj).2, pk_un hj⟩, fun q hq => ?_⟩
  · rw [gb_pks w (34 * k) wd (fun i => o (fo + i) - lo1 k) hw (fun i hi j a b => diff_bits (h.2.1 i hi).1 (h.2.1 i hi).2 j (by rw [hwd]; exact a) b) hp]
    exact add_sub_x _ _
  · rw [pks_out _ _ _ _ hw (by omega) 16 (Nat.le_refl _), clr_out (by omega)]
theorem cc_dict (h : CI o lo hi k fo 16 lo1 hi1 cnt vs1) : PartOk (upd f k (nI 2)) lo1 hi1 (upd s k (nI cnt)) (pks (clr (fb_put w vs1 (34 * k) cnt) (34 * k + cnt) ((ib cnt + 1) / 2)) (34 * k + cnt) (ib cnt) (fun i => nI (ixf vs1 (o (fo + i)) cnt)) 16) k (fun p => o (fo + p)) ∧ CFr k f lo hi s w (upd f k (nI 2)) lo1 hi1 (upd s k (nI cnt)) (pks (clr (fb_put w vs1 (34 * k) cnt) (34 * k + cnt) ((ib cnt + 1) / 2)) (34 * k + cnt) (ib cnt) (fun i => nI (ixf vs1 (o (fo + i)) cnt)) 16) := by
  obtain ⟨h1, h2, h3, h4, h5, h6⟩ := h
  have h5 := h5 (by decide)
  have hib := ib_le h4
  have lowv : ∀ e, e < cnt → pks (clr (fb_put w vs1 (34 * k) cnt) (34 * k + cnt) ((ib cnt + 1) / 2)) (34 * k + cnt) (ib cnt) (fun i => nI (ixf vs1 (o (fo + i)) cnt)) 16 (34 * k + e) = vs1 e := by
    intro e he
    rw [pks_out _ _ _ _ (by omega) (by omega) 16 (Nat.le_refl _), clr_out (by omega), fb_put_in (by omega) (by omega), show 34 * k + e - 34 * k = e by omega]
  refine ⟨⟨h2, Or.inr (Or.inr (Or.inl ⟨pk_us, cnt, pk_us, h5, h4, fun i j a b => ?_, fun p hp => ?_⟩))⟩, fun j hj => ⟨pk_un hj, (h1 j hj).1, (h1 j hj).2, pk_un hj⟩, fun q hq => ?_⟩
  · rw [lowv i (by omega), lowv j b]; exact h3 i j a b
  · have z := ixf_ok cnt (h6 p hp)
    refine ⟨ixf vs1 (o (fo + p)) cnt, z.1, ?_, by rw [lowv _ z.1]; exact z.2⟩
    exact gb_pks (fb_put w vs1 (34 * k) cnt) (34 * k + cnt) (ib cnt) (fun i => nI (ixf vs1 (o (fo + i)) cnt)) (by omega) (fun i hi j a b => idx_bits h4 (ixf_ok cnt (h6 i hi)).1 j a b) hp
  · rw [pks_out _ _ _ _ (by omega) (by omega) 16 (Nat.le_refl _), clr_out (by omega), fb_put_out (by omega)]
end CC

theorem metX0_closeColumn (La : Launch) (a : Nat → Nat) (k fo : Nat) (hk : k < 12) (hf : fo + 16 ≤ 48) (r : Int32) (o l f lo hi s w rg rl rh : Nat → Int32) (vc : Int32) (vs : Nat → Int32) : MetW La yX0_closeColumn cX0_closeColumn 8 none 2 a [.ref (a 0), .int (nI k), .int (nI fo)] (wX0 a r o l f lo hi s w rg rl rh vc vs) (rpV (fun w' => ∃ f' lo' hi' s' w2 vc' vs', w' = (wX0 a r o l f' lo' hi' s' w2 rg rl rh vc' vs') ∧ PartOk f' lo' hi' s' w2 k (fun p => o (fo + p)) ∧ CFr k f lo hi s w f' lo' hi' s' w2)) := by
  refine MetW.ofV (by decide) (Nat.le_of_ble_eq_true rfl) (fun K hKl hKd ret => ?_)
  subst hKl
  show CW K a cX0_closeColumn 8 RX0 0 [(0, .ref (a 0)), (1, .int (nI k)), (2, .int (nI fo))] [] (wX0 a r o l f lo hi s w rg rl rh vc vs)
  refine x_aload_n 1 0 dX0_closeColumn_0 rfl ?_
  refine get_X0 4 0 4 (v := .ref (a 4)) rfl (by decide) q35 rfl dX0_closeColumn_1 ?_
  refine x_iload_n 5 1 dX0_closeColumn_4 rfl ?_
  refine x_aload_n 6 0 dX0_closeColumn_5 rfl ?_
  refine get_X0 9 0 1 (v := .ref (a 1)) rfl (by decide) q32 rfl dX0_closeColumn_6 ?_
  refine x_iload_n 10 2 dX0_closeColumn_9 rfl ?_
  refine iald 11 1 (f := o) rfl (by omega) (by decide) dX0_closeColumn_10 ?_
  refine iast 12 4 (w' := (wX0 a r o l f (upd lo k (o fo)) hi s w rg rl rh vc vs)) rfl (by omega) (by decide) rfl dX0_closeColumn_11 ?_
  refine x_aload_n 13 0 dX0_closeColumn_12 rfl ?_
  refine get_X0 16 0 5 (v := .ref (a 5)) rfl (by decide) q36 rfl dX0_closeColumn_13 ?_
  refine x_iload_n 17 1 dX0_closeColumn_16 rfl ?_
  refine x_aload_n 18 0 dX0_closeColumn_17 rfl ?_
  refine get_X0 21 0 1 (v := .ref (a 1)) rfl (by decide) q32 rfl dX0_closeColumn_18 ?_
  refine x_iload_n 22 2 dX0_closeColumn_21 rfl ?_
  refine iald 23 1 (f := o) rfl (by omega) (by decide) dX0_closeColumn_22 ?_
  refine iast 24 5 (w' := (wX0 a r o l f (upd lo k (o fo)) (upd hi k (o fo)) s w rg rl rh vc vs)) rfl (by omega) (by decide) rfl dX0_closeColumn_23 ?_
  refine x_iconst 25 (v := nI 1) dX0_closeColumn_24 kI_1 ?_
  refine x_istore_n 26 (lv' := [(3, .int (nI 1)), (0, .ref (a 0)), (1, .int (nI k)), (2, .int (nI fo))]) dX0_closeColumn_25 (by decide) rfl ?_
  refine x_aload_n 27 1 dX0_closeColumn_26 rfl ?_
  refine x_iconst 28 (v := nI 0) dX0_closeColumn_27 kI_0 ?_
  refine put_X0 31 (w' := (wX0 a r o l f (upd lo k (o fo)) (upd hi k (o fo)) s w rg rl rh (nI 0) vs)) 0 11 rfl (by decide) q42 rfl (by decide +kernel) (Nat.le_of_ble_eq_true rfl) rfl dX0_closeColumn_28 ?_
  refine x_iconst 32 (v := nI 0) dX0_closeColumn_31 kI_0 ?_
  refine x_istore 34 (lv' := [(4, .int (nI 0)), (3, .int (nI 1)), (0, .ref (a 0)), (1, .int (nI k)), (2, .int (nI fo))]) dX0_closeColumn_32 (by decide) rfl ?_
  refine x_sub (lv' := [(0, .ref (a 0)), (1, .int (nI k)), (2, .int (nI fo)), (3, .int (nI 1)), (4, .int (nI 0))]) [2, 3, 4, 1, 0] rfl ?_
  refine loop_up (P := fun t => ∀ (rn : Nat) (cnt : Nat) (lo1 : Nat → Int32) (hi1 : Nat → Int32) (vs1 : Nat → Int32), (rn ≤ t + 1) → (CI o lo hi k fo t lo1 hi1 cnt vs1) → CW K a cX0_closeColumn 8 RX0 34 [(0, .ref (a 0)), (1, .int (nI k)), (2, .int (nI fo)), (3, .int (nI rn)), (4, .int (nI t))] [] (wX0 a r o l f lo1 hi1 s w rg rl rh (nI cnt) vs1)) 16 (fun t hi_t ih_t => ?_) 0 (by omega) 1 0 (upd lo k (o fo)) (upd hi k (o fo)) vs (by decide) (CI_0 _ _ _ _ _ _ _ _)
  intro rn cnt lo1 hi1 vs1 hrn hci
  refine x_iload 36 4 dX0_closeColumn_34 rfl ?_
  refine x_bipush 38 (v := nI 16) dX0_closeColumn_36 kB_16 ?_
  refine n_icmp_ge 41 149 dX0_closeColumn_38 (by decide) (by omega) (by omega) (fun h_38 => ?_) (fun h_38 => ?_)
  ·
    have hci : CI o lo hi k fo 16 lo1 hi1 cnt vs1 := by rw [show t = 16 by omega] at hci; exact hci
    have hcn : cnt ≤ 16 := hci.2.2.2.1
    have hc0 : 0 < cnt := hci.2.2.2.2.1 (by decide)
    have hib := ib_le hcn
    refine x_aload_n 150 0 dX0_closeColumn_149 rfl ?_
    refine get_X0 153 0 5 (v := .ref (a 5)) rfl (by decide) q36 rfl dX0_closeColumn_150 ?_
    refine x_iload_n 154 1 dX0_closeColumn_153 rfl ?_
    refine iald 155 5 (f := hi1) rfl (by omega) (by decide) dX0_closeColumn_154 ?_
    refine x_aload_n 156 0 dX0_closeColumn_155 rfl ?_
    refine get_X0 159 0 4 (v := .ref (a 4)) rfl (by decide) q35 rfl dX0_closeColumn_156 ?_
    refine x_iload_n 160 1 dX0_closeColumn_159 rfl ?_
    refine iald 161 4 (f := lo1) rfl (by omega) (by decide) dX0_closeColumn_160 ?_
    refine x_isub 162 (v := (hi1 k) - (lo1 k)) dX0_closeColumn_161 rfl ?_
    refine call_Si 165 (av := [.int ((hi1 k) - (lo1 k))]) (metX0_bitsFor (cx_l K) a (hi1 k - lo1 k)) gwX0_bitsFor nyX0_bitsFor rfl (by omega) (by decide) (Nat.le_of_ble_eq_true rfl) rfl dX0_closeColumn_162 ?_
    intro r_162 w_162 hq_162
    subst hq_162
    generalize hwd : bl (hi1 k - lo1 k) 32 = wd
    have hwl : wd ≤ 32 := by rw [← hwd]; exact bl_le _ _
    refine x_istore 167 (lv' := [(4, .int (nI wd)), (0, .ref (a 0)), (1, .int (nI k)), (2, .int (nI fo)), (3, .int (nI rn))]) dX0_closeColumn_165 (by decide) rfl ?_
    refine x_aload_n 168 1 dX0_closeColumn_167 rfl ?_
    refine get_X0 171 0 11 (v := .int (nI cnt)) rfl (by decide) q42 rfl dX0_closeColumn_168 ?_
    refine x_iconst 172 (v := nI 1) dX0_closeColumn_171 kI_1 ?_
    refine x_isub 173 (v := nI (cnt - 1)) dX0_closeColumn_172 (pk_sub (by omega)) ?_
    refine call_Si 176 (av := [.int (nI (cnt - 1))]) (metX0_bitsFor (cx_l K) a (nI (cnt - 1))) gwX0_bitsFor nyX0_bitsFor rfl (by omega) (by decide) (Nat.le_of_ble_eq_true rfl) rfl dX0_closeColumn_173 ?_
    intro r_173 w_173 hq_173
    subst hq_173
    refine x_istore 178 (lv' := [(5, .int (nI (ib cnt))), (4, .int (nI wd)), (0, .ref (a 0)), (1, .int (nI k)), (2, .int (nI fo)), (3, .int (nI rn))]) dX0_closeColumn_176 (by decide) rfl ?_
    refine x_iload 180 1 dX0_closeColumn_178 rfl ?_
    refine x_iconst 181 (v := nI 1) dX0_closeColumn_180 kI_1 ?_
    refine x_iadd 182 (v := nI (wd + 1)) dX0_closeColumn_181 (nI_add _ _) ?_
    refine x_iconst 183 (v := nI 1) dX0_closeColumn_182 kI_1 ?_
    refine x_ishr 184 (v := nI ((wd + 1) / 2)) dX0_closeColumn_183 (shr1 (by omega)) ?_
    refine x_istore 186 (lv' := [(6, .int (nI ((wd + 1) / 2))), (5, .int (nI (ib cnt))), (4, .int (nI wd)), (0, .ref (a 0)), (1, .int (nI k)), (2, .int (nI fo)), (3, .int (nI rn))]) dX0_closeColumn_184 (by decide) rfl ?_
    refine x_aload_n 187 3 dX0_closeColumn_186 rfl ?_
    refine get_X0 190 0 11 (v := .int (nI cnt)) rfl (by decide) q42 rfl dX0_closeColumn_187 ?_
    refine x_iload 192 1 dX0_closeColumn_190 rfl ?_
    refine x_iconst 193 (v := nI 1) dX0_closeColumn_192 kI_1 ?_
    refine x_iadd 194 (v := nI (ib cnt + 1)) dX0_closeColumn_193 (nI_add _ _) ?_
    refine x_iconst 195 (v := nI 1) dX0_closeColumn_194 kI_1 ?_
    refine x_ishr 196 (v := nI ((ib cnt + 1) / 2)) dX0_closeColumn_195 (shr1 (by omega)) ?_
    refine x_iadd 197 (v := nI (cnt + (ib cnt + 1) / 2)) dX0_closeColumn_196 (nI_add _ _) ?_
    refine x_istore 199 (lv' := [(7, .int (nI (cnt + (ib cnt + 1) / 2))), (6, .int (nI ((wd + 1) / 2))), (5, .int (nI (ib cnt))), (4, .int (nI wd)), (0, .ref (a 0)), (1, .int (nI k)), (2, .int (nI fo)), (3, .int (nI rn))]) dX0_closeColumn_197 (by decide) rfl ?_
    have hj_224 : CW K a cX0_closeColumn 8 RX0 224 [(0, .ref (a 0)), (1, .int (nI k)), (2, .int (nI fo)), (3, .int (nI rn)), (4, .int (nI wd)), (5, .int (nI (ib cnt))), (6, .int (nI ((wd + 1) / 2))), (7, .int (nI (cnt + (ib cnt + 1) / 2)))] [] (wX0 a r o l f lo1 hi1 s w rg rl rh (nI cnt) vs1) := by
      refine x_iload 226 7 dX0_closeColumn_224 rfl ?_
      refine x_iload 228 6 dX0_closeColumn_226 rfl ?_
      refine n_icmp_ge 231 242 dX0_closeColumn_228 (by decide) (by omega) (by omega) (fun h_228 => ?_) (fun h_228 => ?_)
      ·
        refine x_iload 244 4 dX0_closeColumn_242 rfl ?_
        refine x_bipush 246 (v := nI 32) dX0_closeColumn_244 kB_32 ?_
        refine n_icmp_ge 249 260 dX0_closeColumn_246 (by decide) (by omega) (by omega) (fun h_246 => ?_) (fun h_246 => ?_)
        ·
          refine x_aload_n 261 0 dX0_closeColumn_260 rfl ?_
          refine x_iload_n 262 1 dX0_closeColumn_261 rfl ?_
          refine x_iload_n 263 2 dX0_closeColumn_262 rfl ?_
          refine call_Vv 266 (av := [.int (nI k), .int (nI fo)]) (metX0_writePlain (cx_l K) a k fo hk hf r o l f lo1 hi1 s w rg rl rh (nI cnt) vs1) rfl rfl gwX0_writePlain nyX0_writePlain rfl (by omega) (by decide) (Nat.le_of_ble_eq_true rfl) rfl dX0_closeColumn_263 ?_
          intro w_263 hq_263
          subst hq_263
          exact ret 266 _ _ dX0_closeColumn_266 ⟨_, _, _, _, _, _, _, rfl, cc_plain hci⟩
        ·
          refine x_aload_n 250 0 dX0_closeColumn_249 rfl ?_
          refine x_iload_n 251 1 dX0_closeColumn_250 rfl ?_
          refine x_iload_n 252 2 dX0_closeColumn_251 rfl ?_
          refine x_iload 254 4 dX0_closeColumn_252 rfl ?_
          refine call_Vv 257 (av := [.int (nI k), .int (nI fo), .int (nI wd)]) (metX0_writePacked (cx_l K) a k fo wd hk hf (by omega) r o l f lo1 hi1 s w rg rl rh (nI cnt) vs1) rfl rfl gwX0_writePacked nyX0_writePacked rfl (by omega) (by decide) (Nat.le_of_ble_eq_true rfl) rfl dX0_closeColumn_254 ?_
          intro w_254 hq_254
          subst hq_254
          refine x_goto 266 dX0_closeColumn_257 (by decide) ?_
          exact ret 266 _ _ dX0_closeColumn_266 ⟨_, _, _, _, _, _, _, rfl, cc_pack hci hwd (by omega)⟩
      ·
        refine x_aload_n 232 0 dX0_closeColumn_231 rfl ?_
        refine x_iload_n 233 1 dX0_closeColumn_232 rfl ?_
        refine x_iload_n 234 2 dX0_closeColumn_233 rfl ?_
        refine x_iload 236 5 dX0_closeColumn_234 rfl ?_
        refine call_Vv 239 (av := [.int (nI k), .int (nI fo), .int (nI (ib cnt))]) (metX0_writeDictionary (cx_l K) a k fo (ib cnt) cnt hk hf hib hcn r o l f lo1 hi1 s w rg rl rh vs1) rfl rfl gwX0_writeDictionary nyX0_writeDictionary rfl (by omega) (by decide) (Nat.le_of_ble_eq_true rfl) rfl dX0_closeColumn_236 ?_
        intro w_236 hq_236
        subst hq_236
        refine x_goto 266 dX0_closeColumn_239 (by decide) ?_
        exact ret 266 _ _ dX0_closeColumn_266 ⟨_, _, _, _, _, _, _, rfl, cc_dict hci⟩
    refine x_iconst 200 (v := nI 2) dX0_closeColumn_199 kI_2 ?_
    refine x_iload_n 201 7 dX0_closeColumn_200 rfl ?_
    refine x_imul 202 (v := nI (2 * rn)) dX0_closeColumn_201 (pk_mul _ _) ?_
    refine x_iload 204 1 dX0_closeColumn_202 rfl ?_
    refine n_icmp_gt 207 224 dX0_closeColumn_204 (by decide) (by omega) (by omega) (fun h_204 => ?_) (fun h_204 => ?_)
    ·
      refine x_sub (lv' := [(0, .ref (a 0)), (1, .int (nI k)), (2, .int (nI fo)), (3, .int (nI rn)), (4, .int (nI wd)), (5, .int (nI (ib cnt))), (6, .int (nI ((wd + 1) / 2))), (7, .int (nI (cnt + (ib cnt + 1) / 2)))]) [4, 5, 6, 7, 3, 2, 1, 0] rfl ?_
      exact hj_224  
    ·
      refine x_iconst 208 (v := nI 2) dX0_closeColumn_207 kI_2 ?_
      refine x_iload_n 209 7 dX0_closeColumn_208 rfl ?_
      refine x_imul 210 (v := nI (2 * rn)) dX0_closeColumn_209 (pk_mul _ _) ?_
      refine x_iload 212 0 dX0_closeColumn_210 rfl ?_
      refine n_icmp_gt 215 224 dX0_closeColumn_212 (by decide) (by omega) (by omega) (fun h_212 => ?_) (fun h_212 => ?_)
      ·
        refine x_sub (lv' := [(0, .ref (a 0)), (1, .int (nI k)), (2, .int (nI fo)), (3, .int (nI rn)), (4, .int (nI wd)), (5, .int (nI (ib cnt))), (6, .int (nI ((wd + 1) / 2))), (7, .int (nI (cnt + (ib cnt + 1) / 2)))]) [4, 5, 6, 7, 3, 2, 1, 0] rfl ?_
        exact hj_224  
      ·
        refine x_aload_n 216 4 dX0_closeColumn_215 rfl ?_
        refine x_iload_n 217 5 dX0_closeColumn_216 rfl ?_
        refine x_iload_n 218 6 dX0_closeColumn_217 rfl ?_
        refine call_Vv 221 (av := [.int (nI k), .int (nI fo)]) (metX0_writeRuns (cx_l K) a k fo hk hf r o l f lo1 hi1 s w rg rl rh (nI cnt) vs1) rfl rfl gwX0_writeRuns nyX0_writeRuns rfl (by omega) (by decide) (Nat.le_of_ble_eq_true rfl) rfl dX0_closeColumn_218 ?_
        intro w_218 hq_218
        obtain ⟨m, w2, rfl, hR, hfr⟩ := hq_218
        refine x_goto 266 dX0_closeColumn_221 (by decide) ?_
        exact ret 266 _ _ dX0_closeColumn_266 ⟨_, _, _, _, _, _, _, rfl, cc_runs hci hR hfr⟩
  ·
    refine x_aload_n 42 0 dX0_closeColumn_41 rfl ?_
    refine get_X0 45 0 1 (v := .ref (a 1)) rfl (by decide) q32 rfl dX0_closeColumn_42 ?_
    refine x_iload_n 46 2 dX0_closeColumn_45 rfl ?_
    refine x_iload 48 4 dX0_closeColumn_46 rfl ?_
    refine x_iadd 49 (v := nI (fo + t)) dX0_closeColumn_48 (nI_add _ _) ?_
    refine iald 50 1 (f := o) rfl (by omega) (by decide) dX0_closeColumn_49 ?_
    refine x_istore 52 (lv' := [(5, .int (o (fo + t))), (0, .ref (a 0)), (1, .int (nI k)), (2, .int (nI fo)), (3, .int (nI rn)), (4, .int (nI t))]) dX0_closeColumn_50 (by decide) rfl ?_
    refine x_aload_n 53 1 dX0_closeColumn_52 rfl ?_
    refine get_X0 56 0 4 (v := .ref (a 4)) rfl (by decide) q35 rfl dX0_closeColumn_53 ?_
    refine x_iload_n 57 2 dX0_closeColumn_56 rfl ?_
    have hj_79 : ∀ (ml : Int32), (ml ≤ o (fo + t) ∧ ml ≤ lo1 k) → CW K a cX0_closeColumn 8 RX0 79 [(0, .ref (a 0)), (1, .int (nI k)), (2, .int (nI fo)), (3, .int (nI rn)), (4, .int (nI t)), (5, .int (o (fo + t)))] [.int ml, .int (nI k), .ref (a 4)] (wX0 a r o l f lo1 hi1 s w rg rl rh (nI cnt) vs1) := by
      intro ml hml
      refine iast 80 4 (w' := (wX0 a r o l f (upd lo1 k ml) hi1 s w rg rl rh (nI cnt) vs1)) rfl (by omega) (by decide) rfl dX0_closeColumn_79 ?_
      refine x_aload_n 81 0 dX0_closeColumn_80 rfl ?_
      refine get_X0 84 0 5 (v := .ref (a 5)) rfl (by decide) q36 rfl dX0_closeColumn_81 ?_
      refine x_iload_n 85 1 dX0_closeColumn_84 rfl ?_
      have hj_107 : ∀ (mh : Int32), (o (fo + t) ≤ mh ∧ hi1 k ≤ mh) → CW K a cX0_closeColumn 8 RX0 107 [(0, .ref (a 0)), (1, .int (nI k)), (2, .int (nI fo)), (3, .int (nI rn)), (4, .int (nI t)), (5, .int (o (fo + t)))] [.int mh, .int (nI k), .ref (a 5)] (wX0 a r o l f (upd lo1 k ml) hi1 s w rg rl rh (nI cnt) vs1) := by
        intro mh hmh
        refine iast 108 5 (w' := (wX0 a r o l f (upd lo1 k ml) (upd hi1 k mh) s w rg rl rh (nI cnt) vs1)) rfl (by omega) (by decide) rfl dX0_closeColumn_107 ?_
        refine x_iload_n 109 3 dX0_closeColumn_108 rfl ?_
        have hj_135 : ∀ (dr : Nat), (dr ≤ 1) → CW K a cX0_closeColumn 8 RX0 135 [(0, .ref (a 0)), (1, .int (nI k)), (2, .int (nI fo)), (3, .int (nI rn)), (4, .int (nI t)), (5, .int (o (fo + t)))] [.int (nI dr), .int (nI rn)] (wX0 a r o l f (upd lo1 k ml) (upd hi1 k mh) s w rg rl rh (nI cnt) vs1) := by
          intro dr hdr
          refine x_iadd 136 (v := nI (rn + dr)) dX0_closeColumn_135 (nI_add _ _) ?_
          refine x_istore_n 137 (lv' := [(3, .int (nI (rn + dr))), (0, .ref (a 0)), (1, .int (nI k)), (2, .int (nI fo)), (4, .int (nI t)), (5, .int (o (fo + t)))]) dX0_closeColumn_136 (by decide) rfl ?_
          refine x_aload_n 138 1 dX0_closeColumn_137 rfl ?_
          refine x_iload 140 5 dX0_closeColumn_138 rfl ?_
          refine call_Vv 143 (av := [.int (o (fo + t))]) (metX0_addValue (cx_l K) a cnt (o (fo + t)) (by have z := hci.2.2.2.1; omega) r o l f (upd lo1 k ml) (upd hi1 k mh) s w rg rl rh vs1 hci.2.2.1) rfl rfl gwX0_addValue nyX0_addValue rfl (by omega) (by decide) (Nat.le_of_ble_eq_true rfl) rfl dX0_closeColumn_140 ?_
          intro w_140 hq_140
          obtain ⟨cnt2, vs2, rfl, had⟩ := hq_140
          refine x_iinc 146 (v := nI (t + 1)) (lv' := [(4, .int (nI (t + 1))), (3, .int (nI (rn + dr))), (0, .ref (a 0)), (1, .int (nI k)), (2, .int (nI fo)), (5, .int (o (fo + t)))]) 4 dX0_closeColumn_143 rfl (inc1 _) (by decide) rfl ?_
          refine x_goto 34 dX0_closeColumn_146 (by decide) ?_
          refine x_sub (lv' := [(0, .ref (a 0)), (1, .int (nI k)), (2, .int (nI fo)), (3, .int (nI (rn + dr))), (4, .int (nI (t + 1)))]) [2, 3, 4, 1, 0] rfl ?_
          exact ih_t (t + 1) (by omega) (by omega) _ _ _ _ _ (by omega) (CI_s hci hml.1 hml.2 hmh.1 hmh.2 had)
        refine x_iload 111 4 dX0_closeColumn_109 rfl ?_
        refine n_if_le 114 134 dX0_closeColumn_111 (by decide) (by omega) (fun h_111 => ?_) (fun h_111 => ?_)
        ·
          refine x_iconst 135 (v := nI 0) dX0_closeColumn_134 kI_0 ?_
          exact hj_135 _ (by omega)
        ·
          refine x_aload_n 115 0 dX0_closeColumn_114 rfl ?_
          refine get_X0 118 0 1 (v := .ref (a 1)) rfl (by decide) q32 rfl dX0_closeColumn_115 ?_
          refine x_iload_n 119 2 dX0_closeColumn_118 rfl ?_
          refine x_iload 121 4 dX0_closeColumn_119 rfl ?_
          refine x_iadd 122 (v := nI (fo + t)) dX0_closeColumn_121 (nI_add _ _) ?_
          refine x_iconst 123 (v := nI 1) dX0_closeColumn_122 kI_1 ?_
          refine x_isub 124 (v := nI ((fo + t) - 1)) dX0_closeColumn_123 (pk_sub (by omega)) ?_
          refine iald 125 1 (f := o) rfl (by omega) (by decide) dX0_closeColumn_124 ?_
          refine x_iload 127 5 dX0_closeColumn_125 rfl ?_
          refine x_icmp_eq 130 134 dX0_closeColumn_127 (by decide) (fun h_127 => ?_) (fun h_127 => ?_)
          ·
            refine x_iconst 135 (v := nI 0) dX0_closeColumn_134 kI_0 ?_
            exact hj_135 _ (by omega)
          ·
            refine x_iconst 131 (v := nI 1) dX0_closeColumn_130 kI_1 ?_
            refine x_goto 135 dX0_closeColumn_131 (by decide) ?_
            exact hj_135 _ (by omega)
      refine x_iload 87 5 dX0_closeColumn_85 rfl ?_
      refine x_aload_n 88 0 dX0_closeColumn_87 rfl ?_
      refine get_X0 91 0 5 (v := .ref (a 5)) rfl (by decide) q36 rfl dX0_closeColumn_88 ?_
      refine x_iload_n 92 1 dX0_closeColumn_91 rfl ?_
      refine iald 93 5 (f := hi1) rfl (by omega) (by decide) dX0_closeColumn_92 ?_
      refine x_icmp_le 96 101 dX0_closeColumn_93 (by decide) (fun h_93 => ?_) (fun h_93 => ?_)
      ·
        refine x_aload_n 102 0 dX0_closeColumn_101 rfl ?_
        refine get_X0 105 0 5 (v := .ref (a 5)) rfl (by decide) q36 rfl dX0_closeColumn_102 ?_
        refine x_iload_n 106 1 dX0_closeColumn_105 rfl ?_
        refine iald 107 5 (f := hi1) rfl (by omega) (by decide) dX0_closeColumn_106 ?_
        exact hj_107 _ (by first | exact ⟨le_rf _, lt_le (nle_lt h_93)⟩ | exact ⟨h_93, le_rf _⟩)
      ·
        refine x_iload 98 5 dX0_closeColumn_96 rfl ?_
        refine x_goto 107 dX0_closeColumn_98 (by decide) ?_
        exact hj_107 _ (by first | exact ⟨le_rf _, lt_le (nle_lt h_93)⟩ | exact ⟨h_93, le_rf _⟩)
    refine x_iload 59 0 dX0_closeColumn_57 rfl ?_
    refine x_aload_n 60 1 dX0_closeColumn_59 rfl ?_
    refine get_X0 63 0 4 (v := .ref (a 4)) rfl (by decide) q35 rfl dX0_closeColumn_60 ?_
    refine x_iload_n 64 2 dX0_closeColumn_63 rfl ?_
    refine iald 65 4 (f := lo1) rfl (by omega) (by decide) dX0_closeColumn_64 ?_
    refine x_icmp_ge 68 73 dX0_closeColumn_65 (by decide) (fun h_65 => ?_) (fun h_65 => ?_)
    ·
      refine x_aload_n 74 1 dX0_closeColumn_73 rfl ?_
      refine get_X0 77 0 4 (v := .ref (a 4)) rfl (by decide) q35 rfl dX0_closeColumn_74 ?_
      refine x_iload_n 78 2 dX0_closeColumn_77 rfl ?_
      refine iald 79 4 (f := lo1) rfl (by omega) (by decide) dX0_closeColumn_78 ?_
      refine x_sub (lv' := [(0, .ref (a 0)), (1, .int (nI k)), (2, .int (nI fo)), (3, .int (nI rn)), (4, .int (nI t)), (5, .int (o (fo + t)))]) [1, 2, 3, 4, 5, 0] rfl ?_
      exact hj_79 _ (by first | exact ⟨le_rf _, lt_le (nle_lt h_65)⟩ | exact ⟨h_65, le_rf _⟩)
    ·
      refine x_iload 70 0 dX0_closeColumn_68 rfl ?_
      refine x_goto 79 dX0_closeColumn_70 (by decide) ?_
      refine x_sub (lv' := [(0, .ref (a 0)), (1, .int (nI k)), (2, .int (nI fo)), (3, .int (nI rn)), (4, .int (nI t)), (5, .int (o (fo + t)))]) [1, 2, 3, 4, 5, 0] rfl ?_
      exact hj_79 _ (by first | exact ⟨le_rf _, lt_le (nle_lt h_65)⟩ | exact ⟨h_65, le_rf _⟩)
end
section
set_option maxRecDepth 100000
set_option maxHeartbeats 1000000
/-! appending a row -/
def nO (n : Nat) (o : Nat → Int32) (x y z : Int32) : Nat → Int32 := upd (upd (upd o (n % 16) x) (16 + n % 16) y) (32 + n % 16) z
def nV (n : Nat) (V : Nat → Nat → Int32) (o' : Nat → Int32) (c r : Nat) : Int32 := if n / 16 ≤ r / 16 then o' (16 * c + r % 16) else V c r
def nL (n : Nat) (l : Nat → Int32) : Nat → Int32 := upd l (n / 16) (l (n / 16) ||| shl (nI 1) (n % 16))
def nA (n : Nat) (AL : Nat → Bool) : Nat → Bool := fun r => if r = n then true else AL r
def AI (n : Nat) (V : Nat → Nat → Int32) (o' f lo hi s w : Nat → Int32) (cl : Nat) : Prop := ∀ g c, c < 3 → (16 * g + 16 ≤ n ∨ (g = n / 16 ∧ c < cl)) → PartOk f lo hi s w (3 * g + c) (fun p => nV n V o' c (16 * g + p))
section AP
variable {n : Nat} {V : Nat → Nat → Int32} {AL : Nat → Bool} {o o' l f lo hi s w f' lo' hi' s' w' : Nat → Int32} {x y z : Int32}
theorem AI_0 (h : Rep n V AL o l f lo hi s w) : AI n V o' f lo hi s w 0 := by
  intro g c hc hg
  have hg : 16 * g + 16 ≤ n := by omega
  refine PartOk_cong (fun p hp => ?_) (h.2.2.2.2 g c hc hg)
  show V c (16 * g + p) = nV n V o' c (16 * g + p)
  unfold nV
  rw [if_neg (by omega)]
theorem AI_s {cl k fo : Nat} (h : AI n V o' f lo hi s w cl) (h15 : n % 16 = 15) (hcl : cl < 3) (hk : k = 3 * (n / 16) + cl) (hfo : fo = 16 * cl) (hp : PartOk f' lo' hi' s' w' k (fun p => o' (fo + p))) (hF : CFr k f lo hi s w f' lo' hi' s' w') : AI n V o' f' lo' hi' s' w' (cl + 1) := by
  intro g c hc hg
  by_cases e : 3 * g + c = k
  · have e1 : g = n / 16 := by omega
    have e2 : c = cl := by omega
    rw [e]
    refine PartOk_cong (fun p hp => ?_) hp
    show o' (fo + p) = nV n V o' c (16 * g + p)
    unfold nV
    rw [if_pos (by omega), hfo, e2, show (16 * g + p) % 16 = p by omega]
  · exact PartOk_frame hF e (h g c hc (by omega))
theorem app_rep (h : Rep n V AL o l f lo hi s w) (hn : n < 64) (hAI : AI n V o' f' lo' hi' s' w' (if n % 16 = 15 then 3 else 0)) : Rep (n + 1) (nV n V o') (nA n AL) o' (nL n l) f' lo' hi' s' w' := by
  obtain ⟨h1, h2, h3, h4, h5⟩ := h
  refine ⟨by omega, fun c r hc hr => ?_, fun g p hg hp => ?_, fun r hr => ?_, fun g c hc hg => ?_⟩
  · unfold nV
    rw [if_pos (by omega)]
  · unfold nL nA
    by_cases e : g = n / 16
    · subst e
      rw [pk_us, b_or, h3 _ p hg hp, bt_s1 (by omega) hp]
      by_cases q : p = n % 16
      · rw [if_pos (by omega), decide_eq_true q, decide_eq_true (show p < 16 by omega)]
        simp
      · rw [decide_eq_false q, Bool.or_false]
        by_cases q2 : p < 16
        · rw [if_neg (by omega)]
        · rw [decide_eq_false q2, Bool.false_and, Bool.false_and]
    · rw [pk_un e, h3 g p hg hp]
      by_cases q2 : p < 16
      · rw [if_neg (by omega)]
      · rw [decide_eq_false q2, Bool.false_and, Bool.false_and]
  · unfold nA
    rw [if_neg (by omega)]
    exact h4 r (by omega)
  · refine hAI g c hc ?_
    by_cases q : 16 * g + 16 ≤ n
    · exact Or.inl q
    · rw [if_pos (by omega)]
      exact Or.inr ⟨by omega, hc⟩
theorem nV_old (h : Rep n V AL o l f lo hi s w) {c r : Nat} (hc : c < 3) (hr : r < n) : nV n V (nO n o x y z) c r = V c r := by
  unfold nV
  by_cases e : n / 16 ≤ r / 16
  · rw [if_pos e, h.2.1 c r hc e]
    unfold nO
    rw [pk_un (by omega), pk_un (by omega), pk_un (by omega)]
  · rw [if_neg e]
theorem nV_0 : nV n V (nO n o x y z) 0 n = x := by
  unfold nV nO
  rw [if_pos (Nat.le_refl _), pk_un (by omega), pk_un (by omega), show 16 * 0 + n % 16 = n % 16 by omega, pk_us]
theorem nV_1 : nV n V (nO n o x y z) 1 n = y := by
  unfold nV nO
  rw [if_pos (Nat.le_refl _), pk_un (by omega), show 16 * 1 + n % 16 = 16 + n % 16 by omega, pk_us]
theorem nV_2 : nV n V (nO n o x y z) 2 n = z := by
  unfold nV nO
  rw [if_pos (Nat.le_refl _), show 16 * 2 + n % 16 = 32 + n % 16 by omega, pk_us]
end AP

theorem metX0_append (La : Launch) (a : Nat → Nat) (n : Nat) (x y z : Int32) (V : Nat → Nat → Int32) (AL : Nat → Bool) (o l f lo hi s w rg rl rh : Nat → Int32) (vc : Int32) (vs : Nat → Int32) (hRep : Rep n V AL o l f lo hi s w) : MetW La yX0_append cX0_append 6 (some .int) 3 a [.ref (a 0), .int x, .int y, .int z] (wX0 a (nI n) o l f lo hi s w rg rl rh vc vs) (rpI (fun q w' => (n < 64 ∧ q = nI n ∧ ∃ f' lo' hi' s' w2 vc' vs', w' = (wX0 a (nI (n + 1)) (nO n o x y z) (nL n l) f' lo' hi' s' w2 rg rl rh vc' vs') ∧ Rep (n + 1) (nV n V (nO n o x y z)) (nA n AL) (nO n o x y z) (nL n l) f' lo' hi' s' w2) ∨ (64 ≤ n ∧ q = -1 ∧ w' = (wX0 a (nI n) o l f lo hi s w rg rl rh vc vs)))) := by
  refine MetW.ofI (by decide) (Nat.le_of_ble_eq_true rfl) (fun K hKl hKd ret => ?_)
  subst hKl
  show CW K a cX0_append 6 RX0 0 [(0, .ref (a 0)), (1, .int x), (2, .int y), (3, .int z)] [] (wX0 a (nI n) o l f lo hi s w rg rl rh vc vs)
  have hn := hRep.1
  refine x_aload_n 1 0 dX0_append_0 rfl ?_
  refine get_X0 4 0 0 (v := .int (nI n)) rfl (by decide) q31 rfl dX0_append_1 ?_
  refine x_bipush 6 (v := nI 64) dX0_append_4 kB_64 ?_
  refine n_icmp_lt 9 11 dX0_append_6 (by decide) (by omega) (by omega) (fun h_6 => ?_) (fun h_6 => ?_)
  ·
    refine x_aload_n 12 0 dX0_append_11 rfl ?_
    refine get_X0 15 0 0 (v := .int (nI n)) rfl (by decide) q31 rfl dX0_append_12 ?_
    refine x_bipush 17 (v := nI 15) dX0_append_15 kB_15 ?_
    refine x_iand 18 (v := nI (n % 16)) dX0_append_17 (and15 (by omega)) ?_
    refine x_istore 20 (lv' := [(4, .int (nI (n % 16))), (0, .ref (a 0)), (1, .int x), (2, .int y), (3, .int z)]) dX0_append_18 (by decide) rfl ?_
    refine x_aload_n 21 1 dX0_append_20 rfl ?_
    refine get_X0 24 0 1 (v := .ref (a 1)) rfl (by decide) q32 rfl dX0_append_21 ?_
    refine x_iload 26 0 dX0_append_24 rfl ?_
    refine x_iload_n 27 2 dX0_append_26 rfl ?_
    refine iast 28 1 (w' := (wX0 a (nI n) (upd o (n % 16) x) l f lo hi s w rg rl rh vc vs)) rfl (by omega) (by decide) rfl dX0_append_27 ?_
    refine x_aload_n 29 1 dX0_append_28 rfl ?_
    refine get_X0 32 0 1 (v := .ref (a 1)) rfl (by decide) q32 rfl dX0_append_29 ?_
    refine x_bipush 34 (v := nI 16) dX0_append_32 kB_16 ?_
    refine x_iload 36 0 dX0_append_34 rfl ?_
    refine x_iadd 37 (v := nI (16 + n % 16)) dX0_append_36 (nI_add _ _) ?_
    refine x_iload_n 38 3 dX0_append_37 rfl ?_
    refine iast 39 1 (w' := (wX0 a (nI n) (upd (upd o (n % 16) x) (16 + n % 16) y) l f lo hi s w rg rl rh vc vs)) rfl (by omega) (by decide) rfl dX0_append_38 ?_
    refine x_aload_n 40 1 dX0_append_39 rfl ?_
    refine get_X0 43 0 1 (v := .ref (a 1)) rfl (by decide) q32 rfl dX0_append_40 ?_
    refine x_bipush 45 (v := nI 32) dX0_append_43 kB_32 ?_
    refine x_iload 47 0 dX0_append_45 rfl ?_
    refine x_iadd 48 (v := nI (32 + n % 16)) dX0_append_47 (nI_add _ _) ?_
    refine x_iload_n 49 4 dX0_append_48 rfl ?_
    refine iast 50 1 (w' := (wX0 a (nI n) (upd (upd (upd o (n % 16) x) (16 + n % 16) y) (32 + n % 16) z) l f lo hi s w rg rl rh vc vs)) rfl (by omega) (by decide) rfl dX0_append_49 ?_
    refine x_aload_n 51 1 dX0_append_50 rfl ?_
    refine get_X0 54 0 2 (v := .ref (a 2)) rfl (by decide) q33 rfl dX0_append_51 ?_
    refine x_aload_n 55 1 dX0_append_54 rfl ?_
    refine get_X0 58 0 0 (v := .int (nI n)) rfl (by decide) q31 rfl dX0_append_55 ?_
    refine x_iconst 59 (v := nI 4) dX0_append_58 kI_4 ?_
    refine x_ishr 60 (v := nI (n / 16)) dX0_append_59 (shr4 (by omega)) ?_
    refine x_dup2 61 dX0_append_60 rfl rfl ?_
    refine iald 62 2 (f := l) rfl (by omega) (by decide) dX0_append_61 ?_
    refine x_iconst 63 (v := nI 1) dX0_append_62 kI_1 ?_
    refine x_iload 65 0 dX0_append_63 rfl ?_
    refine x_ishl 66 (v := shl (nI 1) (n % 16)) dX0_append_65 rfl ?_
    refine x_ior 67 (v := (l (n / 16)) ||| (shl (nI 1) (n % 16))) dX0_append_66 rfl ?_
    refine iast 68 2 (w' := (wX0 a (nI n) (upd (upd (upd o (n % 16) x) (16 + n % 16) y) (32 + n % 16) z) (upd l (n / 16) ((l (n / 16)) ||| (shl (nI 1) (n % 16)))) f lo hi s w rg rl rh vc vs)) rfl (by omega) (by decide) rfl dX0_append_67 ?_
    refine x_w (w' := (wX0 a (nI n) (nO n o x y z) (nL n l) f lo hi s w rg rl rh vc vs)) rfl ?_
    refine x_aload_n 69 1 dX0_append_68 rfl ?_
    refine x_dup 70 dX0_append_69 rfl ?_
    refine get_X0 73 0 0 (v := .int (nI n)) rfl (by decide) q31 rfl dX0_append_70 ?_
    refine x_iconst 74 (v := nI 1) dX0_append_73 kI_1 ?_
    refine x_iadd 75 (v := nI (n + 1)) dX0_append_74 (nI_add _ _) ?_
    refine put_X0 78 (w' := (wX0 a (nI (n + 1)) (nO n o x y z) (nL n l) f lo hi s w rg rl rh vc vs)) 0 0 rfl (by decide) q31 rfl (by decide +kernel) (Nat.le_of_ble_eq_true rfl) rfl dX0_append_75 ?_
    refine x_iload 80 0 dX0_append_78 rfl ?_
    refine x_bipush 82 (v := nI 15) dX0_append_80 kB_15 ?_
    refine n_icmp_ne 85 123 dX0_append_82 (by decide) (by omega) (by omega) (fun h_82 => ?_) (fun h_82 => ?_)
    ·
      refine x_aload_n 124 1 dX0_append_123 rfl ?_
      refine get_X0 127 0 0 (v := .int (nI (n + 1))) rfl (by decide) q31 rfl dX0_append_124 ?_
      refine x_iconst 128 (v := nI 1) dX0_append_127 kI_1 ?_
      refine x_isub 129 (v := nI ((n + 1) - 1)) dX0_append_128 (pk_sub (by omega)) ?_
      exact ret 129 _ _ _ dX0_append_129 rfl (Or.inl ⟨h_6, by rw [show n + 1 - 1 = n by omega], _, _, _, _, _, _, _, rfl, app_rep hRep h_6 (by rw [if_neg h_82]; exact AI_0 hRep)⟩)
    ·
      refine x_iconst 86 (v := nI 0) dX0_append_85 kI_0 ?_
      refine x_istore 88 (lv' := [(5, .int (nI 0)), (4, .int (nI (n % 16))), (0, .ref (a 0)), (1, .int x), (2, .int y), (3, .int z)]) dX0_append_86 (by decide) rfl ?_
      refine x_sub (lv' := [(0, .ref (a 0)), (1, .int x), (2, .int y), (3, .int z), (4, .int (nI (n % 16))), (5, .int (nI 0))]) [2, 3, 4, 5, 1, 0] rfl ?_
      refine loop_up (P := fun cl => ∀ (f1 : Nat → Int32) (lo1 : Nat → Int32) (hi1 : Nat → Int32) (s1 : Nat → Int32) (w1 : Nat → Int32) (vc1 : Int32) (vs1 : Nat → Int32), (AI n V (nO n o x y z) f1 lo1 hi1 s1 w1 cl) → CW K a cX0_append 6 RX0 88 [(0, .ref (a 0)), (1, .int x), (2, .int y), (3, .int z), (4, .int (nI (n % 16))), (5, .int (nI cl))] [] (wX0 a (nI (n + 1)) (nO n o x y z) (nL n l) f1 lo1 hi1 s1 w1 rg rl rh vc1 vs1)) 3 (fun cl hi_cl ih_cl => ?_) 0 (by omega) f lo hi s w vc vs (AI_0 hRep)
      intro f1 lo1 hi1 s1 w1 vc1 vs1 hai
      refine x_iload 90 5 dX0_append_88 rfl ?_
      refine x_iconst 91 (v := nI 3) dX0_append_90 kI_3 ?_
      refine n_icmp_ge 94 123 dX0_append_91 (by decide) (by omega) (by omega) (fun h_91 => ?_) (fun h_91 => ?_)
      ·
        refine x_aload_n 124 0 dX0_append_123 rfl ?_
        refine get_X0 127 0 0 (v := .int (nI (n + 1))) rfl (by decide) q31 rfl dX0_append_124 ?_
        refine x_iconst 128 (v := nI 1) dX0_append_127 kI_1 ?_
        refine x_isub 129 (v := nI ((n + 1) - 1)) dX0_append_128 (pk_sub (by omega)) ?_
        exact ret 129 _ _ _ dX0_append_129 rfl (Or.inl ⟨h_6, by rw [show n + 1 - 1 = n by omega], _, _, _, _, _, _, _, rfl, app_rep hRep h_6 (by rw [if_pos h_82, ← show cl = 3 by omega]; exact hai)⟩)
      ·
        refine x_aload_n 95 0 dX0_append_94 rfl ?_
        refine x_iconst 96 (v := nI 3) dX0_append_95 kI_3 ?_
        refine x_aload_n 97 0 dX0_append_96 rfl ?_
        refine get_X0 100 0 0 (v := .int (nI (n + 1))) rfl (by decide) q31 rfl dX0_append_97 ?_
        refine x_bipush 102 (v := nI 16) dX0_append_100 kB_16 ?_
        refine x_isub 103 (v := nI ((n + 1) - 16)) dX0_append_102 (pk_sub (by omega)) ?_
        refine x_iconst 104 (v := nI 4) dX0_append_103 kI_4 ?_
        refine x_ishr 105 (v := nI (((n + 1) - 16) / 16)) dX0_append_104 (shr4 (by omega)) ?_
        refine x_imul 106 (v := nI (3 * (((n + 1) - 16) / 16))) dX0_append_105 (pk_mul _ _) ?_
        refine x_iload 108 5 dX0_append_106 rfl ?_
        refine x_iadd 109 (v := nI (3 * (((n + 1) - 16) / 16) + cl)) dX0_append_108 (nI_add _ _) ?_
        refine x_bipush 111 (v := nI 16) dX0_append_109 kB_16 ?_
        refine x_iload 113 5 dX0_append_111 rfl ?_
        refine x_imul 114 (v := nI (16 * cl)) dX0_append_113 (pk_mul _ _) ?_
        refine call_Vv 117 (av := [.int (nI (3 * (((n + 1) - 16) / 16) + cl)), .int (nI (16 * cl))]) (metX0_closeColumn (cx_l K) a (3 * ((n + 1 - 16) / 16) + cl) (16 * cl) (by omega) (by omega) (nI (n + 1)) (nO n o x y z) (nL n l) f1 lo1 hi1 s1 w1 rg rl rh vc1 vs1) rfl rfl gwX0_closeColumn nyX0_closeColumn rfl (by omega) (by decide) (Nat.le_of_ble_eq_true rfl) rfl dX0_append_114 ?_
        intro w_114 hq_114
        obtain ⟨f2, lo2, hi2, s2, w2, vc2, vs2, rfl, hpo, hcf⟩ := hq_114
        refine x_iinc 120 (v := nI (cl + 1)) (lv' := [(5, .int (nI (cl + 1))), (0, .ref (a 0)), (1, .int x), (2, .int y), (3, .int z), (4, .int (nI (n % 16)))]) 5 dX0_append_117 rfl (inc1 _) (by decide) rfl ?_
        refine x_goto 88 dX0_append_120 (by decide) ?_
        refine x_sub (lv' := [(0, .ref (a 0)), (1, .int x), (2, .int y), (3, .int z), (4, .int (nI (n % 16))), (5, .int (nI (cl + 1)))]) [1, 2, 3, 4, 5, 0] rfl ?_
        exact ih_cl (cl + 1) (by omega) (by omega) _ _ _ _ _ _ _ (AI_s hai h_82 (by omega) (by omega) rfl hpo hcf)
  ·
    refine x_iconst 10 (v := -1) dX0_append_9 kI_m1 ?_
    exact ret 10 _ _ _ dX0_append_10 rfl (Or.inr ⟨h_6, rfl, rfl⟩)
end
section
set_option maxRecDepth 100000
set_option maxHeartbeats 1000000
/-! THE MODEL's METHODS -/
def mV (v : Nat → Int32) (c r : Nat) : Int32 := v (3 * r + c)
def mA (al : Nat → Int32) (r : Nat) : Bool := decide (¬ al r = 0)
theorem okc_mono {V : Nat → Nat → Int32} {rg rl rh : Nat → Int32} {r k : Nat} (m : Nat) : okc V rg rl rh r m = true → k ≤ m → okc V rg rl rh r k = true := by
  induction m with
  | zero => intro _ h; rw [show k = 0 by omega]; rfl
  | succ m ih =>
    intro h hk
    rcases Nat.lt_or_ge m k with q | q
    · rw [show k = m + 1 by omega]; exact h
    · rw [okc_s, Bool.and_eq_true] at h
      exact ih h.1 q
theorem okc_no {V : Nat → Nat → Int32} {AL : Nat → Bool} {rg rl rh : Nat → Int32} {r c : Nat} (hc : c < 3) (h1 : ¬ rg c = 0) (h2 : inR (rl c) (rh c) (V c r) = false) : ps V AL rg rl rh r = false := by
  cases e : ps V AL rg rl rh r with
  | false => rfl
  | true =>
    unfold ps at e
    rw [Bool.and_eq_true] at e
    have z := okc_mono (k := c + 1) 3 e.2 (by omega)
    rw [okc_s, decide_eq_false h1, h2, Bool.or_false, Bool.and_false] at z
    cases z
theorem okc_a {V : Nat → Nat → Int32} {rg rl rh : Nat → Int32} {r c : Nat} (h : okc V rg rl rh r c = true) (h1 : rg c = 0) : okc V rg rl rh r (c + 1) = true := by rw [okc_s, h, decide_eq_true h1]; rfl
theorem okc_b {V : Nat → Nat → Int32} {rg rl rh : Nat → Int32} {r c : Nat} (h : okc V rg rl rh r c = true) (h1 : inR (rl c) (rh c) (V c r) = true) : okc V rg rl rh r (c + 1) = true := by rw [okc_s, h, h1, Bool.or_true]; rfl
theorem sn_mono {q : Nat → Bool} {x : Nat → Int32} {y : Int32} {k : Nat} (m : Nat) : sn q x y k = true → k ≤ m → sn q x y m = true := by
  induction m with
  | zero => intro h hk; rw [show k = 0 by omega] at h; exact h
  | succ m ih =>
    intro h hk
    rcases Nat.lt_or_ge m k with z | z
    · rw [show m + 1 = k by omega]; exact h
    · rw [sn_s, ih h z]; rfl
theorem sn_hit {q : Nat → Bool} {x : Nat → Int32} {y : Int32} {k m : Nat} (h1 : q k = true) (h2 : x k = y) (hk : k < m) : sn q x y m = true := sn_mono (k := k + 1) m (by rw [sn_s, h1, decide_eq_true h2]; simp) hk
theorem sn_miss {q : Nat → Bool} {x : Nat → Int32} {y : Int32} {k : Nat} (h : sn q x y k = false) (h1 : q k = false ∨ ¬ x k = y) : sn q x y (k + 1) = false := by
  rw [sn_s, h, Bool.false_or]
  rcases h1 with z | z
  · rw [z, Bool.false_and]
  · rw [decide_eq_false z, Bool.and_false]

theorem metX1_passes (La : Launch) (a : Nat → Nat) (n r : Nat) (hr : r < 64) (v al rg lo hi : Nat → Int32) : MetW La yX1_passes cX1_passes 4 (some .boolean) 0 a [.ref (a 30), .int (nI r)] (wX1 a (nI n) v al rg lo hi) (rpI (fun z w' => w' = (wX1 a (nI n) v al rg lo hi) ∧ ((z = nI 1 ∧ ps (mV v) (mA al) rg lo hi r = true) ∨ (z = nI 0 ∧ ps (mV v) (mA al) rg lo hi r = false)))) := by
  refine MetW.ofI (by decide) (Nat.le_of_ble_eq_true rfl) (fun K hKl hKd ret => ?_)
  subst hKl
  show CW K a cX1_passes 4 RX1 0 [(0, .ref (a 30)), (1, .int (nI r))] [] (wX1 a (nI n) v al rg lo hi)
  refine x_aload_n 1 0 dX1_passes_0 rfl ?_
  refine get_X1 4 0 2 (v := .ref (a 32)) rfl (by decide) q210 rfl dX1_passes_1 ?_
  refine x_iload_n 5 1 dX1_passes_4 rfl ?_
  refine zald 6 2 (f := al) rfl (by omega) (by decide) dX1_passes_5 ?_
  refine x_if_ne 9 11 dX1_passes_6 (by decide) (fun h_6 => ?_) (fun h_6 => ?_)
  ·
    refine x_iconst 12 (v := nI 0) dX1_passes_11 kI_0 ?_
    refine x_istore_n 13 (lv' := [(2, .int (nI 0)), (0, .ref (a 30)), (1, .int (nI r))]) dX1_passes_12 (by decide) rfl ?_
    refine x_sub (lv' := [(0, .ref (a 30)), (1, .int (nI r)), (2, .int (nI 0))]) [1, 2, 0] rfl ?_
    refine loop_up (P := fun c => (okc (mV v) rg lo hi r c = true) → CW K a cX1_passes 4 RX1 13 [(0, .ref (a 30)), (1, .int (nI r)), (2, .int (nI c))] [] (wX1 a (nI n) v al rg lo hi)) 3 (fun c hi_c ih_c => ?_) 0 (by omega)  rfl
    intro hok
    refine x_iload_n 14 2 dX1_passes_13 rfl ?_
    refine x_iconst 15 (v := nI 3) dX1_passes_14 kI_3 ?_
    refine n_icmp_ge 18 66 dX1_passes_15 (by decide) (by omega) (by omega) (fun h_15 => ?_) (fun h_15 => ?_)
    ·
      refine x_iconst 67 (v := nI 1) dX1_passes_66 kI_1 ?_
      exact ret 67 _ _ _ dX1_passes_67 nb1 ⟨rfl, Or.inl ⟨rfl, by unfold ps mA; rw [decide_eq_true h_6, Bool.true_and, ← show c = 3 by omega]; exact hok⟩⟩
    ·
      refine x_aload_n 19 0 dX1_passes_18 rfl ?_
      refine get_X1 22 0 1 (v := .ref (a 31)) rfl (by decide) q209 rfl dX1_passes_19 ?_
      refine x_iconst 23 (v := nI 3) dX1_passes_22 kI_3 ?_
      refine x_iload_n 24 1 dX1_passes_23 rfl ?_
      refine x_imul 25 (v := nI (3 * r)) dX1_passes_24 (pk_mul _ _) ?_
      refine x_iload_n 26 2 dX1_passes_25 rfl ?_
      refine x_iadd 27 (v := nI (3 * r + c)) dX1_passes_26 (nI_add _ _) ?_
      refine iald 28 1 (f := v) rfl (by omega) (by decide) dX1_passes_27 ?_
      refine x_istore_n 29 (lv' := [(3, .int (v (3 * r + c))), (0, .ref (a 30)), (1, .int (nI r)), (2, .int (nI c))]) dX1_passes_28 (by decide) rfl ?_
      refine x_aload_n 30 1 dX1_passes_29 rfl ?_
      refine get_X1 33 0 3 (v := .ref (a 33)) rfl (by decide) q211 rfl dX1_passes_30 ?_
      refine x_iload_n 34 3 dX1_passes_33 rfl ?_
      refine zald 35 3 (f := rg) rfl (by omega) (by decide) dX1_passes_34 ?_
      refine x_if_eq 38 60 dX1_passes_35 (by decide) (fun h_35 => ?_) (fun h_35 => ?_)
      ·
        refine x_iinc 63 (v := nI (c + 1)) (lv' := [(2, .int (nI (c + 1))), (3, .int (v (3 * r + c))), (0, .ref (a 30)), (1, .int (nI r))]) 3 dX1_passes_60 rfl (inc1 _) (by decide) rfl ?_
        refine x_goto 13 dX1_passes_63 (by decide) ?_
        refine x_sub (lv' := [(0, .ref (a 30)), (1, .int (nI r)), (2, .int (nI (c + 1)))]) [2, 3, 0] rfl ?_
        exact ih_c (c + 1) (by omega) (by omega)  (by first | exact okc_a hok h_35 | exact okc_b hok (inR_t (nlt_le h_45) h_55))
      ·
        refine x_iload_n 39 0 dX1_passes_38 rfl ?_
        refine x_aload_n 40 1 dX1_passes_39 rfl ?_
        refine get_X1 43 0 4 (v := .ref (a 34)) rfl (by decide) q212 rfl dX1_passes_40 ?_
        refine x_iload_n 44 3 dX1_passes_43 rfl ?_
        refine iald 45 4 (f := lo) rfl (by omega) (by decide) dX1_passes_44 ?_
        refine x_icmp_lt 48 58 dX1_passes_45 (by decide) (fun h_45 => ?_) (fun h_45 => ?_)
        ·
          refine x_iconst 59 (v := nI 0) dX1_passes_58 kI_0 ?_
          exact ret 59 _ _ _ dX1_passes_59 nb0 ⟨rfl, Or.inr ⟨rfl, by first | exact okc_no h_15 h_35 (inR_f1 (lt_nle h_45)) | exact okc_no h_15 h_35 (inR_f2 h_55)⟩⟩
        ·
          refine x_iload_n 49 0 dX1_passes_48 rfl ?_
          refine x_aload_n 50 1 dX1_passes_49 rfl ?_
          refine get_X1 53 0 5 (v := .ref (a 35)) rfl (by decide) q213 rfl dX1_passes_50 ?_
          refine x_iload_n 54 3 dX1_passes_53 rfl ?_
          refine iald 55 5 (f := hi) rfl (by omega) (by decide) dX1_passes_54 ?_
          refine x_icmp_le 58 60 dX1_passes_55 (by decide) (fun h_55 => ?_) (fun h_55 => ?_)
          ·
            refine x_iinc 63 (v := nI (c + 1)) (lv' := [(2, .int (nI (c + 1))), (3, .int (v (3 * r + c))), (0, .ref (a 30)), (1, .int (nI r))]) 3 dX1_passes_60 rfl (inc1 _) (by decide) rfl ?_
            refine x_goto 13 dX1_passes_63 (by decide) ?_
            refine x_sub (lv' := [(0, .ref (a 30)), (1, .int (nI r)), (2, .int (nI (c + 1)))]) [2, 3, 0] rfl ?_
            exact ih_c (c + 1) (by omega) (by omega)  (by first | exact okc_a hok h_35 | exact okc_b hok (inR_t (nlt_le h_45) h_55))
          ·
            refine x_iconst 59 (v := nI 0) dX1_passes_58 kI_0 ?_
            exact ret 59 _ _ _ dX1_passes_59 nb0 ⟨rfl, Or.inr ⟨rfl, by first | exact okc_no h_15 h_35 (inR_f1 (lt_nle h_45)) | exact okc_no h_15 h_35 (inR_f2 h_55)⟩⟩
  ·
    refine x_iconst 10 (v := nI 0) dX1_passes_9 kI_0 ?_
    exact ret 10 _ _ _ dX1_passes_10 nb0 ⟨rfl, Or.inr ⟨rfl, by unfold ps mA; rw [decide_eq_false (fun z => z h_6), Bool.false_and]⟩⟩
theorem metX1_count (La : Launch) (a : Nat → Nat) (n : Nat) (hn : n ≤ 64) (v al rg lo hi : Nat → Int32) : MetW La yX1_count cX1_count 3 (some .int) 1 a [.ref (a 30)] (wX1 a (nI n) v al rg lo hi) (rpI (fun z w' => w' = (wX1 a (nI n) v al rg lo hi) ∧ z = nI (fb_ct (ps (mV v) (mA al) rg lo hi) n))) := by
  refine MetW.ofI (by decide) (Nat.le_of_ble_eq_true rfl) (fun K hKl hKd ret => ?_)
  subst hKl
  show CW K a cX1_count 3 RX1 0 [(0, .ref (a 30))] [] (wX1 a (nI n) v al rg lo hi)
  refine x_iconst 1 (v := nI 0) dX1_count_0 kI_0 ?_
  refine x_istore_n 2 (lv' := [(1, .int (nI 0)), (0, .ref (a 30))]) dX1_count_1 (by decide) rfl ?_
  refine x_iconst 3 (v := nI 0) dX1_count_2 kI_0 ?_
  refine x_istore_n 4 (lv' := [(2, .int (nI 0)), (1, .int (nI 0)), (0, .ref (a 30))]) dX1_count_3 (by decide) rfl ?_
  refine x_sub (lv' := [(0, .ref (a 30)), (1, .int (nI 0)), (2, .int (nI 0))]) [2, 1, 0] rfl ?_
  refine loop_up (P := fun r => ∀ (u : Nat), (u = fb_ct (ps (mV v) (mA al) rg lo hi) r) → CW K a cX1_count 3 RX1 4 [(0, .ref (a 30)), (1, .int (nI u)), (2, .int (nI r))] [] (wX1 a (nI n) v al rg lo hi)) n (fun r hi_r ih_r => ?_) 0 (by omega) 0 rfl
  intro u hu
  refine x_iload_n 5 2 dX1_count_4 rfl ?_
  refine x_aload_n 6 0 dX1_count_5 rfl ?_
  refine get_X1 9 0 0 (v := .int (nI n)) rfl (by decide) q208 rfl dX1_count_6 ?_
  refine n_icmp_ge 12 29 dX1_count_9 (by decide) (by omega) (by omega) (fun h_9 => ?_) (fun h_9 => ?_)
  ·
    refine x_iload_n 30 1 dX1_count_29 rfl ?_
    exact ret 30 _ _ _ dX1_count_30 rfl ⟨rfl, by rw [hu, show r = n by omega]⟩
  ·
    refine x_aload_n 13 0 dX1_count_12 rfl ?_
    refine x_iload_n 14 2 dX1_count_13 rfl ?_
    refine call_Vi 17 (av := [.int (nI r)]) (metX1_passes (cx_l K) a n r (by omega) v al rg lo hi) rfl rfl gwX1_passes nyX1_passes rfl (by omega) (by decide) (Nat.le_of_ble_eq_true rfl) rfl dX1_count_14 ?_
    intro r_14 w_14 hq_14
    obtain ⟨rfl, hq_14⟩ := hq_14
    rcases hq_14 with ⟨rfl, hp⟩ | ⟨rfl, hp⟩
    ·
      refine f_if_eq 20 23 dX1_count_17 (by decide) (by decide +kernel) ?_
      refine x_iinc 23 (v := nI (u + 1)) (lv' := [(1, .int (nI (u + 1))), (0, .ref (a 30)), (2, .int (nI r))]) 1 dX1_count_20 rfl (inc1 _) (by decide) rfl ?_
      refine x_iinc 26 (v := nI (r + 1)) (lv' := [(2, .int (nI (r + 1))), (1, .int (nI (u + 1))), (0, .ref (a 30))]) 2 dX1_count_23 rfl (inc1 _) (by decide) rfl ?_
      refine x_goto 4 dX1_count_26 (by decide) ?_
      refine x_sub (lv' := [(0, .ref (a 30)), (1, .int (nI (u + 1))), (2, .int (nI (r + 1)))]) [2, 1, 0] rfl ?_
      exact ih_r (r + 1) (by omega) (by omega) _ (by rw [hu]; first | rw [ct_t hp] | rw [ct_f hp])
    ·
      refine t_if_eq 23 dX1_count_17 (by decide) (by decide +kernel) ?_
      refine x_iinc 26 (v := nI (r + 1)) (lv' := [(2, .int (nI (r + 1))), (0, .ref (a 30)), (1, .int (nI u))]) 2 dX1_count_23 rfl (inc1 _) (by decide) rfl ?_
      refine x_goto 4 dX1_count_26 (by decide) ?_
      refine x_sub (lv' := [(0, .ref (a 30)), (1, .int (nI u)), (2, .int (nI (r + 1)))]) [1, 2, 0] rfl ?_
      exact ih_r (r + 1) (by omega) (by omega) _ (by rw [hu]; first | rw [ct_t hp] | rw [ct_f hp])
theorem metX1_sum (La : Launch) (a : Nat → Nat) (n : Nat) (cv : Int32) (hn : n ≤ 64) (v al rg lo hi : Nat → Int32) : MetW La yX1_sum cX1_sum 5 (some .long) 1 a [.ref (a 30), .int cv] (wX1 a (nI n) v al rg lo hi) (rpL (fun z w' => w' = (wX1 a (nI n) v al rg lo hi) ∧ ((∃ k, k < 3 ∧ cv = nI k ∧ z = sml (ps (mV v) (mA al) rg lo hi) (mV v k) n) ∨ (z = 0 ∧ ∀ k, k < 3 → cv ≠ nI k)))) := by
  refine MetW.ofL (by decide) (Nat.le_of_ble_eq_true rfl) (fun K hKl hKd ret => ?_)
  subst hKl
  show CW K a cX1_sum 5 RX1 0 [(0, .ref (a 30)), (1, .int cv)] [] (wX1 a (nI n) v al rg lo hi)
  refine x_iload_n 1 1 dX1_sum_0 rfl ?_
  refine call_Si 4 (av := [.int cv]) (metX1_bad (cx_l K) a cv) gwX1_bad nyX1_bad rfl (by omega) (by decide) (Nat.le_of_ble_eq_true rfl) rfl dX1_sum_1 ?_
  intro r_1 w_1 hq_1
  rcases hq_1 with ⟨rfl, hno⟩ | ⟨rfl, k, hk, rfl⟩
  ·
    refine f_if_eq 7 9 dX1_sum_4 (by decide) (by decide +kernel) ?_
    refine x_lconst 8 (v := 0) dX1_sum_7 kL_0 ?_
    exact ret 8 _ _ _ dX1_sum_8 ⟨rfl, Or.inr ⟨rfl, hno⟩⟩
  ·
    refine t_if_eq 9 dX1_sum_4 (by decide) (by decide +kernel) ?_
    refine x_lconst 10 (v := 0) dX1_sum_9 kL_0 ?_
    refine x_lstore_n 11 (lv' := [(2, .long 0), (0, .ref (a 30)), (1, .int (nI k))]) dX1_sum_10 (by decide) rfl ?_
    refine x_iconst 12 (v := nI 0) dX1_sum_11 kI_0 ?_
    refine x_istore 14 (lv' := [(4, .int (nI 0)), (2, .long 0), (0, .ref (a 30)), (1, .int (nI k))]) dX1_sum_12 (by decide) rfl ?_
    refine x_sub (lv' := [(0, .ref (a 30)), (1, .int (nI k)), (2, .long 0), (4, .int (nI 0))]) [2, 3, 1, 0] rfl ?_
    refine loop_up (P := fun r => ∀ (t : Int64), (t = sml (ps (mV v) (mA al) rg lo hi) (mV v k) r) → CW K a cX1_sum 5 RX1 14 [(0, .ref (a 30)), (1, .int (nI k)), (2, .long t), (4, .int (nI r))] [] (wX1 a (nI n) v al rg lo hi)) n (fun r hi_r ih_r => ?_) 0 (by omega) 0 rfl
    intro t ht
    refine x_iload 16 3 dX1_sum_14 rfl ?_
    refine x_aload_n 17 0 dX1_sum_16 rfl ?_
    refine get_X1 20 0 0 (v := .int (nI n)) rfl (by decide) q208 rfl dX1_sum_17 ?_
    refine n_icmp_ge 23 53 dX1_sum_20 (by decide) (by omega) (by omega) (fun h_20 => ?_) (fun h_20 => ?_)
    ·
      refine x_lload_n 54 2 dX1_sum_53 rfl ?_
      exact ret 54 _ _ _ dX1_sum_54 ⟨rfl, Or.inl ⟨k, hk, rfl, by rw [ht, show r = n by omega]⟩⟩
    ·
      refine x_aload_n 24 0 dX1_sum_23 rfl ?_
      refine x_iload 26 3 dX1_sum_24 rfl ?_
      refine call_Vi 29 (av := [.int (nI r)]) (metX1_passes (cx_l K) a n r (by omega) v al rg lo hi) rfl rfl gwX1_passes nyX1_passes rfl (by omega) (by decide) (Nat.le_of_ble_eq_true rfl) rfl dX1_sum_26 ?_
      intro r_26 w_26 hq_26
      obtain ⟨rfl, hq_26⟩ := hq_26
      rcases hq_26 with ⟨rfl, hp⟩ | ⟨rfl, hp⟩
      ·
        refine f_if_eq 32 47 dX1_sum_29 (by decide) (by decide +kernel) ?_
        refine x_lload_n 33 2 dX1_sum_32 rfl ?_
        refine x_aload_n 34 0 dX1_sum_33 rfl ?_
        refine get_X1 37 0 1 (v := .ref (a 31)) rfl (by decide) q209 rfl dX1_sum_34 ?_
        refine x_iconst 38 (v := nI 3) dX1_sum_37 kI_3 ?_
        refine x_iload 40 3 dX1_sum_38 rfl ?_
        refine x_imul 41 (v := nI (3 * r)) dX1_sum_40 (pk_mul _ _) ?_
        refine x_iload_n 42 1 dX1_sum_41 rfl ?_
        refine x_iadd 43 (v := nI (3 * r + k)) dX1_sum_42 (nI_add _ _) ?_
        refine iald 44 1 (f := v) rfl (by omega) (by decide) dX1_sum_43 ?_
        refine x_i2l 45 (v := (v (3 * r + k)).toInt64) dX1_sum_44 rfl ?_
        refine x_ladd 46 (v := t + ((v (3 * r + k)).toInt64)) dX1_sum_45 rfl ?_
        refine x_lstore_n 47 (lv' := [(2, .long (t + ((v (3 * r + k)).toInt64))), (0, .ref (a 30)), (1, .int (nI k)), (4, .int (nI r))]) dX1_sum_46 (by decide) rfl ?_
        refine x_iinc 50 (v := nI (r + 1)) (lv' := [(4, .int (nI (r + 1))), (2, .long (t + ((v (3 * r + k)).toInt64))), (0, .ref (a 30)), (1, .int (nI k))]) 3 dX1_sum_47 rfl (inc1 _) (by decide) rfl ?_
        refine x_goto 14 dX1_sum_50 (by decide) ?_
        refine x_sub (lv' := [(0, .ref (a 30)), (1, .int (nI k)), (2, .long (t + ((v (3 * r + k)).toInt64))), (4, .int (nI (r + 1)))]) [2, 3, 1, 0] rfl ?_
        exact ih_r (r + 1) (by omega) (by omega) _ (by rw [ht]; first | exact (sml_t hp).symm | exact (sml_f hp).symm)
      ·
        refine t_if_eq 47 dX1_sum_29 (by decide) (by decide +kernel) ?_
        refine x_iinc 50 (v := nI (r + 1)) (lv' := [(4, .int (nI (r + 1))), (0, .ref (a 30)), (1, .int (nI k)), (2, .long t)]) 3 dX1_sum_47 rfl (inc1 _) (by decide) rfl ?_
        refine x_goto 14 dX1_sum_50 (by decide) ?_
        refine x_sub (lv' := [(0, .ref (a 30)), (1, .int (nI k)), (2, .long t), (4, .int (nI (r + 1)))]) [1, 2, 3, 0] rfl ?_
        exact ih_r (r + 1) (by omega) (by omega) _ (by rw [ht]; first | exact (sml_t hp).symm | exact (sml_f hp).symm)
theorem metX1_extreme (La : Launch) (a : Nat → Nat) (n : Nat) (cv : Int32) (gr : Nat) (hgr : gr < 2) (hn : n ≤ 64) (v al rg lo hi : Nat → Int32) : MetW La yX1_extreme cX1_extreme 7 (some .int) 1 a [.ref (a 30), .int cv, .int (nI gr)] (wX1 a (nI n) v al rg lo hi) (rpI (fun z w' => w' = (wX1 a (nI n) v al rg lo hi) ∧ ((∃ k, k < 3 ∧ cv = nI k ∧ z = (exf gr (ps (mV v) (mA al) rg lo hi) (mV v k) (0, nI 0) n).2) ∨ (z = nI 0 ∧ ∀ k, k < 3 → cv ≠ nI k)))) := by
  refine MetW.ofI (by decide) (Nat.le_of_ble_eq_true rfl) (fun K hKl hKd ret => ?_)
  subst hKl
  show CW K a cX1_extreme 7 RX1 0 [(0, .ref (a 30)), (1, .int cv), (2, .int (nI gr))] [] (wX1 a (nI n) v al rg lo hi)
  refine x_iload_n 1 1 dX1_extreme_0 rfl ?_
  refine call_Si 4 (av := [.int cv]) (metX1_bad (cx_l K) a cv) gwX1_bad nyX1_bad rfl (by omega) (by decide) (Nat.le_of_ble_eq_true rfl) rfl dX1_extreme_1 ?_
  intro r_1 w_1 hq_1
  rcases hq_1 with ⟨rfl, hno⟩ | ⟨rfl, k, hk, rfl⟩
  ·
    refine f_if_eq 7 9 dX1_extreme_4 (by decide) (by decide +kernel) ?_
    refine x_iconst 8 (v := nI 0) dX1_extreme_7 kI_0 ?_
    exact ret 8 _ _ _ dX1_extreme_8 rfl ⟨rfl, Or.inr ⟨rfl, hno⟩⟩
  ·
    refine t_if_eq 9 dX1_extreme_4 (by decide) (by decide +kernel) ?_
    refine x_iconst 10 (v := nI 0) dX1_extreme_9 kI_0 ?_
    refine x_istore_n 11 (lv' := [(3, .int (nI 0)), (0, .ref (a 30)), (1, .int (nI k)), (2, .int (nI gr))]) dX1_extreme_10 (by decide) rfl ?_
    refine x_iconst 12 (v := nI 0) dX1_extreme_11 kI_0 ?_
    refine x_istore 14 (lv' := [(4, .int (nI 0)), (3, .int (nI 0)), (0, .ref (a 30)), (1, .int (nI k)), (2, .int (nI gr))]) dX1_extreme_12 (by decide) rfl ?_
    refine x_iconst 15 (v := nI 0) dX1_extreme_14 kI_0 ?_
    refine x_istore 17 (lv' := [(5, .int (nI 0)), (4, .int (nI 0)), (3, .int (nI 0)), (0, .ref (a 30)), (1, .int (nI k)), (2, .int (nI gr))]) dX1_extreme_15 (by decide) rfl ?_
    refine x_sub (lv' := [(0, .ref (a 30)), (1, .int (nI k)), (2, .int (nI gr)), (3, .int (nI 0)), (4, .int (nI 0)), (5, .int (nI 0))]) [3, 4, 5, 2, 1, 0] rfl ?_
    refine loop_up (P := fun r => ∀ (sm : Nat) (bs : Int32), ((sm, bs) = exf gr (ps (mV v) (mA al) rg lo hi) (mV v k) (0, nI 0) r) → (sm < 2) → CW K a cX1_extreme 7 RX1 17 [(0, .ref (a 30)), (1, .int (nI k)), (2, .int (nI gr)), (3, .int (nI sm)), (4, .int bs), (5, .int (nI r))] [] (wX1 a (nI n) v al rg lo hi)) n (fun r hi_r ih_r => ?_) 0 (by omega) 0 (nI 0) rfl (by decide)
    intro sm bs hst hsm
    refine x_iload 19 5 dX1_extreme_17 rfl ?_
    refine x_aload_n 20 0 dX1_extreme_19 rfl ?_
    refine get_X1 23 0 0 (v := .int (nI n)) rfl (by decide) q208 rfl dX1_extreme_20 ?_
    refine n_icmp_ge 26 85 dX1_extreme_23 (by decide) (by omega) (by omega) (fun h_23 => ?_) (fun h_23 => ?_)
    ·
      refine x_iload 87 4 dX1_extreme_85 rfl ?_
      exact ret 87 _ _ _ dX1_extreme_87 rfl ⟨rfl, Or.inl ⟨k, hk, rfl, by rw [← show r = n by omega, ← hst]⟩⟩
    ·
      refine x_aload_n 27 0 dX1_extreme_26 rfl ?_
      refine get_X1 30 0 1 (v := .ref (a 31)) rfl (by decide) q209 rfl dX1_extreme_27 ?_
      refine x_iconst 31 (v := nI 3) dX1_extreme_30 kI_3 ?_
      refine x_iload 33 5 dX1_extreme_31 rfl ?_
      refine x_imul 34 (v := nI (3 * r)) dX1_extreme_33 (pk_mul _ _) ?_
      refine x_iload_n 35 1 dX1_extreme_34 rfl ?_
      refine x_iadd 36 (v := nI (3 * r + k)) dX1_extreme_35 (nI_add _ _) ?_
      refine iald 37 1 (f := v) rfl (by omega) (by decide) dX1_extreme_36 ?_
      refine x_istore 39 (lv' := [(6, .int (v (3 * r + k))), (0, .ref (a 30)), (1, .int (nI k)), (2, .int (nI gr)), (3, .int (nI sm)), (4, .int bs), (5, .int (nI r))]) dX1_extreme_37 (by decide) rfl ?_
      refine x_aload_n 40 1 dX1_extreme_39 rfl ?_
      refine x_iload 42 6 dX1_extreme_40 rfl ?_
      refine call_Vi 45 (av := [.int (nI r)]) (metX1_passes (cx_l K) a n r (by omega) v al rg lo hi) rfl rfl gwX1_passes nyX1_passes rfl (by omega) (by decide) (Nat.le_of_ble_eq_true rfl) rfl dX1_extreme_42 ?_
      intro r_42 w_42 hq_42
      obtain ⟨rfl, hq_42⟩ := hq_42
      rcases hq_42 with ⟨rfl, hp⟩ | ⟨rfl, hp⟩
      ·
        refine f_if_eq 48 79 dX1_extreme_45 (by decide) (by decide +kernel) ?_
        refine x_iload_n 49 4 dX1_extreme_48 rfl ?_
        refine n_if_eq 52 73 dX1_extreme_49 (by decide) (by omega) (fun h_49 => ?_) (fun h_49 => ?_)
        ·
          refine x_iconst 74 (v := nI 1) dX1_extreme_73 kI_1 ?_
          refine x_istore_n 75 (lv' := [(3, .int (nI 1)), (6, .int (v (3 * r + k))), (0, .ref (a 30)), (1, .int (nI k)), (2, .int (nI gr)), (4, .int bs), (5, .int (nI r))]) dX1_extreme_74 (by decide) rfl ?_
          refine x_iload 77 1 dX1_extreme_75 rfl ?_
          refine x_istore 79 (lv' := [(4, .int (v (3 * r + k))), (3, .int (nI 1)), (6, .int (v (3 * r + k))), (0, .ref (a 30)), (1, .int (nI k)), (2, .int (nI gr)), (5, .int (nI r))]) dX1_extreme_77 (by decide) rfl ?_
          refine x_iinc 82 (v := nI (r + 1)) (lv' := [(5, .int (nI (r + 1))), (4, .int (v (3 * r + k))), (3, .int (nI 1)), (6, .int (v (3 * r + k))), (0, .ref (a 30)), (1, .int (nI k)), (2, .int (nI gr))]) 6 dX1_extreme_79 rfl (inc1 _) (by decide) rfl ?_
          refine x_goto 17 dX1_extreme_82 (by decide) ?_
          refine x_sub (lv' := [(0, .ref (a 30)), (1, .int (nI k)), (2, .int (nI gr)), (3, .int (nI 1)), (4, .int (v (3 * r + k))), (5, .int (nI (r + 1)))]) [4, 5, 6, 2, 1, 0] rfl ?_
          exact ih_r (r + 1) (by omega) (by omega) _ _ (by first | exact ex_no hst hp | exact ex_new (x := (mV v k)) hst hp (Or.inl h_49) | exact ex_new (x := (mV v k)) hst hp (Or.inr (bet_lt h_53 (nle_lt h_70))) | exact ex_new (x := (mV v k)) hst hp (Or.inr (bet_gt h_53 (nle_lt h_60))) | (rw [show sm = 1 by omega]; exact ex_old (x := (mV v k)) hst hp h_49 (bet_nlt h_53 h_70)) | (rw [show sm = 1 by omega]; exact ex_old (x := (mV v k)) hst hp h_49 (bet_ngt h_53 h_60))) (by first | exact hsm | decide)
        ·
          refine x_iload_n 53 3 dX1_extreme_52 rfl ?_
          refine n_if_eq 56 66 dX1_extreme_53 (by decide) (by omega) (fun h_53 => ?_) (fun h_53 => ?_)
          ·
            refine x_iload 68 0 dX1_extreme_66 rfl ?_
            refine x_iload 70 5 dX1_extreme_68 rfl ?_
            refine x_icmp_ge 73 79 dX1_extreme_70 (by decide) (fun h_70 => ?_) (fun h_70 => ?_)
            ·
              refine x_iinc 82 (v := nI (r + 1)) (lv' := [(5, .int (nI (r + 1))), (6, .int (v (3 * r + k))), (0, .ref (a 30)), (1, .int (nI k)), (2, .int (nI gr)), (3, .int (nI sm)), (4, .int bs)]) 6 dX1_extreme_79 rfl (inc1 _) (by decide) rfl ?_
              refine x_goto 17 dX1_extreme_82 (by decide) ?_
              refine x_sub (lv' := [(0, .ref (a 30)), (1, .int (nI k)), (2, .int (nI gr)), (3, .int (nI sm)), (4, .int bs), (5, .int (nI (r + 1)))]) [2, 3, 4, 5, 6, 0] rfl ?_
              exact ih_r (r + 1) (by omega) (by omega) _ _ (by first | exact ex_no hst hp | exact ex_new (x := (mV v k)) hst hp (Or.inl h_49) | exact ex_new (x := (mV v k)) hst hp (Or.inr (bet_lt h_53 (nle_lt h_70))) | exact ex_new (x := (mV v k)) hst hp (Or.inr (bet_gt h_53 (nle_lt h_60))) | (rw [show sm = 1 by omega]; exact ex_old (x := (mV v k)) hst hp h_49 (bet_nlt h_53 h_70)) | (rw [show sm = 1 by omega]; exact ex_old (x := (mV v k)) hst hp h_49 (bet_ngt h_53 h_60))) (by first | exact hsm | decide)
            ·
              refine x_iconst 74 (v := nI 1) dX1_extreme_73 kI_1 ?_
              refine x_istore_n 75 (lv' := [(3, .int (nI 1)), (6, .int (v (3 * r + k))), (0, .ref (a 30)), (1, .int (nI k)), (2, .int (nI gr)), (4, .int bs), (5, .int (nI r))]) dX1_extreme_74 (by decide) rfl ?_
              refine x_iload 77 1 dX1_extreme_75 rfl ?_
              refine x_istore 79 (lv' := [(4, .int (v (3 * r + k))), (3, .int (nI 1)), (6, .int (v (3 * r + k))), (0, .ref (a 30)), (1, .int (nI k)), (2, .int (nI gr)), (5, .int (nI r))]) dX1_extreme_77 (by decide) rfl ?_
              refine x_iinc 82 (v := nI (r + 1)) (lv' := [(5, .int (nI (r + 1))), (4, .int (v (3 * r + k))), (3, .int (nI 1)), (6, .int (v (3 * r + k))), (0, .ref (a 30)), (1, .int (nI k)), (2, .int (nI gr))]) 6 dX1_extreme_79 rfl (inc1 _) (by decide) rfl ?_
              refine x_goto 17 dX1_extreme_82 (by decide) ?_
              refine x_sub (lv' := [(0, .ref (a 30)), (1, .int (nI k)), (2, .int (nI gr)), (3, .int (nI 1)), (4, .int (v (3 * r + k))), (5, .int (nI (r + 1)))]) [4, 5, 6, 2, 1, 0] rfl ?_
              exact ih_r (r + 1) (by omega) (by omega) _ _ (by first | exact ex_no hst hp | exact ex_new (x := (mV v k)) hst hp (Or.inl h_49) | exact ex_new (x := (mV v k)) hst hp (Or.inr (bet_lt h_53 (nle_lt h_70))) | exact ex_new (x := (mV v k)) hst hp (Or.inr (bet_gt h_53 (nle_lt h_60))) | (rw [show sm = 1 by omega]; exact ex_old (x := (mV v k)) hst hp h_49 (bet_nlt h_53 h_70)) | (rw [show sm = 1 by omega]; exact ex_old (x := (mV v k)) hst hp h_49 (bet_ngt h_53 h_60))) (by first | exact hsm | decide)
          ·
            refine x_iload 58 0 dX1_extreme_56 rfl ?_
            refine x_iload 60 5 dX1_extreme_58 rfl ?_
            refine x_icmp_le 63 79 dX1_extreme_60 (by decide) (fun h_60 => ?_) (fun h_60 => ?_)
            ·
              refine x_iinc 82 (v := nI (r + 1)) (lv' := [(5, .int (nI (r + 1))), (6, .int (v (3 * r + k))), (0, .ref (a 30)), (1, .int (nI k)), (2, .int (nI gr)), (3, .int (nI sm)), (4, .int bs)]) 6 dX1_extreme_79 rfl (inc1 _) (by decide) rfl ?_
              refine x_goto 17 dX1_extreme_82 (by decide) ?_
              refine x_sub (lv' := [(0, .ref (a 30)), (1, .int (nI k)), (2, .int (nI gr)), (3, .int (nI sm)), (4, .int bs), (5, .int (nI (r + 1)))]) [2, 3, 4, 5, 6, 0] rfl ?_
              exact ih_r (r + 1) (by omega) (by omega) _ _ (by first | exact ex_no hst hp | exact ex_new (x := (mV v k)) hst hp (Or.inl h_49) | exact ex_new (x := (mV v k)) hst hp (Or.inr (bet_lt h_53 (nle_lt h_70))) | exact ex_new (x := (mV v k)) hst hp (Or.inr (bet_gt h_53 (nle_lt h_60))) | (rw [show sm = 1 by omega]; exact ex_old (x := (mV v k)) hst hp h_49 (bet_nlt h_53 h_70)) | (rw [show sm = 1 by omega]; exact ex_old (x := (mV v k)) hst hp h_49 (bet_ngt h_53 h_60))) (by first | exact hsm | decide)
            ·
              refine x_goto 73 dX1_extreme_63 (by decide) ?_
              refine x_iconst 74 (v := nI 1) dX1_extreme_73 kI_1 ?_
              refine x_istore_n 75 (lv' := [(3, .int (nI 1)), (6, .int (v (3 * r + k))), (0, .ref (a 30)), (1, .int (nI k)), (2, .int (nI gr)), (4, .int bs), (5, .int (nI r))]) dX1_extreme_74 (by decide) rfl ?_
              refine x_iload 77 1 dX1_extreme_75 rfl ?_
              refine x_istore 79 (lv' := [(4, .int (v (3 * r + k))), (3, .int (nI 1)), (6, .int (v (3 * r + k))), (0, .ref (a 30)), (1, .int (nI k)), (2, .int (nI gr)), (5, .int (nI r))]) dX1_extreme_77 (by decide) rfl ?_
              refine x_iinc 82 (v := nI (r + 1)) (lv' := [(5, .int (nI (r + 1))), (4, .int (v (3 * r + k))), (3, .int (nI 1)), (6, .int (v (3 * r + k))), (0, .ref (a 30)), (1, .int (nI k)), (2, .int (nI gr))]) 6 dX1_extreme_79 rfl (inc1 _) (by decide) rfl ?_
              refine x_goto 17 dX1_extreme_82 (by decide) ?_
              refine x_sub (lv' := [(0, .ref (a 30)), (1, .int (nI k)), (2, .int (nI gr)), (3, .int (nI 1)), (4, .int (v (3 * r + k))), (5, .int (nI (r + 1)))]) [4, 5, 6, 2, 1, 0] rfl ?_
              exact ih_r (r + 1) (by omega) (by omega) _ _ (by first | exact ex_no hst hp | exact ex_new (x := (mV v k)) hst hp (Or.inl h_49) | exact ex_new (x := (mV v k)) hst hp (Or.inr (bet_lt h_53 (nle_lt h_70))) | exact ex_new (x := (mV v k)) hst hp (Or.inr (bet_gt h_53 (nle_lt h_60))) | (rw [show sm = 1 by omega]; exact ex_old (x := (mV v k)) hst hp h_49 (bet_nlt h_53 h_70)) | (rw [show sm = 1 by omega]; exact ex_old (x := (mV v k)) hst hp h_49 (bet_ngt h_53 h_60))) (by first | exact hsm | decide)
      ·
        refine t_if_eq 79 dX1_extreme_45 (by decide) (by decide +kernel) ?_
        refine x_iinc 82 (v := nI (r + 1)) (lv' := [(5, .int (nI (r + 1))), (6, .int (v (3 * r + k))), (0, .ref (a 30)), (1, .int (nI k)), (2, .int (nI gr)), (3, .int (nI sm)), (4, .int bs)]) 6 dX1_extreme_79 rfl (inc1 _) (by decide) rfl ?_
        refine x_goto 17 dX1_extreme_82 (by decide) ?_
        refine x_sub (lv' := [(0, .ref (a 30)), (1, .int (nI k)), (2, .int (nI gr)), (3, .int (nI sm)), (4, .int bs), (5, .int (nI (r + 1)))]) [2, 3, 4, 5, 6, 0] rfl ?_
        exact ih_r (r + 1) (by omega) (by omega) _ _ (by first | exact ex_no hst hp | exact ex_new (x := (mV v k)) hst hp (Or.inl h_49) | exact ex_new (x := (mV v k)) hst hp (Or.inr (bet_lt h_53 (nle_lt h_70))) | exact ex_new (x := (mV v k)) hst hp (Or.inr (bet_gt h_53 (nle_lt h_60))) | (rw [show sm = 1 by omega]; exact ex_old (x := (mV v k)) hst hp h_49 (bet_nlt h_53 h_70)) | (rw [show sm = 1 by omega]; exact ex_old (x := (mV v k)) hst hp h_49 (bet_ngt h_53 h_60))) (by first | exact hsm | decide)
theorem metX1_passing (La : Launch) (a : Nat → Nat) (n : Nat) (pl : Int32) (hn : n ≤ 64) (v al rg lo hi : Nat → Int32) : MetW La yX1_passing cX1_passing 4 (some .int) 1 a [.ref (a 30), .int pl] (wX1 a (nI n) v al rg lo hi) (rpI (fun z w' => w' = (wX1 a (nI n) v al rg lo hi) ∧ ((∃ r, r < n ∧ ps (mV v) (mA al) rg lo hi r = true ∧ pl = nI (fb_ct (ps (mV v) (mA al) rg lo hi) r) ∧ z = nI r) ∨ (z = -1 ∧ ∀ r, r < n → ps (mV v) (mA al) rg lo hi r = true → pl ≠ nI (fb_ct (ps (mV v) (mA al) rg lo hi) r))))) := by
  refine MetW.ofI (by decide) (Nat.le_of_ble_eq_true rfl) (fun K hKl hKd ret => ?_)
  subst hKl
  show CW K a cX1_passing 4 RX1 0 [(0, .ref (a 30)), (1, .int pl)] [] (wX1 a (nI n) v al rg lo hi)
  refine x_iconst 1 (v := nI 0) dX1_passing_0 kI_0 ?_
  refine x_istore_n 2 (lv' := [(2, .int (nI 0)), (0, .ref (a 30)), (1, .int pl)]) dX1_passing_1 (by decide) rfl ?_
  refine x_iconst 3 (v := nI 0) dX1_passing_2 kI_0 ?_
  refine x_istore_n 4 (lv' := [(3, .int (nI 0)), (2, .int (nI 0)), (0, .ref (a 30)), (1, .int pl)]) dX1_passing_3 (by decide) rfl ?_
  refine x_sub (lv' := [(0, .ref (a 30)), (1, .int pl), (2, .int (nI 0)), (3, .int (nI 0))]) [2, 3, 1, 0] rfl ?_
  refine loop_up (P := fun r => ∀ (u : Nat), (u = fb_ct (ps (mV v) (mA al) rg lo hi) r) → (∀ j, j < r → ps (mV v) (mA al) rg lo hi j = true → pl ≠ nI (fb_ct (ps (mV v) (mA al) rg lo hi) j)) → CW K a cX1_passing 4 RX1 4 [(0, .ref (a 30)), (1, .int pl), (2, .int (nI u)), (3, .int (nI r))] [] (wX1 a (nI n) v al rg lo hi)) n (fun r hi_r ih_r => ?_) 0 (by omega) 0 rfl (fun j h => absurd h (Nat.not_lt_zero j))
  intro u hu hnn
  refine x_iload_n 5 3 dX1_passing_4 rfl ?_
  refine x_aload_n 6 0 dX1_passing_5 rfl ?_
  refine get_X1 9 0 0 (v := .int (nI n)) rfl (by decide) q208 rfl dX1_passing_6 ?_
  refine n_icmp_ge 12 36 dX1_passing_9 (by decide) (by omega) (by omega) (fun h_9 => ?_) (fun h_9 => ?_)
  ·
    refine x_iconst 37 (v := -1) dX1_passing_36 kI_m1 ?_
    exact ret 37 _ _ _ dX1_passing_37 rfl ⟨rfl, Or.inr ⟨rfl, by rw [← show r = n by omega]; exact hnn⟩⟩
  ·
    refine x_aload_n 13 0 dX1_passing_12 rfl ?_
    refine x_iload_n 14 3 dX1_passing_13 rfl ?_
    refine call_Vi 17 (av := [.int (nI r)]) (metX1_passes (cx_l K) a n r (by omega) v al rg lo hi) rfl rfl gwX1_passes nyX1_passes rfl (by omega) (by decide) (Nat.le_of_ble_eq_true rfl) rfl dX1_passing_14 ?_
    intro r_14 w_14 hq_14
    obtain ⟨rfl, hq_14⟩ := hq_14
    rcases hq_14 with ⟨rfl, hp⟩ | ⟨rfl, hp⟩
    ·
      refine f_if_eq 20 30 dX1_passing_17 (by decide) (by decide +kernel) ?_
      refine x_iload_n 21 2 dX1_passing_20 rfl ?_
      refine x_iload_n 22 1 dX1_passing_21 rfl ?_
      refine x_icmp_ne 25 27 dX1_passing_22 (by decide) (fun h_22 => ?_) (fun h_22 => ?_)
      ·
        refine x_iinc 30 (v := nI (u + 1)) (lv' := [(2, .int (nI (u + 1))), (0, .ref (a 30)), (1, .int pl), (3, .int (nI r))]) 2 dX1_passing_27 rfl (inc1 _) (by decide) rfl ?_
        refine x_iinc 33 (v := nI (r + 1)) (lv' := [(3, .int (nI (r + 1))), (2, .int (nI (u + 1))), (0, .ref (a 30)), (1, .int pl)]) 3 dX1_passing_30 rfl (inc1 _) (by decide) rfl ?_
        refine x_goto 4 dX1_passing_33 (by decide) ?_
        refine x_sub (lv' := [(0, .ref (a 30)), (1, .int pl), (2, .int (nI (u + 1))), (3, .int (nI (r + 1)))]) [2, 3, 1, 0] rfl ?_
        exact ih_r (r + 1) (by omega) (by omega) _ (by rw [hu]; first | rw [ct_t hp] | rw [ct_f hp]) (lt_s hnn (fun q e => by first | exact h_22 (by rw [hu]; exact e.symm) | (rw [hp] at q; cases q)))
      ·
        refine x_iload_n 26 3 dX1_passing_25 rfl ?_
        exact ret 26 _ _ _ dX1_passing_26 rfl ⟨rfl, Or.inl ⟨r, h_9, hp, by rw [← hu]; exact h_22.symm, rfl⟩⟩
    ·
      refine t_if_eq 30 dX1_passing_17 (by decide) (by decide +kernel) ?_
      refine x_iinc 33 (v := nI (r + 1)) (lv' := [(3, .int (nI (r + 1))), (0, .ref (a 30)), (1, .int pl), (2, .int (nI u))]) 3 dX1_passing_30 rfl (inc1 _) (by decide) rfl ?_
      refine x_goto 4 dX1_passing_33 (by decide) ?_
      refine x_sub (lv' := [(0, .ref (a 30)), (1, .int pl), (2, .int (nI u)), (3, .int (nI (r + 1)))]) [1, 2, 3, 0] rfl ?_
      exact ih_r (r + 1) (by omega) (by omega) _ (by rw [hu]; first | rw [ct_t hp] | rw [ct_f hp]) (lt_s hnn (fun q e => by first | exact h_22 (by rw [hu]; exact e.symm) | (rw [hp] at q; cases q)))
theorem metX1_value (La : Launch) (a : Nat → Nat) (n : Nat) (rv cv : Int32) (hn : n ≤ 64) (v al rg lo hi : Nat → Int32) : MetW La yX1_value cX1_value 3 (some .int) 1 a [.ref (a 30), .int rv, .int cv] (wX1 a (nI n) v al rg lo hi) (rpI (fun z w' => w' = (wX1 a (nI n) v al rg lo hi) ∧ ((∃ j k, j < n ∧ k < 3 ∧ rv = nI j ∧ cv = nI k ∧ z = mV v k j) ∨ (z = nI 0 ∧ ((∀ j, j < n → rv ≠ nI j) ∨ ∀ k, k < 3 → cv ≠ nI k))))) := by
  refine MetW.ofI (by decide) (Nat.le_of_ble_eq_true rfl) (fun K hKl hKd ret => ?_)
  subst hKl
  show CW K a cX1_value 3 RX1 0 [(0, .ref (a 30)), (1, .int rv), (2, .int cv)] [] (wX1 a (nI n) v al rg lo hi)
  refine x_iload_n 1 1 dX1_value_0 rfl ?_
  refine x_if_lt 4 19 dX1_value_1 (by decide) (fun h_1 => ?_) (fun h_1 => ?_)
  ·
    refine x_iconst 20 (v := nI 0) dX1_value_19 kI_0 ?_
    refine x_goto 33 dX1_value_20 (by decide) ?_
    exact ret 33 _ _ _ dX1_value_33 rfl ⟨rfl, Or.inr ⟨rfl, by first | exact Or.inl (row_out hn (Or.inl h_1)) | exact Or.inl (row_out hn (Or.inr h_9)) | exact Or.inr hno⟩⟩
  ·
    refine x_iload_n 5 1 dX1_value_4 rfl ?_
    refine x_aload_n 6 0 dX1_value_5 rfl ?_
    refine get_X1 9 0 0 (v := .int (nI n)) rfl (by decide) q208 rfl dX1_value_6 ?_
    refine x_icmp_ge 12 19 dX1_value_9 (by decide) (fun h_9 => ?_) (fun h_9 => ?_)
    ·
      refine x_iconst 20 (v := nI 0) dX1_value_19 kI_0 ?_
      refine x_goto 33 dX1_value_20 (by decide) ?_
      exact ret 33 _ _ _ dX1_value_33 rfl ⟨rfl, Or.inr ⟨rfl, by first | exact Or.inl (row_out hn (Or.inl h_1)) | exact Or.inl (row_out hn (Or.inr h_9)) | exact Or.inr hno⟩⟩
    ·
      obtain ⟨j, hj, rfl⟩ := row_in hn h_1 h_9
      refine x_iload_n 13 2 dX1_value_12 rfl ?_
      refine call_Si 16 (av := [.int cv]) (metX1_bad (cx_l K) a cv) gwX1_bad nyX1_bad rfl (by omega) (by decide) (Nat.le_of_ble_eq_true rfl) rfl dX1_value_13 ?_
      intro r_13 w_13 hq_13
      rcases hq_13 with ⟨rfl, hno⟩ | ⟨rfl, k, hk, rfl⟩
      ·
        refine f_if_eq 19 23 dX1_value_16 (by decide) (by decide +kernel) ?_
        refine x_iconst 20 (v := nI 0) dX1_value_19 kI_0 ?_
        refine x_goto 33 dX1_value_20 (by decide) ?_
        exact ret 33 _ _ _ dX1_value_33 rfl ⟨rfl, Or.inr ⟨rfl, by first | exact Or.inl (row_out hn (Or.inl h_1)) | exact Or.inl (row_out hn (Or.inr h_9)) | exact Or.inr hno⟩⟩
      ·
        refine t_if_eq 23 dX1_value_16 (by decide) (by decide +kernel) ?_
        refine x_aload_n 24 0 dX1_value_23 rfl ?_
        refine get_X1 27 0 1 (v := .ref (a 31)) rfl (by decide) q209 rfl dX1_value_24 ?_
        refine x_iconst 28 (v := nI 3) dX1_value_27 kI_3 ?_
        refine x_iload_n 29 1 dX1_value_28 rfl ?_
        refine x_imul 30 (v := nI (3 * j)) dX1_value_29 (pk_mul _ _) ?_
        refine x_iload_n 31 2 dX1_value_30 rfl ?_
        refine x_iadd 32 (v := nI (3 * j + k)) dX1_value_31 (nI_add _ _) ?_
        refine iald 33 1 (f := v) rfl (by omega) (by decide) dX1_value_32 ?_
        exact ret 33 _ _ _ dX1_value_33 rfl ⟨rfl, Or.inl ⟨j, k, hj, hk, rfl, rfl, rfl⟩⟩
theorem metX1_seen (La : Launch) (a : Nat → Nat) (n r k : Nat) (hr : r < 64) (hk : k < 3) (v al rg lo hi : Nat → Int32) : MetW La yX1_seen cX1_seen 4 (some .boolean) 1 a [.ref (a 30), .int (nI r), .int (nI k)] (wX1 a (nI n) v al rg lo hi) (rpI (fun z w' => w' = (wX1 a (nI n) v al rg lo hi) ∧ ((z = nI 1 ∧ sn (ps (mV v) (mA al) rg lo hi) (mV v k) (mV v k r) r = true) ∨ (z = nI 0 ∧ sn (ps (mV v) (mA al) rg lo hi) (mV v k) (mV v k r) r = false)))) := by
  refine MetW.ofI (by decide) (Nat.le_of_ble_eq_true rfl) (fun K hKl hKd ret => ?_)
  subst hKl
  show CW K a cX1_seen 4 RX1 0 [(0, .ref (a 30)), (1, .int (nI r)), (2, .int (nI k))] [] (wX1 a (nI n) v al rg lo hi)
  refine x_iconst 1 (v := nI 0) dX1_seen_0 kI_0 ?_
  refine x_istore_n 2 (lv' := [(3, .int (nI 0)), (0, .ref (a 30)), (1, .int (nI r)), (2, .int (nI k))]) dX1_seen_1 (by decide) rfl ?_
  refine x_sub (lv' := [(0, .ref (a 30)), (1, .int (nI r)), (2, .int (nI k)), (3, .int (nI 0))]) [1, 2, 3, 0] rfl ?_
  refine loop_up (P := fun j => (sn (ps (mV v) (mA al) rg lo hi) (mV v k) (mV v k r) j = false) → CW K a cX1_seen 4 RX1 2 [(0, .ref (a 30)), (1, .int (nI r)), (2, .int (nI k)), (3, .int (nI j))] [] (wX1 a (nI n) v al rg lo hi)) r (fun j hi_j ih_j => ?_) 0 (by omega)  rfl
  intro hs
  refine x_iload_n 3 3 dX1_seen_2 rfl ?_
  refine x_iload_n 4 1 dX1_seen_3 rfl ?_
  refine n_icmp_ge 7 46 dX1_seen_4 (by decide) (by omega) (by omega) (fun h_4 => ?_) (fun h_4 => ?_)
  ·
    refine x_iconst 47 (v := nI 0) dX1_seen_46 kI_0 ?_
    exact ret 47 _ _ _ dX1_seen_47 nb0 ⟨rfl, Or.inr ⟨rfl, by rw [show j = r by omega] at hs; exact hs⟩⟩
  ·
    refine x_aload_n 8 0 dX1_seen_7 rfl ?_
    refine x_iload_n 9 3 dX1_seen_8 rfl ?_
    refine call_Vi 12 (av := [.int (nI j)]) (metX1_passes (cx_l K) a n j (by omega) v al rg lo hi) rfl rfl gwX1_passes nyX1_passes rfl (by omega) (by decide) (Nat.le_of_ble_eq_true rfl) rfl dX1_seen_9 ?_
    intro r_9 w_9 hq_9
    obtain ⟨rfl, hq_9⟩ := hq_9
    rcases hq_9 with ⟨rfl, hp⟩ | ⟨rfl, hp⟩
    ·
      refine f_if_eq 15 40 dX1_seen_12 (by decide) (by decide +kernel) ?_
      refine x_aload_n 16 0 dX1_seen_15 rfl ?_
      refine get_X1 19 0 1 (v := .ref (a 31)) rfl (by decide) q209 rfl dX1_seen_16 ?_
      refine x_iconst 20 (v := nI 3) dX1_seen_19 kI_3 ?_
      refine x_iload_n 21 3 dX1_seen_20 rfl ?_
      refine x_imul 22 (v := nI (3 * j)) dX1_seen_21 (pk_mul _ _) ?_
      refine x_iload_n 23 2 dX1_seen_22 rfl ?_
      refine x_iadd 24 (v := nI (3 * j + k)) dX1_seen_23 (nI_add _ _) ?_
      refine iald 25 1 (f := v) rfl (by omega) (by decide) dX1_seen_24 ?_
      refine x_aload_n 26 0 dX1_seen_25 rfl ?_
      refine get_X1 29 0 1 (v := .ref (a 31)) rfl (by decide) q209 rfl dX1_seen_26 ?_
      refine x_iconst 30 (v := nI 3) dX1_seen_29 kI_3 ?_
      refine x_iload_n 31 1 dX1_seen_30 rfl ?_
      refine x_imul 32 (v := nI (3 * r)) dX1_seen_31 (pk_mul _ _) ?_
      refine x_iload_n 33 2 dX1_seen_32 rfl ?_
      refine x_iadd 34 (v := nI (3 * r + k)) dX1_seen_33 (nI_add _ _) ?_
      refine iald 35 1 (f := v) rfl (by omega) (by decide) dX1_seen_34 ?_
      refine x_icmp_ne 38 40 dX1_seen_35 (by decide) (fun h_35 => ?_) (fun h_35 => ?_)
      ·
        refine x_iinc 43 (v := nI (j + 1)) (lv' := [(3, .int (nI (j + 1))), (0, .ref (a 30)), (1, .int (nI r)), (2, .int (nI k))]) 3 dX1_seen_40 rfl (inc1 _) (by decide) rfl ?_
        refine x_goto 2 dX1_seen_43 (by decide) ?_
        refine x_sub (lv' := [(0, .ref (a 30)), (1, .int (nI r)), (2, .int (nI k)), (3, .int (nI (j + 1)))]) [1, 2, 3, 0] rfl ?_
        exact ih_j (j + 1) (by omega) (by omega)  (sn_miss hs (by first | exact Or.inl hp | exact Or.inr h_35))
      ·
        refine x_iconst 39 (v := nI 1) dX1_seen_38 kI_1 ?_
        exact ret 39 _ _ _ dX1_seen_39 nb1 ⟨rfl, Or.inl ⟨rfl, sn_hit hp h_35 h_4⟩⟩
    ·
      refine t_if_eq 40 dX1_seen_12 (by decide) (by decide +kernel) ?_
      refine x_iinc 43 (v := nI (j + 1)) (lv' := [(3, .int (nI (j + 1))), (0, .ref (a 30)), (1, .int (nI r)), (2, .int (nI k))]) 3 dX1_seen_40 rfl (inc1 _) (by decide) rfl ?_
      refine x_goto 2 dX1_seen_43 (by decide) ?_
      refine x_sub (lv' := [(0, .ref (a 30)), (1, .int (nI r)), (2, .int (nI k)), (3, .int (nI (j + 1)))]) [1, 2, 3, 0] rfl ?_
      exact ih_j (j + 1) (by omega) (by omega)  (sn_miss hs (by first | exact Or.inl hp | exact Or.inr h_35))
theorem metX1_different (La : Launch) (a : Nat → Nat) (n : Nat) (cv : Int32) (hn : n ≤ 64) (v al rg lo hi : Nat → Int32) : MetW La yX1_different cX1_different 4 (some .int) 2 a [.ref (a 30), .int cv] (wX1 a (nI n) v al rg lo hi) (rpI (fun z w' => w' = (wX1 a (nI n) v al rg lo hi) ∧ ((∃ k, k < 3 ∧ cv = nI k ∧ z = nI (fb_ct (dn (ps (mV v) (mA al) rg lo hi) (mV v k)) n)) ∨ (z = -1 ∧ ∀ k, k < 3 → cv ≠ nI k)))) := by
  refine MetW.ofI (by decide) (Nat.le_of_ble_eq_true rfl) (fun K hKl hKd ret => ?_)
  subst hKl
  show CW K a cX1_different 4 RX1 0 [(0, .ref (a 30)), (1, .int cv)] [] (wX1 a (nI n) v al rg lo hi)
  refine x_iload_n 1 1 dX1_different_0 rfl ?_
  refine call_Si 4 (av := [.int cv]) (metX1_bad (cx_l K) a cv) gwX1_bad nyX1_bad rfl (by omega) (by decide) (Nat.le_of_ble_eq_true rfl) rfl dX1_different_1 ?_
  intro r_1 w_1 hq_1
  rcases hq_1 with ⟨rfl, hno⟩ | ⟨rfl, k, hk, rfl⟩
  ·
    refine f_if_eq 7 9 dX1_different_4 (by decide) (by decide +kernel) ?_
    refine x_iconst 8 (v := -1) dX1_different_7 kI_m1 ?_
    exact ret 8 _ _ _ dX1_different_8 rfl ⟨rfl, Or.inr ⟨rfl, hno⟩⟩
  ·
    refine t_if_eq 9 dX1_different_4 (by decide) (by decide +kernel) ?_
    refine x_iconst 10 (v := nI 0) dX1_different_9 kI_0 ?_
    refine x_istore_n 11 (lv' := [(2, .int (nI 0)), (0, .ref (a 30)), (1, .int (nI k))]) dX1_different_10 (by decide) rfl ?_
    refine x_iconst 12 (v := nI 0) dX1_different_11 kI_0 ?_
    refine x_istore_n 13 (lv' := [(3, .int (nI 0)), (2, .int (nI 0)), (0, .ref (a 30)), (1, .int (nI k))]) dX1_different_12 (by decide) rfl ?_
    refine x_sub (lv' := [(0, .ref (a 30)), (1, .int (nI k)), (2, .int (nI 0)), (3, .int (nI 0))]) [2, 3, 1, 0] rfl ?_
    refine loop_up (P := fun r => ∀ (u : Nat), (u = fb_ct (dn (ps (mV v) (mA al) rg lo hi) (mV v k)) r) → CW K a cX1_different 4 RX1 13 [(0, .ref (a 30)), (1, .int (nI k)), (2, .int (nI u)), (3, .int (nI r))] [] (wX1 a (nI n) v al rg lo hi)) n (fun r hi_r ih_r => ?_) 0 (by omega) 0 rfl
    intro u hu
    refine x_iload_n 14 3 dX1_different_13 rfl ?_
    refine x_aload_n 15 0 dX1_different_14 rfl ?_
    refine get_X1 18 0 0 (v := .int (nI n)) rfl (by decide) q208 rfl dX1_different_15 ?_
    refine n_icmp_ge 21 47 dX1_different_18 (by decide) (by omega) (by omega) (fun h_18 => ?_) (fun h_18 => ?_)
    ·
      refine x_iload_n 48 2 dX1_different_47 rfl ?_
      exact ret 48 _ _ _ dX1_different_48 rfl ⟨rfl, Or.inl ⟨k, hk, rfl, by rw [hu, show r = n by omega]⟩⟩
    ·
      refine x_aload_n 22 0 dX1_different_21 rfl ?_
      refine x_iload_n 23 3 dX1_different_22 rfl ?_
      refine call_Vi 26 (av := [.int (nI r)]) (metX1_passes (cx_l K) a n r (by omega) v al rg lo hi) rfl rfl gwX1_passes nyX1_passes rfl (by omega) (by decide) (Nat.le_of_ble_eq_true rfl) rfl dX1_different_23 ?_
      intro r_23 w_23 hq_23
      obtain ⟨rfl, hq_23⟩ := hq_23
      rcases hq_23 with ⟨rfl, hp⟩ | ⟨rfl, hp⟩
      ·
        refine f_if_eq 29 41 dX1_different_26 (by decide) (by decide +kernel) ?_
        refine x_aload_n 30 0 dX1_different_29 rfl ?_
        refine x_iload_n 31 3 dX1_different_30 rfl ?_
        refine x_iload_n 32 1 dX1_different_31 rfl ?_
        refine call_Vi 35 (av := [.int (nI r), .int (nI k)]) (metX1_seen (cx_l K) a n r k (by omega) hk v al rg lo hi) rfl rfl gwX1_seen nyX1_seen rfl (by omega) (by decide) (Nat.le_of_ble_eq_true rfl) rfl dX1_different_32 ?_
        intro r_32 w_32 hq_32
        obtain ⟨rfl, hq_32⟩ := hq_32
        rcases hq_32 with ⟨rfl, hs⟩ | ⟨rfl, hs⟩
        ·
          refine t_if_ne 41 dX1_different_35 (by decide) (by decide +kernel) ?_
          refine x_iinc 44 (v := nI (r + 1)) (lv' := [(3, .int (nI (r + 1))), (0, .ref (a 30)), (1, .int (nI k)), (2, .int (nI u))]) 3 dX1_different_41 rfl (inc1 _) (by decide) rfl ?_
          refine x_goto 13 dX1_different_44 (by decide) ?_
          refine x_sub (lv' := [(0, .ref (a 30)), (1, .int (nI k)), (2, .int (nI u)), (3, .int (nI (r + 1)))]) [1, 2, 3, 0] rfl ?_
          exact ih_r (r + 1) (by omega) (by omega) _ (by rw [hu]; first | rw [ct_f (by unfold dn; rw [hp, Bool.false_and])] | rw [ct_f (by unfold dn; rw [hp, hs]; rfl)] | rw [ct_t (by unfold dn; rw [hp, hs]; rfl)])
        ·
          refine f_if_ne 38 41 dX1_different_35 (by decide) (by decide +kernel) ?_
          refine x_iinc 41 (v := nI (u + 1)) (lv' := [(2, .int (nI (u + 1))), (0, .ref (a 30)), (1, .int (nI k)), (3, .int (nI r))]) 2 dX1_different_38 rfl (inc1 _) (by decide) rfl ?_
          refine x_iinc 44 (v := nI (r + 1)) (lv' := [(3, .int (nI (r + 1))), (2, .int (nI (u + 1))), (0, .ref (a 30)), (1, .int (nI k))]) 3 dX1_different_41 rfl (inc1 _) (by decide) rfl ?_
          refine x_goto 13 dX1_different_44 (by decide) ?_
          refine x_sub (lv' := [(0, .ref (a 30)), (1, .int (nI k)), (2, .int (nI (u + 1))), (3, .int (nI (r + 1)))]) [2, 3, 1, 0] rfl ?_
          exact ih_r (r + 1) (by omega) (by omega) _ (by rw [hu]; first | rw [ct_f (by unfold dn; rw [hp, Bool.false_and])] | rw [ct_f (by unfold dn; rw [hp, hs]; rfl)] | rw [ct_t (by unfold dn; rw [hp, hs]; rfl)])
      ·
        refine t_if_eq 41 dX1_different_26 (by decide) (by decide +kernel) ?_
        refine x_iinc 44 (v := nI (r + 1)) (lv' := [(3, .int (nI (r + 1))), (0, .ref (a 30)), (1, .int (nI k)), (2, .int (nI u))]) 3 dX1_different_41 rfl (inc1 _) (by decide) rfl ?_
        refine x_goto 13 dX1_different_44 (by decide) ?_
        refine x_sub (lv' := [(0, .ref (a 30)), (1, .int (nI k)), (2, .int (nI u)), (3, .int (nI (r + 1)))]) [1, 2, 3, 0] rfl ?_
        exact ih_r (r + 1) (by omega) (by omega) _ (by rw [hu]; first | rw [ct_f (by unfold dn; rw [hp, Bool.false_and])] | rw [ct_f (by unfold dn; rw [hp, hs]; rfl)] | rw [ct_t (by unfold dn; rw [hp, hs]; rfl)])
theorem metX1_live (La : Launch) (a : Nat → Nat) (n : Nat) (hn : n ≤ 64) (v al rg lo hi : Nat → Int32) : MetW La yX1_live cX1_live 3 (some .int) 0 a [.ref (a 30)] (wX1 a (nI n) v al rg lo hi) (rpI (fun z w' => w' = (wX1 a (nI n) v al rg lo hi) ∧ z = nI (fb_ct (mA al) n))) := by
  refine MetW.ofI (by decide) (Nat.le_of_ble_eq_true rfl) (fun K hKl hKd ret => ?_)
  subst hKl
  show CW K a cX1_live 3 RX1 0 [(0, .ref (a 30))] [] (wX1 a (nI n) v al rg lo hi)
  refine x_iconst 1 (v := nI 0) dX1_live_0 kI_0 ?_
  refine x_istore_n 2 (lv' := [(1, .int (nI 0)), (0, .ref (a 30))]) dX1_live_1 (by decide) rfl ?_
  refine x_iconst 3 (v := nI 0) dX1_live_2 kI_0 ?_
  refine x_istore_n 4 (lv' := [(2, .int (nI 0)), (1, .int (nI 0)), (0, .ref (a 30))]) dX1_live_3 (by decide) rfl ?_
  refine x_sub (lv' := [(0, .ref (a 30)), (1, .int (nI 0)), (2, .int (nI 0))]) [2, 1, 0] rfl ?_
  refine loop_up (P := fun r => ∀ (u : Nat), (u = fb_ct (mA al) r) → CW K a cX1_live 3 RX1 4 [(0, .ref (a 30)), (1, .int (nI u)), (2, .int (nI r))] [] (wX1 a (nI n) v al rg lo hi)) n (fun r hi_r ih_r => ?_) 0 (by omega) 0 rfl
  intro u hu
  refine x_iload_n 5 2 dX1_live_4 rfl ?_
  refine x_aload_n 6 0 dX1_live_5 rfl ?_
  refine get_X1 9 0 0 (v := .int (nI n)) rfl (by decide) q208 rfl dX1_live_6 ?_
  refine n_icmp_ge 12 30 dX1_live_9 (by decide) (by omega) (by omega) (fun h_9 => ?_) (fun h_9 => ?_)
  ·
    refine x_iload_n 31 1 dX1_live_30 rfl ?_
    exact ret 31 _ _ _ dX1_live_31 rfl ⟨rfl, by rw [hu, show r = n by omega]⟩
  ·
    refine x_aload_n 13 0 dX1_live_12 rfl ?_
    refine get_X1 16 0 2 (v := .ref (a 32)) rfl (by decide) q210 rfl dX1_live_13 ?_
    refine x_iload_n 17 2 dX1_live_16 rfl ?_
    refine zald 18 2 (f := al) rfl (by omega) (by decide) dX1_live_17 ?_
    refine x_if_eq 21 24 dX1_live_18 (by decide) (fun h_18 => ?_) (fun h_18 => ?_)
    ·
      refine x_iinc 27 (v := nI (r + 1)) (lv' := [(2, .int (nI (r + 1))), (0, .ref (a 30)), (1, .int (nI u))]) 2 dX1_live_24 rfl (inc1 _) (by decide) rfl ?_
      refine x_goto 4 dX1_live_27 (by decide) ?_
      refine x_sub (lv' := [(0, .ref (a 30)), (1, .int (nI u)), (2, .int (nI (r + 1)))]) [1, 2, 0] rfl ?_
      exact ih_r (r + 1) (by omega) (by omega) _ (by rw [hu]; first | rw [ct_t (p := mA al) (decide_eq_true h_18)] | rw [ct_f (p := mA al) (decide_eq_false (fun z => z h_18))])
    ·
      refine x_iinc 24 (v := nI (u + 1)) (lv' := [(1, .int (nI (u + 1))), (0, .ref (a 30)), (2, .int (nI r))]) 1 dX1_live_21 rfl (inc1 _) (by decide) rfl ?_
      refine x_iinc 27 (v := nI (r + 1)) (lv' := [(2, .int (nI (r + 1))), (1, .int (nI (u + 1))), (0, .ref (a 30))]) 2 dX1_live_24 rfl (inc1 _) (by decide) rfl ?_
      refine x_goto 4 dX1_live_27 (by decide) ?_
      refine x_sub (lv' := [(0, .ref (a 30)), (1, .int (nI (u + 1))), (2, .int (nI (r + 1)))]) [2, 1, 0] rfl ?_
      exact ih_r (r + 1) (by omega) (by omega) _ (by rw [hu]; first | rw [ct_t (p := mA al) (decide_eq_true h_18)] | rw [ct_f (p := mA al) (decide_eq_false (fun z => z h_18))])
theorem metX1_range (La : Launch) (a : Nat → Nat) (n : Nat) (cv lw hw : Int32) (v al rg lo hi : Nat → Int32) : MetW La yX1_range cX1_range 4 (some .int) 1 a [.ref (a 30), .int cv, .int lw, .int hw] (wX1 a (nI n) v al rg lo hi) (rpI (fun z w' => (∃ k, k < 3 ∧ cv = nI k ∧ z = nI 0 ∧ w' = (wX1 a (nI n) v al (upd rg k (nI 1)) (upd lo k lw) (upd hi k hw))) ∨ (z = -1 ∧ w' = (wX1 a (nI n) v al rg lo hi) ∧ ∀ k, k < 3 → cv ≠ nI k))) := by
  refine MetW.ofI (by decide) (Nat.le_of_ble_eq_true rfl) (fun K hKl hKd ret => ?_)
  subst hKl
  show CW K a cX1_range 4 RX1 0 [(0, .ref (a 30)), (1, .int cv), (2, .int lw), (3, .int hw)] [] (wX1 a (nI n) v al rg lo hi)
  refine x_iload_n 1 1 dX1_range_0 rfl ?_
  refine call_Si 4 (av := [.int cv]) (metX1_bad (cx_l K) a cv) gwX1_bad nyX1_bad rfl (by omega) (by decide) (Nat.le_of_ble_eq_true rfl) rfl dX1_range_1 ?_
  intro r_1 w_1 hq_1
  rcases hq_1 with ⟨rfl, hno⟩ | ⟨rfl, k, hk, rfl⟩
  ·
    refine f_if_eq 7 9 dX1_range_4 (by decide) (by decide +kernel) ?_
    refine x_iconst 8 (v := -1) dX1_range_7 kI_m1 ?_
    exact ret 8 _ _ _ dX1_range_8 rfl (Or.inr ⟨rfl, rfl, hno⟩)
  ·
    refine t_if_eq 9 dX1_range_4 (by decide) (by decide +kernel) ?_
    refine x_aload_n 10 0 dX1_range_9 rfl ?_
    refine get_X1 13 0 3 (v := .ref (a 33)) rfl (by decide) q211 rfl dX1_range_10 ?_
    refine x_iload_n 14 1 dX1_range_13 rfl ?_
    refine x_iconst 15 (v := nI 1) dX1_range_14 kI_1 ?_
    refine zast 16 3 (w' := (wX1 a (nI n) v al (upd rg k (nI 1)) lo hi)) rfl (by omega) (by decide) vz1 rfl dX1_range_15 ?_
    refine x_aload_n 17 0 dX1_range_16 rfl ?_
    refine get_X1 20 0 4 (v := .ref (a 34)) rfl (by decide) q212 rfl dX1_range_17 ?_
    refine x_iload_n 21 1 dX1_range_20 rfl ?_
    refine x_iload_n 22 2 dX1_range_21 rfl ?_
    refine iast 23 4 (w' := (wX1 a (nI n) v al (upd rg k (nI 1)) (upd lo k lw) hi)) rfl (by omega) (by decide) rfl dX1_range_22 ?_
    refine x_aload_n 24 0 dX1_range_23 rfl ?_
    refine get_X1 27 0 5 (v := .ref (a 35)) rfl (by decide) q213 rfl dX1_range_24 ?_
    refine x_iload_n 28 1 dX1_range_27 rfl ?_
    refine x_iload_n 29 3 dX1_range_28 rfl ?_
    refine iast 30 5 (w' := (wX1 a (nI n) v al (upd rg k (nI 1)) (upd lo k lw) (upd hi k hw))) rfl (by omega) (by decide) rfl dX1_range_29 ?_
    refine x_iconst 31 (v := nI 0) dX1_range_30 kI_0 ?_
    exact ret 31 _ _ _ dX1_range_31 rfl (Or.inl ⟨k, hk, rfl, rfl, rfl⟩)
theorem metX1_open (La : Launch) (a : Nat → Nat) (n : Nat) (v al rg lo hi : Nat → Int32) : MetW La yX1_open cX1_open 2 none 0 a [.ref (a 30)] (wX1 a (nI n) v al rg lo hi) (rpV (fun w' => w' = (wX1 a (nI n) v al (clr rg 0 3) lo hi))) := by
  refine MetW.ofV (by decide) (Nat.le_of_ble_eq_true rfl) (fun K hKl hKd ret => ?_)
  subst hKl
  show CW K a cX1_open 2 RX1 0 [(0, .ref (a 30))] [] (wX1 a (nI n) v al rg lo hi)
  refine x_iconst 1 (v := nI 0) dX1_open_0 kI_0 ?_
  refine x_istore_n 2 (lv' := [(1, .int (nI 0)), (0, .ref (a 30))]) dX1_open_1 (by decide) rfl ?_
  refine x_sub (lv' := [(0, .ref (a 30)), (1, .int (nI 0))]) [1, 0] rfl ?_
  refine loop_up (P := fun k => ∀ (rg1 : Nat → Int32), (rg1 = clr rg 0 k) → CW K a cX1_open 2 RX1 2 [(0, .ref (a 30)), (1, .int (nI k))] [] (wX1 a (nI n) v al rg1 lo hi)) 3 (fun k hi_k ih_k => ?_) 0 (by omega) rg (clr_0 rg 0).symm
  intro rg1 hr
  refine x_iload_n 3 1 dX1_open_2 rfl ?_
  refine x_iconst 4 (v := nI 3) dX1_open_3 kI_3 ?_
  refine n_icmp_ge 7 20 dX1_open_4 (by decide) (by omega) (by omega) (fun h_4 => ?_) (fun h_4 => ?_)
  ·
    exact ret 20 _ _ dX1_open_20 (by rw [hr, show k = 3 by omega])
  ·
    refine x_aload_n 8 0 dX1_open_7 rfl ?_
    refine get_X1 11 0 3 (v := .ref (a 33)) rfl (by decide) q211 rfl dX1_open_8 ?_
    refine x_iload_n 12 1 dX1_open_11 rfl ?_
    refine x_iconst 13 (v := nI 0) dX1_open_12 kI_0 ?_
    refine zast 14 3 (w' := (wX1 a (nI n) v al (upd rg1 k (nI 0)) lo hi)) rfl (by omega) (by decide) vz0 rfl dX1_open_13 ?_
    refine x_iinc 17 (v := nI (k + 1)) (lv' := [(1, .int (nI (k + 1))), (0, .ref (a 30))]) 1 dX1_open_14 rfl (inc1 _) (by decide) rfl ?_
    refine x_goto 2 dX1_open_17 (by decide) ?_
    refine x_sub (lv' := [(0, .ref (a 30)), (1, .int (nI (k + 1)))]) [1, 0] rfl ?_
    exact ih_k (k + 1) (by omega) (by omega) _ (by rw [hr]; have z := clr_s rg 0 k; rw [Nat.zero_add] at z; exact z)
theorem metX1_strike (La : Launch) (a : Nat → Nat) (n : Nat) (rv : Int32) (hn : n ≤ 64) (v al rg lo hi : Nat → Int32) : MetW La yX1_strike cX1_strike 2 (some .int) 0 a [.ref (a 30), .int rv] (wX1 a (nI n) v al rg lo hi) (rpI (fun z w' => (∃ j, j < n ∧ rv = nI j ∧ mA al j = true ∧ z = nI 0 ∧ w' = (wX1 a (nI n) v (upd al j (nI 0)) rg lo hi)) ∨ (z = -1 ∧ w' = (wX1 a (nI n) v al rg lo hi) ∧ ∀ j, j < n → rv = nI j → mA al j = false))) := by
  refine MetW.ofI (by decide) (Nat.le_of_ble_eq_true rfl) (fun K hKl hKd ret => ?_)
  subst hKl
  show CW K a cX1_strike 2 RX1 0 [(0, .ref (a 30)), (1, .int rv)] [] (wX1 a (nI n) v al rg lo hi)
  refine x_iload_n 1 1 dX1_strike_0 rfl ?_
  refine x_if_lt 4 21 dX1_strike_1 (by decide) (fun h_1 => ?_) (fun h_1 => ?_)
  ·
    refine x_iconst 22 (v := -1) dX1_strike_21 kI_m1 ?_
    exact ret 22 _ _ _ dX1_strike_22 rfl (Or.inr ⟨rfl, rfl, by first | exact fun j hj e => absurd e (row_out hn (Or.inl h_1) j hj) | exact fun j hj e => absurd e (row_out hn (Or.inr h_9) j hj) | exact (fun j2 hj2 e => by rw [← (nI_eq (by omega) (by omega)).mp e]; exact decide_eq_false (fun z => z h_18))⟩)
  ·
    refine x_iload_n 5 1 dX1_strike_4 rfl ?_
    refine x_aload_n 6 0 dX1_strike_5 rfl ?_
    refine get_X1 9 0 0 (v := .int (nI n)) rfl (by decide) q208 rfl dX1_strike_6 ?_
    refine x_icmp_ge 12 21 dX1_strike_9 (by decide) (fun h_9 => ?_) (fun h_9 => ?_)
    ·
      refine x_iconst 22 (v := -1) dX1_strike_21 kI_m1 ?_
      exact ret 22 _ _ _ dX1_strike_22 rfl (Or.inr ⟨rfl, rfl, by first | exact fun j hj e => absurd e (row_out hn (Or.inl h_1) j hj) | exact fun j hj e => absurd e (row_out hn (Or.inr h_9) j hj) | exact (fun j2 hj2 e => by rw [← (nI_eq (by omega) (by omega)).mp e]; exact decide_eq_false (fun z => z h_18))⟩)
    ·
      obtain ⟨j, hj, rfl⟩ := row_in hn h_1 h_9
      refine x_aload_n 13 0 dX1_strike_12 rfl ?_
      refine get_X1 16 0 2 (v := .ref (a 32)) rfl (by decide) q210 rfl dX1_strike_13 ?_
      refine x_iload_n 17 1 dX1_strike_16 rfl ?_
      refine zald 18 2 (f := al) rfl (by omega) (by decide) dX1_strike_17 ?_
      refine x_if_ne 21 23 dX1_strike_18 (by decide) (fun h_18 => ?_) (fun h_18 => ?_)
      ·
        refine x_aload_n 24 0 dX1_strike_23 rfl ?_
        refine get_X1 27 0 2 (v := .ref (a 32)) rfl (by decide) q210 rfl dX1_strike_24 ?_
        refine x_iload_n 28 1 dX1_strike_27 rfl ?_
        refine x_iconst 29 (v := nI 0) dX1_strike_28 kI_0 ?_
        refine zast 30 2 (w' := (wX1 a (nI n) v (upd al j (nI 0)) rg lo hi)) rfl (by omega) (by decide) vz0 rfl dX1_strike_29 ?_
        refine x_iconst 31 (v := nI 0) dX1_strike_30 kI_0 ?_
        exact ret 31 _ _ _ dX1_strike_31 rfl (Or.inl ⟨j, hj, rfl, decide_eq_true h_18, rfl, rfl⟩)
      ·
        refine x_iconst 22 (v := -1) dX1_strike_21 kI_m1 ?_
        exact ret 22 _ _ _ dX1_strike_22 rfl (Or.inr ⟨rfl, rfl, by first | exact fun j hj e => absurd e (row_out hn (Or.inl h_1) j hj) | exact fun j hj e => absurd e (row_out hn (Or.inr h_9) j hj) | exact (fun j2 hj2 e => by rw [← (nI_eq (by omega) (by omega)).mp e]; exact decide_eq_false (fun z => z h_18))⟩)
theorem metX1_append (La : Launch) (a : Nat → Nat) (n : Nat) (x y z : Int32) (hn : n ≤ 64) (v al rg lo hi : Nat → Int32) : MetW La yX1_append cX1_append 4 (some .int) 0 a [.ref (a 30), .int x, .int y, .int z] (wX1 a (nI n) v al rg lo hi) (rpI (fun q w' => (n < 64 ∧ q = nI n ∧ w' = (wX1 a (nI (n + 1)) (upd (upd (upd v (3 * n) x) (3 * n + 1) y) (3 * n + 2) z) (upd al n (nI 1)) rg lo hi)) ∨ (64 ≤ n ∧ q = -1 ∧ w' = (wX1 a (nI n) v al rg lo hi)))) := by
  refine MetW.ofI (by decide) (Nat.le_of_ble_eq_true rfl) (fun K hKl hKd ret => ?_)
  subst hKl
  show CW K a cX1_append 4 RX1 0 [(0, .ref (a 30)), (1, .int x), (2, .int y), (3, .int z)] [] (wX1 a (nI n) v al rg lo hi)
  refine x_aload_n 1 0 dX1_append_0 rfl ?_
  refine get_X1 4 0 0 (v := .int (nI n)) rfl (by decide) q208 rfl dX1_append_1 ?_
  refine x_bipush 6 (v := nI 64) dX1_append_4 kB_64 ?_
  refine n_icmp_ne 9 11 dX1_append_6 (by decide) (by omega) (by omega) (fun h_6 => ?_) (fun h_6 => ?_)
  ·
    refine x_aload_n 12 0 dX1_append_11 rfl ?_
    refine get_X1 15 0 1 (v := .ref (a 31)) rfl (by decide) q209 rfl dX1_append_12 ?_
    refine x_iconst 16 (v := nI 3) dX1_append_15 kI_3 ?_
    refine x_aload_n 17 0 dX1_append_16 rfl ?_
    refine get_X1 20 0 0 (v := .int (nI n)) rfl (by decide) q208 rfl dX1_append_17 ?_
    refine x_imul 21 (v := nI (3 * n)) dX1_append_20 (pk_mul _ _) ?_
    refine x_iload_n 22 1 dX1_append_21 rfl ?_
    refine iast 23 1 (w' := (wX1 a (nI n) (upd v (3 * n) x) al rg lo hi)) rfl (by omega) (by decide) rfl dX1_append_22 ?_
    refine x_aload_n 24 0 dX1_append_23 rfl ?_
    refine get_X1 27 0 1 (v := .ref (a 31)) rfl (by decide) q209 rfl dX1_append_24 ?_
    refine x_iconst 28 (v := nI 3) dX1_append_27 kI_3 ?_
    refine x_aload_n 29 0 dX1_append_28 rfl ?_
    refine get_X1 32 0 0 (v := .int (nI n)) rfl (by decide) q208 rfl dX1_append_29 ?_
    refine x_imul 33 (v := nI (3 * n)) dX1_append_32 (pk_mul _ _) ?_
    refine x_iconst 34 (v := nI 1) dX1_append_33 kI_1 ?_
    refine x_iadd 35 (v := nI (3 * n + 1)) dX1_append_34 (nI_add _ _) ?_
    refine x_iload_n 36 2 dX1_append_35 rfl ?_
    refine iast 37 1 (w' := (wX1 a (nI n) (upd (upd v (3 * n) x) (3 * n + 1) y) al rg lo hi)) rfl (by omega) (by decide) rfl dX1_append_36 ?_
    refine x_aload_n 38 0 dX1_append_37 rfl ?_
    refine get_X1 41 0 1 (v := .ref (a 31)) rfl (by decide) q209 rfl dX1_append_38 ?_
    refine x_iconst 42 (v := nI 3) dX1_append_41 kI_3 ?_
    refine x_aload_n 43 0 dX1_append_42 rfl ?_
    refine get_X1 46 0 0 (v := .int (nI n)) rfl (by decide) q208 rfl dX1_append_43 ?_
    refine x_imul 47 (v := nI (3 * n)) dX1_append_46 (pk_mul _ _) ?_
    refine x_iconst 48 (v := nI 2) dX1_append_47 kI_2 ?_
    refine x_iadd 49 (v := nI (3 * n + 2)) dX1_append_48 (nI_add _ _) ?_
    refine x_iload_n 50 3 dX1_append_49 rfl ?_
    refine iast 51 1 (w' := (wX1 a (nI n) (upd (upd (upd v (3 * n) x) (3 * n + 1) y) (3 * n + 2) z) al rg lo hi)) rfl (by omega) (by decide) rfl dX1_append_50 ?_
    refine x_aload_n 52 0 dX1_append_51 rfl ?_
    refine get_X1 55 0 2 (v := .ref (a 32)) rfl (by decide) q210 rfl dX1_append_52 ?_
    refine x_aload_n 56 0 dX1_append_55 rfl ?_
    refine get_X1 59 0 0 (v := .int (nI n)) rfl (by decide) q208 rfl dX1_append_56 ?_
    refine x_iconst 60 (v := nI 1) dX1_append_59 kI_1 ?_
    refine zast 61 2 (w' := (wX1 a (nI n) (upd (upd (upd v (3 * n) x) (3 * n + 1) y) (3 * n + 2) z) (upd al n (nI 1)) rg lo hi)) rfl (by omega) (by decide) vz1 rfl dX1_append_60 ?_
    refine x_aload_n 62 0 dX1_append_61 rfl ?_
    refine x_dup 63 dX1_append_62 rfl ?_
    refine get_X1 66 0 0 (v := .int (nI n)) rfl (by decide) q208 rfl dX1_append_63 ?_
    refine x_iconst 67 (v := nI 1) dX1_append_66 kI_1 ?_
    refine x_iadd 68 (v := nI (n + 1)) dX1_append_67 (nI_add _ _) ?_
    refine put_X1 71 (w' := (wX1 a (nI (n + 1)) (upd (upd (upd v (3 * n) x) (3 * n + 1) y) (3 * n + 2) z) (upd al n (nI 1)) rg lo hi)) 0 0 rfl (by decide) q208 rfl (by decide +kernel) (Nat.le_of_ble_eq_true rfl) rfl dX1_append_68 ?_
    refine x_aload_n 72 0 dX1_append_71 rfl ?_
    refine get_X1 75 0 0 (v := .int (nI (n + 1))) rfl (by decide) q208 rfl dX1_append_72 ?_
    refine x_iconst 76 (v := nI 1) dX1_append_75 kI_1 ?_
    refine x_isub 77 (v := nI ((n + 1) - 1)) dX1_append_76 (pk_sub (by omega)) ?_
    exact ret 77 _ _ _ dX1_append_77 rfl (Or.inl ⟨by omega, by rw [show n + 1 - 1 = n by omega], rfl⟩)
  ·
    refine x_iconst 10 (v := -1) dX1_append_9 kI_m1 ?_
    exact ret 10 _ _ _ dX1_append_10 rfl (Or.inr ⟨by omega, rfl, rfl⟩)
end
section
set_option maxRecDepth 100000
set_option maxHeartbeats 4000000
/-- an array of zeros -/
def z_ : Nat → Int32 := fun _ => 0
set_option maxHeartbeats 4000000 in
/-- X0(): the arrays are made, all zero -/
theorem metX0_init (La : Launch) (D : va_G) (h0 ci cz sz : Nat) : Met La yX0_init (ws_ yX0_init cX0_init 1 none) ({ frames := 1, cells := 11, slots := 594, locals := 40 }) (va_Pc [.ref h0] (fun U => U.heap.size = sz ∧ va_P D vwCl [(h0, .inr (0, [.int 0, .null, .null, .null, .null, .null, .null, .null, .null, .null, .null, .int 0, .null]))] U.heap ∧ va_K D vwCl [(ci, .int), (cz, .boolean)] U ∧ va_D (fun _ => True) [(h0, .inr (0, [.int 0, .null, .null, .null, .null, .null, .null, .null, .null, .null, .null, .int 0, .null]))])) (va_Qv (fun q : Nat → Nat => q 0 = h0 ∧ q 20 = ci ∧ q 21 = cz) (fun q t => va_P D vwCl (wX0 q (nI 0) z_ z_ z_ z_ z_ z_ z_ z_ z_ z_ (nI 0) z_) t.heap ∧ va_K D vwCl [(ci, .int), (cz, .boolean)] t ∧ va_D (va_A [(h0, .inr (0, [.int 0, .null, .null, .null, .null, .null, .null, .null, .null, .null, .null, .int 0, .null]))] sz) (wX0 q (nI 0) z_ z_ z_ z_ z_ z_ z_ z_ z_ z_ (nI 0) z_)) (va_A [(h0, .inr (0, [.int 0, .null, .null, .null, .null, .null, .null, .null, .null, .null, .null, .int 0, .null]))] sz)) 11 594 (va_A [(h0, .inr (0, [.int 0, .null, .null, .null, .null, .null, .null, .null, .null, .null, .null, .int 0, .null]))] sz) := by
  refine Met.ofW (cc := cX0_init) (maxL := 1) (ret := none) (by decide) rfl ?_
  intro p e s m args below meth c s₁ B hml hv
  obtain ⟨rfl, hsz, hP, hK, hD0⟩ := hv
  have hx := B.exec
  have hb := B.bytes
  have hr := B.returns
  have hts := atoms_spec (ws := ws_ yX0_init cX0_init 1 none) B.pre
  have hts : ∀ w ∈ lw_all, w.before _ s = true := fun w h => hts w (List.mem_cons_of_mem _ h)
  have hown : s.vm.findClass RX0 = some m.cls := findClass_of_methodNamed B.named
  have hlocks := B.notSynchronized
  have hin : meth.name = "<init>" := (name_of_methodNamed B.named B.method).1
  subst hsz
  have hD := hD0.self (sz := s.heap.size)
  generalize hAe : va_A [(h0, .inr (0, [.int 0, .null, .null, .null, .null, .null, .null, .null, .null, .null, .null, .int 0, .null]))] s.heap.size = A at hD ⊢
  have hA : ∀ q : Nat, s.heap.size ≤ q → A q := fun q h => by rw [← hAe]; exact Or.inr h
  have hS : va_S A s.heap s.heap [] := va_S.rf
  have hP : va_P D vwCl [(h0, .inr (0, [.int 0, .null, .null, .null, .null, .null, .null, .null, .null, .null, .null, .int 0, .null]))] s.heap := hP
  have hl := lv_entry ([.ref h0]) (n := 1) (Nat.le_of_ble_eq_true rfl)
  rw [lg_entry_eq]
  generalize (lg_sl ([.ref h0]) ++ List.replicate (1 - (lg_sl ([.ref h0])).length) Slot.unset).toArray = ls at hl ⊢
  have hl : lv_has ls 1 [(0, .ref h0)] := hl
  refine lv_aload_n hx hb dX0_init_0 rfl (lv_at hl 0 rfl) ?_
  refine W.objInit hx hb hown (hts _ q28) (hts _ q29) (hts _ q30) rfl (by rw [hml]; exact hl.1) rfl dX0_init_1 (Nat.le_of_ble_eq_true rfl) (Nat.le_of_ble_eq_true rfl) ?_
  refine W.eq (g2 := F0 m 4 ls []) rfl ?_
  refine lv_aload_n hx hb dX0_init_4 rfl (lv_at hl 0 rfl) ?_
  refine lv_bipush (v := nI 48) hx hb dX0_init_5 kB_48 ?_
  refine va_newa (atype := .int) (ty := .int) (a0 := (48, .inl z_)) (N' := 48) hx hb (hts _ q71) rfl hK hP hD hS hA (fun _ => rfl) (by decide +kernel) (by decide +kernel) (by decide) (Nat.le_of_ble_eq_true rfl) (Nat.le_of_ble_eq_true rfl) dX0_init_7 (fun q1 cA H hK2 hP hD hS => ?_)
  have eA : ci = cA := Option.some.inj ((hK2.2 0 _ rfl).2.symm.trans (hK2.2 2 _ rfl).2)
  subst eA
  have hK : va_K D vwCl [(ci, .int), (cz, .boolean)] s := hK2.sub (tys' := [(ci, .int), (cz, .boolean)]) [0, 1] rfl
  refine W.widen (k := 1) (n := 48) (Nat.le_of_ble_eq_true rfl) (Nat.le_of_ble_eq_true rfl) ?_
  have hP : va_P D vwCl [(h0, .inr (0, [.int 0, .null, .null, .null, .null, .null, .null, .null, .null, .null, .null, .int 0, .null])), (q1, .inl (ci, 48, .inl z_))] H := hP
  have hD : va_D A [(h0, .inr (0, [.int 0, .null, .null, .null, .null, .null, .null, .null, .null, .null, .null, .int 0, .null])), (q1, .inl (ci, 48, .inl z_))] := hD
  refine va_putF (D := D) (ci := 0) (v := .ref q1) (ty := .array .int) (C := RX0) (T := TX0) (N := 13) hx hb hts in_X0 tyX0 tyX0_ok nmX0 hown hK hP hD hS 0 rfl rfl 1 (by decide) (hts _ q32) (fun _ h9 => h9) rfl hin rfl (by decide +kernel) rfl rfl (Nat.le_of_ble_eq_true rfl) dX0_init_9 (fun H locs hP hD hS => ?_)
  have hP : va_P D vwCl [(h0, .inr (0, [.int 0, .ref q1, .null, .null, .null, .null, .null, .null, .null, .null, .null, .int 0, .null])), (q1, .inl (ci, 48, .inl z_))] H := hP
  have hD : va_D A [(h0, .inr (0, [.int 0, .ref q1, .null, .null, .null, .null, .null, .null, .null, .null, .null, .int 0, .null])), (q1, .inl (ci, 48, .inl z_))] := hD
  refine lv_aload_n hx hb dX0_init_12 rfl (lv_at hl 0 rfl) ?_
  refine lv_iconst (v := nI 5) hx hb dX0_init_13 kI_5 ?_
  refine va_newa (atype := .int) (ty := .int) (a0 := (5, .inl z_)) (N' := 5) hx hb (hts _ q71) rfl hK hP hD hS hA (fun _ => rfl) (by decide +kernel) (by decide +kernel) (by decide) (Nat.le_of_ble_eq_true rfl) (Nat.le_of_ble_eq_true rfl) dX0_init_14 (fun q2 cA H hK2 hP hD hS => ?_)
  have eA : ci = cA := Option.some.inj ((hK2.2 0 _ rfl).2.symm.trans (hK2.2 2 _ rfl).2)
  subst eA
  have hK : va_K D vwCl [(ci, .int), (cz, .boolean)] s := hK2.sub (tys' := [(ci, .int), (cz, .boolean)]) [0, 1] rfl
  refine W.widen (k := 2) (n := 53) (Nat.le_of_ble_eq_true rfl) (Nat.le_of_ble_eq_true rfl) ?_
  have hP : va_P D vwCl [(h0, .inr (0, [.int 0, .ref q1, .null, .null, .null, .null, .null, .null, .null, .null, .null, .int 0, .null])), (q1, .inl (ci, 48, .inl z_)), (q2, .inl (ci, 5, .inl z_))] H := hP
  have hD : va_D A [(h0, .inr (0, [.int 0, .ref q1, .null, .null, .null, .null, .null, .null, .null, .null, .null, .int 0, .null])), (q1, .inl (ci, 48, .inl z_)), (q2, .inl (ci, 5, .inl z_))] := hD
  refine va_putF (D := D) (ci := 0) (v := .ref q2) (ty := .array .int) (C := RX0) (T := TX0) (N := 13) hx hb hts in_X0 tyX0 tyX0_ok nmX0 hown hK hP hD hS 0 rfl rfl 2 (by decide) (hts _ q33) (fun _ h9 => h9) rfl hin rfl (by decide +kernel) rfl rfl (Nat.le_of_ble_eq_true rfl) dX0_init_16 (fun H locs hP hD hS => ?_)
  have hP : va_P D vwCl [(h0, .inr (0, [.int 0, .ref q1, .ref q2, .null, .null, .null, .null, .null, .null, .null, .null, .int 0, .null])), (q1, .inl (ci, 48, .inl z_)), (q2, .inl (ci, 5, .inl z_))] H := hP
  have hD : va_D A [(h0, .inr (0, [.int 0, .ref q1, .ref q2, .null, .null, .null, .null, .null, .null, .null, .null, .int 0, .null])), (q1, .inl (ci, 48, .inl z_)), (q2, .inl (ci, 5, .inl z_))] := hD
  refine lv_aload_n hx hb dX0_init_19 rfl (lv_at hl 0 rfl) ?_
  refine lv_bipush (v := nI 12) hx hb dX0_init_20 kB_12 ?_
  refine va_newa (atype := .int) (ty := .int) (a0 := (12, .inl z_)) (N' := 12) hx hb (hts _ q71) rfl hK hP hD hS hA (fun _ => rfl) (by decide +kernel) (by decide +kernel) (by decide) (Nat.le_of_ble_eq_true rfl) (Nat.le_of_ble_eq_true rfl) dX0_init_22 (fun q3 cA H hK2 hP hD hS => ?_)
  have eA : ci = cA := Option.some.inj ((hK2.2 0 _ rfl).2.symm.trans (hK2.2 2 _ rfl).2)
  subst eA
  have hK : va_K D vwCl [(ci, .int), (cz, .boolean)] s := hK2.sub (tys' := [(ci, .int), (cz, .boolean)]) [0, 1] rfl
  refine W.widen (k := 3) (n := 65) (Nat.le_of_ble_eq_true rfl) (Nat.le_of_ble_eq_true rfl) ?_
  have hP : va_P D vwCl [(h0, .inr (0, [.int 0, .ref q1, .ref q2, .null, .null, .null, .null, .null, .null, .null, .null, .int 0, .null])), (q1, .inl (ci, 48, .inl z_)), (q2, .inl (ci, 5, .inl z_)), (q3, .inl (ci, 12, .inl z_))] H := hP
  have hD : va_D A [(h0, .inr (0, [.int 0, .ref q1, .ref q2, .null, .null, .null, .null, .null, .null, .null, .null, .int 0, .null])), (q1, .inl (ci, 48, .inl z_)), (q2, .inl (ci, 5, .inl z_)), (q3, .inl (ci, 12, .inl z_))] := hD
  refine va_putF (D := D) (ci := 0) (v := .ref q3) (ty := .array .int) (C := RX0) (T := TX0) (N := 13) hx hb hts in_X0 tyX0 tyX0_ok nmX0 hown hK hP hD hS 0 rfl rfl 3 (by decide) (hts _ q34) (fun _ h9 => h9) rfl hin rfl (by decide +kernel) rfl rfl (Nat.le_of_ble_eq_true rfl) dX0_init_24 (fun H locs hP hD hS => ?_)
  have hP : va_P D vwCl [(h0, .inr (0, [.int 0, .ref q1, .ref q2, .ref q3, .null, .null, .null, .null, .null, .null, .null, .int 0, .null])), (q1, .inl (ci, 48, .inl z_)), (q2, .inl (ci, 5, .inl z_)), (q3, .inl (ci, 12, .inl z_))] H := hP
  have hD : va_D A [(h0, .inr (0, [.int 0, .ref q1, .ref q2, .ref q3, .null, .null, .null, .null, .null, .null, .null, .int 0, .null])), (q1, .inl (ci, 48, .inl z_)), (q2, .inl (ci, 5, .inl z_)), (q3, .inl (ci, 12, .inl z_))] := hD
  refine lv_aload_n hx hb dX0_init_27 rfl (lv_at hl 0 rfl) ?_
  refine lv_bipush (v := nI 12) hx hb dX0_init_28 kB_12 ?_
  refine va_newa (atype := .int) (ty := .int) (a0 := (12, .inl z_)) (N' := 12) hx hb (hts _ q71) rfl hK hP hD hS hA (fun _ => rfl) (by decide +kernel) (by decide +kernel) (by decide) (Nat.le_of_ble_eq_true rfl) (Nat.le_of_ble_eq_true rfl) dX0_init_30 (fun q4 cA H hK2 hP hD hS => ?_)
  have eA : ci = cA := Option.some.inj ((hK2.2 0 _ rfl).2.symm.trans (hK2.2 2 _ rfl).2)
  subst eA
  have hK : va_K D vwCl [(ci, .int), (cz, .boolean)] s := hK2.sub (tys' := [(ci, .int), (cz, .boolean)]) [0, 1] rfl
  refine W.widen (k := 4) (n := 77) (Nat.le_of_ble_eq_true rfl) (Nat.le_of_ble_eq_true rfl) ?_
  have hP : va_P D vwCl [(h0, .inr (0, [.int 0, .ref q1, .ref q2, .ref q3, .null, .null, .null, .null, .null, .null, .null, .int 0, .null])), (q1, .inl (ci, 48, .inl z_)), (q2, .inl (ci, 5, .inl z_)), (q3, .inl (ci, 12, .inl z_)), (q4, .inl (ci, 12, .inl z_))] H := hP
  have hD : va_D A [(h0, .inr (0, [.int 0, .ref q1, .ref q2, .ref q3, .null, .null, .null, .null, .null, .null, .null, .int 0, .null])), (q1, .inl (ci, 48, .inl z_)), (q2, .inl (ci, 5, .inl z_)), (q3, .inl (ci, 12, .inl z_)), (q4, .inl (ci, 12, .inl z_))] := hD
  refine va_putF (D := D) (ci := 0) (v := .ref q4) (ty := .array .int) (C := RX0) (T := TX0) (N := 13) hx hb hts in_X0 tyX0 tyX0_ok nmX0 hown hK hP hD hS 0 rfl rfl 4 (by decide) (hts _ q35) (fun _ h9 => h9) rfl hin rfl (by decide +kernel) rfl rfl (Nat.le_of_ble_eq_true rfl) dX0_init_32 (fun H locs hP hD hS => ?_)
  have hP : va_P D vwCl [(h0, .inr (0, [.int 0, .ref q1, .ref q2, .ref q3, .ref q4, .null, .null, .null, .null, .null, .null, .int 0, .null])), (q1, .inl (ci, 48, .inl z_)), (q2, .inl (ci, 5, .inl z_)), (q3, .inl (ci, 12, .inl z_)), (q4, .inl (ci, 12, .inl z_))] H := hP
  have hD : va_D A [(h0, .inr (0, [.int 0, .ref q1, .ref q2, .ref q3, .ref q4, .null, .null, .null, .null, .null, .null, .int 0, .null])), (q1, .inl (ci, 48, .inl z_)), (q2, .inl (ci, 5, .inl z_)), (q3, .inl (ci, 12, .inl z_)), (q4, .inl (ci, 12, .inl z_))] := hD
  refine lv_aload_n hx hb dX0_init_35 rfl (lv_at hl 0 rfl) ?_
  refine lv_bipush (v := nI 12) hx hb dX0_init_36 kB_12 ?_
  refine va_newa (atype := .int) (ty := .int) (a0 := (12, .inl z_)) (N' := 12) hx hb (hts _ q71) rfl hK hP hD hS hA (fun _ => rfl) (by decide +kernel) (by decide +kernel) (by decide) (Nat.le_of_ble_eq_true rfl) (Nat.le_of_ble_eq_true rfl) dX0_init_38 (fun q5 cA H hK2 hP hD hS => ?_)
  have eA : ci = cA := Option.some.inj ((hK2.2 0 _ rfl).2.symm.trans (hK2.2 2 _ rfl).2)
  subst eA
  have hK : va_K D vwCl [(ci, .int), (cz, .boolean)] s := hK2.sub (tys' := [(ci, .int), (cz, .boolean)]) [0, 1] rfl
  refine W.widen (k := 5) (n := 89) (Nat.le_of_ble_eq_true rfl) (Nat.le_of_ble_eq_true rfl) ?_
  have hP : va_P D vwCl [(h0, .inr (0, [.int 0, .ref q1, .ref q2, .ref q3, .ref q4, .null, .null, .null, .null, .null, .null, .int 0, .null])), (q1, .inl (ci, 48, .inl z_)), (q2, .inl (ci, 5, .inl z_)), (q3, .inl (ci, 12, .inl z_)), (q4, .inl (ci, 12, .inl z_)), (q5, .inl (ci, 12, .inl z_))] H := hP
  have hD : va_D A [(h0, .inr (0, [.int 0, .ref q1, .ref q2, .ref q3, .ref q4, .null, .null, .null, .null, .null, .null, .int 0, .null])), (q1, .inl (ci, 48, .inl z_)), (q2, .inl (ci, 5, .inl z_)), (q3, .inl (ci, 12, .inl z_)), (q4, .inl (ci, 12, .inl z_)), (q5, .inl (ci, 12, .inl z_))] := hD
  refine va_putF (D := D) (ci := 0) (v := .ref q5) (ty := .array .int) (C := RX0) (T := TX0) (N := 13) hx hb hts in_X0 tyX0 tyX0_ok nmX0 hown hK hP hD hS 0 rfl rfl 5 (by decide) (hts _ q36) (fun _ h9 => h9) rfl hin rfl (by decide +kernel) rfl rfl (Nat.le_of_ble_eq_true rfl) dX0_init_40 (fun H locs hP hD hS => ?_)
  have hP : va_P D vwCl [(h0, .inr (0, [.int 0, .ref q1, .ref q2, .ref q3, .ref q4, .ref q5, .null, .null, .null, .null, .null, .int 0, .null])), (q1, .inl (ci, 48, .inl z_)), (q2, .inl (ci, 5, .inl z_)), (q3, .inl (ci, 12, .inl z_)), (q4, .inl (ci, 12, .inl z_)), (q5, .inl (ci, 12, .inl z_))] H := hP
  have hD : va_D A [(h0, .inr (0, [.int 0, .ref q1, .ref q2, .ref q3, .ref q4, .ref q5, .null, .null, .null, .null, .null, .int 0, .null])), (q1, .inl (ci, 48, .inl z_)), (q2, .inl (ci, 5, .inl z_)), (q3, .inl (ci, 12, .inl z_)), (q4, .inl (ci, 12, .inl z_)), (q5, .inl (ci, 12, .inl z_))] := hD
  refine lv_aload_n hx hb dX0_init_43 rfl (lv_at hl 0 rfl) ?_
  refine lv_bipush (v := nI 12) hx hb dX0_init_44 kB_12 ?_
  refine va_newa (atype := .int) (ty := .int) (a0 := (12, .inl z_)) (N' := 12) hx hb (hts _ q71) rfl hK hP hD hS hA (fun _ => rfl) (by decide +kernel) (by decide +kernel) (by decide) (Nat.le_of_ble_eq_true rfl) (Nat.le_of_ble_eq_true rfl) dX0_init_46 (fun q6 cA H hK2 hP hD hS => ?_)
  have eA : ci = cA := Option.some.inj ((hK2.2 0 _ rfl).2.symm.trans (hK2.2 2 _ rfl).2)
  subst eA
  have hK : va_K D vwCl [(ci, .int), (cz, .boolean)] s := hK2.sub (tys' := [(ci, .int), (cz, .boolean)]) [0, 1] rfl
  refine W.widen (k := 6) (n := 101) (Nat.le_of_ble_eq_true rfl) (Nat.le_of_ble_eq_true rfl) ?_
  have hP : va_P D vwCl [(h0, .inr (0, [.int 0, .ref q1, .ref q2, .ref q3, .ref q4, .ref q5, .null, .null, .null, .null, .null, .int 0, .null])), (q1, .inl (ci, 48, .inl z_)), (q2, .inl (ci, 5, .inl z_)), (q3, .inl (ci, 12, .inl z_)), (q4, .inl (ci, 12, .inl z_)), (q5, .inl (ci, 12, .inl z_)), (q6, .inl (ci, 12, .inl z_))] H := hP
  have hD : va_D A [(h0, .inr (0, [.int 0, .ref q1, .ref q2, .ref q3, .ref q4, .ref q5, .null, .null, .null, .null, .null, .int 0, .null])), (q1, .inl (ci, 48, .inl z_)), (q2, .inl (ci, 5, .inl z_)), (q3, .inl (ci, 12, .inl z_)), (q4, .inl (ci, 12, .inl z_)), (q5, .inl (ci, 12, .inl z_)), (q6, .inl (ci, 12, .inl z_))] := hD
  refine va_putF (D := D) (ci := 0) (v := .ref q6) (ty := .array .int) (C := RX0) (T := TX0) (N := 13) hx hb hts in_X0 tyX0 tyX0_ok nmX0 hown hK hP hD hS 0 rfl rfl 6 (by decide) (hts _ q37) (fun _ h9 => h9) rfl hin rfl (by decide +kernel) rfl rfl (Nat.le_of_ble_eq_true rfl) dX0_init_48 (fun H locs hP hD hS => ?_)
  have hP : va_P D vwCl [(h0, .inr (0, [.int 0, .ref q1, .ref q2, .ref q3, .ref q4, .ref q5, .ref q6, .null, .null, .null, .null, .int 0, .null])), (q1, .inl (ci, 48, .inl z_)), (q2, .inl (ci, 5, .inl z_)), (q3, .inl (ci, 12, .inl z_)), (q4, .inl (ci, 12, .inl z_)), (q5, .inl (ci, 12, .inl z_)), (q6, .inl (ci, 12, .inl z_))] H := hP
  have hD : va_D A [(h0, .inr (0, [.int 0, .ref q1, .ref q2, .ref q3, .ref q4, .ref q5, .ref q6, .null, .null, .null, .null, .int 0, .null])), (q1, .inl (ci, 48, .inl z_)), (q2, .inl (ci, 5, .inl z_)), (q3, .inl (ci, 12, .inl z_)), (q4, .inl (ci, 12, .inl z_)), (q5, .inl (ci, 12, .inl z_)), (q6, .inl (ci, 12, .inl z_))] := hD
  refine lv_aload_n hx hb dX0_init_51 rfl (lv_at hl 0 rfl) ?_
  refine lv_sipush (v := nI 420) hx hb dX0_init_52 kS_420 ?_
  refine va_newa (atype := .int) (ty := .int) (a0 := (420, .inl z_)) (N' := 420) hx hb (hts _ q71) rfl hK hP hD hS hA (fun _ => rfl) (by decide +kernel) (by decide +kernel) (by decide) (Nat.le_of_ble_eq_true rfl) (Nat.le_of_ble_eq_true rfl) dX0_init_55 (fun q7 cA H hK2 hP hD hS => ?_)
  have eA : ci = cA := Option.some.inj ((hK2.2 0 _ rfl).2.symm.trans (hK2.2 2 _ rfl).2)
  subst eA
  have hK : va_K D vwCl [(ci, .int), (cz, .boolean)] s := hK2.sub (tys' := [(ci, .int), (cz, .boolean)]) [0, 1] rfl
  refine W.widen (k := 7) (n := 521) (Nat.le_of_ble_eq_true rfl) (Nat.le_of_ble_eq_true rfl) ?_
  have hP : va_P D vwCl [(h0, .inr (0, [.int 0, .ref q1, .ref q2, .ref q3, .ref q4, .ref q5, .ref q6, .null, .null, .null, .null, .int 0, .null])), (q1, .inl (ci, 48, .inl z_)), (q2, .inl (ci, 5, .inl z_)), (q3, .inl (ci, 12, .inl z_)), (q4, .inl (ci, 12, .inl z_)), (q5, .inl (ci, 12, .inl z_)), (q6, .inl (ci, 12, .inl z_)), (q7, .inl (ci, 420, .inl z_))] H := hP
  have hD : va_D A [(h0, .inr (0, [.int 0, .ref q1, .ref q2, .ref q3, .ref q4, .ref q5, .ref q6, .null, .null, .null, .null, .int 0, .null])), (q1, .inl (ci, 48, .inl z_)), (q2, .inl (ci, 5, .inl z_)), (q3, .inl (ci, 12, .inl z_)), (q4, .inl (ci, 12, .inl z_)), (q5, .inl (ci, 12, .inl z_)), (q6, .inl (ci, 12, .inl z_)), (q7, .inl (ci, 420, .inl z_))] := hD
  refine va_putF (D := D) (ci := 0) (v := .ref q7) (ty := .array .int) (C := RX0) (T := TX0) (N := 13) hx hb hts in_X0 tyX0 tyX0_ok nmX0 hown hK hP hD hS 0 rfl rfl 7 (by decide) (hts _ q38) (fun _ h9 => h9) rfl hin rfl (by decide +kernel) rfl rfl (Nat.le_of_ble_eq_true rfl) dX0_init_57 (fun H locs hP hD hS => ?_)
  have hP : va_P D vwCl [(h0, .inr (0, [.int 0, .ref q1, .ref q2, .ref q3, .ref q4, .ref q5, .ref q6, .ref q7, .null, .null, .null, .int 0, .null])), (q1, .inl (ci, 48, .inl z_)), (q2, .inl (ci, 5, .inl z_)), (q3, .inl (ci, 12, .inl z_)), (q4, .inl (ci, 12, .inl z_)), (q5, .inl (ci, 12, .inl z_)), (q6, .inl (ci, 12, .inl z_)), (q7, .inl (ci, 420, .inl z_))] H := hP
  have hD : va_D A [(h0, .inr (0, [.int 0, .ref q1, .ref q2, .ref q3, .ref q4, .ref q5, .ref q6, .ref q7, .null, .null, .null, .int 0, .null])), (q1, .inl (ci, 48, .inl z_)), (q2, .inl (ci, 5, .inl z_)), (q3, .inl (ci, 12, .inl z_)), (q4, .inl (ci, 12, .inl z_)), (q5, .inl (ci, 12, .inl z_)), (q6, .inl (ci, 12, .inl z_)), (q7, .inl (ci, 420, .inl z_))] := hD
  refine lv_aload_n hx hb dX0_init_60 rfl (lv_at hl 0 rfl) ?_
  refine lv_iconst (v := nI 3) hx hb dX0_init_61 kI_3 ?_
  refine va_newa (atype := .boolean) (ty := .boolean) (a0 := (3, .inl z_)) (N' := 3) hx hb (hts _ q72) rfl hK hP hD hS hA (fun _ => rfl) (by decide +kernel) (by decide +kernel) (by decide) (Nat.le_of_ble_eq_true rfl) (Nat.le_of_ble_eq_true rfl) dX0_init_62 (fun q8 cA H hK2 hP hD hS => ?_)
  have eA : cz = cA := Option.some.inj ((hK2.2 1 _ rfl).2.symm.trans (hK2.2 2 _ rfl).2)
  subst eA
  have hK : va_K D vwCl [(ci, .int), (cz, .boolean)] s := hK2.sub (tys' := [(ci, .int), (cz, .boolean)]) [0, 1] rfl
  refine W.widen (k := 8) (n := 524) (Nat.le_of_ble_eq_true rfl) (Nat.le_of_ble_eq_true rfl) ?_
  have hP : va_P D vwCl [(h0, .inr (0, [.int 0, .ref q1, .ref q2, .ref q3, .ref q4, .ref q5, .ref q6, .ref q7, .null, .null, .null, .int 0, .null])), (q1, .inl (ci, 48, .inl z_)), (q2, .inl (ci, 5, .inl z_)), (q3, .inl (ci, 12, .inl z_)), (q4, .inl (ci, 12, .inl z_)), (q5, .inl (ci, 12, .inl z_)), (q6, .inl (ci, 12, .inl z_)), (q7, .inl (ci, 420, .inl z_)), (q8, .inl (cz, 3, .inl z_))] H := hP
  have hD : va_D A [(h0, .inr (0, [.int 0, .ref q1, .ref q2, .ref q3, .ref q4, .ref q5, .ref q6, .ref q7, .null, .null, .null, .int 0, .null])), (q1, .inl (ci, 48, .inl z_)), (q2, .inl (ci, 5, .inl z_)), (q3, .inl (ci, 12, .inl z_)), (q4, .inl (ci, 12, .inl z_)), (q5, .inl (ci, 12, .inl z_)), (q6, .inl (ci, 12, .inl z_)), (q7, .inl (ci, 420, .inl z_)), (q8, .inl (cz, 3, .inl z_))] := hD
  refine va_putF (D := D) (ci := 0) (v := .ref q8) (ty := .array .boolean) (C := RX0) (T := TX0) (N := 13) hx hb hts in_X0 tyX0 tyX0_ok nmX0 hown hK hP hD hS 0 rfl rfl 8 (by decide) (hts _ q39) (fun _ h9 => h9) rfl hin rfl (by decide +kernel) rfl rfl (Nat.le_of_ble_eq_true rfl) dX0_init_64 (fun H locs hP hD hS => ?_)
  have hP : va_P D vwCl [(h0, .inr (0, [.int 0, .ref q1, .ref q2, .ref q3, .ref q4, .ref q5, .ref q6, .ref q7, .ref q8, .null, .null, .int 0, .null])), (q1, .inl (ci, 48, .inl z_)), (q2, .inl (ci, 5, .inl z_)), (q3, .inl (ci, 12, .inl z_)), (q4, .inl (ci, 12, .inl z_)), (q5, .inl (ci, 12, .inl z_)), (q6, .inl (ci, 12, .inl z_)), (q7, .inl (ci, 420, .inl z_)), (q8, .inl (cz, 3, .inl z_))] H := hP
  have hD : va_D A [(h0, .inr (0, [.int 0, .ref q1, .ref q2, .ref q3, .ref q4, .ref q5, .ref q6, .ref q7, .ref q8, .null, .null, .int 0, .null])), (q1, .inl (ci, 48, .inl z_)), (q2, .inl (ci, 5, .inl z_)), (q3, .inl (ci, 12, .inl z_)), (q4, .inl (ci, 12, .inl z_)), (q5, .inl (ci, 12, .inl z_)), (q6, .inl (ci, 12, .inl z_)), (q7, .inl (ci, 420, .inl z_)), (q8, .inl (cz, 3, .inl z_))] := hD
  refine lv_aload_n hx hb dX0_init_67 rfl (lv_at hl 0 rfl) ?_
  refine lv_iconst (v := nI 3) hx hb dX0_init_68 kI_3 ?_
  refine va_newa (atype := .int) (ty := .int) (a0 := (3, .inl z_)) (N' := 3) hx hb (hts _ q71) rfl hK hP hD hS hA (fun _ => rfl) (by decide +kernel) (by decide +kernel) (by decide) (Nat.le_of_ble_eq_true rfl) (Nat.le_of_ble_eq_true rfl) dX0_init_69 (fun q9 cA H hK2 hP hD hS => ?_)
  have eA : ci = cA := Option.some.inj ((hK2.2 0 _ rfl).2.symm.trans (hK2.2 2 _ rfl).2)
  subst eA
  have hK : va_K D vwCl [(ci, .int), (cz, .boolean)] s := hK2.sub (tys' := [(ci, .int), (cz, .boolean)]) [0, 1] rfl
  refine W.widen (k := 9) (n := 527) (Nat.le_of_ble_eq_true rfl) (Nat.le_of_ble_eq_true rfl) ?_
  have hP : va_P D vwCl [(h0, .inr (0, [.int 0, .ref q1, .ref q2, .ref q3, .ref q4, .ref q5, .ref q6, .ref q7, .ref q8, .null, .null, .int 0, .null])), (q1, .inl (ci, 48, .inl z_)), (q2, .inl (ci, 5, .inl z_)), (q3, .inl (ci, 12, .inl z_)), (q4, .inl (ci, 12, .inl z_)), (q5, .inl (ci, 12, .inl z_)), (q6, .inl (ci, 12, .inl z_)), (q7, .inl (ci, 420, .inl z_)), (q8, .inl (cz, 3, .inl z_)), (q9, .inl (ci, 3, .inl z_))] H := hP
  have hD : va_D A [(h0, .inr (0, [.int 0, .ref q1, .ref q2, .ref q3, .ref q4, .ref q5, .ref q6, .ref q7, .ref q8, .null, .null, .int 0, .null])), (q1, .inl (ci, 48, .inl z_)), (q2, .inl (ci, 5, .inl z_)), (q3, .inl (ci, 12, .inl z_)), (q4, .inl (ci, 12, .inl z_)), (q5, .inl (ci, 12, .inl z_)), (q6, .inl (ci, 12, .inl z_)), (q7, .inl (ci, 420, .inl z_)), (q8, .inl (cz, 3, .inl z_)), (q9, .inl (ci, 3, .inl z_))] := hD
  refine va_putF (D := D) (ci := 0) (v := .ref q9) (ty := .array .int) (C := RX0) (T := TX0) (N := 13) hx hb hts in_X0 tyX0 tyX0_ok nmX0 hown hK hP hD hS 0 rfl rfl 9 (by decide) (hts _ q40) (fun _ h9 => h9) rfl hin rfl (by decide +kernel) rfl rfl (Nat.le_of_ble_eq_true rfl) dX0_init_71 (fun H locs hP hD hS => ?_)
  have hP : va_P D vwCl [(h0, .inr (0, [.int 0, .ref q1, .ref q2, .ref q3, .ref q4, .ref q5, .ref q6, .ref q7, .ref q8, .ref q9, .null, .int 0, .null])), (q1, .inl (ci, 48, .inl z_)), (q2, .inl (ci, 5, .inl z_)), (q3, .inl (ci, 12, .inl z_)), (q4, .inl (ci, 12, .inl z_)), (q5, .inl (ci, 12, .inl z_)), (q6, .inl (ci, 12, .inl z_)), (q7, .inl (ci, 420, .inl z_)), (q8, .inl (cz, 3, .inl z_)), (q9, .inl (ci, 3, .inl z_))] H := hP
  have hD : va_D A [(h0, .inr (0, [.int 0, .ref q1, .ref q2, .ref q3, .ref q4, .ref q5, .ref q6, .ref q7, .ref q8, .ref q9, .null, .int 0, .null])), (q1, .inl (ci, 48, .inl z_)), (q2, .inl (ci, 5, .inl z_)), (q3, .inl (ci, 12, .inl z_)), (q4, .inl (ci, 12, .inl z_)), (q5, .inl (ci, 12, .inl z_)), (q6, .inl (ci, 12, .inl z_)), (q7, .inl (ci, 420, .inl z_)), (q8, .inl (cz, 3, .inl z_)), (q9, .inl (ci, 3, .inl z_))] := hD
  refine lv_aload_n hx hb dX0_init_74 rfl (lv_at hl 0 rfl) ?_
  refine lv_iconst (v := nI 3) hx hb dX0_init_75 kI_3 ?_
  refine va_newa (atype := .int) (ty := .int) (a0 := (3, .inl z_)) (N' := 3) hx hb (hts _ q71) rfl hK hP hD hS hA (fun _ => rfl) (by decide +kernel) (by decide +kernel) (by decide) (Nat.le_of_ble_eq_true rfl) (Nat.le_of_ble_eq_true rfl) dX0_init_76 (fun q10 cA H hK2 hP hD hS => ?_)
  have eA : ci = cA := Option.some.inj ((hK2.2 0 _ rfl).2.symm.trans (hK2.2 2 _ rfl).2)
  subst eA
  have hK : va_K D vwCl [(ci, .int), (cz, .boolean)] s := hK2.sub (tys' := [(ci, .int), (cz, .boolean)]) [0, 1] rfl
  refine W.widen (k := 10) (n := 530) (Nat.le_of_ble_eq_true rfl) (Nat.le_of_ble_eq_true rfl) ?_
  have hP : va_P D vwCl [(h0, .inr (0, [.int 0, .ref q1, .ref q2, .ref q3, .ref q4, .ref q5, .ref q6, .ref q7, .ref q8, .ref q9, .null, .int 0, .null])), (q1, .inl (ci, 48, .inl z_)), (q2, .inl (ci, 5, .inl z_)), (q3, .inl (ci, 12, .inl z_)), (q4, .inl (ci, 12, .inl z_)), (q5, .inl (ci, 12, .inl z_)), (q6, .inl (ci, 12, .inl z_)), (q7, .inl (ci, 420, .inl z_)), (q8, .inl (cz, 3, .inl z_)), (q9, .inl (ci, 3, .inl z_)), (q10, .inl (ci, 3, .inl z_))] H := hP
  have hD : va_D A [(h0, .inr (0, [.int 0, .ref q1, .ref q2, .ref q3, .ref q4, .ref q5, .ref q6, .ref q7, .ref q8, .ref q9, .null, .int 0, .null])), (q1, .inl (ci, 48, .inl z_)), (q2, .inl (ci, 5, .inl z_)), (q3, .inl (ci, 12, .inl z_)), (q4, .inl (ci, 12, .inl z_)), (q5, .inl (ci, 12, .inl z_)), (q6, .inl (ci, 12, .inl z_)), (q7, .inl (ci, 420, .inl z_)), (q8, .inl (cz, 3, .inl z_)), (q9, .inl (ci, 3, .inl z_)), (q10, .inl (ci, 3, .inl z_))] := hD
  refine va_putF (D := D) (ci := 0) (v := .ref q10) (ty := .array .int) (C := RX0) (T := TX0) (N := 13) hx hb hts in_X0 tyX0 tyX0_ok nmX0 hown hK hP hD hS 0 rfl rfl 10 (by decide) (hts _ q41) (fun _ h9 => h9) rfl hin rfl (by decide +kernel) rfl rfl (Nat.le_of_ble_eq_true rfl) dX0_init_78 (fun H locs hP hD hS => ?_)
  have hP : va_P D vwCl [(h0, .inr (0, [.int 0, .ref q1, .ref q2, .ref q3, .ref q4, .ref q5, .ref q6, .ref q7, .ref q8, .ref q9, .ref q10, .int 0, .null])), (q1, .inl (ci, 48, .inl z_)), (q2, .inl (ci, 5, .inl z_)), (q3, .inl (ci, 12, .inl z_)), (q4, .inl (ci, 12, .inl z_)), (q5, .inl (ci, 12, .inl z_)), (q6, .inl (ci, 12, .inl z_)), (q7, .inl (ci, 420, .inl z_)), (q8, .inl (cz, 3, .inl z_)), (q9, .inl (ci, 3, .inl z_)), (q10, .inl (ci, 3, .inl z_))] H := hP
  have hD : va_D A [(h0, .inr (0, [.int 0, .ref q1, .ref q2, .ref q3, .ref q4, .ref q5, .ref q6, .ref q7, .ref q8, .ref q9, .ref q10, .int 0, .null])), (q1, .inl (ci, 48, .inl z_)), (q2, .inl (ci, 5, .inl z_)), (q3, .inl (ci, 12, .inl z_)), (q4, .inl (ci, 12, .inl z_)), (q5, .inl (ci, 12, .inl z_)), (q6, .inl (ci, 12, .inl z_)), (q7, .inl (ci, 420, .inl z_)), (q8, .inl (cz, 3, .inl z_)), (q9, .inl (ci, 3, .inl z_)), (q10, .inl (ci, 3, .inl z_))] := hD
  refine lv_aload_n hx hb dX0_init_81 rfl (lv_at hl 0 rfl) ?_
  refine lv_bipush (v := nI 64) hx hb dX0_init_82 kB_64 ?_
  refine va_newa (atype := .int) (ty := .int) (a0 := (64, .inl z_)) (N' := 64) hx hb (hts _ q71) rfl hK hP hD hS hA (fun _ => rfl) (by decide +kernel) (by decide +kernel) (by decide) (Nat.le_of_ble_eq_true rfl) (Nat.le_of_ble_eq_true rfl) dX0_init_84 (fun q12 cA H hK2 hP hD hS => ?_)
  have eA : ci = cA := Option.some.inj ((hK2.2 0 _ rfl).2.symm.trans (hK2.2 2 _ rfl).2)
  subst eA
  have hK : va_K D vwCl [(ci, .int), (cz, .boolean)] s := hK2.sub (tys' := [(ci, .int), (cz, .boolean)]) [0, 1] rfl
  refine W.widen (k := 11) (n := 594) (Nat.le_of_ble_eq_true rfl) (Nat.le_of_ble_eq_true rfl) ?_
  have hP : va_P D vwCl [(h0, .inr (0, [.int 0, .ref q1, .ref q2, .ref q3, .ref q4, .ref q5, .ref q6, .ref q7, .ref q8, .ref q9, .ref q10, .int 0, .null])), (q1, .inl (ci, 48, .inl z_)), (q2, .inl (ci, 5, .inl z_)), (q3, .inl (ci, 12, .inl z_)), (q4, .inl (ci, 12, .inl z_)), (q5, .inl (ci, 12, .inl z_)), (q6, .inl (ci, 12, .inl z_)), (q7, .inl (ci, 420, .inl z_)), (q8, .inl (cz, 3, .inl z_)), (q9, .inl (ci, 3, .inl z_)), (q10, .inl (ci, 3, .inl z_)), (q12, .inl (ci, 64, .inl z_))] H := hP
  have hD : va_D A [(h0, .inr (0, [.int 0, .ref q1, .ref q2, .ref q3, .ref q4, .ref q5, .ref q6, .ref q7, .ref q8, .ref q9, .ref q10, .int 0, .null])), (q1, .inl (ci, 48, .inl z_)), (q2, .inl (ci, 5, .inl z_)), (q3, .inl (ci, 12, .inl z_)), (q4, .inl (ci, 12, .inl z_)), (q5, .inl (ci, 12, .inl z_)), (q6, .inl (ci, 12, .inl z_)), (q7, .inl (ci, 420, .inl z_)), (q8, .inl (cz, 3, .inl z_)), (q9, .inl (ci, 3, .inl z_)), (q10, .inl (ci, 3, .inl z_)), (q12, .inl (ci, 64, .inl z_))] := hD
  refine va_putF (D := D) (ci := 0) (v := .ref q12) (ty := .array .int) (C := RX0) (T := TX0) (N := 13) hx hb hts in_X0 tyX0 tyX0_ok nmX0 hown hK hP hD hS 0 rfl rfl 12 (by decide) (hts _ q43) (fun _ h9 => h9) rfl hin rfl (by decide +kernel) rfl rfl (Nat.le_of_ble_eq_true rfl) dX0_init_86 (fun H locs hP hD hS => ?_)
  have hP : va_P D vwCl [(h0, .inr (0, [.int 0, .ref q1, .ref q2, .ref q3, .ref q4, .ref q5, .ref q6, .ref q7, .ref q8, .ref q9, .ref q10, .int 0, .ref q12])), (q1, .inl (ci, 48, .inl z_)), (q2, .inl (ci, 5, .inl z_)), (q3, .inl (ci, 12, .inl z_)), (q4, .inl (ci, 12, .inl z_)), (q5, .inl (ci, 12, .inl z_)), (q6, .inl (ci, 12, .inl z_)), (q7, .inl (ci, 420, .inl z_)), (q8, .inl (cz, 3, .inl z_)), (q9, .inl (ci, 3, .inl z_)), (q10, .inl (ci, 3, .inl z_)), (q12, .inl (ci, 64, .inl z_))] H := hP
  have hD : va_D A [(h0, .inr (0, [.int 0, .ref q1, .ref q2, .ref q3, .ref q4, .ref q5, .ref q6, .ref q7, .ref q8, .ref q9, .ref q10, .int 0, .ref q12])), (q1, .inl (ci, 48, .inl z_)), (q2, .inl (ci, 5, .inl z_)), (q3, .inl (ci, 12, .inl z_)), (q4, .inl (ci, 12, .inl z_)), (q5, .inl (ci, 12, .inl z_)), (q6, .inl (ci, 12, .inl z_)), (q7, .inl (ci, 420, .inl z_)), (q8, .inl (cz, 3, .inl z_)), (q9, .inl (ci, 3, .inl z_)), (q10, .inl (ci, 3, .inl z_)), (q12, .inl (ci, 64, .inl z_))] := hD
  exact W.vret hx hb hr (fun t ht hW => ⟨⟨(fun k => ([h0, q1, q2, q3, q4, q5, q6, q7, q8, q9, q10, 0, q12, 0, 0, 0, 0, 0, 0, 0, ci, cz, 0, 0, 0, 0, 0, 0, 0, 0, 0, 0, 0, 0, 0, 0] : List Nat).getD k 0), rfl, ⟨rfl, rfl, rfl⟩, by rw [ht]; exact hP, va_K.moved hW.alike hK, hD⟩, hS.F ht⟩) hS.2.2 dX0_init_89
set_option maxHeartbeats 4000000 in
/-- X1(): the arrays are made, all zero -/
theorem metX1_init (La : Launch) (D : va_G) (h0 ci cz sz : Nat) : Met La yX1_init (ws_ yX1_init cX1_init 1 none) ({ frames := 1, cells := 5, slots := 265, locals := 40 }) (va_Pc [.ref h0] (fun U => U.heap.size = sz ∧ va_P D vwCl [(h0, .inr (1, [.int 0, .null, .null, .null, .null, .null]))] U.heap ∧ va_K D vwCl [(ci, .int), (cz, .boolean)] U ∧ va_D (fun _ => True) [(h0, .inr (1, [.int 0, .null, .null, .null, .null, .null]))])) (va_Qv (fun q : Nat → Nat => q 30 = h0 ∧ q 20 = ci ∧ q 21 = cz) (fun q t => va_P D vwCl (wX1 q (nI 0) z_ z_ z_ z_ z_) t.heap ∧ va_K D vwCl [(ci, .int), (cz, .boolean)] t ∧ va_D (va_A [(h0, .inr (1, [.int 0, .null, .null, .null, .null, .null]))] sz) (wX1 q (nI 0) z_ z_ z_ z_ z_)) (va_A [(h0, .inr (1, [.int 0, .null, .null, .null, .null, .null]))] sz)) 5 265 (va_A [(h0, .inr (1, [.int 0, .null, .null, .null, .null, .null]))] sz) := by
  refine Met.ofW (cc := cX1_init) (maxL := 1) (ret := none) (by decide) rfl ?_
  intro p e s m args below meth c s₁ B hml hv
  obtain ⟨rfl, hsz, hP, hK, hD0⟩ := hv
  have hx := B.exec
  have hb := B.bytes
  have hr := B.returns
  have hts := atoms_spec (ws := ws_ yX1_init cX1_init 1 none) B.pre
  have hts : ∀ w ∈ lw_all, w.before _ s = true := fun w h => hts w (List.mem_cons_of_mem _ h)
  have hown : s.vm.findClass RX1 = some m.cls := findClass_of_methodNamed B.named
  have hlocks := B.notSynchronized
  have hin : meth.name = "<init>" := (name_of_methodNamed B.named B.method).1
  subst hsz
  have hD := hD0.self (sz := s.heap.size)
  generalize hAe : va_A [(h0, .inr (1, [.int 0, .null, .null, .null, .null, .null]))] s.heap.size = A at hD ⊢
  have hA : ∀ q : Nat, s.heap.size ≤ q → A q := fun q h => by rw [← hAe]; exact Or.inr h
  have hS : va_S A s.heap s.heap [] := va_S.rf
  have hP : va_P D vwCl [(h0, .inr (1, [.int 0, .null, .null, .null, .null, .null]))] s.heap := hP
  have hl := lv_entry ([.ref h0]) (n := 1) (Nat.le_of_ble_eq_true rfl)
  rw [lg_entry_eq]
  generalize (lg_sl ([.ref h0]) ++ List.replicate (1 - (lg_sl ([.ref h0])).length) Slot.unset).toArray = ls at hl ⊢
  have hl : lv_has ls 1 [(0, .ref h0)] := hl
  refine lv_aload_n hx hb dX1_init_0 rfl (lv_at hl 0 rfl) ?_
  refine W.objInit hx hb hown (hts _ q207) (hts _ q29) (hts _ q30) rfl (by rw [hml]; exact hl.1) rfl dX1_init_1 (Nat.le_of_ble_eq_true rfl) (Nat.le_of_ble_eq_true rfl) ?_
  refine W.eq (g2 := F0 m 4 ls []) rfl ?_
  refine lv_aload_n hx hb dX1_init_4 rfl (lv_at hl 0 rfl) ?_
  refine lv_sipush (v := nI 192) hx hb dX1_init_5 kS_192 ?_
  refine va_newa (atype := .int) (ty := .int) (a0 := (192, .inl z_)) (N' := 192) hx hb (hts _ q71) rfl hK hP hD hS hA (fun _ => rfl) (by decide +kernel) (by decide +kernel) (by decide) (Nat.le_of_ble_eq_true rfl) (Nat.le_of_ble_eq_true rfl) dX1_init_8 (fun q1 cA H hK2 hP hD hS => ?_)
  have eA : ci = cA := Option.some.inj ((hK2.2 0 _ rfl).2.symm.trans (hK2.2 2 _ rfl).2)
  subst eA
  have hK : va_K D vwCl [(ci, .int), (cz, .boolean)] s := hK2.sub (tys' := [(ci, .int), (cz, .boolean)]) [0, 1] rfl
  refine W.widen (k := 1) (n := 192) (Nat.le_of_ble_eq_true rfl) (Nat.le_of_ble_eq_true rfl) ?_
  have hP : va_P D vwCl [(h0, .inr (1, [.int 0, .null, .null, .null, .null, .null])), (q1, .inl (ci, 192, .inl z_))] H := hP
  have hD : va_D A [(h0, .inr (1, [.int 0, .null, .null, .null, .null, .null])), (q1, .inl (ci, 192, .inl z_))] := hD
  refine va_putF (D := D) (ci := 1) (v := .ref q1) (ty := .array .int) (C := RX1) (T := TX1) (N := 6) hx hb hts in_X1 tyX1 tyX1_ok nmX1 hown hK hP hD hS 0 rfl rfl 1 (by decide) (hts _ q209) (fun _ h9 => h9) rfl hin rfl (by decide +kernel) rfl rfl (Nat.le_of_ble_eq_true rfl) dX1_init_10 (fun H locs hP hD hS => ?_)
  have hP : va_P D vwCl [(h0, .inr (1, [.int 0, .ref q1, .null, .null, .null, .null])), (q1, .inl (ci, 192, .inl z_))] H := hP
  have hD : va_D A [(h0, .inr (1, [.int 0, .ref q1, .null, .null, .null, .null])), (q1, .inl (ci, 192, .inl z_))] := hD
  refine lv_aload_n hx hb dX1_init_13 rfl (lv_at hl 0 rfl) ?_
  refine lv_bipush (v := nI 64) hx hb dX1_init_14 kB_64 ?_
  refine va_newa (atype := .boolean) (ty := .boolean) (a0 := (64, .inl z_)) (N' := 64) hx hb (hts _ q72) rfl hK hP hD hS hA (fun _ => rfl) (by decide +kernel) (by decide +kernel) (by decide) (Nat.le_of_ble_eq_true rfl) (Nat.le_of_ble_eq_true rfl) dX1_init_16 (fun q2 cA H hK2 hP hD hS => ?_)
  have eA : cz = cA := Option.some.inj ((hK2.2 1 _ rfl).2.symm.trans (hK2.2 2 _ rfl).2)
  subst eA
  have hK : va_K D vwCl [(ci, .int), (cz, .boolean)] s := hK2.sub (tys' := [(ci, .int), (cz, .boolean)]) [0, 1] rfl
  refine W.widen (k := 2) (n := 256) (Nat.le_of_ble_eq_true rfl) (Nat.le_of_ble_eq_true rfl) ?_
  have hP : va_P D vwCl [(h0, .inr (1, [.int 0, .ref q1, .null, .null, .null, .null])), (q1, .inl (ci, 192, .inl z_)), (q2, .inl (cz, 64, .inl z_))] H := hP
  have hD : va_D A [(h0, .inr (1, [.int 0, .ref q1, .null, .null, .null, .null])), (q1, .inl (ci, 192, .inl z_)), (q2, .inl (cz, 64, .inl z_))] := hD
  refine va_putF (D := D) (ci := 1) (v := .ref q2) (ty := .array .boolean) (C := RX1) (T := TX1) (N := 6) hx hb hts in_X1 tyX1 tyX1_ok nmX1 hown hK hP hD hS 0 rfl rfl 2 (by decide) (hts _ q210) (fun _ h9 => h9) rfl hin rfl (by decide +kernel) rfl rfl (Nat.le_of_ble_eq_true rfl) dX1_init_18 (fun H locs hP hD hS => ?_)
  have hP : va_P D vwCl [(h0, .inr (1, [.int 0, .ref q1, .ref q2, .null, .null, .null])), (q1, .inl (ci, 192, .inl z_)), (q2, .inl (cz, 64, .inl z_))] H := hP
  have hD : va_D A [(h0, .inr (1, [.int 0, .ref q1, .ref q2, .null, .null, .null])), (q1, .inl (ci, 192, .inl z_)), (q2, .inl (cz, 64, .inl z_))] := hD
  refine lv_aload_n hx hb dX1_init_21 rfl (lv_at hl 0 rfl) ?_
  refine lv_iconst (v := nI 3) hx hb dX1_init_22 kI_3 ?_
  refine va_newa (atype := .boolean) (ty := .boolean) (a0 := (3, .inl z_)) (N' := 3) hx hb (hts _ q72) rfl hK hP hD hS hA (fun _ => rfl) (by decide +kernel) (by decide +kernel) (by decide) (Nat.le_of_ble_eq_true rfl) (Nat.le_of_ble_eq_true rfl) dX1_init_23 (fun q3 cA H hK2 hP hD hS => ?_)
  have eA : cz = cA := Option.some.inj ((hK2.2 1 _ rfl).2.symm.trans (hK2.2 2 _ rfl).2)
  subst eA
  have hK : va_K D vwCl [(ci, .int), (cz, .boolean)] s := hK2.sub (tys' := [(ci, .int), (cz, .boolean)]) [0, 1] rfl
  refine W.widen (k := 3) (n := 259) (Nat.le_of_ble_eq_true rfl) (Nat.le_of_ble_eq_true rfl) ?_
  have hP : va_P D vwCl [(h0, .inr (1, [.int 0, .ref q1, .ref q2, .null, .null, .null])), (q1, .inl (ci, 192, .inl z_)), (q2, .inl (cz, 64, .inl z_)), (q3, .inl (cz, 3, .inl z_))] H := hP
  have hD : va_D A [(h0, .inr (1, [.int 0, .ref q1, .ref q2, .null, .null, .null])), (q1, .inl (ci, 192, .inl z_)), (q2, .inl (cz, 64, .inl z_)), (q3, .inl (cz, 3, .inl z_))] := hD
  refine va_putF (D := D) (ci := 1) (v := .ref q3) (ty := .array .boolean) (C := RX1) (T := TX1) (N := 6) hx hb hts in_X1 tyX1 tyX1_ok nmX1 hown hK hP hD hS 0 rfl rfl 3 (by decide) (hts _ q211) (fun _ h9 => h9) rfl hin rfl (by decide +kernel) rfl rfl (Nat.le_of_ble_eq_true rfl) dX1_init_25 (fun H locs hP hD hS => ?_)
  have hP : va_P D vwCl [(h0, .inr (1, [.int 0, .ref q1, .ref q2, .ref q3, .null, .null])), (q1, .inl (ci, 192, .inl z_)), (q2, .inl (cz, 64, .inl z_)), (q3, .inl (cz, 3, .inl z_))] H := hP
  have hD : va_D A [(h0, .inr (1, [.int 0, .ref q1, .ref q2, .ref q3, .null, .null])), (q1, .inl (ci, 192, .inl z_)), (q2, .inl (cz, 64, .inl z_)), (q3, .inl (cz, 3, .inl z_))] := hD
  refine lv_aload_n hx hb dX1_init_28 rfl (lv_at hl 0 rfl) ?_
  refine lv_iconst (v := nI 3) hx hb dX1_init_29 kI_3 ?_
  refine va_newa (atype := .int) (ty := .int) (a0 := (3, .inl z_)) (N' := 3) hx hb (hts _ q71) rfl hK hP hD hS hA (fun _ => rfl) (by decide +kernel) (by decide +kernel) (by decide) (Nat.le_of_ble_eq_true rfl) (Nat.le_of_ble_eq_true rfl) dX1_init_30 (fun q4 cA H hK2 hP hD hS => ?_)
  have eA : ci = cA := Option.some.inj ((hK2.2 0 _ rfl).2.symm.trans (hK2.2 2 _ rfl).2)
  subst eA
  have hK : va_K D vwCl [(ci, .int), (cz, .boolean)] s := hK2.sub (tys' := [(ci, .int), (cz, .boolean)]) [0, 1] rfl
  refine W.widen (k := 4) (n := 262) (Nat.le_of_ble_eq_true rfl) (Nat.le_of_ble_eq_true rfl) ?_
  have hP : va_P D vwCl [(h0, .inr (1, [.int 0, .ref q1, .ref q2, .ref q3, .null, .null])), (q1, .inl (ci, 192, .inl z_)), (q2, .inl (cz, 64, .inl z_)), (q3, .inl (cz, 3, .inl z_)), (q4, .inl (ci, 3, .inl z_))] H := hP
  have hD : va_D A [(h0, .inr (1, [.int 0, .ref q1, .ref q2, .ref q3, .null, .null])), (q1, .inl (ci, 192, .inl z_)), (q2, .inl (cz, 64, .inl z_)), (q3, .inl (cz, 3, .inl z_)), (q4, .inl (ci, 3, .inl z_))] := hD
  refine va_putF (D := D) (ci := 1) (v := .ref q4) (ty := .array .int) (C := RX1) (T := TX1) (N := 6) hx hb hts in_X1 tyX1 tyX1_ok nmX1 hown hK hP hD hS 0 rfl rfl 4 (by decide) (hts _ q212) (fun _ h9 => h9) rfl hin rfl (by decide +kernel) rfl rfl (Nat.le_of_ble_eq_true rfl) dX1_init_32 (fun H locs hP hD hS => ?_)
  have hP : va_P D vwCl [(h0, .inr (1, [.int 0, .ref q1, .ref q2, .ref q3, .ref q4, .null])), (q1, .inl (ci, 192, .inl z_)), (q2, .inl (cz, 64, .inl z_)), (q3, .inl (cz, 3, .inl z_)), (q4, .inl (ci, 3, .inl z_))] H := hP
  have hD : va_D A [(h0, .inr (1, [.int 0, .ref q1, .ref q2, .ref q3, .ref q4, .null])), (q1, .inl (ci, 192, .inl z_)), (q2, .inl (cz, 64, .inl z_)), (q3, .inl (cz, 3, .inl z_)), (q4, .inl (ci, 3, .inl z_))] := hD
  refine lv_aload_n hx hb dX1_init_35 rfl (lv_at hl 0 rfl) ?_
  refine lv_iconst (v := nI 3) hx hb dX1_init_36 kI_3 ?_
  refine va_newa (atype := .int) (ty := .int) (a0 := (3, .inl z_)) (N' := 3) hx hb (hts _ q71) rfl hK hP hD hS hA (fun _ => rfl) (by decide +kernel) (by decide +kernel) (by decide) (Nat.le_of_ble_eq_true rfl) (Nat.le_of_ble_eq_true rfl) dX1_init_37 (fun q5 cA H hK2 hP hD hS => ?_)
  have eA : ci = cA := Option.some.inj ((hK2.2 0 _ rfl).2.symm.trans (hK2.2 2 _ rfl).2)
  subst eA
  have hK : va_K D vwCl [(ci, .int), (cz, .boolean)] s := hK2.sub (tys' := [(ci, .int), (cz, .boolean)]) [0, 1] rfl
  refine W.widen (k := 5) (n := 265) (Nat.le_of_ble_eq_true rfl) (Nat.le_of_ble_eq_true rfl) ?_
  have hP : va_P D vwCl [(h0, .inr (1, [.int 0, .ref q1, .ref q2, .ref q3, .ref q4, .null])), (q1, .inl (ci, 192, .inl z_)), (q2, .inl (cz, 64, .inl z_)), (q3, .inl (cz, 3, .inl z_)), (q4, .inl (ci, 3, .inl z_)), (q5, .inl (ci, 3, .inl z_))] H := hP
  have hD : va_D A [(h0, .inr (1, [.int 0, .ref q1, .ref q2, .ref q3, .ref q4, .null])), (q1, .inl (ci, 192, .inl z_)), (q2, .inl (cz, 64, .inl z_)), (q3, .inl (cz, 3, .inl z_)), (q4, .inl (ci, 3, .inl z_)), (q5, .inl (ci, 3, .inl z_))] := hD
  refine va_putF (D := D) (ci := 1) (v := .ref q5) (ty := .array .int) (C := RX1) (T := TX1) (N := 6) hx hb hts in_X1 tyX1 tyX1_ok nmX1 hown hK hP hD hS 0 rfl rfl 5 (by decide) (hts _ q213) (fun _ h9 => h9) rfl hin rfl (by decide +kernel) rfl rfl (Nat.le_of_ble_eq_true rfl) dX1_init_39 (fun H locs hP hD hS => ?_)
  have hP : va_P D vwCl [(h0, .inr (1, [.int 0, .ref q1, .ref q2, .ref q3, .ref q4, .ref q5])), (q1, .inl (ci, 192, .inl z_)), (q2, .inl (cz, 64, .inl z_)), (q3, .inl (cz, 3, .inl z_)), (q4, .inl (ci, 3, .inl z_)), (q5, .inl (ci, 3, .inl z_))] H := hP
  have hD : va_D A [(h0, .inr (1, [.int 0, .ref q1, .ref q2, .ref q3, .ref q4, .ref q5])), (q1, .inl (ci, 192, .inl z_)), (q2, .inl (cz, 64, .inl z_)), (q3, .inl (cz, 3, .inl z_)), (q4, .inl (ci, 3, .inl z_)), (q5, .inl (ci, 3, .inl z_))] := hD
  exact W.vret hx hb hr (fun t ht hW => ⟨⟨(fun k => ([0, 0, 0, 0, 0, 0, 0, 0, 0, 0, 0, 0, 0, 0, 0, 0, 0, 0, 0, 0, ci, cz, 0, 0, 0, 0, 0, 0, 0, 0, h0, q1, q2, q3, q4, q5] : List Nat).getD k 0), rfl, ⟨rfl, rfl, rfl⟩, by rw [ht]; exact hP, va_K.moved hW.alike hK, hD⟩, hS.F ht⟩) hS.2.2 dX1_init_42
end
section
set_option maxRecDepth 100000
set_option maxHeartbeats 1000000
/-! THE LAW: rules of its own. SX: the script of L ints xs lies at b, out of reach of all that is written -/
def SX (K : Cx) (b L : Nat) (xs : Nat → Int32) : Prop := va_X b L xs K.2.2.2.2.1 K.2.2.2.2.1.heap ∧ b < K.2.2.2.2.1.heap.size ∧ ¬ K.2.2.2.2.2.2.2.2.2.2.2.1 b
section LF
variable {K : Cx} {a : Nat → Nat} {cc : ByteArray} {nL : Nat} {own : String} {pc : Nat} (pc' : Nat) {lv : List (Nat × Value)} {st : List Value} {w : va_W}
theorem sald {b L i : Nat} {xs : Nat → Int32} (hX : SX K b L xs) (hi : i < L) (hL : L < 2147483648) (hd : decode cc pc = .ok (.iaload, 1)) (kk : CW K a cc nL own pc' lv (.int (xs i) :: st) w) (hp : pc + 1 = pc' := by rfl) : CW K a cc nL own pc lv (.int (nI i) :: .ref b :: st) w := by
  subst hp
  obtain ⟨p, l, e, R, s, m, args, below, meth, c, Q, A, D, kn, d⟩ := K
  intro ok H locs ls hP hD hS hl
  obtain ⟨hx, hb, hml, hown, hts, hK, hA, hR, hC, hlk⟩ := id ok
  have e : (nI i).toNatClampNeg = i := nI_clamp (by omega)
  exact va_sld hx hb hX.1 hX.2.1 hX.2.2 hS (vp_in_nI hi hL) hd (by rw [e]; exact kk ok H locs ls hP hD hS hl)
theorem salen {b L : Nat} {xs : Nat → Int32} (hX : SX K b L xs) (hd : decode cc pc = .ok (.arraylength, 1)) (kk : CW K a cc nL own pc' lv (.int (nI L) :: st) w) (hp : pc + 1 = pc' := by rfl) : CW K a cc nL own pc lv (.ref b :: st) w := by
  subst hp
  obtain ⟨p, l, e, R, s, m, args, below, meth, c, Q, A, D, kn, d⟩ := K
  intro ok H locs ls hP hD hS hl
  obtain ⟨hx, hb, hml, hown, hts, hK, hA, hR, hC, hlk⟩ := id ok
  exact va_slen hx hb hX.1 hX.2.1 hX.2.2 hS hd (kk ok H locs ls hP hD hS hl)
theorem tbl_in (tgt : Nat) {dflt lo hi off : Int} {offs : Array Int} {len : Nat} {x : Int32} (hd : decode cc pc = .ok (.tableswitch dflt lo hi offs, len)) (h1 : ¬ x.toInt < lo) (h2 : ¬ hi < x.toInt) (ho : offs[(x.toInt - lo).toNat]? = some off) (ht : (pc : Int) + off = (tgt : Int)) (kk : CW K a cc nL own tgt lv st w) : CW K a cc nL own pc lv (.int x :: st) w := by
  obtain ⟨p, l, e, R, s, m, args, below, meth, c, Q, A, D, kn, d⟩ := K
  intro ok H locs ls hP hD hS hl
  obtain ⟨hx, hb, hml, hown, hts, hK, hA, hR, hC, hlk⟩ := id ok
  exact lv_tableIn hx hb hd h1 h2 ho ht (kk ok H locs ls hP hD hS hl)
theorem tbl_out (tgt : Nat) {dflt lo hi : Int} {offs : Array Int} {len : Nat} {x : Int32} (hd : decode cc pc = .ok (.tableswitch dflt lo hi offs, len)) (h : x.toInt < lo ∨ hi < x.toInt) (ht : (pc : Int) + dflt = (tgt : Int)) (kk : CW K a cc nL own tgt lv st w) : CW K a cc nL own pc lv (.int x :: st) w := by
  obtain ⟨p, l, e, R, s, m, args, below, meth, c, Q, A, D, kn, d⟩ := K
  intro ok H locs ls hP hD hS hl
  obtain ⟨hx, hb, hml, hown, hts, hK, hA, hR, hC, hlk⟩ := id ok
  exact lv_tableOut hx hb hd h ht (kk ok H locs ls hP hD hS hl)
theorem x_swap {u v : va_W} (kk : CW K a cc nL own pc lv st (v ++ u)) : CW K a cc nL own pc lv st (u ++ v) := by
  obtain ⟨p, l, e, R, s, m, args, below, meth, c, Q, A, D, kn, d⟩ := K
  intro ok H locs ls hP hD hS hl
  exact kk ok H locs ls (va_P.swap (a := []) hP) (va_D.swap (a := []) hD) hS hl
theorem va_left {w1 w2 : va_W} (k : Nat) (q : Nat × va_E) (h : w1[k]? = some q) : (w1 ++ w2)[k]? = some q := by
  rw [List.getElem?_append_left (List.getElem?_eq_some_iff.mp h).1]
  exact h
theorem va_right {w1 w2 : va_W} (k : Nat) (q : Nat × va_E) (h : w2[k]? = some q) : (w1 ++ w2)[w1.length + k]? = some q := by
  rw [List.getElem?_append_right (Nat.le_add_right _ _), Nat.add_sub_cancel_left]
  exact h
variable {y : MethodName} {cc' : ByteArray} {nL' d' idx n : Nat} {ret : Option FieldType} {av : List Value} {ad ci : Nat} {fs : List Value} {q : vw_C} {rp : Option Value → va_W → Prop} {w1 w2 : va_W}
/-- a call of another object's method: its world is the first part of the caller's, the rest stays -/
theorem call_F (hM : MetW (cx_l K) y cc' nL' ret d' a (.ref ad :: av) w1 rp) (hobj : w1[0]? = some (ad, .inr (ci, fs))) (hcl : vwCl[ci]? = some q) (hG : GoodIn lw_all (wsV own idx q.1 y (ws_ y cc' nL' ret)))
    (hy : y.cls = q.1 ∧ y.cls ≠ "java/lang/invoke/MethodHandle" ∧ y.cls ≠ "java/lang/invoke/VarHandle" ∧ (parseMethodDescriptor y.desc).map (fun d => d.parameters.length) = some n) (hn : av.length = n) (hdd : d' + 1 ≤ cx_d K) (hL : nL' ≤ 21) (hst : (st.map fun v => v.category).sum ≤ 8) {st0 : List Value} (hs0 : st0 = av.reverse ++ .ref ad :: st) (hd : decode cc pc = .ok (.invokevirtual idx, 3))
    (kk : ∀ (rv : Option Value) (w' : va_W), rp rv w' → CW K a cc nL own pc' lv (rv.toList ++ st) (w' ++ w2)) (hp : pc + 3 = pc' := by rfl) : CW K a cc nL own pc lv st0 (w1 ++ w2) := by
  subst hp
  obtain ⟨p, l, e, R, s, m, args, below, meth, c, Q, A, D, kn, d⟩ := K
  have hM : MetW l y cc' nL' ret d' a (.ref ad :: av) w1 rp := hM
  have hdd : d' + 1 ≤ d := hdd
  intro ok H locs ls hP hD hS hl
  obtain ⟨hx, hb, hml, hown, hts, hK, hA, hR, hC, hlk⟩ := id ok
  have hPc : va_P D vwCl w1 H := hP.by id va_left
  have hDc : va_D A w1 := hD.by id va_left (fun i j _ _ h => h)
  have hDr : va_D A w2 := hD.by (fun k => w1.length + k) va_right (fun i j _ _ h => by have h : w1.length + i = w1.length + j := h; omega)
  have hFc := va_all hDc hS hA
  have apart : ∀ (k : Nat) (x : Nat × va_E), w2[k]? = some x → x.1 < H.size ∧ ¬ va_A w1 H.size x.1 := by
    intro k x hk
    have hlt := (hP _ x (va_right (w1 := w1) k x hk)).lt
    refine ⟨hlt, fun h => ?_⟩
    rcases h with ⟨k2, e2, h⟩ | h
    · have h3 := hD.1 k2 (w1.length + k) (x.1, e2) x (va_left _ _ h) (va_right k x hk) rfl
      have h4 := (List.getElem?_eq_some_iff.mp h).1
      omega
    · omega
  refine va_callx (A1 := va_A w1 H.size) (va_runV (C := q.1) (As := av) (rest := st) ⟨hx, hb, hml, hown, hts⟩ (hM D H.size) (cwV n hts hG rfl rfl rfl hy ⟨(show d' + 1 ≤ R.frames from Nat.le_trans hdd hR.1), (show 8 + (nL' + 11) + 40 * d' ≤ R.locals from by have h2 : 40 * d ≤ R.locals := hR.2; omega)⟩) ⟨PreW.blind, va_recv hK hPc hcl hobj, fun U hU hW => ⟨rfl, by rw [hU], by rw [hU]; exact hPc, va_K.moved hW.alike hK, hDc.weaken (fun _ _ _ _ => trivial)⟩⟩ rfl hn hl.1 hs0 (lv_room hst) hd hC) hS (fun q _ h => hFc q h) hFc (fun rv w' H1 locs1 hr hP1 hD1 hz hk hS1 => ?_)
  refine kk rv w' hr ok H1 locs1 ls (hP1.app (fun k x hk2 => (hP _ x (va_right (w1 := w1) k x hk2)).kept (hk x.1 (apart k x hk2).1 (apart k x hk2).2))) (va_D.app (hD1.weaken (fun _ q _ h => hFc q.1 h)) hDr (fun i j x y h1 h2 h3 => (apart j y h2).2 (by rw [← h3]; exact hD1.2 i x h1))) hS1 hl
theorem call_Fi {post : Int32 → va_W → Prop} (hM : MetW (cx_l K) y cc' nL' ret d' a (.ref ad :: av) w1 (rpI post)) (hobj : w1[0]? = some (ad, .inr (ci, fs))) (hcl : vwCl[ci]? = some q) (hG : GoodIn lw_all (wsV own idx q.1 y (ws_ y cc' nL' ret)))
    (hy : y.cls = q.1 ∧ y.cls ≠ "java/lang/invoke/MethodHandle" ∧ y.cls ≠ "java/lang/invoke/VarHandle" ∧ (parseMethodDescriptor y.desc).map (fun d => d.parameters.length) = some n) (hn : av.length = n) (hdd : d' + 1 ≤ cx_d K) (hL : nL' ≤ 21) (hst : (st.map fun v => v.category).sum ≤ 8) {st0 : List Value} (hs0 : st0 = av.reverse ++ .ref ad :: st) (hd : decode cc pc = .ok (.invokevirtual idx, 3))
    (kk : ∀ (r : Int32) (w' : va_W), post r w' → CW K a cc nL own pc' lv (.int r :: st) (w' ++ w2)) (hp : pc + 3 = pc' := by rfl) : CW K a cc nL own pc lv st0 (w1 ++ w2) :=
  call_F pc' hM hobj hcl hG hy hn hdd hL hst hs0 hd (fun rv w' h => by obtain ⟨r, rfl, h⟩ := h; exact kk r w' h) hp
theorem call_Fl {post : Int64 → va_W → Prop} (hM : MetW (cx_l K) y cc' nL' ret d' a (.ref ad :: av) w1 (rpL post)) (hobj : w1[0]? = some (ad, .inr (ci, fs))) (hcl : vwCl[ci]? = some q) (hG : GoodIn lw_all (wsV own idx q.1 y (ws_ y cc' nL' ret)))
    (hy : y.cls = q.1 ∧ y.cls ≠ "java/lang/invoke/MethodHandle" ∧ y.cls ≠ "java/lang/invoke/VarHandle" ∧ (parseMethodDescriptor y.desc).map (fun d => d.parameters.length) = some n) (hn : av.length = n) (hdd : d' + 1 ≤ cx_d K) (hL : nL' ≤ 21) (hst : (st.map fun v => v.category).sum ≤ 8) {st0 : List Value} (hs0 : st0 = av.reverse ++ .ref ad :: st) (hd : decode cc pc = .ok (.invokevirtual idx, 3))
    (kk : ∀ (r : Int64) (w' : va_W), post r w' → CW K a cc nL own pc' lv (.long r :: st) (w' ++ w2)) (hp : pc + 3 = pc' := by rfl) : CW K a cc nL own pc lv st0 (w1 ++ w2) :=
  call_F pc' hM hobj hcl hG hy hn hdd hL hst hs0 hd (fun rv w' h => by obtain ⟨r, rfl, h⟩ := h; exact kk r w' h) hp
theorem call_Fv {post : va_W → Prop} (hM : MetW (cx_l K) y cc' nL' ret d' a (.ref ad :: av) w1 (rpV post)) (hobj : w1[0]? = some (ad, .inr (ci, fs))) (hcl : vwCl[ci]? = some q) (hG : GoodIn lw_all (wsV own idx q.1 y (ws_ y cc' nL' ret)))
    (hy : y.cls = q.1 ∧ y.cls ≠ "java/lang/invoke/MethodHandle" ∧ y.cls ≠ "java/lang/invoke/VarHandle" ∧ (parseMethodDescriptor y.desc).map (fun d => d.parameters.length) = some n) (hn : av.length = n) (hdd : d' + 1 ≤ cx_d K) (hL : nL' ≤ 21) (hst : (st.map fun v => v.category).sum ≤ 8) {st0 : List Value} (hs0 : st0 = av.reverse ++ .ref ad :: st) (hd : decode cc pc = .ok (.invokevirtual idx, 3))
    (kk : ∀ (w' : va_W), post w' → CW K a cc nL own pc' lv (st) (w' ++ w2)) (hp : pc + 3 = pc' := by rfl) : CW K a cc nL own pc lv st0 (w1 ++ w2) :=
  call_F pc' hM hobj hcl hG hy hn hdd hL hst hs0 hd (fun rv w' h => by obtain ⟨rfl, h⟩ := h; exact kk w' h) hp
end LF
/-- the array classes of int and of boolean, by the tables -/
theorem arr_known {args : Array Value} {s : State} {ty : FieldType} (h : (Cond.arrayClass ty).before args s = true) (hn : ∀ C, ty ≠ .object C) : ∃ cA : ClassId, ArrOfT s cA ty ∧ va_RA s cA ty := by
  obtain ⟨cA, kA, comp, h1, h2, h3⟩ := Cond.arrayClass_spec h
  refine ⟨cA, fun n z => ⟨fun k h => (by cases h), kA, h2, comp, h3⟩, ?_⟩
  cases ty with
  | object C => exact absurd rfl (hn C)
  | _ => exact h1
end
section
set_option maxRecDepth 100000
set_option maxHeartbeats 1000000
/-! THE STORE AND THE MODEL SIDE BY SIDE -/
def Sim (n : Nat) (V : Nat → Nat → Int32) (AL : Nat → Bool) (o l f lo hi s w v al : Nat → Int32) : Prop := Rep n V AL o l f lo hi s w ∧ (∀ c r, c < 3 → r < n → V c r = mV v c r) ∧ ∀ r, r < n → AL r = mA al r
section SI
variable {n : Nat} {V : Nat → Nat → Int32} {AL : Nat → Bool} {o l f lo hi s w v al rg rl rh : Nat → Int32}
theorem okc_cong {V' : Nat → Nat → Int32} {r : Nat} : ∀ m, (∀ c, c < m → V c r = V' c r) → okc V rg rl rh r m = okc V' rg rl rh r m
  | 0, _ => rfl
  | m + 1, h => by rw [okc_s, okc_s, okc_cong m (fun c hc => h c (by omega)), h m (by omega)]
theorem sim_ps (h : Sim n V AL o l f lo hi s w v al) {r : Nat} (hr : r < n) : ps V AL rg rl rh r = ps (mV v) (mA al) rg rl rh r := by
  unfold ps
  rw [h.2.2 r hr, okc_cong 3 (fun c hc => h.2.1 c r hc hr)]
theorem sim_count (h : Sim n V AL o l f lo hi s w v al) : fb_ct (ps V AL rg rl rh) n = fb_ct (ps (mV v) (mA al) rg rl rh) n := fb_ct_cong (fun r hr => sim_ps h hr)
theorem sim_live (h : Sim n V AL o l f lo hi s w v al) : fb_ct AL n = fb_ct (mA al) n := fb_ct_cong (fun r hr => h.2.2 r hr)
theorem sim_sum (h : Sim n V AL o l f lo hi s w v al) {k : Nat} (hk : k < 3) : sml (ps V AL rg rl rh) (V k) n = sml (ps (mV v) (mA al) rg rl rh) (mV v k) n := sml_cong n (fun r hr => sim_ps h hr) (fun r hr _ => h.2.1 k r hk hr)
theorem sim_ext (h : Sim n V AL o l f lo hi s w v al) {k gr : Nat} (hk : k < 3) : exf gr (ps V AL rg rl rh) (V k) (0, nI 0) n = exf gr (ps (mV v) (mA al) rg rl rh) (mV v k) (0, nI 0) n := ex_cong n (fun r hr => sim_ps h hr) (fun r hr _ => h.2.1 k r hk hr)
theorem sn_cong {q q' : Nat → Bool} {x x' : Nat → Int32} {y : Int32} : ∀ m, (∀ r, r < m → q r = q' r) → (∀ r, r < m → x r = x' r) → sn q x y m = sn q' x' y m
  | 0, _, _ => rfl
  | m + 1, h1, h2 => by rw [sn_s, sn_s, sn_cong m (fun r hr => h1 r (by omega)) (fun r hr => h2 r (by omega)), h1 m (by omega), h2 m (by omega)]
theorem sim_dif (h : Sim n V AL o l f lo hi s w v al) {k : Nat} (hk : k < 3) : fb_ct (dn (ps V AL rg rl rh) (V k)) n = fb_ct (dn (ps (mV v) (mA al) rg rl rh) (mV v k)) n := by
  refine fb_ct_cong (fun r hr => ?_)
  unfold dn
  rw [sim_ps h hr, h.2.1 k r hk hr, sn_cong r (fun j hj => sim_ps h (by omega)) (fun j hj => h.2.1 k j hk (by omega))]
end SI
theorem nI_inj {i j : Nat} (hi : i < 2147483648) (hj : j < 2147483648) (h : nI i = nI j) : i = j := (nI_eq hi hj).mp h
/-- two answers that are told in the same words are the same -/
theorem two_eq {α : Type} {cv : Int32} {F G : Nat → α} {d z z' : α} (hFG : ∀ k, k < 3 → F k = G k) (h : (∃ k, k < 3 ∧ cv = nI k ∧ z = F k) ∨ (z = d ∧ ∀ k, k < 3 → cv ≠ nI k)) (h' : (∃ k, k < 3 ∧ cv = nI k ∧ z' = G k) ∨ (z' = d ∧ ∀ k, k < 3 → cv ≠ nI k)) : z = z' := by
  rcases h with ⟨k, hk, e, hz⟩ | ⟨hz, hno⟩ <;> rcases h' with ⟨k', hk', e', hz'⟩ | ⟨hz', hno'⟩
  · have q := nI_inj (by omega) (by omega) (e.symm.trans e')
    subst q
    rw [hz, hz', hFG k hk]
  · exact absurd e (hno' k hk)
  · exact absurd e' (hno k' hk')
  · rw [hz, hz']
theorem val_eq {n : Nat} {rv cv z z' : Int32} {F G : Nat → Nat → Int32} (hn : n ≤ 64) (hFG : ∀ c r, c < 3 → r < n → F c r = G c r) (h : (∃ j k, j < n ∧ k < 3 ∧ rv = nI j ∧ cv = nI k ∧ z = F k j) ∨ (z = nI 0 ∧ ((∀ j, j < n → rv ≠ nI j) ∨ ∀ k, k < 3 → cv ≠ nI k))) (h' : (∃ j k, j < n ∧ k < 3 ∧ rv = nI j ∧ cv = nI k ∧ z' = G k j) ∨ (z' = nI 0 ∧ ((∀ j, j < n → rv ≠ nI j) ∨ ∀ k, k < 3 → cv ≠ nI k))) : z = z' := by
  rcases h with ⟨j, k, hj, hk, e1, e2, hz⟩ | ⟨hz, hno⟩ <;> rcases h' with ⟨j', k', hj', hk', e1', e2', hz'⟩ | ⟨hz', hno'⟩
  · have q1 := nI_inj (by omega) (by omega) (e1.symm.trans e1')
    have q2 := nI_inj (by omega) (by omega) (e2.symm.trans e2')
    subst q1; subst q2
    rw [hz, hz', hFG k j hk hj]
  · rcases hno' with q | q
    · exact absurd e1 (q j hj)
    · exact absurd e2 (q k hk)
  · rcases hno with q | q
    · exact absurd e1' (q j' hj')
    · exact absurd e2' (q k' hk')
  · rw [hz, hz']
theorem pas_eq {n : Nat} {pl z z' : Int32} {p q : Nat → Bool} (hn : n ≤ 64) (hpq : ∀ r, r < n → p r = q r) (h : (∃ r, r < n ∧ p r = true ∧ pl = nI (fb_ct p r) ∧ z = nI r) ∨ (z = -1 ∧ ∀ r, r < n → p r = true → pl ≠ nI (fb_ct p r))) (h' : (∃ r, r < n ∧ q r = true ∧ pl = nI (fb_ct q r) ∧ z' = nI r) ∨ (z' = -1 ∧ ∀ r, r < n → q r = true → pl ≠ nI (fb_ct q r))) : z = z' := by
  have hct : ∀ r, r < n → fb_ct p r = fb_ct q r := fun r hr => fb_ct_cong (fun k hk => hpq k (by omega))
  rcases h with ⟨r, hr, h1, h2, hz⟩ | ⟨hz, hno⟩ <;> rcases h' with ⟨r', hr', h1', h2', hz'⟩ | ⟨hz', hno'⟩
  · have a1 := fb_ct_le p r
    have a2 := fb_ct_le q r'
    have e := nI_inj (by omega) (by omega) (h2.symm.trans h2')
    rw [hct r hr] at e
    rw [hpq r hr] at h1
    rw [hz, hz', fb_ct_kth_one h1 h1' e]
  · exact absurd (by rw [← hct r hr]; exact h2) (hno' r hr (by rw [← hpq r hr]; exact h1))
  · exact absurd (by rw [hct r' hr']; exact h2') (hno r' hr' (by rw [hpq r' hr']; exact h1'))
  · rw [hz, hz']
section SJ
variable {n : Nat} {V : Nat → Nat → Int32} {AL : Nat → Bool} {o l f lo hi s w v al rg rl rh : Nat → Int32}
theorem sim_strike (h : Sim n V AL o l f lo hi s w v al) {j : Nat} (hj : j < n) : Sim n V (fun r => if r = j then false else AL r) o (upd l (j / 16) (l (j / 16) &&& (shl (nI 1) (j % 16) ^^^ (-1)))) f lo hi s w v (upd al j (nI 0)) := by
  refine ⟨strike_rep h.1 hj, h.2.1, fun r hr => ?_⟩
  show (if r = j then false else AL r) = mA (upd al j (nI 0)) r
  unfold mA
  by_cases e : r = j
  · subst e
    rw [if_pos rfl, pk_us]
    decide +kernel
  · rw [if_neg e, pk_un e]
    exact h.2.2 r hr
theorem sim_append (h : Sim n V AL o l f lo hi s w v al) {f' lo' hi' s' w2 : Nat → Int32} {x y z : Int32} (h2 : Rep (n + 1) (nV n V (nO n o x y z)) (nA n AL) (nO n o x y z) (nL n l) f' lo' hi' s' w2) : Sim (n + 1) (nV n V (nO n o x y z)) (nA n AL) (nO n o x y z) (nL n l) f' lo' hi' s' w2 (upd (upd (upd v (3 * n) x) (3 * n + 1) y) (3 * n + 2) z) (upd al n (nI 1)) := by
  refine ⟨h2, fun c r hc hr => ?_, fun r hr => ?_⟩
  · unfold mV
    by_cases e : r = n
    · subst e
      rcases (show c = 0 ∨ c = 1 ∨ c = 2 by omega) with rfl | rfl | rfl
      · rw [nV_0, pk_un (by omega), pk_un (by omega), Nat.add_zero, pk_us]
      · rw [nV_1, pk_un (by omega), pk_us]
      · rw [nV_2, pk_us]
    · rw [nV_old h.1 hc (by omega), pk_un (by omega), pk_un (by omega), pk_un (by omega)]
      exact h.2.1 c r hc (by omega)
  · show (if r = n then true else AL r) = mA (upd al n (nI 1)) r
    unfold mA
    by_cases e : r = n
    · subst e
      rw [if_pos rfl, pk_us]
      decide +kernel
    · rw [if_neg e, pk_un e]
      exact h.2.2 r (by omega)
end SJ
theorem sim_0 : Sim 0 (fun _ _ => 0) (fun _ => false) z_ z_ z_ z_ z_ z_ z_ z_ z_ := by
  refine ⟨⟨by omega, fun _ _ _ _ => rfl, fun g p _ _ => ?_, fun _ _ => rfl, fun g c _ hg => by omega⟩, fun _ _ _ hr => by omega, fun _ hr => by omega⟩
  rw [Bool.and_false]
  exact b_0 p
/-- the script's word for a call -/
theorem and15_ex (x : Int32) : ∃ j, j < 16 ∧ x &&& nI 15 = nI j := ⟨x.toBitVec.toNat % 2 ^ 4, Nat.mod_lt _ (by decide), pk_and x 4 (by decide +kernel)⟩
/-- one more call of four ints is there -/
theorem more_4 {L i : Nat} (hL : L ≤ 256) (hi : i ≤ 260) (h : ¬ nI L - nI 4 < nI i) : i + 4 ≤ L := by
  rcases Nat.lt_or_ge L 4 with q | q
  · have h0 : nI L - nI 4 < nI 0 := by
      have : ∀ L, L < 4 → nI L - nI 4 < nI 0 := by decide +kernel
      exact this L q
    exact absurd (lt_le_tr h0 ((nI_leI (by omega) (by omega)).mpr (Nat.zero_le i))) h
  · rw [pk_sub q] at h
    have z : ¬ (L - 4 < i) := fun z => h ((nI_ltI (by omega) (by omega)).mpr z)
    omega
theorem cmp_0 {x y : Int64} (h : x = y) : lg_cmp x y = 0 := by subst h; unfold lg_cmp; simp
end
section
set_option maxRecDepth 100000
set_option maxHeartbeats 1000000
/-! THE LAW's CASES. LI K a pc i: the law at pc, its i as it stands, the store and the model side by side -/
def LI (K : Cx) (a : Nat → Nat) (pc i : Nat) : Prop := ∀ (n : Nat) (V : Nat → Nat → Int32) (AL : Nat → Bool) (o l f lo hi s w rg rl rh : Nat → Int32) (vc : Int32) (vs v al : Nat → Int32), Sim n V AL o l f lo hi s w v al → CW K a cL_law 4 "ColumnStoreLaw" pc [(0, .ref (a 40)), (1, .ref (a 0)), (2, .ref (a 30)), (3, .int (nI i))] [] (wX0 a (nI n) o l f lo hi s w rg rl rh vc vs ++ wX1 a (nI n) v al rg rl rh)
/-- append -/
theorem law_c0 {K : Cx} {a : Nat → Nat} {L i : Nat} {xs : Nat → Int32} (hX : SX K (a 40) L xs) (hL : L ≤ 256) (hKd : cx_d K = 7) (hi : i + 4 ≤ L) (hj_390 : LI K a 390 i) : LI K a 92 i := by
  intro n V AL o l f lo hi s w rg rl rh vc vs v al hSim
  have hRep := hSim.1
  have hn := hRep.1
  refine x_aload_n 93 1 dL_law_92 rfl ?_
  refine x_aload_n 94 0 dL_law_93 rfl ?_
  refine x_iload_n 95 3 dL_law_94 rfl ?_
  refine x_iconst 96 (v := nI 1) dL_law_95 kI_1 ?_
  refine x_iadd 97 (v := nI (i + 1)) dL_law_96 (nI_add _ _) ?_
  refine sald 98 (i := i + 1) hX (by omega) (by omega) dL_law_97 ?_
  refine x_aload_n 99 0 dL_law_98 rfl ?_
  refine x_iload_n 100 3 dL_law_99 rfl ?_
  refine x_iconst 101 (v := nI 2) dL_law_100 kI_2 ?_
  refine x_iadd 102 (v := nI (i + 2)) dL_law_101 (nI_add _ _) ?_
  refine sald 103 (i := i + 2) hX (by omega) (by omega) dL_law_102 ?_
  refine x_aload_n 104 0 dL_law_103 rfl ?_
  refine x_iload_n 105 3 dL_law_104 rfl ?_
  refine x_iconst 106 (v := nI 3) dL_law_105 kI_3 ?_
  refine x_iadd 107 (v := nI (i + 3)) dL_law_106 (nI_add _ _) ?_
  refine sald 108 (i := i + 3) hX (by omega) (by omega) dL_law_107 ?_
  refine call_Fi 111 (av := [.int (xs (i + 1)), .int (xs (i + 2)), .int (xs (i + 3))]) (metX0_append (cx_l K) a n (xs (i + 1)) (xs (i + 2)) (xs (i + 3)) V AL o l f lo hi s w rg rl rh vc vs hRep) rfl rfl gwX0_appendL nyX0_append rfl (by omega) (by decide) (Nat.le_of_ble_eq_true rfl) rfl dL_law_108 ?_
  intro rX0 uX0 hqX0
  rcases hqX0 with ⟨hlt, rfl, f', lo', hi', s', w2, vc', vs', rfl, hRep2⟩ | ⟨hge, rfl, rfl⟩
  ·
    refine x_aload_n 112 2 dL_law_111 rfl ?_
    refine x_aload_n 113 0 dL_law_112 rfl ?_
    refine x_iload_n 114 3 dL_law_113 rfl ?_
    refine x_iconst 115 (v := nI 1) dL_law_114 kI_1 ?_
    refine x_iadd 116 (v := nI (i + 1)) dL_law_115 (nI_add _ _) ?_
    refine sald 117 (i := i + 1) hX (by omega) (by omega) dL_law_116 ?_
    refine x_aload_n 118 0 dL_law_117 rfl ?_
    refine x_iload_n 119 3 dL_law_118 rfl ?_
    refine x_iconst 120 (v := nI 2) dL_law_119 kI_2 ?_
    refine x_iadd 121 (v := nI (i + 2)) dL_law_120 (nI_add _ _) ?_
    refine sald 122 (i := i + 2) hX (by omega) (by omega) dL_law_121 ?_
    refine x_aload_n 123 0 dL_law_122 rfl ?_
    refine x_iload_n 124 3 dL_law_123 rfl ?_
    refine x_iconst 125 (v := nI 3) dL_law_124 kI_3 ?_
    refine x_iadd 126 (v := nI (i + 3)) dL_law_125 (nI_add _ _) ?_
    refine sald 127 (i := i + 3) hX (by omega) (by omega) dL_law_126 ?_
    refine x_swap ?_
    refine call_Fi 130 (av := [.int (xs (i + 1)), .int (xs (i + 2)), .int (xs (i + 3))]) (metX1_append (cx_l K) a n (xs (i + 1)) (xs (i + 2)) (xs (i + 3)) hn v al rg rl rh) rfl rfl gwX1_appendL nyX1_append rfl (by omega) (by decide) (Nat.le_of_ble_eq_true rfl) rfl dL_law_127 ?_
    intro rX1 uX1 hqX1
    rcases hqX1 with ⟨hlt1, rfl, rfl⟩ | ⟨hge1, rfl, rfl⟩
    ·
      refine x_swap ?_
      refine t_icmp_eq 390 dL_law_130 (by decide) rfl ?_
      exact hj_390 _ _ _ _ _ _ _ _ _ _ _ _ _ _ _ _ _ (sim_append hSim hRep2)
    ·
      omega
  ·
    refine x_aload_n 112 2 dL_law_111 rfl ?_
    refine x_aload_n 113 0 dL_law_112 rfl ?_
    refine x_iload_n 114 3 dL_law_113 rfl ?_
    refine x_iconst 115 (v := nI 1) dL_law_114 kI_1 ?_
    refine x_iadd 116 (v := nI (i + 1)) dL_law_115 (nI_add _ _) ?_
    refine sald 117 (i := i + 1) hX (by omega) (by omega) dL_law_116 ?_
    refine x_aload_n 118 0 dL_law_117 rfl ?_
    refine x_iload_n 119 3 dL_law_118 rfl ?_
    refine x_iconst 120 (v := nI 2) dL_law_119 kI_2 ?_
    refine x_iadd 121 (v := nI (i + 2)) dL_law_120 (nI_add _ _) ?_
    refine sald 122 (i := i + 2) hX (by omega) (by omega) dL_law_121 ?_
    refine x_aload_n 123 0 dL_law_122 rfl ?_
    refine x_iload_n 124 3 dL_law_123 rfl ?_
    refine x_iconst 125 (v := nI 3) dL_law_124 kI_3 ?_
    refine x_iadd 126 (v := nI (i + 3)) dL_law_125 (nI_add _ _) ?_
    refine sald 127 (i := i + 3) hX (by omega) (by omega) dL_law_126 ?_
    refine x_swap ?_
    refine call_Fi 130 (av := [.int (xs (i + 1)), .int (xs (i + 2)), .int (xs (i + 3))]) (metX1_append (cx_l K) a n (xs (i + 1)) (xs (i + 2)) (xs (i + 3)) hn v al rg rl rh) rfl rfl gwX1_appendL nyX1_append rfl (by omega) (by decide) (Nat.le_of_ble_eq_true rfl) rfl dL_law_127 ?_
    intro rX1 uX1 hqX1
    rcases hqX1 with ⟨hlt1, rfl, rfl⟩ | ⟨hge1, rfl, rfl⟩
    ·
      omega
    ·
      refine x_swap ?_
      refine t_icmp_eq 390 dL_law_130 (by decide) rfl ?_
      exact hj_390 _ _ _ _ _ _ _ _ _ _ _ _ _ _ _ _ _ hSim
/-- strike -/
theorem law_c1 {K : Cx} {a : Nat → Nat} {L i : Nat} {xs : Nat → Int32} (hX : SX K (a 40) L xs) (hL : L ≤ 256) (hKd : cx_d K = 7) (hi : i + 4 ≤ L) (hj_390 : LI K a 390 i) : LI K a 135 i := by
  intro n V AL o l f lo hi s w rg rl rh vc vs v al hSim
  have hRep := hSim.1
  have hn := hRep.1
  refine x_aload_n 136 1 dL_law_135 rfl ?_
  refine x_aload_n 137 0 dL_law_136 rfl ?_
  refine x_iload_n 138 3 dL_law_137 rfl ?_
  refine x_iconst 139 (v := nI 1) dL_law_138 kI_1 ?_
  refine x_iadd 140 (v := nI (i + 1)) dL_law_139 (nI_add _ _) ?_
  refine sald 141 (i := i + 1) hX (by omega) (by omega) dL_law_140 ?_
  refine call_Fi 144 (av := [.int (xs (i + 1))]) (metX0_strike (cx_l K) a n (xs (i + 1)) V AL o l f lo hi s w rg rl rh vc vs hRep) rfl rfl gwX0_strikeL nyX0_strike rfl (by omega) (by decide) (Nat.le_of_ble_eq_true rfl) rfl dL_law_141 ?_
  intro rX0 uX0 hqX0
  rcases hqX0 with ⟨j, hj, he, hal, rfl, rfl⟩ | ⟨rfl, rfl, hno⟩
  ·
    refine x_aload_n 145 2 dL_law_144 rfl ?_
    refine x_aload_n 146 0 dL_law_145 rfl ?_
    refine x_iload_n 147 3 dL_law_146 rfl ?_
    refine x_iconst 148 (v := nI 1) dL_law_147 kI_1 ?_
    refine x_iadd 149 (v := nI (i + 1)) dL_law_148 (nI_add _ _) ?_
    refine sald 150 (i := i + 1) hX (by omega) (by omega) dL_law_149 ?_
    refine x_swap ?_
    refine call_Fi 153 (av := [.int (xs (i + 1))]) (metX1_strike (cx_l K) a n (xs (i + 1)) hn v al rg rl rh) rfl rfl gwX1_strikeL nyX1_strike rfl (by omega) (by decide) (Nat.le_of_ble_eq_true rfl) rfl dL_law_150 ?_
    intro rX1 uX1 hqX1
    rcases hqX1 with ⟨j', hj', he', hal', rfl, rfl⟩ | ⟨rfl, rfl, hno'⟩
    ·
      have ej := nI_inj (by omega) (by omega) (he.symm.trans he')
      subst ej
      refine x_swap ?_
      refine t_icmp_eq 390 dL_law_153 (by decide) rfl ?_
      exact hj_390 _ _ _ _ _ _ _ _ _ _ _ _ _ _ _ _ _ (sim_strike hSim hj)
    ·
      exact absurd (hno' j hj he) (by rw [← hSim.2.2 j hj, hal]; decide)
  ·
    refine x_aload_n 145 2 dL_law_144 rfl ?_
    refine x_aload_n 146 0 dL_law_145 rfl ?_
    refine x_iload_n 147 3 dL_law_146 rfl ?_
    refine x_iconst 148 (v := nI 1) dL_law_147 kI_1 ?_
    refine x_iadd 149 (v := nI (i + 1)) dL_law_148 (nI_add _ _) ?_
    refine sald 150 (i := i + 1) hX (by omega) (by omega) dL_law_149 ?_
    refine x_swap ?_
    refine call_Fi 153 (av := [.int (xs (i + 1))]) (metX1_strike (cx_l K) a n (xs (i + 1)) hn v al rg rl rh) rfl rfl gwX1_strikeL nyX1_strike rfl (by omega) (by decide) (Nat.le_of_ble_eq_true rfl) rfl dL_law_150 ?_
    intro rX1 uX1 hqX1
    rcases hqX1 with ⟨j', hj', he', hal', rfl, rfl⟩ | ⟨rfl, rfl, hno'⟩
    ·
      exact absurd (hno j' hj' he') (by rw [hSim.2.2 j' hj', hal']; decide)
    ·
      refine x_swap ?_
      refine t_icmp_eq 390 dL_law_153 (by decide) rfl ?_
      exact hj_390 _ _ _ _ _ _ _ _ _ _ _ _ _ _ _ _ _ hSim
/-- range -/
theorem law_c2 {K : Cx} {a : Nat → Nat} {L i : Nat} {xs : Nat → Int32} (hX : SX K (a 40) L xs) (hL : L ≤ 256) (hKd : cx_d K = 7) (hi : i + 4 ≤ L) (hj_390 : LI K a 390 i) : LI K a 158 i := by
  intro n V AL o l f lo hi s w rg rl rh vc vs v al hSim
  have hRep := hSim.1
  have hn := hRep.1
  refine x_aload_n 159 1 dL_law_158 rfl ?_
  refine x_aload_n 160 0 dL_law_159 rfl ?_
  refine x_iload_n 161 3 dL_law_160 rfl ?_
  refine x_iconst 162 (v := nI 1) dL_law_161 kI_1 ?_
  refine x_iadd 163 (v := nI (i + 1)) dL_law_162 (nI_add _ _) ?_
  refine sald 164 (i := i + 1) hX (by omega) (by omega) dL_law_163 ?_
  refine x_aload_n 165 0 dL_law_164 rfl ?_
  refine x_iload_n 166 3 dL_law_165 rfl ?_
  refine x_iconst 167 (v := nI 2) dL_law_166 kI_2 ?_
  refine x_iadd 168 (v := nI (i + 2)) dL_law_167 (nI_add _ _) ?_
  refine sald 169 (i := i + 2) hX (by omega) (by omega) dL_law_168 ?_
  refine x_aload_n 170 0 dL_law_169 rfl ?_
  refine x_iload_n 171 3 dL_law_170 rfl ?_
  refine x_iconst 172 (v := nI 3) dL_law_171 kI_3 ?_
  refine x_iadd 173 (v := nI (i + 3)) dL_law_172 (nI_add _ _) ?_
  refine sald 174 (i := i + 3) hX (by omega) (by omega) dL_law_173 ?_
  refine call_Fi 177 (av := [.int (xs (i + 1)), .int (xs (i + 2)), .int (xs (i + 3))]) (metX0_range (cx_l K) a n (xs (i + 1)) (xs (i + 2)) (xs (i + 3)) o l f lo hi s w rg rl rh vc vs) rfl rfl gwX0_rangeL nyX0_range rfl (by omega) (by decide) (Nat.le_of_ble_eq_true rfl) rfl dL_law_174 ?_
  intro rX0 uX0 hqX0
  rcases hqX0 with ⟨k, hk, he, rfl, rfl⟩ | ⟨rfl, rfl, hno⟩
  ·
    refine x_aload_n 178 2 dL_law_177 rfl ?_
    refine x_aload_n 179 0 dL_law_178 rfl ?_
    refine x_iload_n 180 3 dL_law_179 rfl ?_
    refine x_iconst 181 (v := nI 1) dL_law_180 kI_1 ?_
    refine x_iadd 182 (v := nI (i + 1)) dL_law_181 (nI_add _ _) ?_
    refine sald 183 (i := i + 1) hX (by omega) (by omega) dL_law_182 ?_
    refine x_aload_n 184 0 dL_law_183 rfl ?_
    refine x_iload_n 185 3 dL_law_184 rfl ?_
    refine x_iconst 186 (v := nI 2) dL_law_185 kI_2 ?_
    refine x_iadd 187 (v := nI (i + 2)) dL_law_186 (nI_add _ _) ?_
    refine sald 188 (i := i + 2) hX (by omega) (by omega) dL_law_187 ?_
    refine x_aload_n 189 0 dL_law_188 rfl ?_
    refine x_iload_n 190 3 dL_law_189 rfl ?_
    refine x_iconst 191 (v := nI 3) dL_law_190 kI_3 ?_
    refine x_iadd 192 (v := nI (i + 3)) dL_law_191 (nI_add _ _) ?_
    refine sald 193 (i := i + 3) hX (by omega) (by omega) dL_law_192 ?_
    refine x_swap ?_
    refine call_Fi 196 (av := [.int (xs (i + 1)), .int (xs (i + 2)), .int (xs (i + 3))]) (metX1_range (cx_l K) a n (xs (i + 1)) (xs (i + 2)) (xs (i + 3)) v al rg rl rh) rfl rfl gwX1_rangeL nyX1_range rfl (by omega) (by decide) (Nat.le_of_ble_eq_true rfl) rfl dL_law_193 ?_
    intro rX1 uX1 hqX1
    rcases hqX1 with ⟨k', hk', he', rfl, rfl⟩ | ⟨rfl, rfl, hno'⟩
    ·
      have ej := nI_inj (by omega) (by omega) (he.symm.trans he')
      subst ej
      refine x_swap ?_
      refine t_icmp_eq 390 dL_law_196 (by decide) rfl ?_
      exact hj_390 _ _ _ _ _ _ _ _ _ _ _ _ _ _ _ _ _ hSim
    ·
      exact absurd he (hno' k hk)
  ·
    refine x_aload_n 178 2 dL_law_177 rfl ?_
    refine x_aload_n 179 0 dL_law_178 rfl ?_
    refine x_iload_n 180 3 dL_law_179 rfl ?_
    refine x_iconst 181 (v := nI 1) dL_law_180 kI_1 ?_
    refine x_iadd 182 (v := nI (i + 1)) dL_law_181 (nI_add _ _) ?_
    refine sald 183 (i := i + 1) hX (by omega) (by omega) dL_law_182 ?_
    refine x_aload_n 184 0 dL_law_183 rfl ?_
    refine x_iload_n 185 3 dL_law_184 rfl ?_
    refine x_iconst 186 (v := nI 2) dL_law_185 kI_2 ?_
    refine x_iadd 187 (v := nI (i + 2)) dL_law_186 (nI_add _ _) ?_
    refine sald 188 (i := i + 2) hX (by omega) (by omega) dL_law_187 ?_
    refine x_aload_n 189 0 dL_law_188 rfl ?_
    refine x_iload_n 190 3 dL_law_189 rfl ?_
    refine x_iconst 191 (v := nI 3) dL_law_190 kI_3 ?_
    refine x_iadd 192 (v := nI (i + 3)) dL_law_191 (nI_add _ _) ?_
    refine sald 193 (i := i + 3) hX (by omega) (by omega) dL_law_192 ?_
    refine x_swap ?_
    refine call_Fi 196 (av := [.int (xs (i + 1)), .int (xs (i + 2)), .int (xs (i + 3))]) (metX1_range (cx_l K) a n (xs (i + 1)) (xs (i + 2)) (xs (i + 3)) v al rg rl rh) rfl rfl gwX1_rangeL nyX1_range rfl (by omega) (by decide) (Nat.le_of_ble_eq_true rfl) rfl dL_law_193 ?_
    intro rX1 uX1 hqX1
    rcases hqX1 with ⟨k', hk', he', rfl, rfl⟩ | ⟨rfl, rfl, hno'⟩
    ·
      exact absurd he' (hno k' hk')
    ·
      refine x_swap ?_
      refine t_icmp_eq 390 dL_law_196 (by decide) rfl ?_
      exact hj_390 _ _ _ _ _ _ _ _ _ _ _ _ _ _ _ _ _ hSim
/-- open -/
theorem law_c3 {K : Cx} {a : Nat → Nat} {L i : Nat} {xs : Nat → Int32} (hX : SX K (a 40) L xs) (hL : L ≤ 256) (hKd : cx_d K = 7) (hi : i + 4 ≤ L) (hj_390 : LI K a 390 i) : LI K a 201 i := by
  intro n V AL o l f lo hi s w rg rl rh vc vs v al hSim
  have hRep := hSim.1
  have hn := hRep.1
  refine x_aload_n 202 1 dL_law_201 rfl ?_
  refine call_Fv 205 (av := []) (metX0_open (cx_l K) a n o l f lo hi s w rg rl rh vc vs) rfl rfl gwX0_openL nyX0_open rfl (by omega) (by decide) (Nat.le_of_ble_eq_true rfl) rfl dL_law_202 ?_
  intro uX0 hqX0
  subst hqX0
  refine x_aload_n 206 2 dL_law_205 rfl ?_
  refine x_swap ?_
  refine call_Fv 209 (av := []) (metX1_open (cx_l K) a n v al rg rl rh) rfl rfl gwX1_openL nyX1_open rfl (by omega) (by decide) (Nat.le_of_ble_eq_true rfl) rfl dL_law_206 ?_
  intro uX1 hqX1
  subst hqX1
  refine x_swap ?_
  refine x_goto 390 dL_law_209 (by decide) ?_
  exact hj_390 _ _ _ _ _ _ _ _ _ _ _ _ _ _ _ _ _ hSim
/-- count -/
theorem law_c4 {K : Cx} {a : Nat → Nat} {L i : Nat} {xs : Nat → Int32} (hX : SX K (a 40) L xs) (hL : L ≤ 256) (hKd : cx_d K = 7) (hi : i + 4 ≤ L) (hj_390 : LI K a 390 i) : LI K a 212 i := by
  intro n V AL o l f lo hi s w rg rl rh vc vs v al hSim
  have hRep := hSim.1
  have hn := hRep.1
  refine x_aload_n 213 1 dL_law_212 rfl ?_
  refine call_Fi 216 (av := []) (metX0_count (cx_l K) a n V AL o l f lo hi s w rg rl rh vc vs hRep) rfl rfl gwX0_countL nyX0_count rfl (by omega) (by decide) (Nat.le_of_ble_eq_true rfl) rfl dL_law_213 ?_
  intro rX0 uX0 hqX0
  obtain ⟨rfl, hz0⟩ := hqX0
  refine x_aload_n 217 2 dL_law_216 rfl ?_
  refine x_swap ?_
  refine call_Fi 220 (av := []) (metX1_count (cx_l K) a n hn v al rg rl rh) rfl rfl gwX1_countL nyX1_count rfl (by omega) (by decide) (Nat.le_of_ble_eq_true rfl) rfl dL_law_217 ?_
  intro rX1 uX1 hqX1
  obtain ⟨rfl, hz1⟩ := hqX1
  refine x_swap ?_
  refine t_icmp_eq 390 dL_law_220 (by decide) (by rw [hz0, hz1, sim_count hSim]) ?_
  exact hj_390 _ _ _ _ _ _ _ _ _ _ _ _ _ _ _ _ _ hSim
end
section
set_option maxRecDepth 100000
set_option maxHeartbeats 1000000
/-- sum -/
theorem law_c5 {K : Cx} {a : Nat → Nat} {L i : Nat} {xs : Nat → Int32} (hX : SX K (a 40) L xs) (hL : L ≤ 256) (hKd : cx_d K = 7) (hi : i + 4 ≤ L) (hj_390 : LI K a 390 i) : LI K a 225 i := by
  intro n V AL o l f lo hi s w rg rl rh vc vs v al hSim
  have hRep := hSim.1
  have hn := hRep.1
  refine x_aload_n 226 1 dL_law_225 rfl ?_
  refine x_aload_n 227 0 dL_law_226 rfl ?_
  refine x_iload_n 228 3 dL_law_227 rfl ?_
  refine x_iconst 229 (v := nI 1) dL_law_228 kI_1 ?_
  refine x_iadd 230 (v := nI (i + 1)) dL_law_229 (nI_add _ _) ?_
  refine sald 231 (i := i + 1) hX (by omega) (by omega) dL_law_230 ?_
  refine call_Fl 234 (av := [.int (xs (i + 1))]) (metX0_sum (cx_l K) a n (xs (i + 1)) V AL o l f lo hi s w rg rl rh vc vs hRep) rfl rfl gwX0_sumL nyX0_sum rfl (by omega) (by decide) (Nat.le_of_ble_eq_true rfl) rfl dL_law_231 ?_
  intro rX0 uX0 hqX0
  obtain ⟨rfl, hz0⟩ := hqX0
  refine x_aload_n 235 2 dL_law_234 rfl ?_
  refine x_aload_n 236 0 dL_law_235 rfl ?_
  refine x_iload_n 237 3 dL_law_236 rfl ?_
  refine x_iconst 238 (v := nI 1) dL_law_237 kI_1 ?_
  refine x_iadd 239 (v := nI (i + 1)) dL_law_238 (nI_add _ _) ?_
  refine sald 240 (i := i + 1) hX (by omega) (by omega) dL_law_239 ?_
  refine x_swap ?_
  refine call_Fl 243 (av := [.int (xs (i + 1))]) (metX1_sum (cx_l K) a n (xs (i + 1)) hn v al rg rl rh) rfl rfl gwX1_sumL nyX1_sum rfl (by omega) (by decide) (Nat.le_of_ble_eq_true rfl) rfl dL_law_240 ?_
  intro rX1 uX1 hqX1
  obtain ⟨rfl, hz1⟩ := hqX1
  refine x_swap ?_
  refine x_lcmp 244 dL_law_243 ?_
  refine t_if_eq 390 dL_law_244 (by decide) (cmp_0 (two_eq (F := fun k => sml (ps V AL rg rl rh) (V k) n) (G := fun k => sml (ps (mV v) (mA al) rg rl rh) (mV v k) n) (fun k hk => sim_sum hSim hk) hz0 hz1)) ?_
  exact hj_390 _ _ _ _ _ _ _ _ _ _ _ _ _ _ _ _ _ hSim
/-- extreme -/
theorem law_c6 {K : Cx} {a : Nat → Nat} {L i : Nat} {xs : Nat → Int32} (hX : SX K (a 40) L xs) (hL : L ≤ 256) (hKd : cx_d K = 7) (hi : i + 4 ≤ L) (hj_390 : LI K a 390 i) : LI K a 249 i := by
  intro n V AL o l f lo hi s w rg rl rh vc vs v al hSim
  have hRep := hSim.1
  have hn := hRep.1
  refine x_aload_n 250 1 dL_law_249 rfl ?_
  refine x_aload_n 251 0 dL_law_250 rfl ?_
  refine x_iload_n 252 3 dL_law_251 rfl ?_
  refine x_iconst 253 (v := nI 1) dL_law_252 kI_1 ?_
  refine x_iadd 254 (v := nI (i + 1)) dL_law_253 (nI_add _ _) ?_
  refine sald 255 (i := i + 1) hX (by omega) (by omega) dL_law_254 ?_
  refine x_aload_n 256 0 dL_law_255 rfl ?_
  refine x_iload_n 257 3 dL_law_256 rfl ?_
  refine x_iconst 258 (v := nI 2) dL_law_257 kI_2 ?_
  refine x_iadd 259 (v := nI (i + 2)) dL_law_258 (nI_add _ _) ?_
  refine sald 260 (i := i + 2) hX (by omega) (by omega) dL_law_259 ?_
  refine x_if_eq 263 267 dL_law_260 (by decide) (fun h_260 => ?_) (fun h_260 => ?_)
  ·
    refine x_iconst 268 (v := nI 0) dL_law_267 kI_0 ?_
    refine call_Fi 271 (av := [.int (xs (i + 1)), .int (nI 0)]) (metX0_extreme (cx_l K) a n (xs (i + 1)) 0 (by decide) V AL o l f lo hi s w rg rl rh vc vs hRep) rfl rfl gwX0_extremeL nyX0_extreme rfl (by omega) (by decide) (Nat.le_of_ble_eq_true rfl) rfl dL_law_268 ?_
    intro rX0 uX0 hqX0
    obtain ⟨rfl, hz0⟩ := hqX0
    refine x_aload_n 272 2 dL_law_271 rfl ?_
    refine x_aload_n 273 0 dL_law_272 rfl ?_
    refine x_iload_n 274 3 dL_law_273 rfl ?_
    refine x_iconst 275 (v := nI 1) dL_law_274 kI_1 ?_
    refine x_iadd 276 (v := nI (i + 1)) dL_law_275 (nI_add _ _) ?_
    refine sald 277 (i := i + 1) hX (by omega) (by omega) dL_law_276 ?_
    refine x_aload_n 278 0 dL_law_277 rfl ?_
    refine x_iload_n 279 3 dL_law_278 rfl ?_
    refine x_iconst 280 (v := nI 2) dL_law_279 kI_2 ?_
    refine x_iadd 281 (v := nI (i + 2)) dL_law_280 (nI_add _ _) ?_
    refine sald 282 (i := i + 2) hX (by omega) (by omega) dL_law_281 ?_
    refine t_if_eq 289 dL_law_282 (by decide) h_260 ?_
    refine x_iconst 290 (v := nI 0) dL_law_289 kI_0 ?_
    refine x_swap ?_
    refine call_Fi 293 (av := [.int (xs (i + 1)), .int (nI 0)]) (metX1_extreme (cx_l K) a n (xs (i + 1)) 0 (by decide) hn v al rg rl rh) rfl rfl gwX1_extremeL nyX1_extreme rfl (by omega) (by decide) (Nat.le_of_ble_eq_true rfl) rfl dL_law_290 ?_
    intro rX1 uX1 hqX1
    obtain ⟨rfl, hz1⟩ := hqX1
    refine x_swap ?_
    refine t_icmp_eq 390 dL_law_293 (by decide) (two_eq (F := fun k => (exf 0 (ps V AL rg rl rh) (V k) (0, nI 0) n).2) (G := fun k => (exf 0 (ps (mV v) (mA al) rg rl rh) (mV v k) (0, nI 0) n).2) (fun k hk => congrArg Prod.snd (sim_ext hSim hk)) hz0 hz1) ?_
    exact hj_390 _ _ _ _ _ _ _ _ _ _ _ _ _ _ _ _ _ hSim
  ·
    refine x_iconst 264 (v := nI 1) dL_law_263 kI_1 ?_
    refine x_goto 268 dL_law_264 (by decide) ?_
    refine call_Fi 271 (av := [.int (xs (i + 1)), .int (nI 1)]) (metX0_extreme (cx_l K) a n (xs (i + 1)) 1 (by decide) V AL o l f lo hi s w rg rl rh vc vs hRep) rfl rfl gwX0_extremeL nyX0_extreme rfl (by omega) (by decide) (Nat.le_of_ble_eq_true rfl) rfl dL_law_268 ?_
    intro rX0 uX0 hqX0
    obtain ⟨rfl, hz0⟩ := hqX0
    refine x_aload_n 272 2 dL_law_271 rfl ?_
    refine x_aload_n 273 0 dL_law_272 rfl ?_
    refine x_iload_n 274 3 dL_law_273 rfl ?_
    refine x_iconst 275 (v := nI 1) dL_law_274 kI_1 ?_
    refine x_iadd 276 (v := nI (i + 1)) dL_law_275 (nI_add _ _) ?_
    refine sald 277 (i := i + 1) hX (by omega) (by omega) dL_law_276 ?_
    refine x_aload_n 278 0 dL_law_277 rfl ?_
    refine x_iload_n 279 3 dL_law_278 rfl ?_
    refine x_iconst 280 (v := nI 2) dL_law_279 kI_2 ?_
    refine x_iadd 281 (v := nI (i + 2)) dL_law_280 (nI_add _ _) ?_
    refine sald 282 (i := i + 2) hX (by omega) (by omega) dL_law_281 ?_
    refine f_if_eq 285 289 dL_law_282 (by decide) h_260 ?_
    refine x_iconst 286 (v := nI 1) dL_law_285 kI_1 ?_
    refine x_goto 290 dL_law_286 (by decide) ?_
    refine x_swap ?_
    refine call_Fi 293 (av := [.int (xs (i + 1)), .int (nI 1)]) (metX1_extreme (cx_l K) a n (xs (i + 1)) 1 (by decide) hn v al rg rl rh) rfl rfl gwX1_extremeL nyX1_extreme rfl (by omega) (by decide) (Nat.le_of_ble_eq_true rfl) rfl dL_law_290 ?_
    intro rX1 uX1 hqX1
    obtain ⟨rfl, hz1⟩ := hqX1
    refine x_swap ?_
    refine t_icmp_eq 390 dL_law_293 (by decide) (two_eq (F := fun k => (exf 1 (ps V AL rg rl rh) (V k) (0, nI 0) n).2) (G := fun k => (exf 1 (ps (mV v) (mA al) rg rl rh) (mV v k) (0, nI 0) n).2) (fun k hk => congrArg Prod.snd (sim_ext hSim hk)) hz0 hz1) ?_
    exact hj_390 _ _ _ _ _ _ _ _ _ _ _ _ _ _ _ _ _ hSim
/-- passing -/
theorem law_c7 {K : Cx} {a : Nat → Nat} {L i : Nat} {xs : Nat → Int32} (hX : SX K (a 40) L xs) (hL : L ≤ 256) (hKd : cx_d K = 7) (hi : i + 4 ≤ L) (hj_390 : LI K a 390 i) : LI K a 298 i := by
  intro n V AL o l f lo hi s w rg rl rh vc vs v al hSim
  have hRep := hSim.1
  have hn := hRep.1
  refine x_aload_n 299 1 dL_law_298 rfl ?_
  refine x_aload_n 300 0 dL_law_299 rfl ?_
  refine x_iload_n 301 3 dL_law_300 rfl ?_
  refine x_iconst 302 (v := nI 1) dL_law_301 kI_1 ?_
  refine x_iadd 303 (v := nI (i + 1)) dL_law_302 (nI_add _ _) ?_
  refine sald 304 (i := i + 1) hX (by omega) (by omega) dL_law_303 ?_
  refine call_Fi 307 (av := [.int (xs (i + 1))]) (metX0_passing (cx_l K) a n (xs (i + 1)) V AL o l f lo hi s w rg rl rh vc vs hRep) rfl rfl gwX0_passingL nyX0_passing rfl (by omega) (by decide) (Nat.le_of_ble_eq_true rfl) rfl dL_law_304 ?_
  intro rX0 uX0 hqX0
  obtain ⟨rfl, hz0⟩ := hqX0
  refine x_aload_n 308 2 dL_law_307 rfl ?_
  refine x_aload_n 309 0 dL_law_308 rfl ?_
  refine x_iload_n 310 3 dL_law_309 rfl ?_
  refine x_iconst 311 (v := nI 1) dL_law_310 kI_1 ?_
  refine x_iadd 312 (v := nI (i + 1)) dL_law_311 (nI_add _ _) ?_
  refine sald 313 (i := i + 1) hX (by omega) (by omega) dL_law_312 ?_
  refine x_swap ?_
  refine call_Fi 316 (av := [.int (xs (i + 1))]) (metX1_passing (cx_l K) a n (xs (i + 1)) hn v al rg rl rh) rfl rfl gwX1_passingL nyX1_passing rfl (by omega) (by decide) (Nat.le_of_ble_eq_true rfl) rfl dL_law_313 ?_
  intro rX1 uX1 hqX1
  obtain ⟨rfl, hz1⟩ := hqX1
  refine x_swap ?_
  refine t_icmp_eq 390 dL_law_316 (by decide) (pas_eq hn (fun r hr => sim_ps hSim hr) hz0 hz1) ?_
  exact hj_390 _ _ _ _ _ _ _ _ _ _ _ _ _ _ _ _ _ hSim
/-- value -/
theorem law_c8 {K : Cx} {a : Nat → Nat} {L i : Nat} {xs : Nat → Int32} (hX : SX K (a 40) L xs) (hL : L ≤ 256) (hKd : cx_d K = 7) (hi : i + 4 ≤ L) (hj_390 : LI K a 390 i) : LI K a 321 i := by
  intro n V AL o l f lo hi s w rg rl rh vc vs v al hSim
  have hRep := hSim.1
  have hn := hRep.1
  refine x_aload_n 322 1 dL_law_321 rfl ?_
  refine x_aload_n 323 0 dL_law_322 rfl ?_
  refine x_iload_n 324 3 dL_law_323 rfl ?_
  refine x_iconst 325 (v := nI 1) dL_law_324 kI_1 ?_
  refine x_iadd 326 (v := nI (i + 1)) dL_law_325 (nI_add _ _) ?_
  refine sald 327 (i := i + 1) hX (by omega) (by omega) dL_law_326 ?_
  refine x_aload_n 328 0 dL_law_327 rfl ?_
  refine x_iload_n 329 3 dL_law_328 rfl ?_
  refine x_iconst 330 (v := nI 2) dL_law_329 kI_2 ?_
  refine x_iadd 331 (v := nI (i + 2)) dL_law_330 (nI_add _ _) ?_
  refine sald 332 (i := i + 2) hX (by omega) (by omega) dL_law_331 ?_
  refine call_Fi 335 (av := [.int (xs (i + 1)), .int (xs (i + 2))]) (metX0_value (cx_l K) a n (xs (i + 1)) (xs (i + 2)) V AL o l f lo hi s w rg rl rh vc vs hRep) rfl rfl gwX0_valueL nyX0_value rfl (by omega) (by decide) (Nat.le_of_ble_eq_true rfl) rfl dL_law_332 ?_
  intro rX0 uX0 hqX0
  obtain ⟨rfl, hz0⟩ := hqX0
  refine x_aload_n 336 2 dL_law_335 rfl ?_
  refine x_aload_n 337 0 dL_law_336 rfl ?_
  refine x_iload_n 338 3 dL_law_337 rfl ?_
  refine x_iconst 339 (v := nI 1) dL_law_338 kI_1 ?_
  refine x_iadd 340 (v := nI (i + 1)) dL_law_339 (nI_add _ _) ?_
  refine sald 341 (i := i + 1) hX (by omega) (by omega) dL_law_340 ?_
  refine x_aload_n 342 0 dL_law_341 rfl ?_
  refine x_iload_n 343 3 dL_law_342 rfl ?_
  refine x_iconst 344 (v := nI 2) dL_law_343 kI_2 ?_
  refine x_iadd 345 (v := nI (i + 2)) dL_law_344 (nI_add _ _) ?_
  refine sald 346 (i := i + 2) hX (by omega) (by omega) dL_law_345 ?_
  refine x_swap ?_
  refine call_Fi 349 (av := [.int (xs (i + 1)), .int (xs (i + 2))]) (metX1_value (cx_l K) a n (xs (i + 1)) (xs (i + 2)) hn v al rg rl rh) rfl rfl gwX1_valueL nyX1_value rfl (by omega) (by decide) (Nat.le_of_ble_eq_true rfl) rfl dL_law_346 ?_
  intro rX1 uX1 hqX1
  obtain ⟨rfl, hz1⟩ := hqX1
  refine x_swap ?_
  refine t_icmp_eq 390 dL_law_349 (by decide) (val_eq hn (fun c r hc hr => hSim.2.1 c r hc hr) hz0 hz1) ?_
  exact hj_390 _ _ _ _ _ _ _ _ _ _ _ _ _ _ _ _ _ hSim
theorem dif_post {w' : va_W} {G : Int32 → (Nat → Int32) → va_W} {cv z : Int32} {F : Nat → Nat} {vc : Int32} {vs : Nat → Int32} (h : (∃ k, k < 3 ∧ cv = nI k ∧ (∃ vc' vs', w' = G vc' vs') ∧ z = nI (F k)) ∨ (z = -1 ∧ w' = G vc vs ∧ ∀ k, k < 3 → cv ≠ nI k)) : ∃ vc' vs', w' = G vc' vs' ∧ ((∃ k, k < 3 ∧ cv = nI k ∧ z = nI (F k)) ∨ (z = -1 ∧ ∀ k, k < 3 → cv ≠ nI k)) := by
  rcases h with ⟨k, h1, h2, ⟨vc', vs', h3⟩, h4⟩ | ⟨h1, h2, h3⟩
  · exact ⟨vc', vs', h3, Or.inl ⟨k, h1, h2, h4⟩⟩
  · exact ⟨vc, vs, h2, Or.inr ⟨h1, h3⟩⟩
/-- different -/
theorem law_c9 {K : Cx} {a : Nat → Nat} {L i : Nat} {xs : Nat → Int32} (hX : SX K (a 40) L xs) (hL : L ≤ 256) (hKd : cx_d K = 7) (hi : i + 4 ≤ L) (hj_390 : LI K a 390 i) : LI K a 354 i := by
  intro n V AL o l f lo hi s w rg rl rh vc vs v al hSim
  have hRep := hSim.1
  have hn := hRep.1
  refine x_aload_n 355 1 dL_law_354 rfl ?_
  refine x_aload_n 356 0 dL_law_355 rfl ?_
  refine x_iload_n 357 3 dL_law_356 rfl ?_
  refine x_iconst 358 (v := nI 1) dL_law_357 kI_1 ?_
  refine x_iadd 359 (v := nI (i + 1)) dL_law_358 (nI_add _ _) ?_
  refine sald 360 (i := i + 1) hX (by omega) (by omega) dL_law_359 ?_
  refine call_Fi 363 (av := [.int (xs (i + 1))]) (metX0_different (cx_l K) a n (xs (i + 1)) V AL o l f lo hi s w rg rl rh vc vs hRep) rfl rfl gwX0_differentL nyX0_different rfl (by omega) (by decide) (Nat.le_of_ble_eq_true rfl) rfl dL_law_360 ?_
  intro rX0 uX0 hqX0
  obtain ⟨vc', vs', rfl, hz0⟩ := dif_post (G := fun vc vs => (wX0 a (nI n) o l f lo hi s w rg rl rh vc vs)) hqX0
  refine x_aload_n 364 2 dL_law_363 rfl ?_
  refine x_aload_n 365 0 dL_law_364 rfl ?_
  refine x_iload_n 366 3 dL_law_365 rfl ?_
  refine x_iconst 367 (v := nI 1) dL_law_366 kI_1 ?_
  refine x_iadd 368 (v := nI (i + 1)) dL_law_367 (nI_add _ _) ?_
  refine sald 369 (i := i + 1) hX (by omega) (by omega) dL_law_368 ?_
  refine x_swap ?_
  refine call_Fi 372 (av := [.int (xs (i + 1))]) (metX1_different (cx_l K) a n (xs (i + 1)) hn v al rg rl rh) rfl rfl gwX1_differentL nyX1_different rfl (by omega) (by decide) (Nat.le_of_ble_eq_true rfl) rfl dL_law_369 ?_
  intro rX1 uX1 hqX1
  obtain ⟨rfl, hz1⟩ := hqX1
  refine x_swap ?_
  refine t_icmp_eq 390 dL_law_372 (by decide) (two_eq (F := fun k => nI (fb_ct (dn (ps V AL rg rl rh) (V k)) n)) (G := fun k => nI (fb_ct (dn (ps (mV v) (mA al) rg rl rh) (mV v k)) n)) (fun k hk => congrArg nI (sim_dif hSim hk)) hz0 hz1) ?_
  exact hj_390 _ _ _ _ _ _ _ _ _ _ _ _ _ _ _ _ _ hSim
/-- live -/
theorem law_c10 {K : Cx} {a : Nat → Nat} {L i : Nat} {xs : Nat → Int32} (hX : SX K (a 40) L xs) (hL : L ≤ 256) (hKd : cx_d K = 7) (hi : i + 4 ≤ L) (hj_390 : LI K a 390 i) : LI K a 377 i := by
  intro n V AL o l f lo hi s w rg rl rh vc vs v al hSim
  have hRep := hSim.1
  have hn := hRep.1
  refine x_aload_n 378 1 dL_law_377 rfl ?_
  refine call_Fi 381 (av := []) (metX0_live (cx_l K) a n V AL o l f lo hi s w rg rl rh vc vs hRep) rfl rfl gwX0_liveL nyX0_live rfl (by omega) (by decide) (Nat.le_of_ble_eq_true rfl) rfl dL_law_378 ?_
  intro rX0 uX0 hqX0
  obtain ⟨rfl, hz0⟩ := hqX0
  refine x_aload_n 382 2 dL_law_381 rfl ?_
  refine x_swap ?_
  refine call_Fi 385 (av := []) (metX1_live (cx_l K) a n hn v al rg rl rh) rfl rfl gwX1_liveL nyX1_live rfl (by omega) (by decide) (Nat.le_of_ble_eq_true rfl) rfl dL_law_382 ?_
  intro rX1 uX1 hqX1
  obtain ⟨rfl, hz1⟩ := hqX1
  refine x_swap ?_
  refine t_icmp_eq 390 dL_law_385 (by decide) (by rw [hz0, hz1, sim_live hSim]) ?_
  exact hj_390 _ _ _ _ _ _ _ _ _ _ _ _ _ _ _ _ _ hSim
/-- the law's loop -/
theorem law_loop {K : Cx} {a : Nat → Nat} {L : Nat} {xs : Nat → Int32} (hX : SX K (a 40) L xs) (hL : L ≤ 256) (hKd : cx_d K = 7) (ret : ∀ (lv : List (Nat × Value)) (w : va_W), CW K a cL_law 4 "ColumnStoreLaw" 397 lv [.int (nI 1)] w) : ∀ i, i ≤ 260 → LI K a 18 i := by
  refine loop_up (P := fun i => LI K a 18 i) 260 (fun i hil ih => ?_)
  have hb : i + 4 ≤ L → LI K a 390 i := by
    intro hi4 n V AL o l f lo hi s w rg rl rh vc vs v al hSim
    refine x_iinc 393 (v := nI (i + 4)) (lv' := [(3, .int (nI (i + 4))), (0, .ref (a 40)), (1, .ref (a 0)), (2, .ref (a 30))]) 3 dL_law_390 rfl (inc4 _) (by decide) rfl ?_
    refine x_goto 18 dL_law_393 (by decide) ?_
    refine x_sub (lv' := [(0, .ref (a 40)), (1, .ref (a 0)), (2, .ref (a 30)), (3, .int (nI (i + 4)))]) [1, 2, 3, 0] rfl ?_
    exact ih (i + 4) (by omega) (by omega) _ _ _ _ _ _ _ _ _ _ _ _ _ _ _ _ _ hSim
  intro n V AL o l f lo hi s w rg rl rh vc vs v al hSim
  refine x_iload_n 19 3 dL_law_18 rfl ?_
  refine x_aload_n 20 0 dL_law_19 rfl ?_
  refine salen 21 hX dL_law_20 ?_
  refine x_iconst 22 (v := nI 4) dL_law_21 kI_4 ?_
  refine x_isub 23 (v := nI L - nI 4) dL_law_22 rfl ?_
  refine x_icmp_gt 26 396 dL_law_23 (by decide) (fun h_23 => ?_) (fun h_23 => ?_)
  ·
    refine x_iconst 397 (v := nI 1) dL_law_396 kI_1 ?_
    exact ret _ _
  ·
    have hi4 : i + 4 ≤ L := more_4 hL hil h_23
    refine x_aload_n 27 0 dL_law_26 rfl ?_
    refine x_iload_n 28 3 dL_law_27 rfl ?_
    refine sald 29 (i := i) hX (by omega) (by omega) dL_law_28 ?_
    refine x_bipush 31 (v := nI 15) dL_law_29 kB_15 ?_
    refine x_iand 32 (v := (xs i) &&& (nI 15)) dL_law_31 rfl ?_
    obtain ⟨j, hj, ej⟩ := and15_ex (xs i)
    refine x_st (st' := [.int (nI j)]) (by rw [ej]) ?_
    rcases (show j = 0 ∨ j = 1 ∨ j = 2 ∨ j = 3 ∨ j = 4 ∨ j = 5 ∨ j = 6 ∨ j = 7 ∨ j = 8 ∨ j = 9 ∨ j = 10 ∨ j = 11 ∨ j = 12 ∨ j = 13 ∨ j = 14 ∨ j = 15 by omega) with rfl | rfl | rfl | rfl | rfl | rfl | rfl | rfl | rfl | rfl | rfl | rfl | rfl | rfl | rfl | rfl
    · exact tbl_in 92 (off := 60) dL_law_32 (by decide +kernel) (by decide +kernel) (by decide +kernel) (by decide) (law_c0 hX hL hKd hi4 (hb hi4) _ _ _ _ _ _ _ _ _ _ _ _ _ _ _ _ _ hSim)
    · exact tbl_in 135 (off := 103) dL_law_32 (by decide +kernel) (by decide +kernel) (by decide +kernel) (by decide) (law_c1 hX hL hKd hi4 (hb hi4) _ _ _ _ _ _ _ _ _ _ _ _ _ _ _ _ _ hSim)
    · exact tbl_in 158 (off := 126) dL_law_32 (by decide +kernel) (by decide +kernel) (by decide +kernel) (by decide) (law_c2 hX hL hKd hi4 (hb hi4) _ _ _ _ _ _ _ _ _ _ _ _ _ _ _ _ _ hSim)
    · exact tbl_in 201 (off := 169) dL_law_32 (by decide +kernel) (by decide +kernel) (by decide +kernel) (by decide) (law_c3 hX hL hKd hi4 (hb hi4) _ _ _ _ _ _ _ _ _ _ _ _ _ _ _ _ _ hSim)
    · exact tbl_in 212 (off := 180) dL_law_32 (by decide +kernel) (by decide +kernel) (by decide +kernel) (by decide) (law_c4 hX hL hKd hi4 (hb hi4) _ _ _ _ _ _ _ _ _ _ _ _ _ _ _ _ _ hSim)
    · exact tbl_in 225 (off := 193) dL_law_32 (by decide +kernel) (by decide +kernel) (by decide +kernel) (by decide) (law_c5 hX hL hKd hi4 (hb hi4) _ _ _ _ _ _ _ _ _ _ _ _ _ _ _ _ _ hSim)
    · exact tbl_in 249 (off := 217) dL_law_32 (by decide +kernel) (by decide +kernel) (by decide +kernel) (by decide) (law_c6 hX hL hKd hi4 (hb hi4) _ _ _ _ _ _ _ _ _ _ _ _ _ _ _ _ _ hSim)
    · exact tbl_in 298 (off := 266) dL_law_32 (by decide +kernel) (by decide +kernel) (by decide +kernel) (by decide) (law_c7 hX hL hKd hi4 (hb hi4) _ _ _ _ _ _ _ _ _ _ _ _ _ _ _ _ _ hSim)
    · exact tbl_in 321 (off := 289) dL_law_32 (by decide +kernel) (by decide +kernel) (by decide +kernel) (by decide) (law_c8 hX hL hKd hi4 (hb hi4) _ _ _ _ _ _ _ _ _ _ _ _ _ _ _ _ _ hSim)
    · exact tbl_in 354 (off := 322) dL_law_32 (by decide +kernel) (by decide +kernel) (by decide +kernel) (by decide) (law_c9 hX hL hKd hi4 (hb hi4) _ _ _ _ _ _ _ _ _ _ _ _ _ _ _ _ _ hSim)
    · exact tbl_in 377 (off := 345) dL_law_32 (by decide +kernel) (by decide +kernel) (by decide +kernel) (by decide) (law_c10 hX hL hKd hi4 (hb hi4) _ _ _ _ _ _ _ _ _ _ _ _ _ _ _ _ _ hSim)
    · exact tbl_out 390 dL_law_32 (Or.inr (by decide +kernel)) (by decide) (hb hi4 _ _ _ _ _ _ _ _ _ _ _ _ _ _ _ _ _ hSim)
    · exact tbl_out 390 dL_law_32 (Or.inr (by decide +kernel)) (by decide) (hb hi4 _ _ _ _ _ _ _ _ _ _ _ _ _ _ _ _ _ hSim)
    · exact tbl_out 390 dL_law_32 (Or.inr (by decide +kernel)) (by decide) (hb hi4 _ _ _ _ _ _ _ _ _ _ _ _ _ _ _ _ _ hSim)
    · exact tbl_out 390 dL_law_32 (Or.inr (by decide +kernel)) (by decide) (hb hi4 _ _ _ _ _ _ _ _ _ _ _ _ _ _ _ _ _ hSim)
    · exact tbl_out 390 dL_law_32 (Or.inr (by decide +kernel)) (by decide) (hb hi4 _ _ _ _ _ _ _ _ _ _ _ _ _ _ _ _ _ hSim)
end
section
set_option maxRecDepth 100000
/-! THE CLAIM OUT OF ONE WALK OF THE LAW'S BODY. Your part is whole_start (and what it stands on); all else here is the same for every law, but numbers. -/
def R_law : String := "ColumnStoreLaw"
def lw_P (b : Addr) (xs : List Int32) (args : Array Value) (s : State) : Prop := args = #[.ref b] ∧ s.IntsAt b xs ∧ xs.length ≤ 256 ∧ (Jvm.Cond.and given_1 narrow_1).before args s = true
def lw_Q (_ : Array Value) (s : State) (o : Outcome) (t : State) : Prop := o = .returned (some (.int 1)) ∧ Framed s o t [] 600000 7290000
def lw_Z (below : List Frame) (a : Array Value) (s : State) : State → Prop := fun t => ∃ o, t.status = .running ∧ Ended t below o ∧ lw_Q a s o t
/-- the law's own end, with 1 on the stack, nothing written that was there before, its room as the claim has it -/
theorem lw_ret {p : Program} {l : Launch} {e : Env} {s : State} {m : MethodId} {below : List Frame} {meth : Method} {c : Code} {b : Nat} (hx : p.tables.exec = Jvm.exec) (hb : c.code = code) (hr : meth.sig.returnType = ret) (hlocks : meth.locks = false) {pc : Nat} {H : Heap} {ls : Array Slot} (hdg : decode code pc = .ok (.ireturn, 1)) : W p l e room_1 s m #[Value.ref b] below meth c H [] 600000 7290000 (lw_Z below #[Value.ref b] s) (F0 m pc ls [.int 1]) := by
  intro T hT X
  obtain ⟨fs, hret, hrun, hended, hW, hframe⟩ := X.leave (v := some (.int 1)) (hlocks := hlocks) (fun h => by rw [hr] at h; cases h)
  have hmeth' : T.vm.method? m = some meth := X.method'
  refine ⟨T.setFrames fs, ?_, .returned (some (.int 1)), hrun, hended, rfl, ⟨_, rfl⟩, hW, hframe⟩
  jvm_step X.here [X.here.top, hx, hb, hdg, hmeth', hr, ret, narrow_b1]
  (try refine ⟨rfl, ?_⟩); (try refine ⟨rfl, ?_⟩)
  first | (intro acts; rw [hret _ acts rfl rfl rfl]) | rw [hret _ _ rfl rfl rfl]
  exact Steps.refl _
/-- what holds at the law's entry: the machine, the code, the tables' words (any of lw_tbl by 'hts w (by decide +kernel)'), the script of L ints xs at the cell b, what the Statement gives of the start (any of its parts by flat_of_before) -/
def lw_At (p : Program) (s : State) (m : MethodId) (meth : Method) (c : Code) (b L : Nat) (xs : Nat → Int32) : Prop :=
  p.tables.exec = Jvm.exec ∧ c.code = code ∧ meth.sig.returnType = ret ∧ c.maxLocals = 4 ∧ s.vm.findClass R_law = some m.cls ∧ (∀ w ∈ lw_tbl, w.before #[Value.ref b] s = true) ∧ va_X b L xs s s.heap ∧ b < s.heap.size ∧ meth.locks = false ∧ (Jvm.Cond.and given_1 narrow_1).before #[Value.ref b] s = true
-- ===== YOUR PART BEGINS =====
set_option maxHeartbeats 4000000 in
/-- from the entry, for every script of at most 256 ints, the law comes to its end with true -/
theorem whole_start {p : Program} {e : Env} {s : State} {m : MethodId} {below : List Frame} {meth : Method} {c : Code} (l : Launch) {b L : Nat} {xs : Nat → Int32} (hL : L ≤ 256) (C0 : lw_At p s m meth c b L xs) : W p l e room_1 s m #[Value.ref b] below meth c s.heap [] 0 0 (lw_Z below #[Value.ref b] s) (entryFrame m ([Value.ref b] : List Value).toArray 4) := by
  obtain ⟨hx, hb, hr, hml, hown, htb, hX, hbl, hlocks, hgv⟩ := id C0
  have hts : ∀ w ∈ lw_all, w.before #[Value.ref b] s = true := fun w h => htb w (lw_all_tbl h)
  have hA : ∀ q : Nat, s.heap.size ≤ q → (fun q : Nat => s.heap.size ≤ q) q := fun _ h => h
  have hbA : ¬ (fun q : Nat => s.heap.size ≤ q) b := Nat.not_le.mpr hbl
  obtain ⟨c0, iS0, hKn0⟩ := u_known (C := RX0) (T := TX0) (N := 13) (n := 13) hts in_X0 (hts _ q24)
  obtain ⟨c1, iS1, hKn1⟩ := u_known (C := RX1) (T := TX1) (N := 6) (n := 6) hts in_X1 (hts _ q203)
  obtain ⟨dC, dI, hKc⟩ : ∃ (dC : Nat → ClassId) (dI : Nat → Nat → Nat), ∀ (k : Nat) (q : vw_C), vwCl[k]? = some q → u_Kn s q.1 q.2.1 q.2.2 (dC k) (dI k) := by
    refine ⟨fun k => if k = 0 then c0 else c1, fun k => if k = 0 then iS0 else iS1, ?_⟩
    intro k q hq
    match k, hq with
    | 0, hq => cases hq; exact hKn0
    | 1, hq => cases hq; exact hKn1
    | k + 2, hq => simp at hq
  obtain ⟨ci, hci⟩ := arr_known (hts _ q71) (fun C h => by cases h)
  obtain ⟨cz, hcz⟩ := arr_known (hts _ q72) (fun C h => by cases h)
  have hK : va_K (dC, dI) vwCl [(ci, .int), (cz, .boolean)] s := by
    refine ⟨hKc, fun k q h => ?_⟩
    match k, h with
    | 0, h => cases h; exact hci
    | 1, h => cases h; exact hcz
    | k + 2, h => simp at h
  have hS : va_S (fun q : Nat => s.heap.size ≤ q) s.heap s.heap [] := va_S.rf
  have hP : va_P (dC, dI) vwCl [] s.heap := fun k q h => by simp at h
  have hD : va_D (fun q : Nat => s.heap.size ≤ q) [] := ⟨fun i j p q h => by simp at h, fun k q h => by simp at h⟩
  have hl := lv_entry ([.ref b]) (n := 4) (Nat.le_of_ble_eq_true rfl)
  rw [lg_entry_eq]
  generalize (lg_sl ([.ref b]) ++ List.replicate (4 - (lg_sl ([.ref b])).length) Slot.unset).toArray = ls at hl ⊢
  have hl : lv_has ls 4 [(0, .ref b)] := hl
  refine va_new (ci := 0) (fs := [.int 0, .null, .null, .null, .null, .null, .null, .null, .null, .null, .null, .int 0, .null]) (C := RX0) (T := TX0) (N := 13) hx hb hts in_X0 tyX0 tyX0_ok hown (hts _ q23) (hts _ q24) (hts _ q21) hK hP hD hS hA rfl (fun j hj => by rcases (show j = 0 ∨ j = 1 ∨ j = 2 ∨ j = 3 ∨ j = 4 ∨ j = 5 ∨ j = 6 ∨ j = 7 ∨ j = 8 ∨ j = 9 ∨ j = 10 ∨ j = 11 ∨ j = 12 by omega) with rfl | rfl | rfl | rfl | rfl | rfl | rfl | rfl | rfl | rfl | rfl | rfl | rfl <;> rfl) (Nat.le_of_ble_eq_true rfl) (Nat.le_of_ble_eq_true rfl) dL_law_0 (fun a0 H hP hD hS => ?_)
  have hP : va_P (dC, dI) vwCl [(a0, .inr (0, [.int 0, .null, .null, .null, .null, .null, .null, .null, .null, .null, .null, .int 0, .null]))] H := hP
  have hD : va_D (fun q : Nat => s.heap.size ≤ q) [(a0, .inr (0, [.int 0, .null, .null, .null, .null, .null, .null, .null, .null, .null, .null, .int 0, .null]))] := hD
  refine W.widen (k := 1) (n := 13) (Nat.le_of_ble_eq_true rfl) (Nat.le_of_ble_eq_true rfl) ?_
  refine lv_dup hx hb dL_law_3 rfl ?_
  have hPc : va_P (dC, dI) vwCl [(a0, .inr (0, [.int 0, .null, .null, .null, .null, .null, .null, .null, .null, .null, .null, .int 0, .null]))] H := hP.sub [0] rfl
  have hDc : va_D (fun q : Nat => s.heap.size ≤ q) [(a0, .inr (0, [.int 0, .null, .null, .null, .null, .null, .null, .null, .null, .null, .null, .int 0, .null]))] := hD.sub [0] (by decide) rfl
  have hFc := va_free (wc := [(a0, .inr (0, [.int 0, .null, .null, .null, .null, .null, .null, .null, .null, .null, .null, .int 0, .null]))]) hD hS hA [0] rfl
  refine va_callv (va_runI (As := []) (rest := [.ref a0]) ⟨hx, hb, hml, hown, hts⟩ (metX0_init l (dC, dI) a0 ci cz H.size) (cwI 0 hts (lw_meth q27) rfl rfl rfl (hts _ q21) (hts _ q25) (hts _ q26) rfl (by decide +kernel) ⟨Nat.le_of_ble_eq_true rfl, Nat.le_of_ble_eq_true rfl⟩) ⟨fun a U g mk q => by obtain ⟨q0, q1, qP, qK, qD⟩ := q; exact ⟨q0, q1, qP, va_K.moved (u := U) (U := U.calling g mk a) (Vm.Alike.refl U.vm) qK, qD⟩, fun U hU hW => ⟨rfl, by rw [hU], by rw [hU]; exact hPc, va_K.moved hW.alike hK, hDc.weaken (fun _ _ _ _ => trivial)⟩⟩ rfl rfl hl.1 rfl (lv_room (Nat.le_of_ble_eq_true rfl)) dL_law_4 ⟨Nat.le_of_ble_eq_true rfl, Nat.le_of_ble_eq_true rfl⟩) hS (fun q _ h => hFc q h) hFc (fun qa t H1 locs ht hvm hw hB hz1 hk1 hS => ?_)
  obtain ⟨hP1, hK1, hD1⟩ := hB
  rw [ht] at hP1
  obtain ⟨e0qa, e1qa, e2qa⟩ := hw
  obtain ⟨hP, hD⟩ := va_join (wr := []) (w1 := (wX0 qa (nI 0) z_ z_ z_ z_ z_ z_ z_ z_ z_ z_ (nI 0) z_)) hP hD [0] [] rfl rfl (by decide) (by decide) hk1 hFc hP1 hD1
  clear hP1 hD1 hk1 hz1 hPc hDc hFc hK1 hvm ht
  generalize H1 = H at hP hS ⊢
  refine W.widen (k := 12) (n := 607) (Nat.le_of_ble_eq_true rfl) (Nat.le_of_ble_eq_true rfl) ?_
  have hP : va_P (dC, dI) vwCl (wX0 qa (nI 0) z_ z_ z_ z_ z_ z_ z_ z_ z_ z_ (nI 0) z_) H := hP
  have hD : va_D (fun q : Nat => s.heap.size ≤ q) (wX0 qa (nI 0) z_ z_ z_ z_ z_ z_ z_ z_ z_ z_ (nI 0) z_) := hD
  refine lv_astore_n (lv' := [(1, .ref a0), (0, .ref b)]) hx hb dL_law_7 rfl hl (by decide) rfl (fun ls hl => ?_)
  refine va_new (ci := 1) (fs := [.int 0, .null, .null, .null, .null, .null]) (C := RX1) (T := TX1) (N := 6) hx hb hts in_X1 tyX1 tyX1_ok hown (hts _ q202) (hts _ q203) (hts _ q22) hK hP hD hS hA rfl (fun j hj => by rcases (show j = 0 ∨ j = 1 ∨ j = 2 ∨ j = 3 ∨ j = 4 ∨ j = 5 by omega) with rfl | rfl | rfl | rfl | rfl | rfl <;> rfl) (Nat.le_of_ble_eq_true rfl) (Nat.le_of_ble_eq_true rfl) dL_law_8 (fun a1 H hP hD hS => ?_)
  have hP : va_P (dC, dI) vwCl ((wX0 qa (nI 0) z_ z_ z_ z_ z_ z_ z_ z_ z_ z_ (nI 0) z_) ++ [(a1, .inr (1, [.int 0, .null, .null, .null, .null, .null]))]) H := hP
  have hD : va_D (fun q : Nat => s.heap.size ≤ q) ((wX0 qa (nI 0) z_ z_ z_ z_ z_ z_ z_ z_ z_ z_ (nI 0) z_) ++ [(a1, .inr (1, [.int 0, .null, .null, .null, .null, .null]))]) := hD
  refine W.widen (k := 13) (n := 613) (Nat.le_of_ble_eq_true rfl) (Nat.le_of_ble_eq_true rfl) ?_
  refine lv_dup hx hb dL_law_11 rfl ?_
  have hPc : va_P (dC, dI) vwCl [(a1, .inr (1, [.int 0, .null, .null, .null, .null, .null]))] H := hP.sub [12] rfl
  have hDc : va_D (fun q : Nat => s.heap.size ≤ q) [(a1, .inr (1, [.int 0, .null, .null, .null, .null, .null]))] := hD.sub [12] (by decide) rfl
  have hFc := va_free (wc := [(a1, .inr (1, [.int 0, .null, .null, .null, .null, .null]))]) hD hS hA [12] rfl
  refine va_callv (va_runI (As := []) (rest := [.ref a1]) ⟨hx, hb, hml, hown, hts⟩ (metX1_init l (dC, dI) a1 ci cz H.size) (cwI 0 hts (lw_meth q206) rfl rfl rfl (hts _ q22) (hts _ q204) (hts _ q205) rfl (by decide +kernel) ⟨Nat.le_of_ble_eq_true rfl, Nat.le_of_ble_eq_true rfl⟩) ⟨fun a U g mk q => by obtain ⟨q0, q1, qP, qK, qD⟩ := q; exact ⟨q0, q1, qP, va_K.moved (u := U) (U := U.calling g mk a) (Vm.Alike.refl U.vm) qK, qD⟩, fun U hU hW => ⟨rfl, by rw [hU], by rw [hU]; exact hPc, va_K.moved hW.alike hK, hDc.weaken (fun _ _ _ _ => trivial)⟩⟩ rfl rfl hl.1 rfl (lv_room (Nat.le_of_ble_eq_true rfl)) dL_law_12 ⟨Nat.le_of_ble_eq_true rfl, Nat.le_of_ble_eq_true rfl⟩) hS (fun q _ h => hFc q h) hFc (fun qb t H1 locs ht hvm hw hB hz1 hk1 hS => ?_)
  obtain ⟨hP1, hK1, hD1⟩ := hB
  rw [ht] at hP1
  obtain ⟨e0qb, e1qb, e2qb⟩ := hw
  obtain ⟨hPf, hDf⟩ := va_join (wr := (wX0 qa (nI 0) z_ z_ z_ z_ z_ z_ z_ z_ z_ z_ (nI 0) z_)) (w1 := (wX1 qb (nI 0) z_ z_ z_ z_ z_)) hP hD [12] [0, 1, 2, 3, 4, 5, 6, 7, 8, 9, 10, 11] rfl rfl (by decide) (by decide) hk1 hFc hP1 hD1
  clear hP1 hD1 hk1 hz1 hPc hDc hFc hK1 hvm ht
  generalize H1 = H at hPf hS ⊢
  refine W.widen (k := 18) (n := 878) (Nat.le_of_ble_eq_true rfl) (Nat.le_of_ble_eq_true rfl) ?_
  refine lv_astore_n (lv' := [(2, .ref a1), (1, .ref a0), (0, .ref b)]) hx hb dL_law_15 rfl hl (by decide) rfl (fun ls hl => ?_)
  refine lv_iconst (v := nI 0) hx hb dL_law_16 kI_0 ?_
  refine lv_istore_n (lv' := [(3, .int (nI 0)), (2, .ref a1), (1, .ref a0), (0, .ref b)]) hx hb dL_law_17 rfl hl (by decide) rfl (fun ls hl => ?_)
  have hl := lv_sub hl [3, 2, 1, 0] rfl
  subst e0qa; subst e0qb
  subst e1qa; subst e2qa
  obtain ⟨a, ea⟩ : ∃ a : Nat → Nat, a = fun k => if k < 30 then qa k else if k < 40 then qb k else b := ⟨_, rfl⟩
  have w0 : (wX0 a (nI 0) z_ z_ z_ z_ z_ z_ z_ z_ z_ z_ (nI 0) z_) = (wX0 qa (nI 0) z_ z_ z_ z_ z_ z_ z_ z_ z_ z_ (nI 0) z_) := by rw [ea]; rfl
  have w1 : (wX1 a (nI 0) z_ z_ z_ z_ z_) = (wX1 qb (nI 0) z_ z_ z_ z_ z_) := by
    rw [ea]
    show wX1 (fun k => if k < 30 then qa k else if k < 40 then qb k else b) (nI 0) z_ z_ z_ z_ z_ = _
    unfold wX1
    rw [e1qb, e2qb]
    rfl
  have n0 : qa 0 = a 0 := by rw [ea]; rfl
  have n30 : qb 30 = a 30 := by rw [ea]; rfl
  have n40 : b = a 40 := by rw [ea]; rfl
  have n20 : qa 20 = a 20 := by rw [ea]; rfl
  have n21 : qa 21 = a 21 := by rw [ea]; rfl
  rw [← w0, ← w1] at hPf hDf
  have hloop := law_loop (K := (p, l, e, room_1, s, m, #[Value.ref b], below, meth, c, lw_Z below #[Value.ref b] s, (fun q : Nat => s.heap.size ≤ q), (dC, dI), (18, 878), 7)) (a := a) (L := L) (xs := xs) (by rw [← n40]; exact ⟨hX, hbl, hbA⟩) hL rfl (fun lv w ok H locs ls hP hD hS hl => by
    refine va_forget (fun q hq => hS.2.2 q hq) ?_
    refine W.widen (k := 600000) (n := 7290000) (Nat.le_of_ble_eq_true rfl) (Nat.le_of_ble_eq_true rfl) ?_
    exact lw_ret hx hb hr hlocks dL_law_397) 0 (by omega) 0 _ _ _ _ _ _ _ _ _ z_ z_ z_ (nI 0) z_ _ _ sim_0
  exact hloop ⟨hx, hb, hml, hown, hts, by rw [← n20, ← n21]; exact hK, hA, ⟨Nat.le_of_ble_eq_true rfl, Nat.le_of_ble_eq_true rfl⟩, ⟨Nat.le_of_ble_eq_true rfl, Nat.le_of_ble_eq_true rfl⟩, hlocks⟩ H _ ls hPf hDf hS (by rw [← n0, ← n30, ← n40]; exact hl)
-- ===== YOUR PART ENDS =====
set_option maxHeartbeats 4000000 in
theorem lw_walk (l : Launch) (b : Addr) (xs : List Int32) : MetFree l x (headSpec (Jvm.Cond.code x code maxLocals ret :: tables_1) room_1) (lw_P b xs) (fun _ _ _ _ _ => True) lw_Q := by
  refine MetFree.of_bodyS (code := code) (maxLocals := maxLocals) (ret := ret) (by decide) ?_ ?_
  · intro args s m h hn
    obtain ⟨meth, c, h1, h2, h3, h4, h5, h6, -, -⟩ := Cond.code_spec hn (atoms_spec (ws := Jvm.Cond.code x code maxLocals ret :: tables_1) h _ List.mem_cons_self)
    exact ⟨meth, c, h1, h2, h3, h4, h5, h6⟩
  · intro p e s m args below meth c s₁ B hml0 hP _
    obtain ⟨rfl, hx, hbd, hgv⟩ := hP
    obtain ⟨scr, harrAt, hlist, hof, hsmall⟩ := hx
    obtain ⟨hcb, hkn, -, -⟩ := State.arrayAt?_spec harrAt
    have hown : s.vm.findClass R_law = some m.cls := findClass_of_methodNamed B.named
    have hts0 : ∀ c ∈ (Jvm.Cond.code x code maxLocals ret :: tables_1), c.before #[Value.ref b] s = true := atoms_spec (ws := Jvm.Cond.code x code maxLocals ret :: tables_1) B.pre
    have hts : ∀ w ∈ lw_tbl, w.before #[Value.ref b] s = true := k2_hts_sels lw_privs (fun w hw => hts0 w (List.mem_cons_of_mem _ hw)) lw_privs_ok
    have hml : c.maxLocals = 4 := B.maxLocals_eq (hts0 _ List.mem_cons_self)
    have X₀ : Stand p l e room_1 s m #[Value.ref b] below meth c s₁ [] 0 0 := Stand.of_body B
    have hh0 : s₁.heap = s.heap := by rw [B.state]; rfl
    have hsz : scr.slots.size = xs.length := by rw [← Array.length_toList, hlist, List.length_map]
    have hval : ∀ j : Nat, j < xs.length → scr.slots[j]? = some (.int (xs.getD j 0)) := fun j hj => by
      rw [← Array.getElem?_toList, hlist]
      simp [hj]
    have hbl : b < s.heap.size := (Array.getElem?_eq_some_iff.mp hcb).1
    have hX : va_X b xs.length (fun j => xs.getD j 0) s s.heap := ⟨scr, hcb, hof, hkn, hsz, hval⟩
    have K : W p l e room_1 s m #[Value.ref b] below meth c s₁.heap [] 0 0 (lw_Z below #[Value.ref b] s) (entryFrame m ([Value.ref b] : List Value).toArray 4) := by
      rw [hh0]
      exact whole_start l hbd ⟨B.exec, B.bytes, B.returns, hml, hown, hts, hX, hbl, B.notSynchronized, hgv⟩
    obtain ⟨t, a1, o, b1, b2, b3⟩ := K s₁ rfl X₀
    exact ⟨t, o, a1, b1, b2, b3⟩
theorem lw_pre_spec {args : Array Value} {s : State} (h : (Jvm.Cond.and given_1 narrow_1).before args s = true) (hr : rest_1_c.before args s = true) : ∃ (b : Addr) (xs : List Int32), lw_P b xs args s := by
  have hs := flat_of_before _ h
  have hq := flat_of_before _ hr
  have hc : (Cond.count 1).before args s = true := hs _ (by decide +kernel)
  have harr : (Cond.arrayOf (.arg 0) .int).before args s = true := hs _ (by decide +kernel)
  have hle : (Cond.le (.length (.arg 0)) (.int 256)).before args s = true := hs _ (by decide +kernel)
  have hlen : (Cond.isInt (.length (.arg 0))).before args s = true := hq _ (by decide +kernel)
  have hall : (Cond.all (.arg 0) (.isInt (.elem (.arg 0) (.index 0)))).before args s = true := hq _ (by decide +kernel)
  obtain ⟨b, xs, hb, hx⟩ := State.ints_of_pre rfl harr hlen hall
  have hsm : xs.length < 2 ^ 31 := hx.choose_spec.2.2.2
  have hev : (Term.length (.arg 0)).eval args s none [] s = some (.int xs.length.toInt32) := hx.length_eval hb
  have hv := Cond.le_ints hev (show (Term.int 256).eval args s none [] s = some (.int 256) from rfl)
  have hd : xs.length.toInt32 ≤ 256 := by
    simpa [Cond.before, Cond.holds, hv] using hle
  have hN : xs.length ≤ 256 := (Int32.ofNat_le_ofNat hsm (by decide)).mp (show Int32.ofNat xs.length ≤ Int32.ofNat 256 from hd)
  exact ⟨b, xs, Cond.one_arg hc (show args[0]? = some (.ref b) from hb), hx, hN, h⟩
theorem lw_comes (l : Launch) : Comes l x (Jvm.Cond.code x code maxLocals ret :: tables_1) room_1 (fun tb e args s => Calls_1 tb e args s ∧ rest_1 tb e args s ∧ Pre_1 tb e args s)
    (fun _ _ args s o t => lw_Q args s o t) := by
  intro p e ha hc hk s m args below hf hfit hheap happ hpre
  obtain ⟨b, xs, hP⟩ := lw_pre_spec hpre.2.2 hpre.2.1
  obtain ⟨k, o, h1, h2, h3, hQ⟩ := lw_walk l b xs p e ha hc hk s m args below hf ((Spec.applies_iff_loose hf).mp happ).1 hP trivial
  exact ⟨k, o, h1, h2, h3, hQ⟩
theorem lw_frame {s t : State} {o : Outcome} {args : Array Value} (h : Framed s o t [] 600000 7290000) :
    Framed s o t (fieldLocs frame_1_writes args s ++ arrayLocs frame_1_arrays args s ++ staticLocs frame_1_statics s) 600000 7290000 := h
theorem lw_limb (L : Cond) (hL : ∀ (args : Array Value) (s t : State), L.after args s (.returned (some (.int 1))) t = true) :
    ArmFor flags0 classFile x code maxLocals ret World_1 tables_1 room_1 Calls_1 rest_1 Pre_1
      (fun tb e a s o t => postC L tb e a s o t ∧ Framed s o t (fieldLocs frame_1_writes a s ++ arrayLocs frame_1_arrays a s ++ staticLocs frame_1_statics s) 600000 7290000) := by
  intro l _ _ _ p e ha hc hk s m args below hf hfit hheap happ hpre
  obtain ⟨k, o, h1, h2, h3, rfl, hF⟩ := lw_comes l p e ha hc hk s m args below hf hfit hheap happ hpre
  exact ⟨k, _, h1, h2, h3, hL args s _, lw_frame hF⟩
theorem i_vc : Claimed_1_1 ∧ Claimed_1_2 := ⟨lw_limb limb_1_1 (fun args s t => by simp [limb_1_1, Cond.after, Cond.holds, Cond.value]), lw_limb limb_1_2 (fun args s t => Cond.after_iff.mpr (by
  first | (rw [show limb_1_2 = Cond.eq .result (.int 1) from rfl, Cond.eq_ints (x := 1) (y := 1) rfl rfl]; simp; done) | (simp [limb_1_2, Cond.value, Term.eval]; done)))⟩
end
