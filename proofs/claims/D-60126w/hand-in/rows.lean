section
-- ===== PART A: goes FIRST, ahead of the names: the tables' words, and 'selects' of the private methods out of them =====
/-- a private method of a class that the tables say can be made, by its rows of tables_1 -/
def lw_okq (q : MethodName × Nat) : Prop := (q.1.cls ≠ "java/lang/invoke/MethodHandle" ∧ q.1.cls ≠ "java/lang/invoke/VarHandle") ∧ Cond.instantiable q.1.cls q.2 ∈ tables_1 ∧ Cond.privateMethod q.1 ∈ tables_1 ∧ Cond.instanceMethod q.1 ∈ tables_1
set_option maxRecDepth 100000
theorem lw_t1 {w : Cond} (h : w ∈ tables_1_1) : w ∈ tables_1 := List.mem_append_left _ h
theorem lw_t2 {w : Cond} (h : w ∈ tables_1_2) : w ∈ tables_1 := List.mem_append_right _ h
theorem lw_p0 : lw_okq (⟨"FuzzyTypeahead", "layOut", "()V"⟩, 19) := ⟨⟨by decide +kernel, by decide +kernel⟩, lw_t1 (List.mem_of_getElem? (i := 4) rfl), lw_t1 (List.mem_of_getElem? (i := 12) rfl), lw_t1 (List.mem_of_getElem? (i := 13) rfl)⟩
theorem lw_p1 : lw_okq (⟨"FuzzyTypeahead", "firstLayer", "()V"⟩, 19) := ⟨⟨by decide +kernel, by decide +kernel⟩, lw_t1 (List.mem_of_getElem? (i := 4) rfl), lw_t1 (List.mem_of_getElem? (i := 16) rfl), lw_t1 (List.mem_of_getElem? (i := 17) rfl)⟩
theorem lw_p2 : lw_okq (⟨"FuzzyTypeahead", "inTree", "(I)Z"⟩, 19) := ⟨⟨by decide +kernel, by decide +kernel⟩, lw_t1 (List.mem_of_getElem? (i := 4) rfl), lw_t1 (List.mem_of_getElem? (i := 20) rfl), lw_t1 (List.mem_of_getElem? (i := 21) rfl)⟩
theorem lw_p3 : lw_okq (⟨"FuzzyTypeahead", "capped", "(I)I"⟩, 19) := ⟨⟨by decide +kernel, by decide +kernel⟩, lw_t1 (List.mem_of_getElem? (i := 4) rfl), lw_t1 (List.mem_of_getElem? (i := 24) rfl), lw_t1 (List.mem_of_getElem? (i := 25) rfl)⟩
theorem lw_p4 : lw_okq (⟨"FuzzyTypeahead", "nextLayer", "(I)V"⟩, 19) := ⟨⟨by decide +kernel, by decide +kernel⟩, lw_t1 (List.mem_of_getElem? (i := 4) rfl), lw_t1 (List.mem_of_getElem? (i := 28) rfl), lw_t1 (List.mem_of_getElem? (i := 29) rfl)⟩
theorem lw_p5 : lw_okq (⟨"FuzzyTypeahead", "step", "(IIII)I"⟩, 19) := ⟨⟨by decide +kernel, by decide +kernel⟩, lw_t1 (List.mem_of_getElem? (i := 4) rfl), lw_t1 (List.mem_of_getElem? (i := 32) rfl), lw_t1 (List.mem_of_getElem? (i := 33) rfl)⟩
theorem lw_p6 : lw_okq (⟨"FuzzyTypeahead", "rank", "()V"⟩, 19) := ⟨⟨by decide +kernel, by decide +kernel⟩, lw_t1 (List.mem_of_getElem? (i := 4) rfl), lw_t1 (List.mem_of_getElem? (i := 36) rfl), lw_t1 (List.mem_of_getElem? (i := 37) rfl)⟩
theorem lw_p7 : lw_okq (⟨"FuzzyTypeahead", "insert", "(II)V"⟩, 19) := ⟨⟨by decide +kernel, by decide +kernel⟩, lw_t1 (List.mem_of_getElem? (i := 4) rfl), lw_t1 (List.mem_of_getElem? (i := 40) rfl), lw_t1 (List.mem_of_getElem? (i := 41) rfl)⟩
theorem lw_p8 : lw_okq (⟨"FuzzyTypeahead", "before", "(III)Z"⟩, 19) := ⟨⟨by decide +kernel, by decide +kernel⟩, lw_t1 (List.mem_of_getElem? (i := 4) rfl), lw_t1 (List.mem_of_getElem? (i := 44) rfl), lw_t1 (List.mem_of_getElem? (i := 45) rfl)⟩
theorem lw_p9 : lw_okq (⟨"FuzzyTypeahead", "badLetter", "(I)Z"⟩, 19) := ⟨⟨by decide +kernel, by decide +kernel⟩, lw_t1 (List.mem_of_getElem? (i := 4) rfl), lw_t1 (List.mem_of_getElem? (i := 111) rfl), lw_t1 (List.mem_of_getElem? (i := 112) rfl)⟩
theorem lw_p10 : lw_okq (⟨"FuzzyTypeahead", "draftNode", "()I"⟩, 19) := ⟨⟨by decide +kernel, by decide +kernel⟩, lw_t1 (List.mem_of_getElem? (i := 4) rfl), lw_t1 (List.mem_of_getElem? (i := 123) rfl), lw_t1 (List.mem_of_getElem? (i := 124) rfl)⟩
theorem lw_p11 : lw_okq (⟨"FuzzyTypeahead", "makeChild", "(II)I"⟩, 19) := ⟨⟨by decide +kernel, by decide +kernel⟩, lw_t1 (List.mem_of_getElem? (i := 4) rfl), lw_t1 (List.mem_of_getElem? (i := 127) rfl), lw_t1 (List.mem_of_getElem? (i := 128) rfl)⟩
theorem lw_p12 : lw_okq (⟨"FuzzyTypeahead", "freeNode", "()I"⟩, 19) := ⟨⟨by decide +kernel, by decide +kernel⟩, lw_t1 (List.mem_of_getElem? (i := 4) rfl), lw_t1 (List.mem_of_getElem? (i := 131) rfl), lw_t1 (List.mem_of_getElem? (i := 132) rfl)⟩
theorem lw_p13 : lw_okq (⟨"FuzzyTypeahead", "badRank", "(I)Z"⟩, 19) := ⟨⟨by decide +kernel, by decide +kernel⟩, lw_t1 (List.mem_of_getElem? (i := 4) rfl), lw_t1 (List.mem_of_getElem? (i := 171) rfl), lw_t1 (List.mem_of_getElem? (i := 172) rfl)⟩
theorem lw_p14 : lw_okq (⟨"FuzzyTypeahead", "queryNode", "()I"⟩, 19) := ⟨⟨by decide +kernel, by decide +kernel⟩, lw_t1 (List.mem_of_getElem? (i := 4) rfl), lw_t1 (List.mem_of_getElem? (i := 191) rfl), lw_t1 (List.mem_of_getElem? (i := 192) rfl)⟩
theorem lw_p15 : lw_okq (⟨"FuzzyTypeaheadModel", "append", "(II)I"⟩, 6) := ⟨⟨by decide +kernel, by decide +kernel⟩, lw_t1 (List.mem_of_getElem? (i := 202) rfl), lw_t1 (List.mem_of_getElem? (i := 231) rfl), lw_t1 (List.mem_of_getElem? (i := 232) rfl)⟩
def lw_privs_1 : List (MethodName × Nat) := [(⟨"FuzzyTypeahead", "layOut", "()V"⟩, 19), (⟨"FuzzyTypeahead", "firstLayer", "()V"⟩, 19), (⟨"FuzzyTypeahead", "inTree", "(I)Z"⟩, 19), (⟨"FuzzyTypeahead", "capped", "(I)I"⟩, 19), (⟨"FuzzyTypeahead", "nextLayer", "(I)V"⟩, 19), (⟨"FuzzyTypeahead", "step", "(IIII)I"⟩, 19), (⟨"FuzzyTypeahead", "rank", "()V"⟩, 19), (⟨"FuzzyTypeahead", "insert", "(II)V"⟩, 19), (⟨"FuzzyTypeahead", "before", "(III)Z"⟩, 19), (⟨"FuzzyTypeahead", "badLetter", "(I)Z"⟩, 19), (⟨"FuzzyTypeahead", "draftNode", "()I"⟩, 19), (⟨"FuzzyTypeahead", "makeChild", "(II)I"⟩, 19), (⟨"FuzzyTypeahead", "freeNode", "()I"⟩, 19), (⟨"FuzzyTypeahead", "badRank", "(I)Z"⟩, 19), (⟨"FuzzyTypeahead", "queryNode", "()I"⟩, 19), (⟨"FuzzyTypeaheadModel", "append", "(II)I"⟩, 6)]
theorem lw_r1 : ∀ q ∈ lw_privs_1, lw_okq q := List.forall_mem_cons.mpr ⟨lw_p0, List.forall_mem_cons.mpr ⟨lw_p1, List.forall_mem_cons.mpr ⟨lw_p2, List.forall_mem_cons.mpr ⟨lw_p3, List.forall_mem_cons.mpr ⟨lw_p4, List.forall_mem_cons.mpr ⟨lw_p5, List.forall_mem_cons.mpr ⟨lw_p6, List.forall_mem_cons.mpr ⟨lw_p7, List.forall_mem_cons.mpr ⟨lw_p8, List.forall_mem_cons.mpr ⟨lw_p9, List.forall_mem_cons.mpr ⟨lw_p10, List.forall_mem_cons.mpr ⟨lw_p11, List.forall_mem_cons.mpr ⟨lw_p12, List.forall_mem_cons.mpr ⟨lw_p13, List.forall_mem_cons.mpr ⟨lw_p14, List.forall_mem_cons.mpr ⟨lw_p15, fun _ h => absurd h List.not_mem_nil⟩⟩⟩⟩⟩⟩⟩⟩⟩⟩⟩⟩⟩⟩⟩⟩
theorem lw_p16 : lw_okq (⟨"FuzzyTypeaheadModel", "drafted", "()I"⟩, 6) := ⟨⟨by decide +kernel, by decide +kernel⟩, lw_t1 (List.mem_of_getElem? (i := 202) rfl), lw_t2 (List.mem_of_getElem? (i := 3) rfl), lw_t2 (List.mem_of_getElem? (i := 4) rfl)⟩
theorem lw_p17 : lw_okq (⟨"FuzzyTypeaheadModel", "begins", "(II)Z"⟩, 6) := ⟨⟨by decide +kernel, by decide +kernel⟩, lw_t1 (List.mem_of_getElem? (i := 202) rfl), lw_t2 (List.mem_of_getElem? (i := 7) rfl), lw_t2 (List.mem_of_getElem? (i := 8) rfl)⟩
theorem lw_p18 : lw_okq (⟨"FuzzyTypeaheadModel", "copy", "(II)V"⟩, 6) := ⟨⟨by decide +kernel, by decide +kernel⟩, lw_t1 (List.mem_of_getElem? (i := 202) rfl), lw_t2 (List.mem_of_getElem? (i := 11) rfl), lw_t2 (List.mem_of_getElem? (i := 12) rfl)⟩
theorem lw_p19 : lw_okq (⟨"FuzzyTypeaheadModel", "isOffered", "(I)Z"⟩, 6) := ⟨⟨by decide +kernel, by decide +kernel⟩, lw_t1 (List.mem_of_getElem? (i := 202) rfl), lw_t2 (List.mem_of_getElem? (i := 47) rfl), lw_t2 (List.mem_of_getElem? (i := 48) rfl)⟩
theorem lw_p20 : lw_okq (⟨"FuzzyTypeaheadModel", "reach", "(I)I"⟩, 6) := ⟨⟨by decide +kernel, by decide +kernel⟩, lw_t1 (List.mem_of_getElem? (i := 202) rfl), lw_t2 (List.mem_of_getElem? (i := 51) rfl), lw_t2 (List.mem_of_getElem? (i := 52) rfl)⟩
theorem lw_p21 : lw_okq (⟨"FuzzyTypeaheadModel", "fill", "(I)V"⟩, 6) := ⟨⟨by decide +kernel, by decide +kernel⟩, lw_t1 (List.mem_of_getElem? (i := 202) rfl), lw_t2 (List.mem_of_getElem? (i := 55) rfl), lw_t2 (List.mem_of_getElem? (i := 56) rfl)⟩
theorem lw_p22 : lw_okq (⟨"FuzzyTypeaheadModel", "least", "(II)I"⟩, 6) := ⟨⟨by decide +kernel, by decide +kernel⟩, lw_t1 (List.mem_of_getElem? (i := 202) rfl), lw_t2 (List.mem_of_getElem? (i := 59) rfl), lw_t2 (List.mem_of_getElem? (i := 60) rfl)⟩
theorem lw_p23 : lw_okq (⟨"FuzzyTypeaheadModel", "wordAt", "(I)I"⟩, 6) := ⟨⟨by decide +kernel, by decide +kernel⟩, lw_t1 (List.mem_of_getElem? (i := 202) rfl), lw_t2 (List.mem_of_getElem? (i := 67) rfl), lw_t2 (List.mem_of_getElem? (i := 68) rfl)⟩
theorem lw_p24 : lw_okq (⟨"FuzzyTypeaheadModel", "rankOf", "(I)I"⟩, 6) := ⟨⟨by decide +kernel, by decide +kernel⟩, lw_t1 (List.mem_of_getElem? (i := 202) rfl), lw_t2 (List.mem_of_getElem? (i := 71) rfl), lw_t2 (List.mem_of_getElem? (i := 72) rfl)⟩
theorem lw_p25 : lw_okq (⟨"FuzzyTypeaheadModel", "ranksBefore", "(II)Z"⟩, 6) := ⟨⟨by decide +kernel, by decide +kernel⟩, lw_t1 (List.mem_of_getElem? (i := 202) rfl), lw_t2 (List.mem_of_getElem? (i := 75) rfl), lw_t2 (List.mem_of_getElem? (i := 76) rfl)⟩
theorem lw_p26 : lw_okq (⟨"FuzzyTypeaheadModel", "before", "(II)Z"⟩, 6) := ⟨⟨by decide +kernel, by decide +kernel⟩, lw_t1 (List.mem_of_getElem? (i := 202) rfl), lw_t2 (List.mem_of_getElem? (i := 79) rfl), lw_t2 (List.mem_of_getElem? (i := 80) rfl)⟩
def lw_privs_2 : List (MethodName × Nat) := [(⟨"FuzzyTypeaheadModel", "drafted", "()I"⟩, 6), (⟨"FuzzyTypeaheadModel", "begins", "(II)Z"⟩, 6), (⟨"FuzzyTypeaheadModel", "copy", "(II)V"⟩, 6), (⟨"FuzzyTypeaheadModel", "isOffered", "(I)Z"⟩, 6), (⟨"FuzzyTypeaheadModel", "reach", "(I)I"⟩, 6), (⟨"FuzzyTypeaheadModel", "fill", "(I)V"⟩, 6), (⟨"FuzzyTypeaheadModel", "least", "(II)I"⟩, 6), (⟨"FuzzyTypeaheadModel", "wordAt", "(I)I"⟩, 6), (⟨"FuzzyTypeaheadModel", "rankOf", "(I)I"⟩, 6), (⟨"FuzzyTypeaheadModel", "ranksBefore", "(II)Z"⟩, 6), (⟨"FuzzyTypeaheadModel", "before", "(II)Z"⟩, 6)]
theorem lw_r2 : ∀ q ∈ lw_privs_2, lw_okq q := List.forall_mem_cons.mpr ⟨lw_p16, List.forall_mem_cons.mpr ⟨lw_p17, List.forall_mem_cons.mpr ⟨lw_p18, List.forall_mem_cons.mpr ⟨lw_p19, List.forall_mem_cons.mpr ⟨lw_p20, List.forall_mem_cons.mpr ⟨lw_p21, List.forall_mem_cons.mpr ⟨lw_p22, List.forall_mem_cons.mpr ⟨lw_p23, List.forall_mem_cons.mpr ⟨lw_p24, List.forall_mem_cons.mpr ⟨lw_p25, List.forall_mem_cons.mpr ⟨lw_p26, fun _ h => absurd h List.not_mem_nil⟩⟩⟩⟩⟩⟩⟩⟩⟩⟩⟩
def lw_privs : List (MethodName × Nat) := lw_privs_1 ++ (lw_privs_2)
def lw_tbl : List Cond := k2_sels lw_privs ++ tables_1
theorem lw_privs_ok : ∀ q ∈ lw_privs, lw_okq q := by
  show ∀ q ∈ lw_privs_1 ++ (lw_privs_2), lw_okq q
  exact List.forall_mem_append.mpr ⟨lw_r1, lw_r2⟩
-- ===== ONE list of words for every method: the tables' words that hold all through a run =====
def lw_all : List Cond := lw_tbl.filter goodWord
/-- a word of the tables by its place: claim/WORDS.tsv -/
theorem lw_w {w : Cond} (i : Nat) (h : lw_tbl[i]? = some w) (g : goodWord w = true) : w ∈ lw_all := List.mem_filter.mpr ⟨List.mem_of_getElem? h, g⟩
theorem lw_all_tbl {w : Cond} (h : w ∈ lw_all) : w ∈ lw_tbl := (List.mem_filter.mp h).1
theorem lw_self : GoodIn lw_all lw_all := fun w h => ⟨h, good_of_word (List.mem_filter.mp h).2⟩
/-- a class's field words, by their places -/
theorem lw_in (ws : List Cond) (ps : List Nat) (hp : ws = ps.filterMap (fun i => lw_tbl[i]?)) (hg : ws.all goodWord = true) : ∀ w ∈ ws, w ∈ lw_all := by
  intro w h
  have h1 := List.all_eq_true.mp hg w h
  rw [hp] at h
  obtain ⟨i, -, hi⟩ := List.mem_filterMap.mp h
  exact lw_w i hi h1
/-- the words of a contract for the method y with code b, L locals, answer r -/
abbrev ws_ (y : MethodName) (b : ByteArray) (L : Nat) (r : Option FieldType) : List Cond := Cond.code y b L r :: lw_all
theorem lw_meth {y : MethodName} {b : ByteArray} {L : Nat} {r : Option FieldType} (h : Cond.code y b L r ∈ lw_all) : GoodIn lw_all (ws_ y b L r) := by
  intro w hw
  rcases List.mem_cons.mp hw with e | e
  · rw [e]
    exact lw_self _ h
  · exact lw_self _ e
theorem lw_app {a c : List Cond} (ha : ∀ w ∈ a, w ∈ lw_all) (hc : GoodIn lw_all c) : GoodIn lw_all (a ++ c) := by
  intro w hw
  rcases List.mem_append.mp hw with e | e
  · exact lw_self w (ha w e)
  · exact hc w e
/-- what a call through an object asks: cwV n hts (lw_V ..) -/
theorem lw_V {own : String} {idx : Nat} {C : String} {y : MethodName} {b : ByteArray} {L : Nat} {r : Option FieldType} (h1 : Cond.methodLink own idx y ∈ lw_all) (h2 : Cond.instanceMethod y ∈ lw_all) (h3 : Cond.selects C y y ∈ lw_all) (h4 : Cond.initialized C ∈ lw_all) (h5 : Cond.code y b L r ∈ lw_all) : GoodIn lw_all (wsV own idx C y (ws_ y b L r)) := by
  refine lw_app ?_ (lw_meth h5)
  intro w hw
  simp only [List.mem_cons, List.not_mem_nil, or_false] at hw
  rcases hw with e | e | e | e
  · rw [e]; exact h1
  · rw [e]; exact h2
  · rw [e]; exact h3
  · rw [e]; exact h4
/-- what a static call asks: va_cwS n hts (lw_S ..) -/
theorem lw_S {own : String} {idx : Nat} {y : MethodName} {b : ByteArray} {L : Nat} {r : Option FieldType} (h1 : Cond.methodLink own idx y ∈ lw_all) (h2 : Cond.static y ∈ lw_all) (h3 : Cond.initialized y.cls ∈ lw_all) (h4 : Cond.code y b L r ∈ lw_all) : GoodIn lw_all (va_wsS own idx y (ws_ y b L r)) := by
  refine lw_app ?_ (lw_meth h4)
  intro w hw
  simp only [List.mem_cons, List.not_mem_nil, or_false] at hw
  rcases hw with e | e | e
  · rw [e]; exact h1
  · rw [e]; exact h2
  · rw [e]; exact h3
/-- the words of a contract for a method WITH HANDLERS (hh: its table) -/
abbrev wsW_ (y : MethodName) (b : ByteArray) (L : Nat) (r : Option FieldType) (hh : List (Nat × Nat × Nat × Nat)) : List Cond := Cond.codeWith y b L r hh :: lw_all
theorem lw_methW {y : MethodName} {b : ByteArray} {L : Nat} {r : Option FieldType} {hh : List (Nat × Nat × Nat × Nat)} (h : Cond.codeWith y b L r hh ∈ lw_all) : GoodIn lw_all (wsW_ y b L r hh) := by
  intro w hw
  rcases List.mem_cons.mp hw with e | e
  · rw [e]
    exact lw_self _ h
  · exact lw_self _ e
/-- any list of words by their places (lw_in), good -/
theorem lw_good {ws : List Cond} (h : ∀ w ∈ ws, w ∈ lw_all) : GoodIn lw_all ws := fun w hw => lw_self w (h w hw)
/-- what a call of a method with handlers asks: vx_cwVW n hts (lw_VW ..), vx_cwSW n hts (lw_SW ..) -/
theorem lw_VW {own : String} {idx : Nat} {C : String} {y : MethodName} {b : ByteArray} {L : Nat} {r : Option FieldType} {hh : List (Nat × Nat × Nat × Nat)} (h1 : Cond.methodLink own idx y ∈ lw_all) (h2 : Cond.instanceMethod y ∈ lw_all) (h3 : Cond.selects C y y ∈ lw_all) (h4 : Cond.initialized C ∈ lw_all) (h5 : Cond.codeWith y b L r hh ∈ lw_all) : GoodIn lw_all (wsV own idx C y (wsW_ y b L r hh)) := by
  refine lw_app ?_ (lw_methW h5)
  intro w hw
  simp only [List.mem_cons, List.not_mem_nil, or_false] at hw
  rcases hw with e | e | e | e
  · rw [e]; exact h1
  · rw [e]; exact h2
  · rw [e]; exact h3
  · rw [e]; exact h4
theorem lw_SW {own : String} {idx : Nat} {y : MethodName} {b : ByteArray} {L : Nat} {r : Option FieldType} {hh : List (Nat × Nat × Nat × Nat)} (h1 : Cond.methodLink own idx y ∈ lw_all) (h2 : Cond.static y ∈ lw_all) (h3 : Cond.initialized y.cls ∈ lw_all) (h4 : Cond.codeWith y b L r hh ∈ lw_all) : GoodIn lw_all (va_wsS own idx y (wsW_ y b L r hh)) := by
  refine lw_app ?_ (lw_methW h4)
  intro w hw
  simp only [List.mem_cons, List.not_mem_nil, or_false] at hw
  rcases hw with e | e | e
  · rw [e]; exact h1
  · rw [e]; exact h2
  · rw [e]; exact h3
/-- a word by its place in its run of the tables -/
theorem lw_at {r : List Cond} (hr : ∀ w ∈ r, w ∈ lw_tbl) {w : Cond} (i : Nat) (h : r[i]? = some w) : w ∈ lw_tbl := hr w (List.mem_of_getElem? h)
theorem lw_g {w : Cond} (h : w ∈ lw_tbl) (g : goodWord w = true) : w ∈ lw_all := List.mem_filter.mpr ⟨h, g⟩
theorem lw_ms : ∀ w ∈ k2_sels lw_privs, w ∈ lw_tbl := fun w h => show w ∈ k2_sels lw_privs ++ tables_1 from List.mem_append_left _ h
theorem lw_m1 : ∀ w ∈ tables_1_1, w ∈ lw_tbl := fun w h => show w ∈ k2_sels lw_privs ++ tables_1 from List.mem_append_right (k2_sels lw_privs) (show w ∈ tables_1 from List.mem_append_left _ h)
theorem lw_m2 : ∀ w ∈ tables_1_2, w ∈ lw_tbl := fun w h => show w ∈ k2_sels lw_privs ++ tables_1 from List.mem_append_right (k2_sels lw_privs) (show w ∈ tables_1 from List.mem_append_right _ h)
theorem qs0 : (Cond.selects "FuzzyTypeahead" ⟨"FuzzyTypeahead", "layOut", "()V"⟩ ⟨"FuzzyTypeahead", "layOut", "()V"⟩) ∈ lw_all := lw_g (lw_at lw_ms 0 rfl) rfl
theorem qs1 : (Cond.selects "FuzzyTypeahead" ⟨"FuzzyTypeahead", "firstLayer", "()V"⟩ ⟨"FuzzyTypeahead", "firstLayer", "()V"⟩) ∈ lw_all := lw_g (lw_at lw_ms 1 rfl) rfl
theorem qs2 : (Cond.selects "FuzzyTypeahead" ⟨"FuzzyTypeahead", "inTree", "(I)Z"⟩ ⟨"FuzzyTypeahead", "inTree", "(I)Z"⟩) ∈ lw_all := lw_g (lw_at lw_ms 2 rfl) rfl
theorem qs3 : (Cond.selects "FuzzyTypeahead" ⟨"FuzzyTypeahead", "capped", "(I)I"⟩ ⟨"FuzzyTypeahead", "capped", "(I)I"⟩) ∈ lw_all := lw_g (lw_at lw_ms 3 rfl) rfl
theorem qs4 : (Cond.selects "FuzzyTypeahead" ⟨"FuzzyTypeahead", "nextLayer", "(I)V"⟩ ⟨"FuzzyTypeahead", "nextLayer", "(I)V"⟩) ∈ lw_all := lw_g (lw_at lw_ms 4 rfl) rfl
theorem qs5 : (Cond.selects "FuzzyTypeahead" ⟨"FuzzyTypeahead", "step", "(IIII)I"⟩ ⟨"FuzzyTypeahead", "step", "(IIII)I"⟩) ∈ lw_all := lw_g (lw_at lw_ms 5 rfl) rfl
theorem qs6 : (Cond.selects "FuzzyTypeahead" ⟨"FuzzyTypeahead", "rank", "()V"⟩ ⟨"FuzzyTypeahead", "rank", "()V"⟩) ∈ lw_all := lw_g (lw_at lw_ms 6 rfl) rfl
theorem qs7 : (Cond.selects "FuzzyTypeahead" ⟨"FuzzyTypeahead", "insert", "(II)V"⟩ ⟨"FuzzyTypeahead", "insert", "(II)V"⟩) ∈ lw_all := lw_g (lw_at lw_ms 7 rfl) rfl
theorem qs8 : (Cond.selects "FuzzyTypeahead" ⟨"FuzzyTypeahead", "before", "(III)Z"⟩ ⟨"FuzzyTypeahead", "before", "(III)Z"⟩) ∈ lw_all := lw_g (lw_at lw_ms 8 rfl) rfl
theorem qs9 : (Cond.selects "FuzzyTypeahead" ⟨"FuzzyTypeahead", "badLetter", "(I)Z"⟩ ⟨"FuzzyTypeahead", "badLetter", "(I)Z"⟩) ∈ lw_all := lw_g (lw_at lw_ms 9 rfl) rfl
theorem qs10 : (Cond.selects "FuzzyTypeahead" ⟨"FuzzyTypeahead", "draftNode", "()I"⟩ ⟨"FuzzyTypeahead", "draftNode", "()I"⟩) ∈ lw_all := lw_g (lw_at lw_ms 10 rfl) rfl
theorem qs11 : (Cond.selects "FuzzyTypeahead" ⟨"FuzzyTypeahead", "makeChild", "(II)I"⟩ ⟨"FuzzyTypeahead", "makeChild", "(II)I"⟩) ∈ lw_all := lw_g (lw_at lw_ms 11 rfl) rfl
theorem qs12 : (Cond.selects "FuzzyTypeahead" ⟨"FuzzyTypeahead", "freeNode", "()I"⟩ ⟨"FuzzyTypeahead", "freeNode", "()I"⟩) ∈ lw_all := lw_g (lw_at lw_ms 12 rfl) rfl
theorem qs13 : (Cond.selects "FuzzyTypeahead" ⟨"FuzzyTypeahead", "badRank", "(I)Z"⟩ ⟨"FuzzyTypeahead", "badRank", "(I)Z"⟩) ∈ lw_all := lw_g (lw_at lw_ms 13 rfl) rfl
theorem qs14 : (Cond.selects "FuzzyTypeahead" ⟨"FuzzyTypeahead", "queryNode", "()I"⟩ ⟨"FuzzyTypeahead", "queryNode", "()I"⟩) ∈ lw_all := lw_g (lw_at lw_ms 14 rfl) rfl
theorem qs15 : (Cond.selects "FuzzyTypeaheadModel" ⟨"FuzzyTypeaheadModel", "append", "(II)I"⟩ ⟨"FuzzyTypeaheadModel", "append", "(II)I"⟩) ∈ lw_all := lw_g (lw_at lw_ms 15 rfl) rfl
theorem qs16 : (Cond.selects "FuzzyTypeaheadModel" ⟨"FuzzyTypeaheadModel", "drafted", "()I"⟩ ⟨"FuzzyTypeaheadModel", "drafted", "()I"⟩) ∈ lw_all := lw_g (lw_at lw_ms 16 rfl) rfl
theorem qs17 : (Cond.selects "FuzzyTypeaheadModel" ⟨"FuzzyTypeaheadModel", "begins", "(II)Z"⟩ ⟨"FuzzyTypeaheadModel", "begins", "(II)Z"⟩) ∈ lw_all := lw_g (lw_at lw_ms 17 rfl) rfl
theorem qs18 : (Cond.selects "FuzzyTypeaheadModel" ⟨"FuzzyTypeaheadModel", "copy", "(II)V"⟩ ⟨"FuzzyTypeaheadModel", "copy", "(II)V"⟩) ∈ lw_all := lw_g (lw_at lw_ms 18 rfl) rfl
theorem qs19 : (Cond.selects "FuzzyTypeaheadModel" ⟨"FuzzyTypeaheadModel", "isOffered", "(I)Z"⟩ ⟨"FuzzyTypeaheadModel", "isOffered", "(I)Z"⟩) ∈ lw_all := lw_g (lw_at lw_ms 19 rfl) rfl
theorem qs20 : (Cond.selects "FuzzyTypeaheadModel" ⟨"FuzzyTypeaheadModel", "reach", "(I)I"⟩ ⟨"FuzzyTypeaheadModel", "reach", "(I)I"⟩) ∈ lw_all := lw_g (lw_at lw_ms 20 rfl) rfl
theorem qs21 : (Cond.selects "FuzzyTypeaheadModel" ⟨"FuzzyTypeaheadModel", "fill", "(I)V"⟩ ⟨"FuzzyTypeaheadModel", "fill", "(I)V"⟩) ∈ lw_all := lw_g (lw_at lw_ms 21 rfl) rfl
theorem qs22 : (Cond.selects "FuzzyTypeaheadModel" ⟨"FuzzyTypeaheadModel", "least", "(II)I"⟩ ⟨"FuzzyTypeaheadModel", "least", "(II)I"⟩) ∈ lw_all := lw_g (lw_at lw_ms 22 rfl) rfl
theorem qs23 : (Cond.selects "FuzzyTypeaheadModel" ⟨"FuzzyTypeaheadModel", "wordAt", "(I)I"⟩ ⟨"FuzzyTypeaheadModel", "wordAt", "(I)I"⟩) ∈ lw_all := lw_g (lw_at lw_ms 23 rfl) rfl
theorem qs24 : (Cond.selects "FuzzyTypeaheadModel" ⟨"FuzzyTypeaheadModel", "rankOf", "(I)I"⟩ ⟨"FuzzyTypeaheadModel", "rankOf", "(I)I"⟩) ∈ lw_all := lw_g (lw_at lw_ms 24 rfl) rfl
theorem qs25 : (Cond.selects "FuzzyTypeaheadModel" ⟨"FuzzyTypeaheadModel", "ranksBefore", "(II)Z"⟩ ⟨"FuzzyTypeaheadModel", "ranksBefore", "(II)Z"⟩) ∈ lw_all := lw_g (lw_at lw_ms 25 rfl) rfl
theorem qs26 : (Cond.selects "FuzzyTypeaheadModel" ⟨"FuzzyTypeaheadModel", "before", "(II)Z"⟩ ⟨"FuzzyTypeaheadModel", "before", "(II)Z"⟩) ∈ lw_all := lw_g (lw_at lw_ms 26 rfl) rfl
end
section
/-! java/lang/Object -/
set_option maxRecDepth 100000
def RJ0 : String := "java/lang/Object"
abbrev cJ0_init : ByteArray := object_method_1_code
def yJ0_init : MethodName := ⟨RJ0, "<init>", "()V"⟩
theorem dJ0_init_0 : decode cJ0_init 0 = .ok (.return_, 1) := by decide +kernel
theorem q36 : (Jvm.Cond.instanceMethod ({ cls := "java/lang/Object", name := "<init>", desc := "()V" } : Jvm.MethodName)) ∈ lw_all := lw_g (lw_at lw_m1 9 rfl) rfl
theorem q37 : (Jvm.Cond.code ({ cls := "java/lang/Object", name := "<init>", desc := "()V" } : Jvm.MethodName) object_method_1_code (1 : Nat) (Option.none : Option Jvm.ClassFile.FieldType)) ∈ lw_all := lw_g (lw_at lw_m1 10 rfl) rfl
/-! FuzzyTypeaheadLaw -/
def RX0 : String := "FuzzyTypeaheadLaw"
abbrev cX0_cell : ByteArray := method_2_code
def yX0_cell : MethodName := ⟨RX0, "cell", "([II)I"⟩
theorem dX0_cell_0 : decode cX0_cell 0 = .ok (.iload_n 1, 1) := by decide +kernel
theorem dX0_cell_1 : decode cX0_cell 1 = .ok (.aload_n 0, 1) := by decide +kernel
theorem dX0_cell_2 : decode cX0_cell 2 = .ok (.arraylength, 1) := by decide +kernel
theorem dX0_cell_3 : decode cX0_cell 3 = .ok (.if_icmp .ge 9, 3) := by decide +kernel
theorem dX0_cell_6 : decode cX0_cell 6 = .ok (.aload_n 0, 1) := by decide +kernel
theorem dX0_cell_7 : decode cX0_cell 7 = .ok (.iload_n 1, 1) := by decide +kernel
theorem dX0_cell_8 : decode cX0_cell 8 = .ok (.iaload, 1) := by decide +kernel
theorem dX0_cell_9 : decode cX0_cell 9 = .ok (.goto 4, 3) := by decide +kernel
theorem dX0_cell_12 : decode cX0_cell 12 = .ok (.iconst 0, 1) := by decide +kernel
theorem dX0_cell_13 : decode cX0_cell 13 = .ok (.ireturn, 1) := by decide +kernel
theorem q27 : (Jvm.Cond.initialized "FuzzyTypeaheadLaw") ∈ lw_all := lw_g (lw_at lw_m1 0 rfl) rfl
theorem q30 : (Jvm.Cond.classLink "FuzzyTypeaheadLaw" (7 : Nat) "FuzzyTypeahead") ∈ lw_all := lw_g (lw_at lw_m1 3 rfl) rfl
theorem q32 : (Jvm.Cond.methodLink "FuzzyTypeaheadLaw" (15 : Nat) ({ cls := "FuzzyTypeahead", name := "<init>", desc := "(I)V" } : Jvm.MethodName)) ∈ lw_all := lw_g (lw_at lw_m1 5 rfl) rfl
theorem q133 : (Jvm.Cond.methodLink "FuzzyTypeaheadLaw" (21 : Nat) ({ cls := "FuzzyTypeahead", name := "draft", desc := "(I)I" } : Jvm.MethodName)) ∈ lw_all := lw_g (lw_at lw_m1 106 rfl) rfl
theorem q141 : (Jvm.Cond.methodLink "FuzzyTypeaheadLaw" (26 : Nat) ({ cls := "FuzzyTypeahead", name := "scrap", desc := "()V" } : Jvm.MethodName)) ∈ lw_all := lw_g (lw_at lw_m1 114 rfl) rfl
theorem q145 : (Jvm.Cond.methodLink "FuzzyTypeaheadLaw" (30 : Nat) ({ cls := "FuzzyTypeahead", name := "add", desc := "(I)I" } : Jvm.MethodName)) ∈ lw_all := lw_g (lw_at lw_m1 118 rfl) rfl
theorem q161 : (Jvm.Cond.methodLink "FuzzyTypeaheadLaw" (34 : Nat) ({ cls := "FuzzyTypeahead", name := "remove", desc := "()I" } : Jvm.MethodName)) ∈ lw_all := lw_g (lw_at lw_m1 134 rfl) rfl
theorem q165 : (Jvm.Cond.methodLink "FuzzyTypeaheadLaw" (39 : Nat) ({ cls := "FuzzyTypeahead", name := "weight", desc := "()I" } : Jvm.MethodName)) ∈ lw_all := lw_g (lw_at lw_m1 138 rfl) rfl
theorem q169 : (Jvm.Cond.methodLink "FuzzyTypeaheadLaw" (43 : Nat) ({ cls := "FuzzyTypeahead", name := "words", desc := "()I" } : Jvm.MethodName)) ∈ lw_all := lw_g (lw_at lw_m1 142 rfl) rfl
theorem q173 : (Jvm.Cond.methodLink "FuzzyTypeaheadLaw" (47 : Nat) ({ cls := "FuzzyTypeahead", name := "type", desc := "(I)I" } : Jvm.MethodName)) ∈ lw_all := lw_g (lw_at lw_m1 146 rfl) rfl
theorem q177 : (Jvm.Cond.methodLink "FuzzyTypeaheadLaw" (51 : Nat) ({ cls := "FuzzyTypeahead", name := "backspace", desc := "()I" } : Jvm.MethodName)) ∈ lw_all := lw_g (lw_at lw_m1 150 rfl) rfl
theorem q181 : (Jvm.Cond.methodLink "FuzzyTypeaheadLaw" (55 : Nat) ({ cls := "FuzzyTypeahead", name := "reset", desc := "()V" } : Jvm.MethodName)) ∈ lw_all := lw_g (lw_at lw_m1 154 rfl) rfl
theorem q185 : (Jvm.Cond.methodLink "FuzzyTypeaheadLaw" (59 : Nat) ({ cls := "FuzzyTypeahead", name := "length", desc := "()I" } : Jvm.MethodName)) ∈ lw_all := lw_g (lw_at lw_m1 158 rfl) rfl
theorem q189 : (Jvm.Cond.methodLink "FuzzyTypeaheadLaw" (63 : Nat) ({ cls := "FuzzyTypeahead", name := "offered", desc := "()I" } : Jvm.MethodName)) ∈ lw_all := lw_g (lw_at lw_m1 162 rfl) rfl
theorem q193 : (Jvm.Cond.methodLink "FuzzyTypeaheadLaw" (67 : Nat) ({ cls := "FuzzyTypeahead", name := "offer", desc := "(I)I" } : Jvm.MethodName)) ∈ lw_all := lw_g (lw_at lw_m1 166 rfl) rfl
theorem q201 : (Jvm.Cond.methodLink "FuzzyTypeaheadLaw" (71 : Nat) ({ cls := "FuzzyTypeahead", name := "distance", desc := "(I)I" } : Jvm.MethodName)) ∈ lw_all := lw_g (lw_at lw_m1 174 rfl) rfl
theorem q205 : (Jvm.Cond.methodLink "FuzzyTypeaheadLaw" (75 : Nat) ({ cls := "FuzzyTypeahead", name := "weightAt", desc := "(I)I" } : Jvm.MethodName)) ∈ lw_all := lw_g (lw_at lw_m1 178 rfl) rfl
theorem q209 : (Jvm.Cond.methodLink "FuzzyTypeaheadLaw" (79 : Nat) ({ cls := "FuzzyTypeahead", name := "nearest", desc := "()I" } : Jvm.MethodName)) ∈ lw_all := lw_g (lw_at lw_m1 182 rfl) rfl
theorem q213 : (Jvm.Cond.methodLink "FuzzyTypeaheadLaw" (83 : Nat) ({ cls := "FuzzyTypeahead", name := "exact", desc := "()I" } : Jvm.MethodName)) ∈ lw_all := lw_g (lw_at lw_m1 186 rfl) rfl
theorem q221 : (Jvm.Cond.methodLink "FuzzyTypeaheadLaw" (87 : Nat) ({ cls := "FuzzyTypeahead", name := "continues", desc := "()I" } : Jvm.MethodName)) ∈ lw_all := lw_g (lw_at lw_m1 194 rfl) rfl
theorem q225 : (Jvm.Cond.methodLink "FuzzyTypeaheadLaw" (9 : Nat) ({ cls := "FuzzyTypeaheadLaw", name := "cell", desc := "([II)I" } : Jvm.MethodName)) ∈ lw_all := lw_g (lw_at lw_m1 198 rfl) rfl
theorem q226 : (Jvm.Cond.static ({ cls := "FuzzyTypeaheadLaw", name := "cell", desc := "([II)I" } : Jvm.MethodName)) ∈ lw_all := lw_g (lw_at lw_m1 199 rfl) rfl
theorem q227 : (Jvm.Cond.code ({ cls := "FuzzyTypeaheadLaw", name := "cell", desc := "([II)I" } : Jvm.MethodName) method_2_code (2 : Nat) (Option.some Jvm.ClassFile.FieldType.int)) ∈ lw_all := lw_g (lw_at lw_m1 200 rfl) rfl
theorem q228 : (Jvm.Cond.classLink "FuzzyTypeaheadLaw" (18 : Nat) "FuzzyTypeaheadModel") ∈ lw_all := lw_g (lw_at lw_m1 201 rfl) rfl
theorem q230 : (Jvm.Cond.methodLink "FuzzyTypeaheadLaw" (20 : Nat) ({ cls := "FuzzyTypeaheadModel", name := "<init>", desc := "(I)V" } : Jvm.MethodName)) ∈ lw_all := lw_g (lw_at lw_m1 203 rfl) rfl
theorem q253 : (Jvm.Cond.methodLink "FuzzyTypeaheadLaw" (25 : Nat) ({ cls := "FuzzyTypeaheadModel", name := "draft", desc := "(I)I" } : Jvm.MethodName)) ∈ lw_all := lw_g (lw_at lw_m1 226 rfl) rfl
theorem q261 : (Jvm.Cond.methodLink "FuzzyTypeaheadLaw" (29 : Nat) ({ cls := "FuzzyTypeaheadModel", name := "scrap", desc := "()V" } : Jvm.MethodName)) ∈ lw_all := lw_g (lw_at lw_m1 234 rfl) rfl
theorem q265 : (Jvm.Cond.methodLink "FuzzyTypeaheadLaw" (33 : Nat) ({ cls := "FuzzyTypeaheadModel", name := "add", desc := "(I)I" } : Jvm.MethodName)) ∈ lw_all := lw_g (lw_at lw_m1 238 rfl) rfl
theorem q281 : (Jvm.Cond.methodLink "FuzzyTypeaheadLaw" (38 : Nat) ({ cls := "FuzzyTypeaheadModel", name := "remove", desc := "()I" } : Jvm.MethodName)) ∈ lw_all := lw_g (lw_at lw_m2 14 rfl) rfl
theorem q285 : (Jvm.Cond.methodLink "FuzzyTypeaheadLaw" (42 : Nat) ({ cls := "FuzzyTypeaheadModel", name := "weight", desc := "()I" } : Jvm.MethodName)) ∈ lw_all := lw_g (lw_at lw_m2 18 rfl) rfl
theorem q289 : (Jvm.Cond.methodLink "FuzzyTypeaheadLaw" (46 : Nat) ({ cls := "FuzzyTypeaheadModel", name := "words", desc := "()I" } : Jvm.MethodName)) ∈ lw_all := lw_g (lw_at lw_m2 22 rfl) rfl
theorem q293 : (Jvm.Cond.methodLink "FuzzyTypeaheadLaw" (50 : Nat) ({ cls := "FuzzyTypeaheadModel", name := "type", desc := "(I)I" } : Jvm.MethodName)) ∈ lw_all := lw_g (lw_at lw_m2 26 rfl) rfl
theorem q297 : (Jvm.Cond.methodLink "FuzzyTypeaheadLaw" (54 : Nat) ({ cls := "FuzzyTypeaheadModel", name := "backspace", desc := "()I" } : Jvm.MethodName)) ∈ lw_all := lw_g (lw_at lw_m2 30 rfl) rfl
theorem q301 : (Jvm.Cond.methodLink "FuzzyTypeaheadLaw" (58 : Nat) ({ cls := "FuzzyTypeaheadModel", name := "reset", desc := "()V" } : Jvm.MethodName)) ∈ lw_all := lw_g (lw_at lw_m2 34 rfl) rfl
theorem q305 : (Jvm.Cond.methodLink "FuzzyTypeaheadLaw" (62 : Nat) ({ cls := "FuzzyTypeaheadModel", name := "length", desc := "()I" } : Jvm.MethodName)) ∈ lw_all := lw_g (lw_at lw_m2 38 rfl) rfl
theorem q309 : (Jvm.Cond.methodLink "FuzzyTypeaheadLaw" (66 : Nat) ({ cls := "FuzzyTypeaheadModel", name := "offered", desc := "()I" } : Jvm.MethodName)) ∈ lw_all := lw_g (lw_at lw_m2 42 rfl) rfl
theorem q329 : (Jvm.Cond.methodLink "FuzzyTypeaheadLaw" (70 : Nat) ({ cls := "FuzzyTypeaheadModel", name := "offer", desc := "(I)I" } : Jvm.MethodName)) ∈ lw_all := lw_g (lw_at lw_m2 62 rfl) rfl
theorem q349 : (Jvm.Cond.methodLink "FuzzyTypeaheadLaw" (74 : Nat) ({ cls := "FuzzyTypeaheadModel", name := "distance", desc := "(I)I" } : Jvm.MethodName)) ∈ lw_all := lw_g (lw_at lw_m2 82 rfl) rfl
theorem q353 : (Jvm.Cond.methodLink "FuzzyTypeaheadLaw" (78 : Nat) ({ cls := "FuzzyTypeaheadModel", name := "weightAt", desc := "(I)I" } : Jvm.MethodName)) ∈ lw_all := lw_g (lw_at lw_m2 86 rfl) rfl
theorem q357 : (Jvm.Cond.methodLink "FuzzyTypeaheadLaw" (82 : Nat) ({ cls := "FuzzyTypeaheadModel", name := "nearest", desc := "()I" } : Jvm.MethodName)) ∈ lw_all := lw_g (lw_at lw_m2 90 rfl) rfl
theorem q361 : (Jvm.Cond.methodLink "FuzzyTypeaheadLaw" (86 : Nat) ({ cls := "FuzzyTypeaheadModel", name := "exact", desc := "()I" } : Jvm.MethodName)) ∈ lw_all := lw_g (lw_at lw_m2 94 rfl) rfl
theorem q365 : (Jvm.Cond.methodLink "FuzzyTypeaheadLaw" (90 : Nat) ({ cls := "FuzzyTypeaheadModel", name := "continues", desc := "()I" } : Jvm.MethodName)) ∈ lw_all := lw_g (lw_at lw_m2 98 rfl) rfl
theorem q132 : (Jvm.Cond.arrayClass Jvm.ClassFile.FieldType.int) ∈ lw_all := lw_g (lw_at lw_m1 105 rfl) rfl
end
section
/-! FuzzyTypeahead -/
set_option maxRecDepth 100000
def RX1 : String := "FuzzyTypeahead"
def TX1 : u_T := fun k => match k with
  | 0 => ("FuzzyTypeahead", "limit", "I", true)
  | 1 => ("FuzzyTypeahead", "drafted", "I", false)
  | 2 => ("FuzzyTypeahead", "draft", "[I", true)
  | 3 => ("FuzzyTypeahead", "typed", "I", false)
  | 4 => ("FuzzyTypeahead", "query", "[I", true)
  | 5 => ("FuzzyTypeahead", "words", "I", false)
  | 6 => ("FuzzyTypeahead", "below", "[I", true)
  | 7 => ("FuzzyTypeahead", "child", "[I", true)
  | 8 => ("FuzzyTypeahead", "parent", "[I", true)
  | 9 => ("FuzzyTypeahead", "letter", "[I", true)
  | 10 => ("FuzzyTypeahead", "depth", "[I", true)
  | 11 => ("FuzzyTypeahead", "code", "[I", true)
  | 12 => ("FuzzyTypeahead", "wordWeight", "[I", true)
  | 13 => ("FuzzyTypeahead", "near", "[I", true)
  | 14 => ("FuzzyTypeahead", "count", "I", false)
  | 15 => ("FuzzyTypeahead", "rankNode", "[I", true)
  | 16 => ("FuzzyTypeahead", "rankDistance", "[I", true)
  | 17 => ("FuzzyTypeahead", "stack", "[I", true)
  | _ => ("FuzzyTypeahead", "reach", "[I", true)
def tyX1 : Nat → FieldType := fun k => match k with
  | 0 => .int
  | 1 => .int
  | 2 => .array .int
  | 3 => .int
  | 4 => .array .int
  | 5 => .int
  | 6 => .array .int
  | 7 => .array .int
  | 8 => .array .int
  | 9 => .array .int
  | 10 => .array .int
  | 11 => .array .int
  | 12 => .array .int
  | 13 => .array .int
  | 14 => .int
  | 15 => .array .int
  | 16 => .array .int
  | 17 => .array .int
  | _ => .array .int
abbrev wsX10 : List Cond := u_ws RX1 TX1 19
set_option maxRecDepth 100000 in
theorem nmX1 : ∀ a, a < 19 → ∀ b, b < 19 → a ≠ b → (TX1 a).2.1 ≠ (TX1 b).2.1 := by decide +kernel
set_option maxRecDepth 100000 in
theorem tyX1_ok : ∀ k, k < 19 → parseFieldDescriptor (TX1 k).2.2.1 = some (tyX1 k) := by decide +kernel
abbrev cX1_init : ByteArray := prog_1_method_1_code
def yX1_init : MethodName := ⟨RX1, "<init>", "(I)V"⟩
theorem dX1_init_0 : decode cX1_init 0 = .ok (.aload_n 0, 1) := by decide +kernel
theorem dX1_init_1 : decode cX1_init 1 = .ok (.invokespecial 1, 3) := by decide +kernel
theorem dX1_init_4 : decode cX1_init 4 = .ok (.aload_n 0, 1) := by decide +kernel
theorem dX1_init_5 : decode cX1_init 5 = .ok (.bipush 6, 2) := by decide +kernel
theorem dX1_init_7 : decode cX1_init 7 = .ok (.newarray .int, 2) := by decide +kernel
theorem dX1_init_9 : decode cX1_init 9 = .ok (.putfield 7, 3) := by decide +kernel
theorem dX1_init_12 : decode cX1_init 12 = .ok (.aload_n 0, 1) := by decide +kernel
theorem dX1_init_13 : decode cX1_init 13 = .ok (.bipush 6, 2) := by decide +kernel
theorem dX1_init_15 : decode cX1_init 15 = .ok (.newarray .int, 2) := by decide +kernel
theorem dX1_init_17 : decode cX1_init 17 = .ok (.putfield 13, 3) := by decide +kernel
theorem dX1_init_20 : decode cX1_init 20 = .ok (.aload_n 0, 1) := by decide +kernel
theorem dX1_init_21 : decode cX1_init 21 = .ok (.bipush 80, 2) := by decide +kernel
theorem dX1_init_23 : decode cX1_init 23 = .ok (.newarray .int, 2) := by decide +kernel
theorem dX1_init_25 : decode cX1_init 25 = .ok (.putfield 16, 3) := by decide +kernel
theorem dX1_init_28 : decode cX1_init 28 = .ok (.aload_n 0, 1) := by decide +kernel
theorem dX1_init_29 : decode cX1_init 29 = .ok (.sipush 320, 3) := by decide +kernel
theorem dX1_init_32 : decode cX1_init 32 = .ok (.newarray .int, 2) := by decide +kernel
theorem dX1_init_34 : decode cX1_init 34 = .ok (.putfield 19, 3) := by decide +kernel
theorem dX1_init_37 : decode cX1_init 37 = .ok (.aload_n 0, 1) := by decide +kernel
theorem dX1_init_38 : decode cX1_init 38 = .ok (.bipush 80, 2) := by decide +kernel
theorem dX1_init_40 : decode cX1_init 40 = .ok (.newarray .int, 2) := by decide +kernel
theorem dX1_init_42 : decode cX1_init 42 = .ok (.putfield 22, 3) := by decide +kernel
theorem dX1_init_45 : decode cX1_init 45 = .ok (.aload_n 0, 1) := by decide +kernel
theorem dX1_init_46 : decode cX1_init 46 = .ok (.bipush 80, 2) := by decide +kernel
theorem dX1_init_48 : decode cX1_init 48 = .ok (.newarray .int, 2) := by decide +kernel
theorem dX1_init_50 : decode cX1_init 50 = .ok (.putfield 25, 3) := by decide +kernel
theorem dX1_init_53 : decode cX1_init 53 = .ok (.aload_n 0, 1) := by decide +kernel
theorem dX1_init_54 : decode cX1_init 54 = .ok (.bipush 80, 2) := by decide +kernel
theorem dX1_init_56 : decode cX1_init 56 = .ok (.newarray .int, 2) := by decide +kernel
theorem dX1_init_58 : decode cX1_init 58 = .ok (.putfield 28, 3) := by decide +kernel
theorem dX1_init_61 : decode cX1_init 61 = .ok (.aload_n 0, 1) := by decide +kernel
theorem dX1_init_62 : decode cX1_init 62 = .ok (.bipush 80, 2) := by decide +kernel
theorem dX1_init_64 : decode cX1_init 64 = .ok (.newarray .int, 2) := by decide +kernel
theorem dX1_init_66 : decode cX1_init 66 = .ok (.putfield 31, 3) := by decide +kernel
theorem dX1_init_69 : decode cX1_init 69 = .ok (.aload_n 0, 1) := by decide +kernel
theorem dX1_init_70 : decode cX1_init 70 = .ok (.bipush 80, 2) := by decide +kernel
theorem dX1_init_72 : decode cX1_init 72 = .ok (.newarray .int, 2) := by decide +kernel
theorem dX1_init_74 : decode cX1_init 74 = .ok (.putfield 34, 3) := by decide +kernel
theorem dX1_init_77 : decode cX1_init 77 = .ok (.aload_n 0, 1) := by decide +kernel
theorem dX1_init_78 : decode cX1_init 78 = .ok (.sipush 560, 3) := by decide +kernel
theorem dX1_init_81 : decode cX1_init 81 = .ok (.newarray .int, 2) := by decide +kernel
theorem dX1_init_83 : decode cX1_init 83 = .ok (.putfield 37, 3) := by decide +kernel
theorem dX1_init_86 : decode cX1_init 86 = .ok (.aload_n 0, 1) := by decide +kernel
theorem dX1_init_87 : decode cX1_init 87 = .ok (.bipush 12, 2) := by decide +kernel
theorem dX1_init_89 : decode cX1_init 89 = .ok (.newarray .int, 2) := by decide +kernel
theorem dX1_init_91 : decode cX1_init 91 = .ok (.putfield 40, 3) := by decide +kernel
theorem dX1_init_94 : decode cX1_init 94 = .ok (.aload_n 0, 1) := by decide +kernel
theorem dX1_init_95 : decode cX1_init 95 = .ok (.bipush 12, 2) := by decide +kernel
theorem dX1_init_97 : decode cX1_init 97 = .ok (.newarray .int, 2) := by decide +kernel
theorem dX1_init_99 : decode cX1_init 99 = .ok (.putfield 43, 3) := by decide +kernel
theorem dX1_init_102 : decode cX1_init 102 = .ok (.aload_n 0, 1) := by decide +kernel
theorem dX1_init_103 : decode cX1_init 103 = .ok (.bipush 80, 2) := by decide +kernel
theorem dX1_init_105 : decode cX1_init 105 = .ok (.newarray .int, 2) := by decide +kernel
theorem dX1_init_107 : decode cX1_init 107 = .ok (.putfield 46, 3) := by decide +kernel
theorem dX1_init_110 : decode cX1_init 110 = .ok (.aload_n 0, 1) := by decide +kernel
theorem dX1_init_111 : decode cX1_init 111 = .ok (.bipush 80, 2) := by decide +kernel
theorem dX1_init_113 : decode cX1_init 113 = .ok (.newarray .int, 2) := by decide +kernel
theorem dX1_init_115 : decode cX1_init 115 = .ok (.putfield 49, 3) := by decide +kernel
theorem dX1_init_118 : decode cX1_init 118 = .ok (.iload_n 1, 1) := by decide +kernel
theorem dX1_init_119 : decode cX1_init 119 = .ok (.istore_n 2, 1) := by decide +kernel
theorem dX1_init_120 : decode cX1_init 120 = .ok (.iload_n 2, 1) := by decide +kernel
theorem dX1_init_121 : decode cX1_init 121 = .ok (.ifCond .ge 5, 3) := by decide +kernel
theorem dX1_init_124 : decode cX1_init 124 = .ok (.iconst 0, 1) := by decide +kernel
theorem dX1_init_125 : decode cX1_init 125 = .ok (.istore_n 2, 1) := by decide +kernel
theorem dX1_init_126 : decode cX1_init 126 = .ok (.iload_n 2, 1) := by decide +kernel
theorem dX1_init_127 : decode cX1_init 127 = .ok (.iconst 3, 1) := by decide +kernel
theorem dX1_init_128 : decode cX1_init 128 = .ok (.if_icmp .le 5, 3) := by decide +kernel
theorem dX1_init_131 : decode cX1_init 131 = .ok (.iconst 3, 1) := by decide +kernel
theorem dX1_init_132 : decode cX1_init 132 = .ok (.istore_n 2, 1) := by decide +kernel
theorem dX1_init_133 : decode cX1_init 133 = .ok (.aload_n 0, 1) := by decide +kernel
theorem dX1_init_134 : decode cX1_init 134 = .ok (.iload_n 2, 1) := by decide +kernel
theorem dX1_init_135 : decode cX1_init 135 = .ok (.putfield 52, 3) := by decide +kernel
theorem dX1_init_138 : decode cX1_init 138 = .ok (.iconst 0, 1) := by decide +kernel
theorem dX1_init_139 : decode cX1_init 139 = .ok (.istore_n 3, 1) := by decide +kernel
theorem dX1_init_140 : decode cX1_init 140 = .ok (.iload_n 3, 1) := by decide +kernel
theorem dX1_init_141 : decode cX1_init 141 = .ok (.bipush 80, 2) := by decide +kernel
theorem dX1_init_143 : decode cX1_init 143 = .ok (.if_icmp .ge 17, 3) := by decide +kernel
theorem dX1_init_146 : decode cX1_init 146 = .ok (.aload_n 0, 1) := by decide +kernel
theorem dX1_init_147 : decode cX1_init 147 = .ok (.getfield 34, 3) := by decide +kernel
theorem dX1_init_150 : decode cX1_init 150 = .ok (.iload_n 3, 1) := by decide +kernel
theorem dX1_init_151 : decode cX1_init 151 = .ok (.bipush (-4), 2) := by decide +kernel
theorem dX1_init_153 : decode cX1_init 153 = .ok (.iastore, 1) := by decide +kernel
theorem dX1_init_154 : decode cX1_init 154 = .ok (.iinc 3 1, 3) := by decide +kernel
theorem dX1_init_157 : decode cX1_init 157 = .ok (.goto (-17), 3) := by decide +kernel
theorem dX1_init_160 : decode cX1_init 160 = .ok (.aload_n 0, 1) := by decide +kernel
theorem dX1_init_161 : decode cX1_init 161 = .ok (.invokevirtual 56, 3) := by decide +kernel
theorem dX1_init_164 : decode cX1_init 164 = .ok (.return_, 1) := by decide +kernel
abbrev cX1_layOut : ByteArray := prog_1_method_17_code
def yX1_layOut : MethodName := ⟨RX1, "layOut", "()V"⟩
theorem dX1_layOut_0 : decode cX1_layOut 0 = .ok (.aload_n 0, 1) := by decide +kernel
theorem dX1_layOut_1 : decode cX1_layOut 1 = .ok (.invokevirtual 94, 3) := by decide +kernel
theorem dX1_layOut_4 : decode cX1_layOut 4 = .ok (.iconst 0, 1) := by decide +kernel
theorem dX1_layOut_5 : decode cX1_layOut 5 = .ok (.istore_n 1, 1) := by decide +kernel
theorem dX1_layOut_6 : decode cX1_layOut 6 = .ok (.iload_n 1, 1) := by decide +kernel
theorem dX1_layOut_7 : decode cX1_layOut 7 = .ok (.aload_n 0, 1) := by decide +kernel
theorem dX1_layOut_8 : decode cX1_layOut 8 = .ok (.getfield 97, 3) := by decide +kernel
theorem dX1_layOut_11 : decode cX1_layOut 11 = .ok (.if_icmp .ge 14, 3) := by decide +kernel
theorem dX1_layOut_14 : decode cX1_layOut 14 = .ok (.aload_n 0, 1) := by decide +kernel
theorem dX1_layOut_15 : decode cX1_layOut 15 = .ok (.iload_n 1, 1) := by decide +kernel
theorem dX1_layOut_16 : decode cX1_layOut 16 = .ok (.invokevirtual 100, 3) := by decide +kernel
theorem dX1_layOut_19 : decode cX1_layOut 19 = .ok (.iinc 1 1, 3) := by decide +kernel
theorem dX1_layOut_22 : decode cX1_layOut 22 = .ok (.goto (-16), 3) := by decide +kernel
theorem dX1_layOut_25 : decode cX1_layOut 25 = .ok (.aload_n 0, 1) := by decide +kernel
theorem dX1_layOut_26 : decode cX1_layOut 26 = .ok (.invokevirtual 73, 3) := by decide +kernel
theorem dX1_layOut_29 : decode cX1_layOut 29 = .ok (.return_, 1) := by decide +kernel
abbrev cX1_firstLayer : ByteArray := prog_1_method_14_code
def yX1_firstLayer : MethodName := ⟨RX1, "firstLayer", "()V"⟩
theorem dX1_firstLayer_0 : decode cX1_firstLayer 0 = .ok (.iconst 0, 1) := by decide +kernel
theorem dX1_firstLayer_1 : decode cX1_firstLayer 1 = .ok (.istore_n 1, 1) := by decide +kernel
theorem dX1_firstLayer_2 : decode cX1_firstLayer 2 = .ok (.iload_n 1, 1) := by decide +kernel
theorem dX1_firstLayer_3 : decode cX1_firstLayer 3 = .ok (.bipush 80, 2) := by decide +kernel
theorem dX1_firstLayer_5 : decode cX1_firstLayer 5 = .ok (.if_icmp .ge 42, 3) := by decide +kernel
theorem dX1_firstLayer_8 : decode cX1_firstLayer 8 = .ok (.aload_n 0, 1) := by decide +kernel
theorem dX1_firstLayer_9 : decode cX1_firstLayer 9 = .ok (.getfield 37, 3) := by decide +kernel
theorem dX1_firstLayer_12 : decode cX1_firstLayer 12 = .ok (.iload_n 1, 1) := by decide +kernel
theorem dX1_firstLayer_13 : decode cX1_firstLayer 13 = .ok (.aload_n 0, 1) := by decide +kernel
theorem dX1_firstLayer_14 : decode cX1_firstLayer 14 = .ok (.iload_n 1, 1) := by decide +kernel
theorem dX1_firstLayer_15 : decode cX1_firstLayer 15 = .ok (.invokevirtual 83, 3) := by decide +kernel
theorem dX1_firstLayer_18 : decode cX1_firstLayer 18 = .ok (.ifCond .eq 16, 3) := by decide +kernel
theorem dX1_firstLayer_21 : decode cX1_firstLayer 21 = .ok (.aload_n 0, 1) := by decide +kernel
theorem dX1_firstLayer_22 : decode cX1_firstLayer 22 = .ok (.aload_n 0, 1) := by decide +kernel
theorem dX1_firstLayer_23 : decode cX1_firstLayer 23 = .ok (.getfield 28, 3) := by decide +kernel
theorem dX1_firstLayer_26 : decode cX1_firstLayer 26 = .ok (.iload_n 1, 1) := by decide +kernel
theorem dX1_firstLayer_27 : decode cX1_firstLayer 27 = .ok (.iaload, 1) := by decide +kernel
theorem dX1_firstLayer_28 : decode cX1_firstLayer 28 = .ok (.invokevirtual 86, 3) := by decide +kernel
theorem dX1_firstLayer_31 : decode cX1_firstLayer 31 = .ok (.goto 9, 3) := by decide +kernel
theorem dX1_firstLayer_34 : decode cX1_firstLayer 34 = .ok (.aload_n 0, 1) := by decide +kernel
theorem dX1_firstLayer_35 : decode cX1_firstLayer 35 = .ok (.getfield 52, 3) := by decide +kernel
theorem dX1_firstLayer_38 : decode cX1_firstLayer 38 = .ok (.iconst 1, 1) := by decide +kernel
theorem dX1_firstLayer_39 : decode cX1_firstLayer 39 = .ok (.iadd, 1) := by decide +kernel
theorem dX1_firstLayer_40 : decode cX1_firstLayer 40 = .ok (.iastore, 1) := by decide +kernel
theorem dX1_firstLayer_41 : decode cX1_firstLayer 41 = .ok (.iinc 1 1, 3) := by decide +kernel
theorem dX1_firstLayer_44 : decode cX1_firstLayer 44 = .ok (.goto (-42), 3) := by decide +kernel
theorem dX1_firstLayer_47 : decode cX1_firstLayer 47 = .ok (.return_, 1) := by decide +kernel
abbrev cX1_inTree : ByteArray := prog_1_method_12_code
def yX1_inTree : MethodName := ⟨RX1, "inTree", "(I)Z"⟩
theorem dX1_inTree_0 : decode cX1_inTree 0 = .ok (.iload_n 1, 1) := by decide +kernel
theorem dX1_inTree_1 : decode cX1_inTree 1 = .ok (.ifCond .eq 12, 3) := by decide +kernel
theorem dX1_inTree_4 : decode cX1_inTree 4 = .ok (.aload_n 0, 1) := by decide +kernel
theorem dX1_inTree_5 : decode cX1_inTree 5 = .ok (.getfield 16, 3) := by decide +kernel
theorem dX1_inTree_8 : decode cX1_inTree 8 = .ok (.iload_n 1, 1) := by decide +kernel
theorem dX1_inTree_9 : decode cX1_inTree 9 = .ok (.iaload, 1) := by decide +kernel
theorem dX1_inTree_10 : decode cX1_inTree 10 = .ok (.ifCond .le 7, 3) := by decide +kernel
theorem dX1_inTree_13 : decode cX1_inTree 13 = .ok (.iconst 1, 1) := by decide +kernel
theorem dX1_inTree_14 : decode cX1_inTree 14 = .ok (.goto 4, 3) := by decide +kernel
theorem dX1_inTree_17 : decode cX1_inTree 17 = .ok (.iconst 0, 1) := by decide +kernel
theorem dX1_inTree_18 : decode cX1_inTree 18 = .ok (.ireturn, 1) := by decide +kernel
abbrev cX1_capped : ByteArray := prog_1_method_13_code
def yX1_capped : MethodName := ⟨RX1, "capped", "(I)I"⟩
theorem dX1_capped_0 : decode cX1_capped 0 = .ok (.iload_n 1, 1) := by decide +kernel
theorem dX1_capped_1 : decode cX1_capped 1 = .ok (.aload_n 0, 1) := by decide +kernel
theorem dX1_capped_2 : decode cX1_capped 2 = .ok (.getfield 52, 3) := by decide +kernel
theorem dX1_capped_5 : decode cX1_capped 5 = .ok (.if_icmp .le 12, 3) := by decide +kernel
theorem dX1_capped_8 : decode cX1_capped 8 = .ok (.aload_n 0, 1) := by decide +kernel
theorem dX1_capped_9 : decode cX1_capped 9 = .ok (.getfield 52, 3) := by decide +kernel
theorem dX1_capped_12 : decode cX1_capped 12 = .ok (.iconst 1, 1) := by decide +kernel
theorem dX1_capped_13 : decode cX1_capped 13 = .ok (.iadd, 1) := by decide +kernel
theorem dX1_capped_14 : decode cX1_capped 14 = .ok (.goto 4, 3) := by decide +kernel
theorem dX1_capped_17 : decode cX1_capped 17 = .ok (.iload_n 1, 1) := by decide +kernel
theorem dX1_capped_18 : decode cX1_capped 18 = .ok (.ireturn, 1) := by decide +kernel
abbrev cX1_nextLayer : ByteArray := prog_1_method_15_code
def yX1_nextLayer : MethodName := ⟨RX1, "nextLayer", "(I)V"⟩
theorem dX1_nextLayer_0 : decode cX1_nextLayer 0 = .ok (.iload_n 1, 1) := by decide +kernel
theorem dX1_nextLayer_1 : decode cX1_nextLayer 1 = .ok (.bipush 80, 2) := by decide +kernel
theorem dX1_nextLayer_3 : decode cX1_nextLayer 3 = .ok (.imul, 1) := by decide +kernel
theorem dX1_nextLayer_4 : decode cX1_nextLayer 4 = .ok (.istore_n 2, 1) := by decide +kernel
theorem dX1_nextLayer_5 : decode cX1_nextLayer 5 = .ok (.iload_n 2, 1) := by decide +kernel
theorem dX1_nextLayer_6 : decode cX1_nextLayer 6 = .ok (.bipush 80, 2) := by decide +kernel
theorem dX1_nextLayer_8 : decode cX1_nextLayer 8 = .ok (.iadd, 1) := by decide +kernel
theorem dX1_nextLayer_9 : decode cX1_nextLayer 9 = .ok (.istore_n 3, 1) := by decide +kernel
theorem dX1_nextLayer_10 : decode cX1_nextLayer 10 = .ok (.iconst 0, 1) := by decide +kernel
theorem dX1_nextLayer_11 : decode cX1_nextLayer 11 = .ok (.istore 4, 2) := by decide +kernel
theorem dX1_nextLayer_13 : decode cX1_nextLayer 13 = .ok (.iload 4, 2) := by decide +kernel
theorem dX1_nextLayer_15 : decode cX1_nextLayer 15 = .ok (.bipush 6, 2) := by decide +kernel
theorem dX1_nextLayer_17 : decode cX1_nextLayer 17 = .ok (.if_icmp .gt 69, 3) := by decide +kernel
theorem dX1_nextLayer_20 : decode cX1_nextLayer 20 = .ok (.iconst 0, 1) := by decide +kernel
theorem dX1_nextLayer_21 : decode cX1_nextLayer 21 = .ok (.istore 5, 2) := by decide +kernel
theorem dX1_nextLayer_23 : decode cX1_nextLayer 23 = .ok (.iload 5, 2) := by decide +kernel
theorem dX1_nextLayer_25 : decode cX1_nextLayer 25 = .ok (.bipush 80, 2) := by decide +kernel
theorem dX1_nextLayer_27 : decode cX1_nextLayer 27 = .ok (.if_icmp .ge 53, 3) := by decide +kernel
theorem dX1_nextLayer_30 : decode cX1_nextLayer 30 = .ok (.aload_n 0, 1) := by decide +kernel
theorem dX1_nextLayer_31 : decode cX1_nextLayer 31 = .ok (.iload 5, 2) := by decide +kernel
theorem dX1_nextLayer_33 : decode cX1_nextLayer 33 = .ok (.invokevirtual 83, 3) := by decide +kernel
theorem dX1_nextLayer_36 : decode cX1_nextLayer 36 = .ok (.ifCond .eq 38, 3) := by decide +kernel
theorem dX1_nextLayer_39 : decode cX1_nextLayer 39 = .ok (.aload_n 0, 1) := by decide +kernel
theorem dX1_nextLayer_40 : decode cX1_nextLayer 40 = .ok (.getfield 28, 3) := by decide +kernel
theorem dX1_nextLayer_43 : decode cX1_nextLayer 43 = .ok (.iload 5, 2) := by decide +kernel
theorem dX1_nextLayer_45 : decode cX1_nextLayer 45 = .ok (.iaload, 1) := by decide +kernel
theorem dX1_nextLayer_46 : decode cX1_nextLayer 46 = .ok (.iload 4, 2) := by decide +kernel
theorem dX1_nextLayer_48 : decode cX1_nextLayer 48 = .ok (.if_icmp .ne 26, 3) := by decide +kernel
theorem dX1_nextLayer_51 : decode cX1_nextLayer 51 = .ok (.aload_n 0, 1) := by decide +kernel
theorem dX1_nextLayer_52 : decode cX1_nextLayer 52 = .ok (.getfield 37, 3) := by decide +kernel
theorem dX1_nextLayer_55 : decode cX1_nextLayer 55 = .ok (.iload_n 3, 1) := by decide +kernel
theorem dX1_nextLayer_56 : decode cX1_nextLayer 56 = .ok (.iload 5, 2) := by decide +kernel
theorem dX1_nextLayer_58 : decode cX1_nextLayer 58 = .ok (.iadd, 1) := by decide +kernel
theorem dX1_nextLayer_59 : decode cX1_nextLayer 59 = .ok (.aload_n 0, 1) := by decide +kernel
theorem dX1_nextLayer_60 : decode cX1_nextLayer 60 = .ok (.iload 5, 2) := by decide +kernel
theorem dX1_nextLayer_62 : decode cX1_nextLayer 62 = .ok (.iload_n 2, 1) := by decide +kernel
theorem dX1_nextLayer_63 : decode cX1_nextLayer 63 = .ok (.iload_n 3, 1) := by decide +kernel
theorem dX1_nextLayer_64 : decode cX1_nextLayer 64 = .ok (.aload_n 0, 1) := by decide +kernel
theorem dX1_nextLayer_65 : decode cX1_nextLayer 65 = .ok (.getfield 13, 3) := by decide +kernel
theorem dX1_nextLayer_68 : decode cX1_nextLayer 68 = .ok (.iload_n 1, 1) := by decide +kernel
theorem dX1_nextLayer_69 : decode cX1_nextLayer 69 = .ok (.iaload, 1) := by decide +kernel
theorem dX1_nextLayer_70 : decode cX1_nextLayer 70 = .ok (.invokevirtual 90, 3) := by decide +kernel
theorem dX1_nextLayer_73 : decode cX1_nextLayer 73 = .ok (.iastore, 1) := by decide +kernel
theorem dX1_nextLayer_74 : decode cX1_nextLayer 74 = .ok (.iinc 5 1, 3) := by decide +kernel
theorem dX1_nextLayer_77 : decode cX1_nextLayer 77 = .ok (.goto (-54), 3) := by decide +kernel
theorem dX1_nextLayer_80 : decode cX1_nextLayer 80 = .ok (.iinc 4 1, 3) := by decide +kernel
theorem dX1_nextLayer_83 : decode cX1_nextLayer 83 = .ok (.goto (-70), 3) := by decide +kernel
theorem dX1_nextLayer_86 : decode cX1_nextLayer 86 = .ok (.return_, 1) := by decide +kernel
abbrev cX1_step : ByteArray := prog_1_method_16_code
def yX1_step : MethodName := ⟨RX1, "step", "(IIII)I"⟩
theorem dX1_step_0 : decode cX1_step 0 = .ok (.aload_n 0, 1) := by decide +kernel
theorem dX1_step_1 : decode cX1_step 1 = .ok (.getfield 37, 3) := by decide +kernel
theorem dX1_step_4 : decode cX1_step 4 = .ok (.iload_n 2, 1) := by decide +kernel
theorem dX1_step_5 : decode cX1_step 5 = .ok (.iload_n 1, 1) := by decide +kernel
theorem dX1_step_6 : decode cX1_step 6 = .ok (.iadd, 1) := by decide +kernel
theorem dX1_step_7 : decode cX1_step 7 = .ok (.iaload, 1) := by decide +kernel
theorem dX1_step_8 : decode cX1_step 8 = .ok (.iconst 1, 1) := by decide +kernel
theorem dX1_step_9 : decode cX1_step 9 = .ok (.iadd, 1) := by decide +kernel
theorem dX1_step_10 : decode cX1_step 10 = .ok (.istore 5, 2) := by decide +kernel
theorem dX1_step_12 : decode cX1_step 12 = .ok (.iload_n 1, 1) := by decide +kernel
theorem dX1_step_13 : decode cX1_step 13 = .ok (.ifCond .eq 84, 3) := by decide +kernel
theorem dX1_step_16 : decode cX1_step 16 = .ok (.aload_n 0, 1) := by decide +kernel
theorem dX1_step_17 : decode cX1_step 17 = .ok (.getfield 22, 3) := by decide +kernel
theorem dX1_step_20 : decode cX1_step 20 = .ok (.iload_n 1, 1) := by decide +kernel
theorem dX1_step_21 : decode cX1_step 21 = .ok (.iaload, 1) := by decide +kernel
theorem dX1_step_22 : decode cX1_step 22 = .ok (.istore 6, 2) := by decide +kernel
theorem dX1_step_24 : decode cX1_step 24 = .ok (.aload_n 0, 1) := by decide +kernel
theorem dX1_step_25 : decode cX1_step 25 = .ok (.getfield 37, 3) := by decide +kernel
theorem dX1_step_28 : decode cX1_step 28 = .ok (.iload_n 2, 1) := by decide +kernel
theorem dX1_step_29 : decode cX1_step 29 = .ok (.iload 6, 2) := by decide +kernel
theorem dX1_step_31 : decode cX1_step 31 = .ok (.iadd, 1) := by decide +kernel
theorem dX1_step_32 : decode cX1_step 32 = .ok (.iaload, 1) := by decide +kernel
theorem dX1_step_33 : decode cX1_step 33 = .ok (.aload_n 0, 1) := by decide +kernel
theorem dX1_step_34 : decode cX1_step 34 = .ok (.getfield 25, 3) := by decide +kernel
theorem dX1_step_37 : decode cX1_step 37 = .ok (.iload_n 1, 1) := by decide +kernel
theorem dX1_step_38 : decode cX1_step 38 = .ok (.iaload, 1) := by decide +kernel
theorem dX1_step_39 : decode cX1_step 39 = .ok (.iload 4, 2) := by decide +kernel
theorem dX1_step_41 : decode cX1_step 41 = .ok (.if_icmp .ne 7, 3) := by decide +kernel
theorem dX1_step_44 : decode cX1_step 44 = .ok (.iconst 0, 1) := by decide +kernel
theorem dX1_step_45 : decode cX1_step 45 = .ok (.goto 4, 3) := by decide +kernel
theorem dX1_step_48 : decode cX1_step 48 = .ok (.iconst 1, 1) := by decide +kernel
theorem dX1_step_49 : decode cX1_step 49 = .ok (.iadd, 1) := by decide +kernel
theorem dX1_step_50 : decode cX1_step 50 = .ok (.istore 7, 2) := by decide +kernel
theorem dX1_step_52 : decode cX1_step 52 = .ok (.aload_n 0, 1) := by decide +kernel
theorem dX1_step_53 : decode cX1_step 53 = .ok (.getfield 37, 3) := by decide +kernel
theorem dX1_step_56 : decode cX1_step 56 = .ok (.iload_n 3, 1) := by decide +kernel
theorem dX1_step_57 : decode cX1_step 57 = .ok (.iload 6, 2) := by decide +kernel
theorem dX1_step_59 : decode cX1_step 59 = .ok (.iadd, 1) := by decide +kernel
theorem dX1_step_60 : decode cX1_step 60 = .ok (.iaload, 1) := by decide +kernel
theorem dX1_step_61 : decode cX1_step 61 = .ok (.iconst 1, 1) := by decide +kernel
theorem dX1_step_62 : decode cX1_step 62 = .ok (.iadd, 1) := by decide +kernel
theorem dX1_step_63 : decode cX1_step 63 = .ok (.istore 8, 2) := by decide +kernel
theorem dX1_step_65 : decode cX1_step 65 = .ok (.iload 7, 2) := by decide +kernel
theorem dX1_step_67 : decode cX1_step 67 = .ok (.iload 5, 2) := by decide +kernel
theorem dX1_step_69 : decode cX1_step 69 = .ok (.if_icmp .ge 8, 3) := by decide +kernel
theorem dX1_step_72 : decode cX1_step 72 = .ok (.iload 7, 2) := by decide +kernel
theorem dX1_step_74 : decode cX1_step 74 = .ok (.goto 5, 3) := by decide +kernel
theorem dX1_step_77 : decode cX1_step 77 = .ok (.iload 5, 2) := by decide +kernel
theorem dX1_step_79 : decode cX1_step 79 = .ok (.istore 5, 2) := by decide +kernel
theorem dX1_step_81 : decode cX1_step 81 = .ok (.iload 8, 2) := by decide +kernel
theorem dX1_step_83 : decode cX1_step 83 = .ok (.iload 5, 2) := by decide +kernel
theorem dX1_step_85 : decode cX1_step 85 = .ok (.if_icmp .ge 8, 3) := by decide +kernel
theorem dX1_step_88 : decode cX1_step 88 = .ok (.iload 8, 2) := by decide +kernel
theorem dX1_step_90 : decode cX1_step 90 = .ok (.goto 5, 3) := by decide +kernel
theorem dX1_step_93 : decode cX1_step 93 = .ok (.iload 5, 2) := by decide +kernel
theorem dX1_step_95 : decode cX1_step 95 = .ok (.istore 5, 2) := by decide +kernel
theorem dX1_step_97 : decode cX1_step 97 = .ok (.aload_n 0, 1) := by decide +kernel
theorem dX1_step_98 : decode cX1_step 98 = .ok (.iload 5, 2) := by decide +kernel
theorem dX1_step_100 : decode cX1_step 100 = .ok (.invokevirtual 86, 3) := by decide +kernel
theorem dX1_step_103 : decode cX1_step 103 = .ok (.ireturn, 1) := by decide +kernel
abbrev cX1_rank : ByteArray := prog_1_method_18_code
def yX1_rank : MethodName := ⟨RX1, "rank", "()V"⟩
theorem dX1_rank_0 : decode cX1_rank 0 = .ok (.aload_n 0, 1) := by decide +kernel
theorem dX1_rank_1 : decode cX1_rank 1 = .ok (.iconst 0, 1) := by decide +kernel
theorem dX1_rank_2 : decode cX1_rank 2 = .ok (.putfield 104, 3) := by decide +kernel
theorem dX1_rank_5 : decode cX1_rank 5 = .ok (.aload_n 0, 1) := by decide +kernel
theorem dX1_rank_6 : decode cX1_rank 6 = .ok (.getfield 97, 3) := by decide +kernel
theorem dX1_rank_9 : decode cX1_rank 9 = .ok (.bipush 80, 2) := by decide +kernel
theorem dX1_rank_11 : decode cX1_rank 11 = .ok (.imul, 1) := by decide +kernel
theorem dX1_rank_12 : decode cX1_rank 12 = .ok (.istore_n 1, 1) := by decide +kernel
theorem dX1_rank_13 : decode cX1_rank 13 = .ok (.iconst 1, 1) := by decide +kernel
theorem dX1_rank_14 : decode cX1_rank 14 = .ok (.istore_n 2, 1) := by decide +kernel
theorem dX1_rank_15 : decode cX1_rank 15 = .ok (.aload_n 0, 1) := by decide +kernel
theorem dX1_rank_16 : decode cX1_rank 16 = .ok (.getfield 46, 3) := by decide +kernel
theorem dX1_rank_19 : decode cX1_rank 19 = .ok (.iconst 0, 1) := by decide +kernel
theorem dX1_rank_20 : decode cX1_rank 20 = .ok (.iconst 0, 1) := by decide +kernel
theorem dX1_rank_21 : decode cX1_rank 21 = .ok (.iastore, 1) := by decide +kernel
theorem dX1_rank_22 : decode cX1_rank 22 = .ok (.aload_n 0, 1) := by decide +kernel
theorem dX1_rank_23 : decode cX1_rank 23 = .ok (.getfield 49, 3) := by decide +kernel
theorem dX1_rank_26 : decode cX1_rank 26 = .ok (.iconst 0, 1) := by decide +kernel
theorem dX1_rank_27 : decode cX1_rank 27 = .ok (.aload_n 0, 1) := by decide +kernel
theorem dX1_rank_28 : decode cX1_rank 28 = .ok (.getfield 37, 3) := by decide +kernel
theorem dX1_rank_31 : decode cX1_rank 31 = .ok (.iload_n 1, 1) := by decide +kernel
theorem dX1_rank_32 : decode cX1_rank 32 = .ok (.iaload, 1) := by decide +kernel
theorem dX1_rank_33 : decode cX1_rank 33 = .ok (.iastore, 1) := by decide +kernel
theorem dX1_rank_34 : decode cX1_rank 34 = .ok (.iconst 0, 1) := by decide +kernel
theorem dX1_rank_35 : decode cX1_rank 35 = .ok (.istore_n 3, 1) := by decide +kernel
theorem dX1_rank_36 : decode cX1_rank 36 = .ok (.iload_n 3, 1) := by decide +kernel
theorem dX1_rank_37 : decode cX1_rank 37 = .ok (.bipush 80, 2) := by decide +kernel
theorem dX1_rank_39 : decode cX1_rank 39 = .ok (.if_icmp .ge 152, 3) := by decide +kernel
theorem dX1_rank_42 : decode cX1_rank 42 = .ok (.iload_n 2, 1) := by decide +kernel
theorem dX1_rank_43 : decode cX1_rank 43 = .ok (.ifCond .le 148, 3) := by decide +kernel
theorem dX1_rank_46 : decode cX1_rank 46 = .ok (.iinc 2 (-1), 3) := by decide +kernel
theorem dX1_rank_49 : decode cX1_rank 49 = .ok (.aload_n 0, 1) := by decide +kernel
theorem dX1_rank_50 : decode cX1_rank 50 = .ok (.getfield 46, 3) := by decide +kernel
theorem dX1_rank_53 : decode cX1_rank 53 = .ok (.iload_n 2, 1) := by decide +kernel
theorem dX1_rank_54 : decode cX1_rank 54 = .ok (.iaload, 1) := by decide +kernel
theorem dX1_rank_55 : decode cX1_rank 55 = .ok (.istore 4, 2) := by decide +kernel
theorem dX1_rank_57 : decode cX1_rank 57 = .ok (.aload_n 0, 1) := by decide +kernel
theorem dX1_rank_58 : decode cX1_rank 58 = .ok (.getfield 34, 3) := by decide +kernel
theorem dX1_rank_61 : decode cX1_rank 61 = .ok (.iload 4, 2) := by decide +kernel
theorem dX1_rank_63 : decode cX1_rank 63 = .ok (.iaload, 1) := by decide +kernel
theorem dX1_rank_64 : decode cX1_rank 64 = .ok (.ifCond .lt 35, 3) := by decide +kernel
theorem dX1_rank_67 : decode cX1_rank 67 = .ok (.iload 4, 2) := by decide +kernel
theorem dX1_rank_69 : decode cX1_rank 69 = .ok (.ifCond .eq 30, 3) := by decide +kernel
theorem dX1_rank_72 : decode cX1_rank 72 = .ok (.aload_n 0, 1) := by decide +kernel
theorem dX1_rank_73 : decode cX1_rank 73 = .ok (.getfield 49, 3) := by decide +kernel
theorem dX1_rank_76 : decode cX1_rank 76 = .ok (.iload 4, 2) := by decide +kernel
theorem dX1_rank_78 : decode cX1_rank 78 = .ok (.iaload, 1) := by decide +kernel
theorem dX1_rank_79 : decode cX1_rank 79 = .ok (.aload_n 0, 1) := by decide +kernel
theorem dX1_rank_80 : decode cX1_rank 80 = .ok (.getfield 52, 3) := by decide +kernel
theorem dX1_rank_83 : decode cX1_rank 83 = .ok (.if_icmp .gt 16, 3) := by decide +kernel
theorem dX1_rank_86 : decode cX1_rank 86 = .ok (.aload_n 0, 1) := by decide +kernel
theorem dX1_rank_87 : decode cX1_rank 87 = .ok (.iload 4, 2) := by decide +kernel
theorem dX1_rank_89 : decode cX1_rank 89 = .ok (.aload_n 0, 1) := by decide +kernel
theorem dX1_rank_90 : decode cX1_rank 90 = .ok (.getfield 49, 3) := by decide +kernel
theorem dX1_rank_93 : decode cX1_rank 93 = .ok (.iload 4, 2) := by decide +kernel
theorem dX1_rank_95 : decode cX1_rank 95 = .ok (.iaload, 1) := by decide +kernel
theorem dX1_rank_96 : decode cX1_rank 96 = .ok (.invokevirtual 107, 3) := by decide +kernel
theorem dX1_rank_99 : decode cX1_rank 99 = .ok (.iconst 3, 1) := by decide +kernel
theorem dX1_rank_100 : decode cX1_rank 100 = .ok (.istore 5, 2) := by decide +kernel
theorem dX1_rank_102 : decode cX1_rank 102 = .ok (.iload 5, 2) := by decide +kernel
theorem dX1_rank_104 : decode cX1_rank 104 = .ok (.ifCond .lt 81, 3) := by decide +kernel
theorem dX1_rank_107 : decode cX1_rank 107 = .ok (.aload_n 0, 1) := by decide +kernel
theorem dX1_rank_108 : decode cX1_rank 108 = .ok (.getfield 19, 3) := by decide +kernel
theorem dX1_rank_111 : decode cX1_rank 111 = .ok (.iload 4, 2) := by decide +kernel
theorem dX1_rank_113 : decode cX1_rank 113 = .ok (.iconst 4, 1) := by decide +kernel
theorem dX1_rank_114 : decode cX1_rank 114 = .ok (.imul, 1) := by decide +kernel
theorem dX1_rank_115 : decode cX1_rank 115 = .ok (.iload 5, 2) := by decide +kernel
theorem dX1_rank_117 : decode cX1_rank 117 = .ok (.iadd, 1) := by decide +kernel
theorem dX1_rank_118 : decode cX1_rank 118 = .ok (.iaload, 1) := by decide +kernel
theorem dX1_rank_119 : decode cX1_rank 119 = .ok (.istore 6, 2) := by decide +kernel
theorem dX1_rank_121 : decode cX1_rank 121 = .ok (.iload 6, 2) := by decide +kernel
theorem dX1_rank_123 : decode cX1_rank 123 = .ok (.ifCond .eq 56, 3) := by decide +kernel
theorem dX1_rank_126 : decode cX1_rank 126 = .ok (.aload_n 0, 1) := by decide +kernel
theorem dX1_rank_127 : decode cX1_rank 127 = .ok (.getfield 37, 3) := by decide +kernel
theorem dX1_rank_130 : decode cX1_rank 130 = .ok (.iload_n 1, 1) := by decide +kernel
theorem dX1_rank_131 : decode cX1_rank 131 = .ok (.iload 6, 2) := by decide +kernel
theorem dX1_rank_133 : decode cX1_rank 133 = .ok (.iadd, 1) := by decide +kernel
theorem dX1_rank_134 : decode cX1_rank 134 = .ok (.iaload, 1) := by decide +kernel
theorem dX1_rank_135 : decode cX1_rank 135 = .ok (.istore 7, 2) := by decide +kernel
theorem dX1_rank_137 : decode cX1_rank 137 = .ok (.aload_n 0, 1) := by decide +kernel
theorem dX1_rank_138 : decode cX1_rank 138 = .ok (.getfield 49, 3) := by decide +kernel
theorem dX1_rank_141 : decode cX1_rank 141 = .ok (.iload 6, 2) := by decide +kernel
theorem dX1_rank_143 : decode cX1_rank 143 = .ok (.iload 7, 2) := by decide +kernel
theorem dX1_rank_145 : decode cX1_rank 145 = .ok (.aload_n 0, 1) := by decide +kernel
theorem dX1_rank_146 : decode cX1_rank 146 = .ok (.getfield 49, 3) := by decide +kernel
theorem dX1_rank_149 : decode cX1_rank 149 = .ok (.iload 4, 2) := by decide +kernel
theorem dX1_rank_151 : decode cX1_rank 151 = .ok (.iaload, 1) := by decide +kernel
theorem dX1_rank_152 : decode cX1_rank 152 = .ok (.if_icmp .ge 8, 3) := by decide +kernel
theorem dX1_rank_155 : decode cX1_rank 155 = .ok (.iload 7, 2) := by decide +kernel
theorem dX1_rank_157 : decode cX1_rank 157 = .ok (.goto 10, 3) := by decide +kernel
theorem dX1_rank_160 : decode cX1_rank 160 = .ok (.aload_n 0, 1) := by decide +kernel
theorem dX1_rank_161 : decode cX1_rank 161 = .ok (.getfield 49, 3) := by decide +kernel
theorem dX1_rank_164 : decode cX1_rank 164 = .ok (.iload 4, 2) := by decide +kernel
theorem dX1_rank_166 : decode cX1_rank 166 = .ok (.iaload, 1) := by decide +kernel
theorem dX1_rank_167 : decode cX1_rank 167 = .ok (.iastore, 1) := by decide +kernel
theorem dX1_rank_168 : decode cX1_rank 168 = .ok (.aload_n 0, 1) := by decide +kernel
theorem dX1_rank_169 : decode cX1_rank 169 = .ok (.getfield 46, 3) := by decide +kernel
theorem dX1_rank_172 : decode cX1_rank 172 = .ok (.iload_n 2, 1) := by decide +kernel
theorem dX1_rank_173 : decode cX1_rank 173 = .ok (.iload 6, 2) := by decide +kernel
theorem dX1_rank_175 : decode cX1_rank 175 = .ok (.iastore, 1) := by decide +kernel
theorem dX1_rank_176 : decode cX1_rank 176 = .ok (.iinc 2 1, 3) := by decide +kernel
theorem dX1_rank_179 : decode cX1_rank 179 = .ok (.iinc 5 (-1), 3) := by decide +kernel
theorem dX1_rank_182 : decode cX1_rank 182 = .ok (.goto (-80), 3) := by decide +kernel
theorem dX1_rank_185 : decode cX1_rank 185 = .ok (.iinc 3 1, 3) := by decide +kernel
theorem dX1_rank_188 : decode cX1_rank 188 = .ok (.goto (-152), 3) := by decide +kernel
theorem dX1_rank_191 : decode cX1_rank 191 = .ok (.return_, 1) := by decide +kernel
abbrev cX1_insert : ByteArray := prog_1_method_20_code
def yX1_insert : MethodName := ⟨RX1, "insert", "(II)V"⟩
theorem dX1_insert_0 : decode cX1_insert 0 = .ok (.aload_n 0, 1) := by decide +kernel
theorem dX1_insert_1 : decode cX1_insert 1 = .ok (.getfield 104, 3) := by decide +kernel
theorem dX1_insert_4 : decode cX1_insert 4 = .ok (.istore_n 3, 1) := by decide +kernel
theorem dX1_insert_5 : decode cX1_insert 5 = .ok (.iconst 1, 1) := by decide +kernel
theorem dX1_insert_6 : decode cX1_insert 6 = .ok (.istore 4, 2) := by decide +kernel
theorem dX1_insert_8 : decode cX1_insert 8 = .ok (.aload_n 0, 1) := by decide +kernel
theorem dX1_insert_9 : decode cX1_insert 9 = .ok (.getfield 104, 3) := by decide +kernel
theorem dX1_insert_12 : decode cX1_insert 12 = .ok (.iconst 1, 1) := by decide +kernel
theorem dX1_insert_13 : decode cX1_insert 13 = .ok (.isub, 1) := by decide +kernel
theorem dX1_insert_14 : decode cX1_insert 14 = .ok (.istore 5, 2) := by decide +kernel
theorem dX1_insert_16 : decode cX1_insert 16 = .ok (.iload 5, 2) := by decide +kernel
theorem dX1_insert_18 : decode cX1_insert 18 = .ok (.ifCond .lt 69, 3) := by decide +kernel
theorem dX1_insert_21 : decode cX1_insert 21 = .ok (.iload 4, 2) := by decide +kernel
theorem dX1_insert_23 : decode cX1_insert 23 = .ok (.ifCond .eq 64, 3) := by decide +kernel
theorem dX1_insert_26 : decode cX1_insert 26 = .ok (.aload_n 0, 1) := by decide +kernel
theorem dX1_insert_27 : decode cX1_insert 27 = .ok (.iload_n 2, 1) := by decide +kernel
theorem dX1_insert_28 : decode cX1_insert 28 = .ok (.aload_n 0, 1) := by decide +kernel
theorem dX1_insert_29 : decode cX1_insert 29 = .ok (.getfield 34, 3) := by decide +kernel
theorem dX1_insert_32 : decode cX1_insert 32 = .ok (.iload_n 1, 1) := by decide +kernel
theorem dX1_insert_33 : decode cX1_insert 33 = .ok (.iaload, 1) := by decide +kernel
theorem dX1_insert_34 : decode cX1_insert 34 = .ok (.iload 5, 2) := by decide +kernel
theorem dX1_insert_36 : decode cX1_insert 36 = .ok (.invokevirtual 111, 3) := by decide +kernel
theorem dX1_insert_39 : decode cX1_insert 39 = .ok (.istore 4, 2) := by decide +kernel
theorem dX1_insert_41 : decode cX1_insert 41 = .ok (.iload 4, 2) := by decide +kernel
theorem dX1_insert_43 : decode cX1_insert 43 = .ok (.ifCond .eq 38, 3) := by decide +kernel
theorem dX1_insert_46 : decode cX1_insert 46 = .ok (.aload_n 0, 1) := by decide +kernel
theorem dX1_insert_47 : decode cX1_insert 47 = .ok (.getfield 40, 3) := by decide +kernel
theorem dX1_insert_50 : decode cX1_insert 50 = .ok (.iload 5, 2) := by decide +kernel
theorem dX1_insert_52 : decode cX1_insert 52 = .ok (.iconst 1, 1) := by decide +kernel
theorem dX1_insert_53 : decode cX1_insert 53 = .ok (.iadd, 1) := by decide +kernel
theorem dX1_insert_54 : decode cX1_insert 54 = .ok (.aload_n 0, 1) := by decide +kernel
theorem dX1_insert_55 : decode cX1_insert 55 = .ok (.getfield 40, 3) := by decide +kernel
theorem dX1_insert_58 : decode cX1_insert 58 = .ok (.iload 5, 2) := by decide +kernel
theorem dX1_insert_60 : decode cX1_insert 60 = .ok (.iaload, 1) := by decide +kernel
theorem dX1_insert_61 : decode cX1_insert 61 = .ok (.iastore, 1) := by decide +kernel
theorem dX1_insert_62 : decode cX1_insert 62 = .ok (.aload_n 0, 1) := by decide +kernel
theorem dX1_insert_63 : decode cX1_insert 63 = .ok (.getfield 43, 3) := by decide +kernel
theorem dX1_insert_66 : decode cX1_insert 66 = .ok (.iload 5, 2) := by decide +kernel
theorem dX1_insert_68 : decode cX1_insert 68 = .ok (.iconst 1, 1) := by decide +kernel
theorem dX1_insert_69 : decode cX1_insert 69 = .ok (.iadd, 1) := by decide +kernel
theorem dX1_insert_70 : decode cX1_insert 70 = .ok (.aload_n 0, 1) := by decide +kernel
theorem dX1_insert_71 : decode cX1_insert 71 = .ok (.getfield 43, 3) := by decide +kernel
theorem dX1_insert_74 : decode cX1_insert 74 = .ok (.iload 5, 2) := by decide +kernel
theorem dX1_insert_76 : decode cX1_insert 76 = .ok (.iaload, 1) := by decide +kernel
theorem dX1_insert_77 : decode cX1_insert 77 = .ok (.iastore, 1) := by decide +kernel
theorem dX1_insert_78 : decode cX1_insert 78 = .ok (.iload 5, 2) := by decide +kernel
theorem dX1_insert_80 : decode cX1_insert 80 = .ok (.istore_n 3, 1) := by decide +kernel
theorem dX1_insert_81 : decode cX1_insert 81 = .ok (.iinc 5 (-1), 3) := by decide +kernel
theorem dX1_insert_84 : decode cX1_insert 84 = .ok (.goto (-68), 3) := by decide +kernel
theorem dX1_insert_87 : decode cX1_insert 87 = .ok (.aload_n 0, 1) := by decide +kernel
theorem dX1_insert_88 : decode cX1_insert 88 = .ok (.getfield 40, 3) := by decide +kernel
theorem dX1_insert_91 : decode cX1_insert 91 = .ok (.iload_n 3, 1) := by decide +kernel
theorem dX1_insert_92 : decode cX1_insert 92 = .ok (.iload_n 1, 1) := by decide +kernel
theorem dX1_insert_93 : decode cX1_insert 93 = .ok (.iastore, 1) := by decide +kernel
theorem dX1_insert_94 : decode cX1_insert 94 = .ok (.aload_n 0, 1) := by decide +kernel
theorem dX1_insert_95 : decode cX1_insert 95 = .ok (.getfield 43, 3) := by decide +kernel
theorem dX1_insert_98 : decode cX1_insert 98 = .ok (.iload_n 3, 1) := by decide +kernel
theorem dX1_insert_99 : decode cX1_insert 99 = .ok (.iload_n 2, 1) := by decide +kernel
theorem dX1_insert_100 : decode cX1_insert 100 = .ok (.iastore, 1) := by decide +kernel
theorem dX1_insert_101 : decode cX1_insert 101 = .ok (.aload_n 0, 1) := by decide +kernel
theorem dX1_insert_102 : decode cX1_insert 102 = .ok (.dup, 1) := by decide +kernel
theorem dX1_insert_103 : decode cX1_insert 103 = .ok (.getfield 104, 3) := by decide +kernel
theorem dX1_insert_106 : decode cX1_insert 106 = .ok (.iconst 1, 1) := by decide +kernel
theorem dX1_insert_107 : decode cX1_insert 107 = .ok (.iadd, 1) := by decide +kernel
theorem dX1_insert_108 : decode cX1_insert 108 = .ok (.putfield 104, 3) := by decide +kernel
theorem dX1_insert_111 : decode cX1_insert 111 = .ok (.return_, 1) := by decide +kernel
abbrev cX1_before : ByteArray := prog_1_method_19_code
def yX1_before : MethodName := ⟨RX1, "before", "(III)Z"⟩
theorem dX1_before_0 : decode cX1_before 0 = .ok (.iload_n 1, 1) := by decide +kernel
theorem dX1_before_1 : decode cX1_before 1 = .ok (.aload_n 0, 1) := by decide +kernel
theorem dX1_before_2 : decode cX1_before 2 = .ok (.getfield 43, 3) := by decide +kernel
theorem dX1_before_5 : decode cX1_before 5 = .ok (.iload_n 3, 1) := by decide +kernel
theorem dX1_before_6 : decode cX1_before 6 = .ok (.iaload, 1) := by decide +kernel
theorem dX1_before_7 : decode cX1_before 7 = .ok (.if_icmp .eq 19, 3) := by decide +kernel
theorem dX1_before_10 : decode cX1_before 10 = .ok (.iload_n 1, 1) := by decide +kernel
theorem dX1_before_11 : decode cX1_before 11 = .ok (.aload_n 0, 1) := by decide +kernel
theorem dX1_before_12 : decode cX1_before 12 = .ok (.getfield 43, 3) := by decide +kernel
theorem dX1_before_15 : decode cX1_before 15 = .ok (.iload_n 3, 1) := by decide +kernel
theorem dX1_before_16 : decode cX1_before 16 = .ok (.iaload, 1) := by decide +kernel
theorem dX1_before_17 : decode cX1_before 17 = .ok (.if_icmp .ge 7, 3) := by decide +kernel
theorem dX1_before_20 : decode cX1_before 20 = .ok (.iconst 1, 1) := by decide +kernel
theorem dX1_before_21 : decode cX1_before 21 = .ok (.goto 4, 3) := by decide +kernel
theorem dX1_before_24 : decode cX1_before 24 = .ok (.iconst 0, 1) := by decide +kernel
theorem dX1_before_25 : decode cX1_before 25 = .ok (.ireturn, 1) := by decide +kernel
theorem dX1_before_26 : decode cX1_before 26 = .ok (.iload_n 2, 1) := by decide +kernel
theorem dX1_before_27 : decode cX1_before 27 = .ok (.aload_n 0, 1) := by decide +kernel
theorem dX1_before_28 : decode cX1_before 28 = .ok (.getfield 34, 3) := by decide +kernel
theorem dX1_before_31 : decode cX1_before 31 = .ok (.aload_n 0, 1) := by decide +kernel
theorem dX1_before_32 : decode cX1_before 32 = .ok (.getfield 40, 3) := by decide +kernel
theorem dX1_before_35 : decode cX1_before 35 = .ok (.iload_n 3, 1) := by decide +kernel
theorem dX1_before_36 : decode cX1_before 36 = .ok (.iaload, 1) := by decide +kernel
theorem dX1_before_37 : decode cX1_before 37 = .ok (.iaload, 1) := by decide +kernel
theorem dX1_before_38 : decode cX1_before 38 = .ok (.if_icmp .le 7, 3) := by decide +kernel
theorem dX1_before_41 : decode cX1_before 41 = .ok (.iconst 1, 1) := by decide +kernel
theorem dX1_before_42 : decode cX1_before 42 = .ok (.goto 4, 3) := by decide +kernel
theorem dX1_before_45 : decode cX1_before 45 = .ok (.iconst 0, 1) := by decide +kernel
theorem dX1_before_46 : decode cX1_before 46 = .ok (.ireturn, 1) := by decide +kernel
abbrev cX1_draft : ByteArray := prog_1_method_3_code
def yX1_draft : MethodName := ⟨RX1, "draft", "(I)I"⟩
theorem dX1_draft_0 : decode cX1_draft 0 = .ok (.aload_n 0, 1) := by decide +kernel
theorem dX1_draft_1 : decode cX1_draft 1 = .ok (.iload_n 1, 1) := by decide +kernel
theorem dX1_draft_2 : decode cX1_draft 2 = .ok (.invokevirtual 59, 3) := by decide +kernel
theorem dX1_draft_5 : decode cX1_draft 5 = .ok (.ifCond .eq 5, 3) := by decide +kernel
theorem dX1_draft_8 : decode cX1_draft 8 = .ok (.iconst (-1), 1) := by decide +kernel
theorem dX1_draft_9 : decode cX1_draft 9 = .ok (.ireturn, 1) := by decide +kernel
theorem dX1_draft_10 : decode cX1_draft 10 = .ok (.aload_n 0, 1) := by decide +kernel
theorem dX1_draft_11 : decode cX1_draft 11 = .ok (.getfield 63, 3) := by decide +kernel
theorem dX1_draft_14 : decode cX1_draft 14 = .ok (.bipush 6, 2) := by decide +kernel
theorem dX1_draft_16 : decode cX1_draft 16 = .ok (.if_icmp .ne 6, 3) := by decide +kernel
theorem dX1_draft_19 : decode cX1_draft 19 = .ok (.bipush (-2), 2) := by decide +kernel
theorem dX1_draft_21 : decode cX1_draft 21 = .ok (.ireturn, 1) := by decide +kernel
theorem dX1_draft_22 : decode cX1_draft 22 = .ok (.aload_n 0, 1) := by decide +kernel
theorem dX1_draft_23 : decode cX1_draft 23 = .ok (.getfield 7, 3) := by decide +kernel
theorem dX1_draft_26 : decode cX1_draft 26 = .ok (.aload_n 0, 1) := by decide +kernel
theorem dX1_draft_27 : decode cX1_draft 27 = .ok (.getfield 63, 3) := by decide +kernel
theorem dX1_draft_30 : decode cX1_draft 30 = .ok (.iload_n 1, 1) := by decide +kernel
theorem dX1_draft_31 : decode cX1_draft 31 = .ok (.iastore, 1) := by decide +kernel
theorem dX1_draft_32 : decode cX1_draft 32 = .ok (.aload_n 0, 1) := by decide +kernel
theorem dX1_draft_33 : decode cX1_draft 33 = .ok (.dup, 1) := by decide +kernel
theorem dX1_draft_34 : decode cX1_draft 34 = .ok (.getfield 63, 3) := by decide +kernel
theorem dX1_draft_37 : decode cX1_draft 37 = .ok (.iconst 1, 1) := by decide +kernel
theorem dX1_draft_38 : decode cX1_draft 38 = .ok (.iadd, 1) := by decide +kernel
theorem dX1_draft_39 : decode cX1_draft 39 = .ok (.putfield 63, 3) := by decide +kernel
theorem dX1_draft_42 : decode cX1_draft 42 = .ok (.aload_n 0, 1) := by decide +kernel
theorem dX1_draft_43 : decode cX1_draft 43 = .ok (.getfield 63, 3) := by decide +kernel
theorem dX1_draft_46 : decode cX1_draft 46 = .ok (.ireturn, 1) := by decide +kernel
abbrev cX1_badLetter : ByteArray := prog_1_method_2_code
def yX1_badLetter : MethodName := ⟨RX1, "badLetter", "(I)Z"⟩
theorem dX1_badLetter_0 : decode cX1_badLetter 0 = .ok (.iload_n 1, 1) := by decide +kernel
theorem dX1_badLetter_1 : decode cX1_badLetter 1 = .ok (.ifCond .lt 8, 3) := by decide +kernel
theorem dX1_badLetter_4 : decode cX1_badLetter 4 = .ok (.iload_n 1, 1) := by decide +kernel
theorem dX1_badLetter_5 : decode cX1_badLetter 5 = .ok (.iconst 3, 1) := by decide +kernel
theorem dX1_badLetter_6 : decode cX1_badLetter 6 = .ok (.if_icmp .le 7, 3) := by decide +kernel
theorem dX1_badLetter_9 : decode cX1_badLetter 9 = .ok (.iconst 1, 1) := by decide +kernel
theorem dX1_badLetter_10 : decode cX1_badLetter 10 = .ok (.goto 4, 3) := by decide +kernel
theorem dX1_badLetter_13 : decode cX1_badLetter 13 = .ok (.iconst 0, 1) := by decide +kernel
theorem dX1_badLetter_14 : decode cX1_badLetter 14 = .ok (.ireturn, 1) := by decide +kernel
abbrev cX1_scrap : ByteArray := prog_1_method_4_code
def yX1_scrap : MethodName := ⟨RX1, "scrap", "()V"⟩
theorem dX1_scrap_0 : decode cX1_scrap 0 = .ok (.aload_n 0, 1) := by decide +kernel
theorem dX1_scrap_1 : decode cX1_scrap 1 = .ok (.iconst 0, 1) := by decide +kernel
theorem dX1_scrap_2 : decode cX1_scrap 2 = .ok (.putfield 63, 3) := by decide +kernel
theorem dX1_scrap_5 : decode cX1_scrap 5 = .ok (.return_, 1) := by decide +kernel
abbrev cX1_add : ByteArray := prog_1_method_8_code
def yX1_add : MethodName := ⟨RX1, "add", "(I)I"⟩
theorem dX1_add_0 : decode cX1_add 0 = .ok (.iload_n 1, 1) := by decide +kernel
theorem dX1_add_1 : decode cX1_add 1 = .ok (.ifCond .lt 16, 3) := by decide +kernel
theorem dX1_add_4 : decode cX1_add 4 = .ok (.iload_n 1, 1) := by decide +kernel
theorem dX1_add_5 : decode cX1_add 5 = .ok (.bipush 99, 2) := by decide +kernel
theorem dX1_add_7 : decode cX1_add 7 = .ok (.if_icmp .gt 10, 3) := by decide +kernel
theorem dX1_add_10 : decode cX1_add 10 = .ok (.aload_n 0, 1) := by decide +kernel
theorem dX1_add_11 : decode cX1_add 11 = .ok (.getfield 63, 3) := by decide +kernel
theorem dX1_add_14 : decode cX1_add 14 = .ok (.ifCond .ne 5, 3) := by decide +kernel
theorem dX1_add_17 : decode cX1_add 17 = .ok (.iconst (-1), 1) := by decide +kernel
theorem dX1_add_18 : decode cX1_add 18 = .ok (.ireturn, 1) := by decide +kernel
theorem dX1_add_19 : decode cX1_add 19 = .ok (.aload_n 0, 1) := by decide +kernel
theorem dX1_add_20 : decode cX1_add 20 = .ok (.invokevirtual 70, 3) := by decide +kernel
theorem dX1_add_23 : decode cX1_add 23 = .ok (.istore_n 2, 1) := by decide +kernel
theorem dX1_add_24 : decode cX1_add 24 = .ok (.iload_n 2, 1) := by decide +kernel
theorem dX1_add_25 : decode cX1_add 25 = .ok (.ifCond .le 30, 3) := by decide +kernel
theorem dX1_add_28 : decode cX1_add 28 = .ok (.aload_n 0, 1) := by decide +kernel
theorem dX1_add_29 : decode cX1_add 29 = .ok (.getfield 34, 3) := by decide +kernel
theorem dX1_add_32 : decode cX1_add 32 = .ok (.iload_n 2, 1) := by decide +kernel
theorem dX1_add_33 : decode cX1_add 33 = .ok (.iaload, 1) := by decide +kernel
theorem dX1_add_34 : decode cX1_add 34 = .ok (.ifCond .lt 21, 3) := by decide +kernel
theorem dX1_add_37 : decode cX1_add 37 = .ok (.aload_n 0, 1) := by decide +kernel
theorem dX1_add_38 : decode cX1_add 38 = .ok (.getfield 34, 3) := by decide +kernel
theorem dX1_add_41 : decode cX1_add 41 = .ok (.iload_n 2, 1) := by decide +kernel
theorem dX1_add_42 : decode cX1_add 42 = .ok (.iload_n 1, 1) := by decide +kernel
theorem dX1_add_43 : decode cX1_add 43 = .ok (.iastore, 1) := by decide +kernel
theorem dX1_add_44 : decode cX1_add 44 = .ok (.aload_n 0, 1) := by decide +kernel
theorem dX1_add_45 : decode cX1_add 45 = .ok (.iconst 0, 1) := by decide +kernel
theorem dX1_add_46 : decode cX1_add 46 = .ok (.putfield 63, 3) := by decide +kernel
theorem dX1_add_49 : decode cX1_add 49 = .ok (.aload_n 0, 1) := by decide +kernel
theorem dX1_add_50 : decode cX1_add 50 = .ok (.invokevirtual 73, 3) := by decide +kernel
theorem dX1_add_53 : decode cX1_add 53 = .ok (.iconst 0, 1) := by decide +kernel
theorem dX1_add_54 : decode cX1_add 54 = .ok (.ireturn, 1) := by decide +kernel
theorem dX1_add_55 : decode cX1_add 55 = .ok (.aload_n 0, 1) := by decide +kernel
theorem dX1_add_56 : decode cX1_add 56 = .ok (.getfield 76, 3) := by decide +kernel
theorem dX1_add_59 : decode cX1_add 59 = .ok (.bipush 12, 2) := by decide +kernel
theorem dX1_add_61 : decode cX1_add 61 = .ok (.if_icmp .ne 6, 3) := by decide +kernel
theorem dX1_add_64 : decode cX1_add 64 = .ok (.bipush (-2), 2) := by decide +kernel
theorem dX1_add_66 : decode cX1_add 66 = .ok (.ireturn, 1) := by decide +kernel
theorem dX1_add_67 : decode cX1_add 67 = .ok (.iconst 0, 1) := by decide +kernel
theorem dX1_add_68 : decode cX1_add 68 = .ok (.istore_n 3, 1) := by decide +kernel
theorem dX1_add_69 : decode cX1_add 69 = .ok (.aload_n 0, 1) := by decide +kernel
theorem dX1_add_70 : decode cX1_add 70 = .ok (.getfield 16, 3) := by decide +kernel
theorem dX1_add_73 : decode cX1_add 73 = .ok (.iconst 0, 1) := by decide +kernel
theorem dX1_add_74 : decode cX1_add 74 = .ok (.aload_n 0, 1) := by decide +kernel
theorem dX1_add_75 : decode cX1_add 75 = .ok (.getfield 16, 3) := by decide +kernel
theorem dX1_add_78 : decode cX1_add 78 = .ok (.iconst 0, 1) := by decide +kernel
theorem dX1_add_79 : decode cX1_add 79 = .ok (.iaload, 1) := by decide +kernel
theorem dX1_add_80 : decode cX1_add 80 = .ok (.iconst 1, 1) := by decide +kernel
theorem dX1_add_81 : decode cX1_add 81 = .ok (.iadd, 1) := by decide +kernel
theorem dX1_add_82 : decode cX1_add 82 = .ok (.iastore, 1) := by decide +kernel
theorem dX1_add_83 : decode cX1_add 83 = .ok (.iconst 0, 1) := by decide +kernel
theorem dX1_add_84 : decode cX1_add 84 = .ok (.istore 4, 2) := by decide +kernel
theorem dX1_add_86 : decode cX1_add 86 = .ok (.iload 4, 2) := by decide +kernel
theorem dX1_add_88 : decode cX1_add 88 = .ok (.aload_n 0, 1) := by decide +kernel
theorem dX1_add_89 : decode cX1_add 89 = .ok (.getfield 63, 3) := by decide +kernel
theorem dX1_add_92 : decode cX1_add 92 = .ok (.if_icmp .ge 63, 3) := by decide +kernel
theorem dX1_add_95 : decode cX1_add 95 = .ok (.aload_n 0, 1) := by decide +kernel
theorem dX1_add_96 : decode cX1_add 96 = .ok (.getfield 19, 3) := by decide +kernel
theorem dX1_add_99 : decode cX1_add 99 = .ok (.iload_n 3, 1) := by decide +kernel
theorem dX1_add_100 : decode cX1_add 100 = .ok (.iconst 4, 1) := by decide +kernel
theorem dX1_add_101 : decode cX1_add 101 = .ok (.imul, 1) := by decide +kernel
theorem dX1_add_102 : decode cX1_add 102 = .ok (.aload_n 0, 1) := by decide +kernel
theorem dX1_add_103 : decode cX1_add 103 = .ok (.getfield 7, 3) := by decide +kernel
theorem dX1_add_106 : decode cX1_add 106 = .ok (.iload 4, 2) := by decide +kernel
theorem dX1_add_108 : decode cX1_add 108 = .ok (.iaload, 1) := by decide +kernel
theorem dX1_add_109 : decode cX1_add 109 = .ok (.iadd, 1) := by decide +kernel
theorem dX1_add_110 : decode cX1_add 110 = .ok (.iaload, 1) := by decide +kernel
theorem dX1_add_111 : decode cX1_add 111 = .ok (.istore 5, 2) := by decide +kernel
theorem dX1_add_113 : decode cX1_add 113 = .ok (.iload 5, 2) := by decide +kernel
theorem dX1_add_115 : decode cX1_add 115 = .ok (.ifCond .ne 17, 3) := by decide +kernel
theorem dX1_add_118 : decode cX1_add 118 = .ok (.aload_n 0, 1) := by decide +kernel
theorem dX1_add_119 : decode cX1_add 119 = .ok (.iload_n 3, 1) := by decide +kernel
theorem dX1_add_120 : decode cX1_add 120 = .ok (.aload_n 0, 1) := by decide +kernel
theorem dX1_add_121 : decode cX1_add 121 = .ok (.getfield 7, 3) := by decide +kernel
theorem dX1_add_124 : decode cX1_add 124 = .ok (.iload 4, 2) := by decide +kernel
theorem dX1_add_126 : decode cX1_add 126 = .ok (.iaload, 1) := by decide +kernel
theorem dX1_add_127 : decode cX1_add 127 = .ok (.invokevirtual 79, 3) := by decide +kernel
theorem dX1_add_130 : decode cX1_add 130 = .ok (.istore 5, 2) := by decide +kernel
theorem dX1_add_132 : decode cX1_add 132 = .ok (.iload 5, 2) := by decide +kernel
theorem dX1_add_134 : decode cX1_add 134 = .ok (.istore_n 3, 1) := by decide +kernel
theorem dX1_add_135 : decode cX1_add 135 = .ok (.aload_n 0, 1) := by decide +kernel
theorem dX1_add_136 : decode cX1_add 136 = .ok (.getfield 16, 3) := by decide +kernel
theorem dX1_add_139 : decode cX1_add 139 = .ok (.iload_n 3, 1) := by decide +kernel
theorem dX1_add_140 : decode cX1_add 140 = .ok (.aload_n 0, 1) := by decide +kernel
theorem dX1_add_141 : decode cX1_add 141 = .ok (.getfield 16, 3) := by decide +kernel
theorem dX1_add_144 : decode cX1_add 144 = .ok (.iload_n 3, 1) := by decide +kernel
theorem dX1_add_145 : decode cX1_add 145 = .ok (.iaload, 1) := by decide +kernel
theorem dX1_add_146 : decode cX1_add 146 = .ok (.iconst 1, 1) := by decide +kernel
theorem dX1_add_147 : decode cX1_add 147 = .ok (.iadd, 1) := by decide +kernel
theorem dX1_add_148 : decode cX1_add 148 = .ok (.iastore, 1) := by decide +kernel
theorem dX1_add_149 : decode cX1_add 149 = .ok (.iinc 4 1, 3) := by decide +kernel
theorem dX1_add_152 : decode cX1_add 152 = .ok (.goto (-66), 3) := by decide +kernel
theorem dX1_add_155 : decode cX1_add 155 = .ok (.aload_n 0, 1) := by decide +kernel
theorem dX1_add_156 : decode cX1_add 156 = .ok (.getfield 34, 3) := by decide +kernel
theorem dX1_add_159 : decode cX1_add 159 = .ok (.iload_n 3, 1) := by decide +kernel
theorem dX1_add_160 : decode cX1_add 160 = .ok (.iload_n 1, 1) := by decide +kernel
theorem dX1_add_161 : decode cX1_add 161 = .ok (.iastore, 1) := by decide +kernel
theorem dX1_add_162 : decode cX1_add 162 = .ok (.aload_n 0, 1) := by decide +kernel
theorem dX1_add_163 : decode cX1_add 163 = .ok (.dup, 1) := by decide +kernel
theorem dX1_add_164 : decode cX1_add 164 = .ok (.getfield 76, 3) := by decide +kernel
theorem dX1_add_167 : decode cX1_add 167 = .ok (.iconst 1, 1) := by decide +kernel
theorem dX1_add_168 : decode cX1_add 168 = .ok (.iadd, 1) := by decide +kernel
theorem dX1_add_169 : decode cX1_add 169 = .ok (.putfield 76, 3) := by decide +kernel
theorem dX1_add_172 : decode cX1_add 172 = .ok (.aload_n 0, 1) := by decide +kernel
theorem dX1_add_173 : decode cX1_add 173 = .ok (.iconst 0, 1) := by decide +kernel
theorem dX1_add_174 : decode cX1_add 174 = .ok (.putfield 63, 3) := by decide +kernel
theorem dX1_add_177 : decode cX1_add 177 = .ok (.aload_n 0, 1) := by decide +kernel
theorem dX1_add_178 : decode cX1_add 178 = .ok (.invokevirtual 56, 3) := by decide +kernel
theorem dX1_add_181 : decode cX1_add 181 = .ok (.iconst 1, 1) := by decide +kernel
theorem dX1_add_182 : decode cX1_add 182 = .ok (.ireturn, 1) := by decide +kernel
abbrev cX1_draftNode : ByteArray := prog_1_method_5_code
def yX1_draftNode : MethodName := ⟨RX1, "draftNode", "()I"⟩
theorem dX1_draftNode_0 : decode cX1_draftNode 0 = .ok (.iconst 0, 1) := by decide +kernel
theorem dX1_draftNode_1 : decode cX1_draftNode 1 = .ok (.istore_n 1, 1) := by decide +kernel
theorem dX1_draftNode_2 : decode cX1_draftNode 2 = .ok (.iconst 0, 1) := by decide +kernel
theorem dX1_draftNode_3 : decode cX1_draftNode 3 = .ok (.istore_n 2, 1) := by decide +kernel
theorem dX1_draftNode_4 : decode cX1_draftNode 4 = .ok (.iload_n 2, 1) := by decide +kernel
theorem dX1_draftNode_5 : decode cX1_draftNode 5 = .ok (.aload_n 0, 1) := by decide +kernel
theorem dX1_draftNode_6 : decode cX1_draftNode 6 = .ok (.getfield 63, 3) := by decide +kernel
theorem dX1_draftNode_9 : decode cX1_draftNode 9 = .ok (.if_icmp .ge 31, 3) := by decide +kernel
theorem dX1_draftNode_12 : decode cX1_draftNode 12 = .ok (.aload_n 0, 1) := by decide +kernel
theorem dX1_draftNode_13 : decode cX1_draftNode 13 = .ok (.getfield 19, 3) := by decide +kernel
theorem dX1_draftNode_16 : decode cX1_draftNode 16 = .ok (.iload_n 1, 1) := by decide +kernel
theorem dX1_draftNode_17 : decode cX1_draftNode 17 = .ok (.iconst 4, 1) := by decide +kernel
theorem dX1_draftNode_18 : decode cX1_draftNode 18 = .ok (.imul, 1) := by decide +kernel
theorem dX1_draftNode_19 : decode cX1_draftNode 19 = .ok (.aload_n 0, 1) := by decide +kernel
theorem dX1_draftNode_20 : decode cX1_draftNode 20 = .ok (.getfield 7, 3) := by decide +kernel
theorem dX1_draftNode_23 : decode cX1_draftNode 23 = .ok (.iload_n 2, 1) := by decide +kernel
theorem dX1_draftNode_24 : decode cX1_draftNode 24 = .ok (.iaload, 1) := by decide +kernel
theorem dX1_draftNode_25 : decode cX1_draftNode 25 = .ok (.iadd, 1) := by decide +kernel
theorem dX1_draftNode_26 : decode cX1_draftNode 26 = .ok (.iaload, 1) := by decide +kernel
theorem dX1_draftNode_27 : decode cX1_draftNode 27 = .ok (.istore_n 1, 1) := by decide +kernel
theorem dX1_draftNode_28 : decode cX1_draftNode 28 = .ok (.iload_n 1, 1) := by decide +kernel
theorem dX1_draftNode_29 : decode cX1_draftNode 29 = .ok (.ifCond .ne 5, 3) := by decide +kernel
theorem dX1_draftNode_32 : decode cX1_draftNode 32 = .ok (.iconst (-1), 1) := by decide +kernel
theorem dX1_draftNode_33 : decode cX1_draftNode 33 = .ok (.ireturn, 1) := by decide +kernel
theorem dX1_draftNode_34 : decode cX1_draftNode 34 = .ok (.iinc 2 1, 3) := by decide +kernel
theorem dX1_draftNode_37 : decode cX1_draftNode 37 = .ok (.goto (-33), 3) := by decide +kernel
theorem dX1_draftNode_40 : decode cX1_draftNode 40 = .ok (.iload_n 1, 1) := by decide +kernel
theorem dX1_draftNode_41 : decode cX1_draftNode 41 = .ok (.ireturn, 1) := by decide +kernel
abbrev cX1_makeChild : ByteArray := prog_1_method_7_code
def yX1_makeChild : MethodName := ⟨RX1, "makeChild", "(II)I"⟩
theorem dX1_makeChild_0 : decode cX1_makeChild 0 = .ok (.aload_n 0, 1) := by decide +kernel
theorem dX1_makeChild_1 : decode cX1_makeChild 1 = .ok (.invokevirtual 66, 3) := by decide +kernel
theorem dX1_makeChild_4 : decode cX1_makeChild 4 = .ok (.istore_n 3, 1) := by decide +kernel
theorem dX1_makeChild_5 : decode cX1_makeChild 5 = .ok (.aload_n 0, 1) := by decide +kernel
theorem dX1_makeChild_6 : decode cX1_makeChild 6 = .ok (.getfield 19, 3) := by decide +kernel
theorem dX1_makeChild_9 : decode cX1_makeChild 9 = .ok (.iload_n 1, 1) := by decide +kernel
theorem dX1_makeChild_10 : decode cX1_makeChild 10 = .ok (.iconst 4, 1) := by decide +kernel
theorem dX1_makeChild_11 : decode cX1_makeChild 11 = .ok (.imul, 1) := by decide +kernel
theorem dX1_makeChild_12 : decode cX1_makeChild 12 = .ok (.iload_n 2, 1) := by decide +kernel
theorem dX1_makeChild_13 : decode cX1_makeChild 13 = .ok (.iadd, 1) := by decide +kernel
theorem dX1_makeChild_14 : decode cX1_makeChild 14 = .ok (.iload_n 3, 1) := by decide +kernel
theorem dX1_makeChild_15 : decode cX1_makeChild 15 = .ok (.iastore, 1) := by decide +kernel
theorem dX1_makeChild_16 : decode cX1_makeChild 16 = .ok (.aload_n 0, 1) := by decide +kernel
theorem dX1_makeChild_17 : decode cX1_makeChild 17 = .ok (.getfield 22, 3) := by decide +kernel
theorem dX1_makeChild_20 : decode cX1_makeChild 20 = .ok (.iload_n 3, 1) := by decide +kernel
theorem dX1_makeChild_21 : decode cX1_makeChild 21 = .ok (.iload_n 1, 1) := by decide +kernel
theorem dX1_makeChild_22 : decode cX1_makeChild 22 = .ok (.iastore, 1) := by decide +kernel
theorem dX1_makeChild_23 : decode cX1_makeChild 23 = .ok (.aload_n 0, 1) := by decide +kernel
theorem dX1_makeChild_24 : decode cX1_makeChild 24 = .ok (.getfield 25, 3) := by decide +kernel
theorem dX1_makeChild_27 : decode cX1_makeChild 27 = .ok (.iload_n 3, 1) := by decide +kernel
theorem dX1_makeChild_28 : decode cX1_makeChild 28 = .ok (.iload_n 2, 1) := by decide +kernel
theorem dX1_makeChild_29 : decode cX1_makeChild 29 = .ok (.iastore, 1) := by decide +kernel
theorem dX1_makeChild_30 : decode cX1_makeChild 30 = .ok (.aload_n 0, 1) := by decide +kernel
theorem dX1_makeChild_31 : decode cX1_makeChild 31 = .ok (.getfield 28, 3) := by decide +kernel
theorem dX1_makeChild_34 : decode cX1_makeChild 34 = .ok (.iload_n 3, 1) := by decide +kernel
theorem dX1_makeChild_35 : decode cX1_makeChild 35 = .ok (.aload_n 0, 1) := by decide +kernel
theorem dX1_makeChild_36 : decode cX1_makeChild 36 = .ok (.getfield 28, 3) := by decide +kernel
theorem dX1_makeChild_39 : decode cX1_makeChild 39 = .ok (.iload_n 1, 1) := by decide +kernel
theorem dX1_makeChild_40 : decode cX1_makeChild 40 = .ok (.iaload, 1) := by decide +kernel
theorem dX1_makeChild_41 : decode cX1_makeChild 41 = .ok (.iconst 1, 1) := by decide +kernel
theorem dX1_makeChild_42 : decode cX1_makeChild 42 = .ok (.iadd, 1) := by decide +kernel
theorem dX1_makeChild_43 : decode cX1_makeChild 43 = .ok (.iastore, 1) := by decide +kernel
theorem dX1_makeChild_44 : decode cX1_makeChild 44 = .ok (.aload_n 0, 1) := by decide +kernel
theorem dX1_makeChild_45 : decode cX1_makeChild 45 = .ok (.getfield 31, 3) := by decide +kernel
theorem dX1_makeChild_48 : decode cX1_makeChild 48 = .ok (.iload_n 3, 1) := by decide +kernel
theorem dX1_makeChild_49 : decode cX1_makeChild 49 = .ok (.aload_n 0, 1) := by decide +kernel
theorem dX1_makeChild_50 : decode cX1_makeChild 50 = .ok (.getfield 31, 3) := by decide +kernel
theorem dX1_makeChild_53 : decode cX1_makeChild 53 = .ok (.iload_n 1, 1) := by decide +kernel
theorem dX1_makeChild_54 : decode cX1_makeChild 54 = .ok (.iaload, 1) := by decide +kernel
theorem dX1_makeChild_55 : decode cX1_makeChild 55 = .ok (.iconst 5, 1) := by decide +kernel
theorem dX1_makeChild_56 : decode cX1_makeChild 56 = .ok (.imul, 1) := by decide +kernel
theorem dX1_makeChild_57 : decode cX1_makeChild 57 = .ok (.iload_n 2, 1) := by decide +kernel
theorem dX1_makeChild_58 : decode cX1_makeChild 58 = .ok (.iadd, 1) := by decide +kernel
theorem dX1_makeChild_59 : decode cX1_makeChild 59 = .ok (.iconst 1, 1) := by decide +kernel
theorem dX1_makeChild_60 : decode cX1_makeChild 60 = .ok (.iadd, 1) := by decide +kernel
theorem dX1_makeChild_61 : decode cX1_makeChild 61 = .ok (.iastore, 1) := by decide +kernel
theorem dX1_makeChild_62 : decode cX1_makeChild 62 = .ok (.aload_n 0, 1) := by decide +kernel
theorem dX1_makeChild_63 : decode cX1_makeChild 63 = .ok (.getfield 34, 3) := by decide +kernel
theorem dX1_makeChild_66 : decode cX1_makeChild 66 = .ok (.iload_n 3, 1) := by decide +kernel
theorem dX1_makeChild_67 : decode cX1_makeChild 67 = .ok (.bipush (-4), 2) := by decide +kernel
theorem dX1_makeChild_69 : decode cX1_makeChild 69 = .ok (.iastore, 1) := by decide +kernel
theorem dX1_makeChild_70 : decode cX1_makeChild 70 = .ok (.iconst 0, 1) := by decide +kernel
theorem dX1_makeChild_71 : decode cX1_makeChild 71 = .ok (.istore 4, 2) := by decide +kernel
theorem dX1_makeChild_73 : decode cX1_makeChild 73 = .ok (.iload 4, 2) := by decide +kernel
theorem dX1_makeChild_75 : decode cX1_makeChild 75 = .ok (.iconst 4, 1) := by decide +kernel
theorem dX1_makeChild_76 : decode cX1_makeChild 76 = .ok (.if_icmp .ge 21, 3) := by decide +kernel
theorem dX1_makeChild_79 : decode cX1_makeChild 79 = .ok (.aload_n 0, 1) := by decide +kernel
theorem dX1_makeChild_80 : decode cX1_makeChild 80 = .ok (.getfield 19, 3) := by decide +kernel
theorem dX1_makeChild_83 : decode cX1_makeChild 83 = .ok (.iload_n 3, 1) := by decide +kernel
theorem dX1_makeChild_84 : decode cX1_makeChild 84 = .ok (.iconst 4, 1) := by decide +kernel
theorem dX1_makeChild_85 : decode cX1_makeChild 85 = .ok (.imul, 1) := by decide +kernel
theorem dX1_makeChild_86 : decode cX1_makeChild 86 = .ok (.iload 4, 2) := by decide +kernel
theorem dX1_makeChild_88 : decode cX1_makeChild 88 = .ok (.iadd, 1) := by decide +kernel
theorem dX1_makeChild_89 : decode cX1_makeChild 89 = .ok (.iconst 0, 1) := by decide +kernel
theorem dX1_makeChild_90 : decode cX1_makeChild 90 = .ok (.iastore, 1) := by decide +kernel
theorem dX1_makeChild_91 : decode cX1_makeChild 91 = .ok (.iinc 4 1, 3) := by decide +kernel
theorem dX1_makeChild_94 : decode cX1_makeChild 94 = .ok (.goto (-21), 3) := by decide +kernel
theorem dX1_makeChild_97 : decode cX1_makeChild 97 = .ok (.iload_n 3, 1) := by decide +kernel
theorem dX1_makeChild_98 : decode cX1_makeChild 98 = .ok (.ireturn, 1) := by decide +kernel
abbrev cX1_freeNode : ByteArray := prog_1_method_6_code
def yX1_freeNode : MethodName := ⟨RX1, "freeNode", "()I"⟩
theorem dX1_freeNode_0 : decode cX1_freeNode 0 = .ok (.iconst 1, 1) := by decide +kernel
theorem dX1_freeNode_1 : decode cX1_freeNode 1 = .ok (.istore_n 1, 1) := by decide +kernel
theorem dX1_freeNode_2 : decode cX1_freeNode 2 = .ok (.bipush 79, 2) := by decide +kernel
theorem dX1_freeNode_4 : decode cX1_freeNode 4 = .ok (.istore_n 2, 1) := by decide +kernel
theorem dX1_freeNode_5 : decode cX1_freeNode 5 = .ok (.iload_n 2, 1) := by decide +kernel
theorem dX1_freeNode_6 : decode cX1_freeNode 6 = .ok (.ifCond .le 20, 3) := by decide +kernel
theorem dX1_freeNode_9 : decode cX1_freeNode 9 = .ok (.aload_n 0, 1) := by decide +kernel
theorem dX1_freeNode_10 : decode cX1_freeNode 10 = .ok (.getfield 16, 3) := by decide +kernel
theorem dX1_freeNode_13 : decode cX1_freeNode 13 = .ok (.iload_n 2, 1) := by decide +kernel
theorem dX1_freeNode_14 : decode cX1_freeNode 14 = .ok (.iaload, 1) := by decide +kernel
theorem dX1_freeNode_15 : decode cX1_freeNode 15 = .ok (.ifCond .ne 5, 3) := by decide +kernel
theorem dX1_freeNode_18 : decode cX1_freeNode 18 = .ok (.iload_n 2, 1) := by decide +kernel
theorem dX1_freeNode_19 : decode cX1_freeNode 19 = .ok (.istore_n 1, 1) := by decide +kernel
theorem dX1_freeNode_20 : decode cX1_freeNode 20 = .ok (.iinc 2 (-1), 3) := by decide +kernel
theorem dX1_freeNode_23 : decode cX1_freeNode 23 = .ok (.goto (-18), 3) := by decide +kernel
theorem dX1_freeNode_26 : decode cX1_freeNode 26 = .ok (.iload_n 1, 1) := by decide +kernel
theorem dX1_freeNode_27 : decode cX1_freeNode 27 = .ok (.ireturn, 1) := by decide +kernel
abbrev cX1_remove : ByteArray := prog_1_method_9_code
def yX1_remove : MethodName := ⟨RX1, "remove", "()I"⟩
theorem dX1_remove_0 : decode cX1_remove 0 = .ok (.aload_n 0, 1) := by decide +kernel
theorem dX1_remove_1 : decode cX1_remove 1 = .ok (.getfield 63, 3) := by decide +kernel
theorem dX1_remove_4 : decode cX1_remove 4 = .ok (.ifCond .ne 5, 3) := by decide +kernel
theorem dX1_remove_7 : decode cX1_remove 7 = .ok (.iconst (-1), 1) := by decide +kernel
theorem dX1_remove_8 : decode cX1_remove 8 = .ok (.ireturn, 1) := by decide +kernel
theorem dX1_remove_9 : decode cX1_remove 9 = .ok (.aload_n 0, 1) := by decide +kernel
theorem dX1_remove_10 : decode cX1_remove 10 = .ok (.invokevirtual 70, 3) := by decide +kernel
theorem dX1_remove_13 : decode cX1_remove 13 = .ok (.istore_n 1, 1) := by decide +kernel
theorem dX1_remove_14 : decode cX1_remove 14 = .ok (.iload_n 1, 1) := by decide +kernel
theorem dX1_remove_15 : decode cX1_remove 15 = .ok (.ifCond .lt 12, 3) := by decide +kernel
theorem dX1_remove_18 : decode cX1_remove 18 = .ok (.aload_n 0, 1) := by decide +kernel
theorem dX1_remove_19 : decode cX1_remove 19 = .ok (.getfield 34, 3) := by decide +kernel
theorem dX1_remove_22 : decode cX1_remove 22 = .ok (.iload_n 1, 1) := by decide +kernel
theorem dX1_remove_23 : decode cX1_remove 23 = .ok (.iaload, 1) := by decide +kernel
theorem dX1_remove_24 : decode cX1_remove 24 = .ok (.ifCond .ge 6, 3) := by decide +kernel
theorem dX1_remove_27 : decode cX1_remove 27 = .ok (.bipush (-4), 2) := by decide +kernel
theorem dX1_remove_29 : decode cX1_remove 29 = .ok (.ireturn, 1) := by decide +kernel
theorem dX1_remove_30 : decode cX1_remove 30 = .ok (.aload_n 0, 1) := by decide +kernel
theorem dX1_remove_31 : decode cX1_remove 31 = .ok (.getfield 34, 3) := by decide +kernel
theorem dX1_remove_34 : decode cX1_remove 34 = .ok (.iload_n 1, 1) := by decide +kernel
theorem dX1_remove_35 : decode cX1_remove 35 = .ok (.iaload, 1) := by decide +kernel
theorem dX1_remove_36 : decode cX1_remove 36 = .ok (.istore_n 2, 1) := by decide +kernel
theorem dX1_remove_37 : decode cX1_remove 37 = .ok (.aload_n 0, 1) := by decide +kernel
theorem dX1_remove_38 : decode cX1_remove 38 = .ok (.getfield 34, 3) := by decide +kernel
theorem dX1_remove_41 : decode cX1_remove 41 = .ok (.iload_n 1, 1) := by decide +kernel
theorem dX1_remove_42 : decode cX1_remove 42 = .ok (.bipush (-4), 2) := by decide +kernel
theorem dX1_remove_44 : decode cX1_remove 44 = .ok (.iastore, 1) := by decide +kernel
theorem dX1_remove_45 : decode cX1_remove 45 = .ok (.aload_n 0, 1) := by decide +kernel
theorem dX1_remove_46 : decode cX1_remove 46 = .ok (.dup, 1) := by decide +kernel
theorem dX1_remove_47 : decode cX1_remove 47 = .ok (.getfield 76, 3) := by decide +kernel
theorem dX1_remove_50 : decode cX1_remove 50 = .ok (.iconst 1, 1) := by decide +kernel
theorem dX1_remove_51 : decode cX1_remove 51 = .ok (.isub, 1) := by decide +kernel
theorem dX1_remove_52 : decode cX1_remove 52 = .ok (.putfield 76, 3) := by decide +kernel
theorem dX1_remove_55 : decode cX1_remove 55 = .ok (.aload_n 0, 1) := by decide +kernel
theorem dX1_remove_56 : decode cX1_remove 56 = .ok (.getfield 16, 3) := by decide +kernel
theorem dX1_remove_59 : decode cX1_remove 59 = .ok (.iconst 0, 1) := by decide +kernel
theorem dX1_remove_60 : decode cX1_remove 60 = .ok (.aload_n 0, 1) := by decide +kernel
theorem dX1_remove_61 : decode cX1_remove 61 = .ok (.getfield 16, 3) := by decide +kernel
theorem dX1_remove_64 : decode cX1_remove 64 = .ok (.iconst 0, 1) := by decide +kernel
theorem dX1_remove_65 : decode cX1_remove 65 = .ok (.iaload, 1) := by decide +kernel
theorem dX1_remove_66 : decode cX1_remove 66 = .ok (.iconst 1, 1) := by decide +kernel
theorem dX1_remove_67 : decode cX1_remove 67 = .ok (.isub, 1) := by decide +kernel
theorem dX1_remove_68 : decode cX1_remove 68 = .ok (.iastore, 1) := by decide +kernel
theorem dX1_remove_69 : decode cX1_remove 69 = .ok (.iconst 0, 1) := by decide +kernel
theorem dX1_remove_70 : decode cX1_remove 70 = .ok (.istore_n 3, 1) := by decide +kernel
theorem dX1_remove_71 : decode cX1_remove 71 = .ok (.iload_n 3, 1) := by decide +kernel
theorem dX1_remove_72 : decode cX1_remove 72 = .ok (.bipush 6, 2) := by decide +kernel
theorem dX1_remove_74 : decode cX1_remove 74 = .ok (.if_icmp .ge 64, 3) := by decide +kernel
theorem dX1_remove_77 : decode cX1_remove 77 = .ok (.iload_n 1, 1) := by decide +kernel
theorem dX1_remove_78 : decode cX1_remove 78 = .ok (.ifCond .eq 60, 3) := by decide +kernel
theorem dX1_remove_81 : decode cX1_remove 81 = .ok (.aload_n 0, 1) := by decide +kernel
theorem dX1_remove_82 : decode cX1_remove 82 = .ok (.getfield 16, 3) := by decide +kernel
theorem dX1_remove_85 : decode cX1_remove 85 = .ok (.iload_n 1, 1) := by decide +kernel
theorem dX1_remove_86 : decode cX1_remove 86 = .ok (.aload_n 0, 1) := by decide +kernel
theorem dX1_remove_87 : decode cX1_remove 87 = .ok (.getfield 16, 3) := by decide +kernel
theorem dX1_remove_90 : decode cX1_remove 90 = .ok (.iload_n 1, 1) := by decide +kernel
theorem dX1_remove_91 : decode cX1_remove 91 = .ok (.iaload, 1) := by decide +kernel
theorem dX1_remove_92 : decode cX1_remove 92 = .ok (.iconst 1, 1) := by decide +kernel
theorem dX1_remove_93 : decode cX1_remove 93 = .ok (.isub, 1) := by decide +kernel
theorem dX1_remove_94 : decode cX1_remove 94 = .ok (.iastore, 1) := by decide +kernel
theorem dX1_remove_95 : decode cX1_remove 95 = .ok (.aload_n 0, 1) := by decide +kernel
theorem dX1_remove_96 : decode cX1_remove 96 = .ok (.getfield 16, 3) := by decide +kernel
theorem dX1_remove_99 : decode cX1_remove 99 = .ok (.iload_n 1, 1) := by decide +kernel
theorem dX1_remove_100 : decode cX1_remove 100 = .ok (.iaload, 1) := by decide +kernel
theorem dX1_remove_101 : decode cX1_remove 101 = .ok (.ifCond .ne 24, 3) := by decide +kernel
theorem dX1_remove_104 : decode cX1_remove 104 = .ok (.aload_n 0, 1) := by decide +kernel
theorem dX1_remove_105 : decode cX1_remove 105 = .ok (.getfield 19, 3) := by decide +kernel
theorem dX1_remove_108 : decode cX1_remove 108 = .ok (.aload_n 0, 1) := by decide +kernel
theorem dX1_remove_109 : decode cX1_remove 109 = .ok (.getfield 22, 3) := by decide +kernel
theorem dX1_remove_112 : decode cX1_remove 112 = .ok (.iload_n 1, 1) := by decide +kernel
theorem dX1_remove_113 : decode cX1_remove 113 = .ok (.iaload, 1) := by decide +kernel
theorem dX1_remove_114 : decode cX1_remove 114 = .ok (.iconst 4, 1) := by decide +kernel
theorem dX1_remove_115 : decode cX1_remove 115 = .ok (.imul, 1) := by decide +kernel
theorem dX1_remove_116 : decode cX1_remove 116 = .ok (.aload_n 0, 1) := by decide +kernel
theorem dX1_remove_117 : decode cX1_remove 117 = .ok (.getfield 25, 3) := by decide +kernel
theorem dX1_remove_120 : decode cX1_remove 120 = .ok (.iload_n 1, 1) := by decide +kernel
theorem dX1_remove_121 : decode cX1_remove 121 = .ok (.iaload, 1) := by decide +kernel
theorem dX1_remove_122 : decode cX1_remove 122 = .ok (.iadd, 1) := by decide +kernel
theorem dX1_remove_123 : decode cX1_remove 123 = .ok (.iconst 0, 1) := by decide +kernel
theorem dX1_remove_124 : decode cX1_remove 124 = .ok (.iastore, 1) := by decide +kernel
theorem dX1_remove_125 : decode cX1_remove 125 = .ok (.aload_n 0, 1) := by decide +kernel
theorem dX1_remove_126 : decode cX1_remove 126 = .ok (.getfield 22, 3) := by decide +kernel
theorem dX1_remove_129 : decode cX1_remove 129 = .ok (.iload_n 1, 1) := by decide +kernel
theorem dX1_remove_130 : decode cX1_remove 130 = .ok (.iaload, 1) := by decide +kernel
theorem dX1_remove_131 : decode cX1_remove 131 = .ok (.istore_n 1, 1) := by decide +kernel
theorem dX1_remove_132 : decode cX1_remove 132 = .ok (.iinc 3 1, 3) := by decide +kernel
theorem dX1_remove_135 : decode cX1_remove 135 = .ok (.goto (-64), 3) := by decide +kernel
theorem dX1_remove_138 : decode cX1_remove 138 = .ok (.aload_n 0, 1) := by decide +kernel
theorem dX1_remove_139 : decode cX1_remove 139 = .ok (.iconst 0, 1) := by decide +kernel
theorem dX1_remove_140 : decode cX1_remove 140 = .ok (.putfield 63, 3) := by decide +kernel
theorem dX1_remove_143 : decode cX1_remove 143 = .ok (.aload_n 0, 1) := by decide +kernel
theorem dX1_remove_144 : decode cX1_remove 144 = .ok (.invokevirtual 56, 3) := by decide +kernel
theorem dX1_remove_147 : decode cX1_remove 147 = .ok (.iload_n 2, 1) := by decide +kernel
theorem dX1_remove_148 : decode cX1_remove 148 = .ok (.ireturn, 1) := by decide +kernel
abbrev cX1_weight : ByteArray := prog_1_method_10_code
def yX1_weight : MethodName := ⟨RX1, "weight", "()I"⟩
theorem dX1_weight_0 : decode cX1_weight 0 = .ok (.aload_n 0, 1) := by decide +kernel
theorem dX1_weight_1 : decode cX1_weight 1 = .ok (.invokevirtual 70, 3) := by decide +kernel
theorem dX1_weight_4 : decode cX1_weight 4 = .ok (.istore_n 1, 1) := by decide +kernel
theorem dX1_weight_5 : decode cX1_weight 5 = .ok (.iload_n 1, 1) := by decide +kernel
theorem dX1_weight_6 : decode cX1_weight 6 = .ok (.ifCond .gt 6, 3) := by decide +kernel
theorem dX1_weight_9 : decode cX1_weight 9 = .ok (.bipush (-4), 2) := by decide +kernel
theorem dX1_weight_11 : decode cX1_weight 11 = .ok (.ireturn, 1) := by decide +kernel
theorem dX1_weight_12 : decode cX1_weight 12 = .ok (.aload_n 0, 1) := by decide +kernel
theorem dX1_weight_13 : decode cX1_weight 13 = .ok (.getfield 34, 3) := by decide +kernel
theorem dX1_weight_16 : decode cX1_weight 16 = .ok (.iload_n 1, 1) := by decide +kernel
theorem dX1_weight_17 : decode cX1_weight 17 = .ok (.iaload, 1) := by decide +kernel
theorem dX1_weight_18 : decode cX1_weight 18 = .ok (.ireturn, 1) := by decide +kernel
abbrev cX1_words : ByteArray := prog_1_method_11_code
def yX1_words : MethodName := ⟨RX1, "words", "()I"⟩
theorem dX1_words_0 : decode cX1_words 0 = .ok (.aload_n 0, 1) := by decide +kernel
theorem dX1_words_1 : decode cX1_words 1 = .ok (.getfield 76, 3) := by decide +kernel
theorem dX1_words_4 : decode cX1_words 4 = .ok (.ireturn, 1) := by decide +kernel
abbrev cX1_type : ByteArray := prog_1_method_21_code
def yX1_type : MethodName := ⟨RX1, "type", "(I)I"⟩
theorem dX1_type_0 : decode cX1_type 0 = .ok (.aload_n 0, 1) := by decide +kernel
theorem dX1_type_1 : decode cX1_type 1 = .ok (.iload_n 1, 1) := by decide +kernel
theorem dX1_type_2 : decode cX1_type 2 = .ok (.invokevirtual 59, 3) := by decide +kernel
theorem dX1_type_5 : decode cX1_type 5 = .ok (.ifCond .eq 5, 3) := by decide +kernel
theorem dX1_type_8 : decode cX1_type 8 = .ok (.iconst (-1), 1) := by decide +kernel
theorem dX1_type_9 : decode cX1_type 9 = .ok (.ireturn, 1) := by decide +kernel
theorem dX1_type_10 : decode cX1_type 10 = .ok (.aload_n 0, 1) := by decide +kernel
theorem dX1_type_11 : decode cX1_type 11 = .ok (.getfield 97, 3) := by decide +kernel
theorem dX1_type_14 : decode cX1_type 14 = .ok (.bipush 6, 2) := by decide +kernel
theorem dX1_type_16 : decode cX1_type 16 = .ok (.if_icmp .ne 6, 3) := by decide +kernel
theorem dX1_type_19 : decode cX1_type 19 = .ok (.bipush (-2), 2) := by decide +kernel
theorem dX1_type_21 : decode cX1_type 21 = .ok (.ireturn, 1) := by decide +kernel
theorem dX1_type_22 : decode cX1_type 22 = .ok (.aload_n 0, 1) := by decide +kernel
theorem dX1_type_23 : decode cX1_type 23 = .ok (.getfield 13, 3) := by decide +kernel
theorem dX1_type_26 : decode cX1_type 26 = .ok (.aload_n 0, 1) := by decide +kernel
theorem dX1_type_27 : decode cX1_type 27 = .ok (.getfield 97, 3) := by decide +kernel
theorem dX1_type_30 : decode cX1_type 30 = .ok (.iload_n 1, 1) := by decide +kernel
theorem dX1_type_31 : decode cX1_type 31 = .ok (.iastore, 1) := by decide +kernel
theorem dX1_type_32 : decode cX1_type 32 = .ok (.aload_n 0, 1) := by decide +kernel
theorem dX1_type_33 : decode cX1_type 33 = .ok (.aload_n 0, 1) := by decide +kernel
theorem dX1_type_34 : decode cX1_type 34 = .ok (.getfield 97, 3) := by decide +kernel
theorem dX1_type_37 : decode cX1_type 37 = .ok (.invokevirtual 100, 3) := by decide +kernel
theorem dX1_type_40 : decode cX1_type 40 = .ok (.aload_n 0, 1) := by decide +kernel
theorem dX1_type_41 : decode cX1_type 41 = .ok (.dup, 1) := by decide +kernel
theorem dX1_type_42 : decode cX1_type 42 = .ok (.getfield 97, 3) := by decide +kernel
theorem dX1_type_45 : decode cX1_type 45 = .ok (.iconst 1, 1) := by decide +kernel
theorem dX1_type_46 : decode cX1_type 46 = .ok (.iadd, 1) := by decide +kernel
theorem dX1_type_47 : decode cX1_type 47 = .ok (.putfield 97, 3) := by decide +kernel
theorem dX1_type_50 : decode cX1_type 50 = .ok (.aload_n 0, 1) := by decide +kernel
theorem dX1_type_51 : decode cX1_type 51 = .ok (.invokevirtual 73, 3) := by decide +kernel
theorem dX1_type_54 : decode cX1_type 54 = .ok (.aload_n 0, 1) := by decide +kernel
theorem dX1_type_55 : decode cX1_type 55 = .ok (.getfield 97, 3) := by decide +kernel
theorem dX1_type_58 : decode cX1_type 58 = .ok (.ireturn, 1) := by decide +kernel
abbrev cX1_backspace : ByteArray := prog_1_method_22_code
def yX1_backspace : MethodName := ⟨RX1, "backspace", "()I"⟩
theorem dX1_backspace_0 : decode cX1_backspace 0 = .ok (.aload_n 0, 1) := by decide +kernel
theorem dX1_backspace_1 : decode cX1_backspace 1 = .ok (.getfield 97, 3) := by decide +kernel
theorem dX1_backspace_4 : decode cX1_backspace 4 = .ok (.ifCond .ne 6, 3) := by decide +kernel
theorem dX1_backspace_7 : decode cX1_backspace 7 = .ok (.bipush (-4), 2) := by decide +kernel
theorem dX1_backspace_9 : decode cX1_backspace 9 = .ok (.ireturn, 1) := by decide +kernel
theorem dX1_backspace_10 : decode cX1_backspace 10 = .ok (.aload_n 0, 1) := by decide +kernel
theorem dX1_backspace_11 : decode cX1_backspace 11 = .ok (.dup, 1) := by decide +kernel
theorem dX1_backspace_12 : decode cX1_backspace 12 = .ok (.getfield 97, 3) := by decide +kernel
theorem dX1_backspace_15 : decode cX1_backspace 15 = .ok (.iconst 1, 1) := by decide +kernel
theorem dX1_backspace_16 : decode cX1_backspace 16 = .ok (.isub, 1) := by decide +kernel
theorem dX1_backspace_17 : decode cX1_backspace 17 = .ok (.putfield 97, 3) := by decide +kernel
theorem dX1_backspace_20 : decode cX1_backspace 20 = .ok (.aload_n 0, 1) := by decide +kernel
theorem dX1_backspace_21 : decode cX1_backspace 21 = .ok (.invokevirtual 73, 3) := by decide +kernel
theorem dX1_backspace_24 : decode cX1_backspace 24 = .ok (.aload_n 0, 1) := by decide +kernel
theorem dX1_backspace_25 : decode cX1_backspace 25 = .ok (.getfield 13, 3) := by decide +kernel
theorem dX1_backspace_28 : decode cX1_backspace 28 = .ok (.aload_n 0, 1) := by decide +kernel
theorem dX1_backspace_29 : decode cX1_backspace 29 = .ok (.getfield 97, 3) := by decide +kernel
theorem dX1_backspace_32 : decode cX1_backspace 32 = .ok (.iaload, 1) := by decide +kernel
theorem dX1_backspace_33 : decode cX1_backspace 33 = .ok (.ireturn, 1) := by decide +kernel
abbrev cX1_reset : ByteArray := prog_1_method_23_code
def yX1_reset : MethodName := ⟨RX1, "reset", "()V"⟩
theorem dX1_reset_0 : decode cX1_reset 0 = .ok (.aload_n 0, 1) := by decide +kernel
theorem dX1_reset_1 : decode cX1_reset 1 = .ok (.iconst 0, 1) := by decide +kernel
theorem dX1_reset_2 : decode cX1_reset 2 = .ok (.putfield 97, 3) := by decide +kernel
theorem dX1_reset_5 : decode cX1_reset 5 = .ok (.aload_n 0, 1) := by decide +kernel
theorem dX1_reset_6 : decode cX1_reset 6 = .ok (.invokevirtual 73, 3) := by decide +kernel
theorem dX1_reset_9 : decode cX1_reset 9 = .ok (.return_, 1) := by decide +kernel
abbrev cX1_length : ByteArray := prog_1_method_24_code
def yX1_length : MethodName := ⟨RX1, "length", "()I"⟩
theorem dX1_length_0 : decode cX1_length 0 = .ok (.aload_n 0, 1) := by decide +kernel
theorem dX1_length_1 : decode cX1_length 1 = .ok (.getfield 97, 3) := by decide +kernel
theorem dX1_length_4 : decode cX1_length 4 = .ok (.ireturn, 1) := by decide +kernel
abbrev cX1_offered : ByteArray := prog_1_method_25_code
def yX1_offered : MethodName := ⟨RX1, "offered", "()I"⟩
theorem dX1_offered_0 : decode cX1_offered 0 = .ok (.aload_n 0, 1) := by decide +kernel
theorem dX1_offered_1 : decode cX1_offered 1 = .ok (.getfield 104, 3) := by decide +kernel
theorem dX1_offered_4 : decode cX1_offered 4 = .ok (.ireturn, 1) := by decide +kernel
abbrev cX1_offer : ByteArray := prog_1_method_27_code
def yX1_offer : MethodName := ⟨RX1, "offer", "(I)I"⟩
theorem dX1_offer_0 : decode cX1_offer 0 = .ok (.aload_n 0, 1) := by decide +kernel
theorem dX1_offer_1 : decode cX1_offer 1 = .ok (.iload_n 1, 1) := by decide +kernel
theorem dX1_offer_2 : decode cX1_offer 2 = .ok (.invokevirtual 115, 3) := by decide +kernel
theorem dX1_offer_5 : decode cX1_offer 5 = .ok (.ifCond .eq 8, 3) := by decide +kernel
theorem dX1_offer_8 : decode cX1_offer 8 = .ok (.bipush (-4), 2) := by decide +kernel
theorem dX1_offer_10 : decode cX1_offer 10 = .ok (.goto 14, 3) := by decide +kernel
theorem dX1_offer_13 : decode cX1_offer 13 = .ok (.aload_n 0, 1) := by decide +kernel
theorem dX1_offer_14 : decode cX1_offer 14 = .ok (.getfield 31, 3) := by decide +kernel
theorem dX1_offer_17 : decode cX1_offer 17 = .ok (.aload_n 0, 1) := by decide +kernel
theorem dX1_offer_18 : decode cX1_offer 18 = .ok (.getfield 40, 3) := by decide +kernel
theorem dX1_offer_21 : decode cX1_offer 21 = .ok (.iload_n 1, 1) := by decide +kernel
theorem dX1_offer_22 : decode cX1_offer 22 = .ok (.iaload, 1) := by decide +kernel
theorem dX1_offer_23 : decode cX1_offer 23 = .ok (.iaload, 1) := by decide +kernel
theorem dX1_offer_24 : decode cX1_offer 24 = .ok (.ireturn, 1) := by decide +kernel
abbrev cX1_badRank : ByteArray := prog_1_method_26_code
def yX1_badRank : MethodName := ⟨RX1, "badRank", "(I)Z"⟩
theorem dX1_badRank_0 : decode cX1_badRank 0 = .ok (.iload_n 1, 1) := by decide +kernel
theorem dX1_badRank_1 : decode cX1_badRank 1 = .ok (.ifCond .lt 11, 3) := by decide +kernel
theorem dX1_badRank_4 : decode cX1_badRank 4 = .ok (.iload_n 1, 1) := by decide +kernel
theorem dX1_badRank_5 : decode cX1_badRank 5 = .ok (.aload_n 0, 1) := by decide +kernel
theorem dX1_badRank_6 : decode cX1_badRank 6 = .ok (.getfield 104, 3) := by decide +kernel
theorem dX1_badRank_9 : decode cX1_badRank 9 = .ok (.if_icmp .lt 7, 3) := by decide +kernel
theorem dX1_badRank_12 : decode cX1_badRank 12 = .ok (.iconst 1, 1) := by decide +kernel
theorem dX1_badRank_13 : decode cX1_badRank 13 = .ok (.goto 4, 3) := by decide +kernel
theorem dX1_badRank_16 : decode cX1_badRank 16 = .ok (.iconst 0, 1) := by decide +kernel
theorem dX1_badRank_17 : decode cX1_badRank 17 = .ok (.ireturn, 1) := by decide +kernel
abbrev cX1_distance : ByteArray := prog_1_method_28_code
def yX1_distance : MethodName := ⟨RX1, "distance", "(I)I"⟩
theorem dX1_distance_0 : decode cX1_distance 0 = .ok (.aload_n 0, 1) := by decide +kernel
theorem dX1_distance_1 : decode cX1_distance 1 = .ok (.iload_n 1, 1) := by decide +kernel
theorem dX1_distance_2 : decode cX1_distance 2 = .ok (.invokevirtual 115, 3) := by decide +kernel
theorem dX1_distance_5 : decode cX1_distance 5 = .ok (.ifCond .eq 8, 3) := by decide +kernel
theorem dX1_distance_8 : decode cX1_distance 8 = .ok (.bipush (-4), 2) := by decide +kernel
theorem dX1_distance_10 : decode cX1_distance 10 = .ok (.goto 9, 3) := by decide +kernel
theorem dX1_distance_13 : decode cX1_distance 13 = .ok (.aload_n 0, 1) := by decide +kernel
theorem dX1_distance_14 : decode cX1_distance 14 = .ok (.getfield 43, 3) := by decide +kernel
theorem dX1_distance_17 : decode cX1_distance 17 = .ok (.iload_n 1, 1) := by decide +kernel
theorem dX1_distance_18 : decode cX1_distance 18 = .ok (.iaload, 1) := by decide +kernel
theorem dX1_distance_19 : decode cX1_distance 19 = .ok (.ireturn, 1) := by decide +kernel
abbrev cX1_weightAt : ByteArray := prog_1_method_29_code
def yX1_weightAt : MethodName := ⟨RX1, "weightAt", "(I)I"⟩
theorem dX1_weightAt_0 : decode cX1_weightAt 0 = .ok (.aload_n 0, 1) := by decide +kernel
theorem dX1_weightAt_1 : decode cX1_weightAt 1 = .ok (.iload_n 1, 1) := by decide +kernel
theorem dX1_weightAt_2 : decode cX1_weightAt 2 = .ok (.invokevirtual 115, 3) := by decide +kernel
theorem dX1_weightAt_5 : decode cX1_weightAt 5 = .ok (.ifCond .eq 8, 3) := by decide +kernel
theorem dX1_weightAt_8 : decode cX1_weightAt 8 = .ok (.bipush (-4), 2) := by decide +kernel
theorem dX1_weightAt_10 : decode cX1_weightAt 10 = .ok (.goto 14, 3) := by decide +kernel
theorem dX1_weightAt_13 : decode cX1_weightAt 13 = .ok (.aload_n 0, 1) := by decide +kernel
theorem dX1_weightAt_14 : decode cX1_weightAt 14 = .ok (.getfield 34, 3) := by decide +kernel
theorem dX1_weightAt_17 : decode cX1_weightAt 17 = .ok (.aload_n 0, 1) := by decide +kernel
theorem dX1_weightAt_18 : decode cX1_weightAt 18 = .ok (.getfield 40, 3) := by decide +kernel
theorem dX1_weightAt_21 : decode cX1_weightAt 21 = .ok (.iload_n 1, 1) := by decide +kernel
theorem dX1_weightAt_22 : decode cX1_weightAt 22 = .ok (.iaload, 1) := by decide +kernel
theorem dX1_weightAt_23 : decode cX1_weightAt 23 = .ok (.iaload, 1) := by decide +kernel
theorem dX1_weightAt_24 : decode cX1_weightAt 24 = .ok (.ireturn, 1) := by decide +kernel
abbrev cX1_nearest : ByteArray := prog_1_method_30_code
def yX1_nearest : MethodName := ⟨RX1, "nearest", "()I"⟩
theorem dX1_nearest_0 : decode cX1_nearest 0 = .ok (.aload_n 0, 1) := by decide +kernel
theorem dX1_nearest_1 : decode cX1_nearest 1 = .ok (.getfield 52, 3) := by decide +kernel
theorem dX1_nearest_4 : decode cX1_nearest 4 = .ok (.iconst 1, 1) := by decide +kernel
theorem dX1_nearest_5 : decode cX1_nearest 5 = .ok (.iadd, 1) := by decide +kernel
theorem dX1_nearest_6 : decode cX1_nearest 6 = .ok (.istore_n 1, 1) := by decide +kernel
theorem dX1_nearest_7 : decode cX1_nearest 7 = .ok (.iconst 1, 1) := by decide +kernel
theorem dX1_nearest_8 : decode cX1_nearest 8 = .ok (.istore_n 2, 1) := by decide +kernel
theorem dX1_nearest_9 : decode cX1_nearest 9 = .ok (.iload_n 2, 1) := by decide +kernel
theorem dX1_nearest_10 : decode cX1_nearest 10 = .ok (.bipush 80, 2) := by decide +kernel
theorem dX1_nearest_12 : decode cX1_nearest 12 = .ok (.if_icmp .ge 60, 3) := by decide +kernel
theorem dX1_nearest_15 : decode cX1_nearest 15 = .ok (.aload_n 0, 1) := by decide +kernel
theorem dX1_nearest_16 : decode cX1_nearest 16 = .ok (.getfield 16, 3) := by decide +kernel
theorem dX1_nearest_19 : decode cX1_nearest 19 = .ok (.iload_n 2, 1) := by decide +kernel
theorem dX1_nearest_20 : decode cX1_nearest 20 = .ok (.iaload, 1) := by decide +kernel
theorem dX1_nearest_21 : decode cX1_nearest 21 = .ok (.ifCond .le 45, 3) := by decide +kernel
theorem dX1_nearest_24 : decode cX1_nearest 24 = .ok (.aload_n 0, 1) := by decide +kernel
theorem dX1_nearest_25 : decode cX1_nearest 25 = .ok (.getfield 34, 3) := by decide +kernel
theorem dX1_nearest_28 : decode cX1_nearest 28 = .ok (.iload_n 2, 1) := by decide +kernel
theorem dX1_nearest_29 : decode cX1_nearest 29 = .ok (.iaload, 1) := by decide +kernel
theorem dX1_nearest_30 : decode cX1_nearest 30 = .ok (.ifCond .lt 36, 3) := by decide +kernel
theorem dX1_nearest_33 : decode cX1_nearest 33 = .ok (.aload_n 0, 1) := by decide +kernel
theorem dX1_nearest_34 : decode cX1_nearest 34 = .ok (.getfield 37, 3) := by decide +kernel
theorem dX1_nearest_37 : decode cX1_nearest 37 = .ok (.aload_n 0, 1) := by decide +kernel
theorem dX1_nearest_38 : decode cX1_nearest 38 = .ok (.getfield 97, 3) := by decide +kernel
theorem dX1_nearest_41 : decode cX1_nearest 41 = .ok (.bipush 80, 2) := by decide +kernel
theorem dX1_nearest_43 : decode cX1_nearest 43 = .ok (.imul, 1) := by decide +kernel
theorem dX1_nearest_44 : decode cX1_nearest 44 = .ok (.iload_n 2, 1) := by decide +kernel
theorem dX1_nearest_45 : decode cX1_nearest 45 = .ok (.iadd, 1) := by decide +kernel
theorem dX1_nearest_46 : decode cX1_nearest 46 = .ok (.iaload, 1) := by decide +kernel
theorem dX1_nearest_47 : decode cX1_nearest 47 = .ok (.iload_n 1, 1) := by decide +kernel
theorem dX1_nearest_48 : decode cX1_nearest 48 = .ok (.if_icmp .ge 18, 3) := by decide +kernel
theorem dX1_nearest_51 : decode cX1_nearest 51 = .ok (.aload_n 0, 1) := by decide +kernel
theorem dX1_nearest_52 : decode cX1_nearest 52 = .ok (.getfield 37, 3) := by decide +kernel
theorem dX1_nearest_55 : decode cX1_nearest 55 = .ok (.aload_n 0, 1) := by decide +kernel
theorem dX1_nearest_56 : decode cX1_nearest 56 = .ok (.getfield 97, 3) := by decide +kernel
theorem dX1_nearest_59 : decode cX1_nearest 59 = .ok (.bipush 80, 2) := by decide +kernel
theorem dX1_nearest_61 : decode cX1_nearest 61 = .ok (.imul, 1) := by decide +kernel
theorem dX1_nearest_62 : decode cX1_nearest 62 = .ok (.iload_n 2, 1) := by decide +kernel
theorem dX1_nearest_63 : decode cX1_nearest 63 = .ok (.iadd, 1) := by decide +kernel
theorem dX1_nearest_64 : decode cX1_nearest 64 = .ok (.iaload, 1) := by decide +kernel
theorem dX1_nearest_65 : decode cX1_nearest 65 = .ok (.istore_n 1, 1) := by decide +kernel
theorem dX1_nearest_66 : decode cX1_nearest 66 = .ok (.iinc 2 1, 3) := by decide +kernel
theorem dX1_nearest_69 : decode cX1_nearest 69 = .ok (.goto (-60), 3) := by decide +kernel
theorem dX1_nearest_72 : decode cX1_nearest 72 = .ok (.iload_n 1, 1) := by decide +kernel
theorem dX1_nearest_73 : decode cX1_nearest 73 = .ok (.aload_n 0, 1) := by decide +kernel
theorem dX1_nearest_74 : decode cX1_nearest 74 = .ok (.getfield 52, 3) := by decide +kernel
theorem dX1_nearest_77 : decode cX1_nearest 77 = .ok (.if_icmp .le 8, 3) := by decide +kernel
theorem dX1_nearest_80 : decode cX1_nearest 80 = .ok (.bipush (-4), 2) := by decide +kernel
theorem dX1_nearest_82 : decode cX1_nearest 82 = .ok (.goto 4, 3) := by decide +kernel
theorem dX1_nearest_85 : decode cX1_nearest 85 = .ok (.iload_n 1, 1) := by decide +kernel
theorem dX1_nearest_86 : decode cX1_nearest 86 = .ok (.ireturn, 1) := by decide +kernel
abbrev cX1_exact : ByteArray := prog_1_method_32_code
def yX1_exact : MethodName := ⟨RX1, "exact", "()I"⟩
theorem dX1_exact_0 : decode cX1_exact 0 = .ok (.aload_n 0, 1) := by decide +kernel
theorem dX1_exact_1 : decode cX1_exact 1 = .ok (.invokevirtual 118, 3) := by decide +kernel
theorem dX1_exact_4 : decode cX1_exact 4 = .ok (.istore_n 1, 1) := by decide +kernel
theorem dX1_exact_5 : decode cX1_exact 5 = .ok (.iload_n 1, 1) := by decide +kernel
theorem dX1_exact_6 : decode cX1_exact 6 = .ok (.ifCond .ge 7, 3) := by decide +kernel
theorem dX1_exact_9 : decode cX1_exact 9 = .ok (.iconst 0, 1) := by decide +kernel
theorem dX1_exact_10 : decode cX1_exact 10 = .ok (.goto 9, 3) := by decide +kernel
theorem dX1_exact_13 : decode cX1_exact 13 = .ok (.aload_n 0, 1) := by decide +kernel
theorem dX1_exact_14 : decode cX1_exact 14 = .ok (.getfield 16, 3) := by decide +kernel
theorem dX1_exact_17 : decode cX1_exact 17 = .ok (.iload_n 1, 1) := by decide +kernel
theorem dX1_exact_18 : decode cX1_exact 18 = .ok (.iaload, 1) := by decide +kernel
theorem dX1_exact_19 : decode cX1_exact 19 = .ok (.ireturn, 1) := by decide +kernel
abbrev cX1_queryNode : ByteArray := prog_1_method_31_code
def yX1_queryNode : MethodName := ⟨RX1, "queryNode", "()I"⟩
theorem dX1_queryNode_0 : decode cX1_queryNode 0 = .ok (.iconst 0, 1) := by decide +kernel
theorem dX1_queryNode_1 : decode cX1_queryNode 1 = .ok (.istore_n 1, 1) := by decide +kernel
theorem dX1_queryNode_2 : decode cX1_queryNode 2 = .ok (.iconst 0, 1) := by decide +kernel
theorem dX1_queryNode_3 : decode cX1_queryNode 3 = .ok (.istore_n 2, 1) := by decide +kernel
theorem dX1_queryNode_4 : decode cX1_queryNode 4 = .ok (.iload_n 2, 1) := by decide +kernel
theorem dX1_queryNode_5 : decode cX1_queryNode 5 = .ok (.aload_n 0, 1) := by decide +kernel
theorem dX1_queryNode_6 : decode cX1_queryNode 6 = .ok (.getfield 97, 3) := by decide +kernel
theorem dX1_queryNode_9 : decode cX1_queryNode 9 = .ok (.if_icmp .ge 31, 3) := by decide +kernel
theorem dX1_queryNode_12 : decode cX1_queryNode 12 = .ok (.aload_n 0, 1) := by decide +kernel
theorem dX1_queryNode_13 : decode cX1_queryNode 13 = .ok (.getfield 19, 3) := by decide +kernel
theorem dX1_queryNode_16 : decode cX1_queryNode 16 = .ok (.iload_n 1, 1) := by decide +kernel
theorem dX1_queryNode_17 : decode cX1_queryNode 17 = .ok (.iconst 4, 1) := by decide +kernel
theorem dX1_queryNode_18 : decode cX1_queryNode 18 = .ok (.imul, 1) := by decide +kernel
theorem dX1_queryNode_19 : decode cX1_queryNode 19 = .ok (.aload_n 0, 1) := by decide +kernel
theorem dX1_queryNode_20 : decode cX1_queryNode 20 = .ok (.getfield 13, 3) := by decide +kernel
theorem dX1_queryNode_23 : decode cX1_queryNode 23 = .ok (.iload_n 2, 1) := by decide +kernel
theorem dX1_queryNode_24 : decode cX1_queryNode 24 = .ok (.iaload, 1) := by decide +kernel
theorem dX1_queryNode_25 : decode cX1_queryNode 25 = .ok (.iadd, 1) := by decide +kernel
theorem dX1_queryNode_26 : decode cX1_queryNode 26 = .ok (.iaload, 1) := by decide +kernel
theorem dX1_queryNode_27 : decode cX1_queryNode 27 = .ok (.istore_n 1, 1) := by decide +kernel
theorem dX1_queryNode_28 : decode cX1_queryNode 28 = .ok (.iload_n 1, 1) := by decide +kernel
theorem dX1_queryNode_29 : decode cX1_queryNode 29 = .ok (.ifCond .ne 5, 3) := by decide +kernel
theorem dX1_queryNode_32 : decode cX1_queryNode 32 = .ok (.iconst (-1), 1) := by decide +kernel
theorem dX1_queryNode_33 : decode cX1_queryNode 33 = .ok (.ireturn, 1) := by decide +kernel
theorem dX1_queryNode_34 : decode cX1_queryNode 34 = .ok (.iinc 2 1, 3) := by decide +kernel
theorem dX1_queryNode_37 : decode cX1_queryNode 37 = .ok (.goto (-33), 3) := by decide +kernel
theorem dX1_queryNode_40 : decode cX1_queryNode 40 = .ok (.iload_n 1, 1) := by decide +kernel
theorem dX1_queryNode_41 : decode cX1_queryNode 41 = .ok (.ireturn, 1) := by decide +kernel
abbrev cX1_continues : ByteArray := prog_1_method_33_code
def yX1_continues : MethodName := ⟨RX1, "continues", "()I"⟩
theorem dX1_continues_0 : decode cX1_continues 0 = .ok (.aload_n 0, 1) := by decide +kernel
theorem dX1_continues_1 : decode cX1_continues 1 = .ok (.invokevirtual 118, 3) := by decide +kernel
theorem dX1_continues_4 : decode cX1_continues 4 = .ok (.istore_n 1, 1) := by decide +kernel
theorem dX1_continues_5 : decode cX1_continues 5 = .ok (.iconst 0, 1) := by decide +kernel
theorem dX1_continues_6 : decode cX1_continues 6 = .ok (.istore_n 2, 1) := by decide +kernel
theorem dX1_continues_7 : decode cX1_continues 7 = .ok (.iconst 0, 1) := by decide +kernel
theorem dX1_continues_8 : decode cX1_continues 8 = .ok (.istore_n 3, 1) := by decide +kernel
theorem dX1_continues_9 : decode cX1_continues 9 = .ok (.iload_n 3, 1) := by decide +kernel
theorem dX1_continues_10 : decode cX1_continues 10 = .ok (.iconst 4, 1) := by decide +kernel
theorem dX1_continues_11 : decode cX1_continues 11 = .ok (.if_icmp .ge 32, 3) := by decide +kernel
theorem dX1_continues_14 : decode cX1_continues 14 = .ok (.iload_n 1, 1) := by decide +kernel
theorem dX1_continues_15 : decode cX1_continues 15 = .ok (.ifCond .lt 22, 3) := by decide +kernel
theorem dX1_continues_18 : decode cX1_continues 18 = .ok (.aload_n 0, 1) := by decide +kernel
theorem dX1_continues_19 : decode cX1_continues 19 = .ok (.getfield 19, 3) := by decide +kernel
theorem dX1_continues_22 : decode cX1_continues 22 = .ok (.iload_n 1, 1) := by decide +kernel
theorem dX1_continues_23 : decode cX1_continues 23 = .ok (.iconst 4, 1) := by decide +kernel
theorem dX1_continues_24 : decode cX1_continues 24 = .ok (.imul, 1) := by decide +kernel
theorem dX1_continues_25 : decode cX1_continues 25 = .ok (.iload_n 3, 1) := by decide +kernel
theorem dX1_continues_26 : decode cX1_continues 26 = .ok (.iadd, 1) := by decide +kernel
theorem dX1_continues_27 : decode cX1_continues 27 = .ok (.iaload, 1) := by decide +kernel
theorem dX1_continues_28 : decode cX1_continues 28 = .ok (.ifCond .eq 9, 3) := by decide +kernel
theorem dX1_continues_31 : decode cX1_continues 31 = .ok (.iload_n 2, 1) := by decide +kernel
theorem dX1_continues_32 : decode cX1_continues 32 = .ok (.iconst 1, 1) := by decide +kernel
theorem dX1_continues_33 : decode cX1_continues 33 = .ok (.iload_n 3, 1) := by decide +kernel
theorem dX1_continues_34 : decode cX1_continues 34 = .ok (.ishl, 1) := by decide +kernel
theorem dX1_continues_35 : decode cX1_continues 35 = .ok (.ior, 1) := by decide +kernel
theorem dX1_continues_36 : decode cX1_continues 36 = .ok (.istore_n 2, 1) := by decide +kernel
theorem dX1_continues_37 : decode cX1_continues 37 = .ok (.iinc 3 1, 3) := by decide +kernel
theorem dX1_continues_40 : decode cX1_continues 40 = .ok (.goto (-31), 3) := by decide +kernel
theorem dX1_continues_43 : decode cX1_continues 43 = .ok (.iload_n 2, 1) := by decide +kernel
theorem dX1_continues_44 : decode cX1_continues 44 = .ok (.ireturn, 1) := by decide +kernel
theorem q28 : (Jvm.Cond.initialized "FuzzyTypeahead") ∈ lw_all := lw_g (lw_at lw_m1 1 rfl) rfl
theorem q31 : (Jvm.Cond.instantiable "FuzzyTypeahead" (19 : Nat)) ∈ lw_all := lw_g (lw_at lw_m1 4 rfl) rfl
theorem q33 : (Jvm.Cond.instanceMethod ({ cls := "FuzzyTypeahead", name := "<init>", desc := "(I)V" } : Jvm.MethodName)) ∈ lw_all := lw_g (lw_at lw_m1 6 rfl) rfl
theorem q34 : (Jvm.Cond.code ({ cls := "FuzzyTypeahead", name := "<init>", desc := "(I)V" } : Jvm.MethodName) prog_1_method_1_code (4 : Nat) (Option.none : Option Jvm.ClassFile.FieldType)) ∈ lw_all := lw_g (lw_at lw_m1 7 rfl) rfl
theorem q35 : (Jvm.Cond.methodLink "FuzzyTypeahead" (1 : Nat) ({ cls := "java/lang/Object", name := "<init>", desc := "()V" } : Jvm.MethodName)) ∈ lw_all := lw_g (lw_at lw_m1 8 rfl) rfl
theorem q38 : (Jvm.Cond.methodLink "FuzzyTypeahead" (56 : Nat) ({ cls := "FuzzyTypeahead", name := "layOut", desc := "()V" } : Jvm.MethodName)) ∈ lw_all := lw_g (lw_at lw_m1 11 rfl) rfl
theorem q39 : (Jvm.Cond.privateMethod ({ cls := "FuzzyTypeahead", name := "layOut", desc := "()V" } : Jvm.MethodName)) ∈ lw_tbl := lw_at lw_m1 12 rfl
theorem q40 : (Jvm.Cond.instanceMethod ({ cls := "FuzzyTypeahead", name := "layOut", desc := "()V" } : Jvm.MethodName)) ∈ lw_all := lw_g (lw_at lw_m1 13 rfl) rfl
theorem q41 : (Jvm.Cond.code ({ cls := "FuzzyTypeahead", name := "layOut", desc := "()V" } : Jvm.MethodName) prog_1_method_17_code (2 : Nat) (Option.none : Option Jvm.ClassFile.FieldType)) ∈ lw_all := lw_g (lw_at lw_m1 14 rfl) rfl
theorem q42 : (Jvm.Cond.methodLink "FuzzyTypeahead" (94 : Nat) ({ cls := "FuzzyTypeahead", name := "firstLayer", desc := "()V" } : Jvm.MethodName)) ∈ lw_all := lw_g (lw_at lw_m1 15 rfl) rfl
theorem q43 : (Jvm.Cond.privateMethod ({ cls := "FuzzyTypeahead", name := "firstLayer", desc := "()V" } : Jvm.MethodName)) ∈ lw_tbl := lw_at lw_m1 16 rfl
theorem q44 : (Jvm.Cond.instanceMethod ({ cls := "FuzzyTypeahead", name := "firstLayer", desc := "()V" } : Jvm.MethodName)) ∈ lw_all := lw_g (lw_at lw_m1 17 rfl) rfl
theorem q45 : (Jvm.Cond.code ({ cls := "FuzzyTypeahead", name := "firstLayer", desc := "()V" } : Jvm.MethodName) prog_1_method_14_code (2 : Nat) (Option.none : Option Jvm.ClassFile.FieldType)) ∈ lw_all := lw_g (lw_at lw_m1 18 rfl) rfl
theorem q46 : (Jvm.Cond.methodLink "FuzzyTypeahead" (83 : Nat) ({ cls := "FuzzyTypeahead", name := "inTree", desc := "(I)Z" } : Jvm.MethodName)) ∈ lw_all := lw_g (lw_at lw_m1 19 rfl) rfl
theorem q47 : (Jvm.Cond.privateMethod ({ cls := "FuzzyTypeahead", name := "inTree", desc := "(I)Z" } : Jvm.MethodName)) ∈ lw_tbl := lw_at lw_m1 20 rfl
theorem q48 : (Jvm.Cond.instanceMethod ({ cls := "FuzzyTypeahead", name := "inTree", desc := "(I)Z" } : Jvm.MethodName)) ∈ lw_all := lw_g (lw_at lw_m1 21 rfl) rfl
theorem q49 : (Jvm.Cond.code ({ cls := "FuzzyTypeahead", name := "inTree", desc := "(I)Z" } : Jvm.MethodName) prog_1_method_12_code (2 : Nat) (Option.some Jvm.ClassFile.FieldType.boolean)) ∈ lw_all := lw_g (lw_at lw_m1 22 rfl) rfl
theorem q50 : (Jvm.Cond.methodLink "FuzzyTypeahead" (86 : Nat) ({ cls := "FuzzyTypeahead", name := "capped", desc := "(I)I" } : Jvm.MethodName)) ∈ lw_all := lw_g (lw_at lw_m1 23 rfl) rfl
theorem q51 : (Jvm.Cond.privateMethod ({ cls := "FuzzyTypeahead", name := "capped", desc := "(I)I" } : Jvm.MethodName)) ∈ lw_tbl := lw_at lw_m1 24 rfl
theorem q52 : (Jvm.Cond.instanceMethod ({ cls := "FuzzyTypeahead", name := "capped", desc := "(I)I" } : Jvm.MethodName)) ∈ lw_all := lw_g (lw_at lw_m1 25 rfl) rfl
theorem q53 : (Jvm.Cond.code ({ cls := "FuzzyTypeahead", name := "capped", desc := "(I)I" } : Jvm.MethodName) prog_1_method_13_code (2 : Nat) (Option.some Jvm.ClassFile.FieldType.int)) ∈ lw_all := lw_g (lw_at lw_m1 26 rfl) rfl
theorem q54 : (Jvm.Cond.methodLink "FuzzyTypeahead" (100 : Nat) ({ cls := "FuzzyTypeahead", name := "nextLayer", desc := "(I)V" } : Jvm.MethodName)) ∈ lw_all := lw_g (lw_at lw_m1 27 rfl) rfl
theorem q55 : (Jvm.Cond.privateMethod ({ cls := "FuzzyTypeahead", name := "nextLayer", desc := "(I)V" } : Jvm.MethodName)) ∈ lw_tbl := lw_at lw_m1 28 rfl
theorem q56 : (Jvm.Cond.instanceMethod ({ cls := "FuzzyTypeahead", name := "nextLayer", desc := "(I)V" } : Jvm.MethodName)) ∈ lw_all := lw_g (lw_at lw_m1 29 rfl) rfl
theorem q57 : (Jvm.Cond.code ({ cls := "FuzzyTypeahead", name := "nextLayer", desc := "(I)V" } : Jvm.MethodName) prog_1_method_15_code (6 : Nat) (Option.none : Option Jvm.ClassFile.FieldType)) ∈ lw_all := lw_g (lw_at lw_m1 30 rfl) rfl
theorem q58 : (Jvm.Cond.methodLink "FuzzyTypeahead" (90 : Nat) ({ cls := "FuzzyTypeahead", name := "step", desc := "(IIII)I" } : Jvm.MethodName)) ∈ lw_all := lw_g (lw_at lw_m1 31 rfl) rfl
theorem q59 : (Jvm.Cond.privateMethod ({ cls := "FuzzyTypeahead", name := "step", desc := "(IIII)I" } : Jvm.MethodName)) ∈ lw_tbl := lw_at lw_m1 32 rfl
theorem q60 : (Jvm.Cond.instanceMethod ({ cls := "FuzzyTypeahead", name := "step", desc := "(IIII)I" } : Jvm.MethodName)) ∈ lw_all := lw_g (lw_at lw_m1 33 rfl) rfl
theorem q61 : (Jvm.Cond.code ({ cls := "FuzzyTypeahead", name := "step", desc := "(IIII)I" } : Jvm.MethodName) prog_1_method_16_code (9 : Nat) (Option.some Jvm.ClassFile.FieldType.int)) ∈ lw_all := lw_g (lw_at lw_m1 34 rfl) rfl
theorem q62 : (Jvm.Cond.methodLink "FuzzyTypeahead" (73 : Nat) ({ cls := "FuzzyTypeahead", name := "rank", desc := "()V" } : Jvm.MethodName)) ∈ lw_all := lw_g (lw_at lw_m1 35 rfl) rfl
theorem q63 : (Jvm.Cond.privateMethod ({ cls := "FuzzyTypeahead", name := "rank", desc := "()V" } : Jvm.MethodName)) ∈ lw_tbl := lw_at lw_m1 36 rfl
theorem q64 : (Jvm.Cond.instanceMethod ({ cls := "FuzzyTypeahead", name := "rank", desc := "()V" } : Jvm.MethodName)) ∈ lw_all := lw_g (lw_at lw_m1 37 rfl) rfl
theorem q65 : (Jvm.Cond.code ({ cls := "FuzzyTypeahead", name := "rank", desc := "()V" } : Jvm.MethodName) prog_1_method_18_code (8 : Nat) (Option.none : Option Jvm.ClassFile.FieldType)) ∈ lw_all := lw_g (lw_at lw_m1 38 rfl) rfl
theorem q66 : (Jvm.Cond.methodLink "FuzzyTypeahead" (107 : Nat) ({ cls := "FuzzyTypeahead", name := "insert", desc := "(II)V" } : Jvm.MethodName)) ∈ lw_all := lw_g (lw_at lw_m1 39 rfl) rfl
theorem q67 : (Jvm.Cond.privateMethod ({ cls := "FuzzyTypeahead", name := "insert", desc := "(II)V" } : Jvm.MethodName)) ∈ lw_tbl := lw_at lw_m1 40 rfl
theorem q68 : (Jvm.Cond.instanceMethod ({ cls := "FuzzyTypeahead", name := "insert", desc := "(II)V" } : Jvm.MethodName)) ∈ lw_all := lw_g (lw_at lw_m1 41 rfl) rfl
theorem q69 : (Jvm.Cond.code ({ cls := "FuzzyTypeahead", name := "insert", desc := "(II)V" } : Jvm.MethodName) prog_1_method_20_code (6 : Nat) (Option.none : Option Jvm.ClassFile.FieldType)) ∈ lw_all := lw_g (lw_at lw_m1 42 rfl) rfl
theorem q70 : (Jvm.Cond.methodLink "FuzzyTypeahead" (111 : Nat) ({ cls := "FuzzyTypeahead", name := "before", desc := "(III)Z" } : Jvm.MethodName)) ∈ lw_all := lw_g (lw_at lw_m1 43 rfl) rfl
theorem q71 : (Jvm.Cond.privateMethod ({ cls := "FuzzyTypeahead", name := "before", desc := "(III)Z" } : Jvm.MethodName)) ∈ lw_tbl := lw_at lw_m1 44 rfl
theorem q72 : (Jvm.Cond.instanceMethod ({ cls := "FuzzyTypeahead", name := "before", desc := "(III)Z" } : Jvm.MethodName)) ∈ lw_all := lw_g (lw_at lw_m1 45 rfl) rfl
theorem q73 : (Jvm.Cond.code ({ cls := "FuzzyTypeahead", name := "before", desc := "(III)Z" } : Jvm.MethodName) prog_1_method_19_code (4 : Nat) (Option.some Jvm.ClassFile.FieldType.boolean)) ∈ lw_all := lw_g (lw_at lw_m1 46 rfl) rfl
theorem q74 : (Jvm.Cond.fieldLink "FuzzyTypeahead" (52 : Nat) "FuzzyTypeahead" "limit" "I") ∈ lw_all := lw_g (lw_at lw_m1 47 rfl) rfl
theorem q75 : (Jvm.Cond.fieldLink "FuzzyTypeahead" (63 : Nat) "FuzzyTypeahead" "drafted" "I") ∈ lw_all := lw_g (lw_at lw_m1 48 rfl) rfl
theorem q76 : (Jvm.Cond.fieldLink "FuzzyTypeahead" (7 : Nat) "FuzzyTypeahead" "draft" "[I") ∈ lw_all := lw_g (lw_at lw_m1 49 rfl) rfl
theorem q77 : (Jvm.Cond.fieldLink "FuzzyTypeahead" (97 : Nat) "FuzzyTypeahead" "typed" "I") ∈ lw_all := lw_g (lw_at lw_m1 50 rfl) rfl
theorem q78 : (Jvm.Cond.fieldLink "FuzzyTypeahead" (13 : Nat) "FuzzyTypeahead" "query" "[I") ∈ lw_all := lw_g (lw_at lw_m1 51 rfl) rfl
theorem q79 : (Jvm.Cond.fieldLink "FuzzyTypeahead" (76 : Nat) "FuzzyTypeahead" "words" "I") ∈ lw_all := lw_g (lw_at lw_m1 52 rfl) rfl
theorem q80 : (Jvm.Cond.fieldLink "FuzzyTypeahead" (16 : Nat) "FuzzyTypeahead" "below" "[I") ∈ lw_all := lw_g (lw_at lw_m1 53 rfl) rfl
theorem q81 : (Jvm.Cond.fieldLink "FuzzyTypeahead" (19 : Nat) "FuzzyTypeahead" "child" "[I") ∈ lw_all := lw_g (lw_at lw_m1 54 rfl) rfl
theorem q82 : (Jvm.Cond.fieldLink "FuzzyTypeahead" (22 : Nat) "FuzzyTypeahead" "parent" "[I") ∈ lw_all := lw_g (lw_at lw_m1 55 rfl) rfl
theorem q83 : (Jvm.Cond.fieldLink "FuzzyTypeahead" (25 : Nat) "FuzzyTypeahead" "letter" "[I") ∈ lw_all := lw_g (lw_at lw_m1 56 rfl) rfl
theorem q84 : (Jvm.Cond.fieldLink "FuzzyTypeahead" (28 : Nat) "FuzzyTypeahead" "depth" "[I") ∈ lw_all := lw_g (lw_at lw_m1 57 rfl) rfl
theorem q85 : (Jvm.Cond.fieldLink "FuzzyTypeahead" (31 : Nat) "FuzzyTypeahead" "code" "[I") ∈ lw_all := lw_g (lw_at lw_m1 58 rfl) rfl
theorem q86 : (Jvm.Cond.fieldLink "FuzzyTypeahead" (34 : Nat) "FuzzyTypeahead" "wordWeight" "[I") ∈ lw_all := lw_g (lw_at lw_m1 59 rfl) rfl
theorem q87 : (Jvm.Cond.fieldLink "FuzzyTypeahead" (37 : Nat) "FuzzyTypeahead" "near" "[I") ∈ lw_all := lw_g (lw_at lw_m1 60 rfl) rfl
theorem q88 : (Jvm.Cond.fieldLink "FuzzyTypeahead" (104 : Nat) "FuzzyTypeahead" "count" "I") ∈ lw_all := lw_g (lw_at lw_m1 61 rfl) rfl
theorem q89 : (Jvm.Cond.fieldLink "FuzzyTypeahead" (40 : Nat) "FuzzyTypeahead" "rankNode" "[I") ∈ lw_all := lw_g (lw_at lw_m1 62 rfl) rfl
theorem q90 : (Jvm.Cond.fieldLink "FuzzyTypeahead" (43 : Nat) "FuzzyTypeahead" "rankDistance" "[I") ∈ lw_all := lw_g (lw_at lw_m1 63 rfl) rfl
theorem q91 : (Jvm.Cond.fieldLink "FuzzyTypeahead" (46 : Nat) "FuzzyTypeahead" "stack" "[I") ∈ lw_all := lw_g (lw_at lw_m1 64 rfl) rfl
theorem q92 : (Jvm.Cond.fieldLink "FuzzyTypeahead" (49 : Nat) "FuzzyTypeahead" "reach" "[I") ∈ lw_all := lw_g (lw_at lw_m1 65 rfl) rfl
theorem q93 : (Jvm.Cond.laysFinal "FuzzyTypeahead" "FuzzyTypeahead" "limit" "I") ∈ lw_all := lw_g (lw_at lw_m1 66 rfl) rfl
theorem q94 : (Jvm.Cond.soleField "FuzzyTypeahead" "limit") ∈ lw_all := lw_g (lw_at lw_m1 67 rfl) rfl
theorem q95 : (Jvm.Cond.lays "FuzzyTypeahead" "FuzzyTypeahead" "drafted" "I") ∈ lw_all := lw_g (lw_at lw_m1 68 rfl) rfl
theorem q96 : (Jvm.Cond.soleField "FuzzyTypeahead" "drafted") ∈ lw_all := lw_g (lw_at lw_m1 69 rfl) rfl
theorem q97 : (Jvm.Cond.laysFinal "FuzzyTypeahead" "FuzzyTypeahead" "draft" "[I") ∈ lw_all := lw_g (lw_at lw_m1 70 rfl) rfl
theorem q98 : (Jvm.Cond.soleField "FuzzyTypeahead" "draft") ∈ lw_all := lw_g (lw_at lw_m1 71 rfl) rfl
theorem q99 : (Jvm.Cond.lays "FuzzyTypeahead" "FuzzyTypeahead" "typed" "I") ∈ lw_all := lw_g (lw_at lw_m1 72 rfl) rfl
theorem q100 : (Jvm.Cond.soleField "FuzzyTypeahead" "typed") ∈ lw_all := lw_g (lw_at lw_m1 73 rfl) rfl
theorem q101 : (Jvm.Cond.laysFinal "FuzzyTypeahead" "FuzzyTypeahead" "query" "[I") ∈ lw_all := lw_g (lw_at lw_m1 74 rfl) rfl
theorem q102 : (Jvm.Cond.soleField "FuzzyTypeahead" "query") ∈ lw_all := lw_g (lw_at lw_m1 75 rfl) rfl
theorem q103 : (Jvm.Cond.lays "FuzzyTypeahead" "FuzzyTypeahead" "words" "I") ∈ lw_all := lw_g (lw_at lw_m1 76 rfl) rfl
theorem q104 : (Jvm.Cond.soleField "FuzzyTypeahead" "words") ∈ lw_all := lw_g (lw_at lw_m1 77 rfl) rfl
theorem q105 : (Jvm.Cond.laysFinal "FuzzyTypeahead" "FuzzyTypeahead" "below" "[I") ∈ lw_all := lw_g (lw_at lw_m1 78 rfl) rfl
theorem q106 : (Jvm.Cond.soleField "FuzzyTypeahead" "below") ∈ lw_all := lw_g (lw_at lw_m1 79 rfl) rfl
theorem q107 : (Jvm.Cond.laysFinal "FuzzyTypeahead" "FuzzyTypeahead" "child" "[I") ∈ lw_all := lw_g (lw_at lw_m1 80 rfl) rfl
theorem q108 : (Jvm.Cond.soleField "FuzzyTypeahead" "child") ∈ lw_all := lw_g (lw_at lw_m1 81 rfl) rfl
theorem q109 : (Jvm.Cond.laysFinal "FuzzyTypeahead" "FuzzyTypeahead" "parent" "[I") ∈ lw_all := lw_g (lw_at lw_m1 82 rfl) rfl
theorem q110 : (Jvm.Cond.soleField "FuzzyTypeahead" "parent") ∈ lw_all := lw_g (lw_at lw_m1 83 rfl) rfl
theorem q111 : (Jvm.Cond.laysFinal "FuzzyTypeahead" "FuzzyTypeahead" "letter" "[I") ∈ lw_all := lw_g (lw_at lw_m1 84 rfl) rfl
theorem q112 : (Jvm.Cond.soleField "FuzzyTypeahead" "letter") ∈ lw_all := lw_g (lw_at lw_m1 85 rfl) rfl
theorem q113 : (Jvm.Cond.laysFinal "FuzzyTypeahead" "FuzzyTypeahead" "depth" "[I") ∈ lw_all := lw_g (lw_at lw_m1 86 rfl) rfl
theorem q114 : (Jvm.Cond.soleField "FuzzyTypeahead" "depth") ∈ lw_all := lw_g (lw_at lw_m1 87 rfl) rfl
theorem q115 : (Jvm.Cond.laysFinal "FuzzyTypeahead" "FuzzyTypeahead" "code" "[I") ∈ lw_all := lw_g (lw_at lw_m1 88 rfl) rfl
theorem q116 : (Jvm.Cond.soleField "FuzzyTypeahead" "code") ∈ lw_all := lw_g (lw_at lw_m1 89 rfl) rfl
theorem q117 : (Jvm.Cond.laysFinal "FuzzyTypeahead" "FuzzyTypeahead" "wordWeight" "[I") ∈ lw_all := lw_g (lw_at lw_m1 90 rfl) rfl
theorem q118 : (Jvm.Cond.soleField "FuzzyTypeahead" "wordWeight") ∈ lw_all := lw_g (lw_at lw_m1 91 rfl) rfl
theorem q119 : (Jvm.Cond.laysFinal "FuzzyTypeahead" "FuzzyTypeahead" "near" "[I") ∈ lw_all := lw_g (lw_at lw_m1 92 rfl) rfl
theorem q120 : (Jvm.Cond.soleField "FuzzyTypeahead" "near") ∈ lw_all := lw_g (lw_at lw_m1 93 rfl) rfl
theorem q121 : (Jvm.Cond.lays "FuzzyTypeahead" "FuzzyTypeahead" "count" "I") ∈ lw_all := lw_g (lw_at lw_m1 94 rfl) rfl
theorem q122 : (Jvm.Cond.soleField "FuzzyTypeahead" "count") ∈ lw_all := lw_g (lw_at lw_m1 95 rfl) rfl
theorem q123 : (Jvm.Cond.laysFinal "FuzzyTypeahead" "FuzzyTypeahead" "rankNode" "[I") ∈ lw_all := lw_g (lw_at lw_m1 96 rfl) rfl
theorem q124 : (Jvm.Cond.soleField "FuzzyTypeahead" "rankNode") ∈ lw_all := lw_g (lw_at lw_m1 97 rfl) rfl
theorem q125 : (Jvm.Cond.laysFinal "FuzzyTypeahead" "FuzzyTypeahead" "rankDistance" "[I") ∈ lw_all := lw_g (lw_at lw_m1 98 rfl) rfl
theorem q126 : (Jvm.Cond.soleField "FuzzyTypeahead" "rankDistance") ∈ lw_all := lw_g (lw_at lw_m1 99 rfl) rfl
theorem q127 : (Jvm.Cond.laysFinal "FuzzyTypeahead" "FuzzyTypeahead" "stack" "[I") ∈ lw_all := lw_g (lw_at lw_m1 100 rfl) rfl
theorem q128 : (Jvm.Cond.soleField "FuzzyTypeahead" "stack") ∈ lw_all := lw_g (lw_at lw_m1 101 rfl) rfl
theorem q129 : (Jvm.Cond.laysFinal "FuzzyTypeahead" "FuzzyTypeahead" "reach" "[I") ∈ lw_all := lw_g (lw_at lw_m1 102 rfl) rfl
theorem q130 : (Jvm.Cond.soleField "FuzzyTypeahead" "reach") ∈ lw_all := lw_g (lw_at lw_m1 103 rfl) rfl
theorem q131 : (Jvm.Cond.superclass "FuzzyTypeahead" "java/lang/Object") ∈ lw_all := lw_g (lw_at lw_m1 104 rfl) rfl
theorem q134 : (Jvm.Cond.instanceMethod ({ cls := "FuzzyTypeahead", name := "draft", desc := "(I)I" } : Jvm.MethodName)) ∈ lw_all := lw_g (lw_at lw_m1 107 rfl) rfl
theorem q135 : (Jvm.Cond.selects "FuzzyTypeahead" ({ cls := "FuzzyTypeahead", name := "draft", desc := "(I)I" } : Jvm.MethodName) ({ cls := "FuzzyTypeahead", name := "draft", desc := "(I)I" } : Jvm.MethodName)) ∈ lw_all := lw_g (lw_at lw_m1 108 rfl) rfl
theorem q136 : (Jvm.Cond.code ({ cls := "FuzzyTypeahead", name := "draft", desc := "(I)I" } : Jvm.MethodName) prog_1_method_3_code (2 : Nat) (Option.some Jvm.ClassFile.FieldType.int)) ∈ lw_all := lw_g (lw_at lw_m1 109 rfl) rfl
theorem q137 : (Jvm.Cond.methodLink "FuzzyTypeahead" (59 : Nat) ({ cls := "FuzzyTypeahead", name := "badLetter", desc := "(I)Z" } : Jvm.MethodName)) ∈ lw_all := lw_g (lw_at lw_m1 110 rfl) rfl
theorem q138 : (Jvm.Cond.privateMethod ({ cls := "FuzzyTypeahead", name := "badLetter", desc := "(I)Z" } : Jvm.MethodName)) ∈ lw_tbl := lw_at lw_m1 111 rfl
theorem q139 : (Jvm.Cond.instanceMethod ({ cls := "FuzzyTypeahead", name := "badLetter", desc := "(I)Z" } : Jvm.MethodName)) ∈ lw_all := lw_g (lw_at lw_m1 112 rfl) rfl
theorem q140 : (Jvm.Cond.code ({ cls := "FuzzyTypeahead", name := "badLetter", desc := "(I)Z" } : Jvm.MethodName) prog_1_method_2_code (2 : Nat) (Option.some Jvm.ClassFile.FieldType.boolean)) ∈ lw_all := lw_g (lw_at lw_m1 113 rfl) rfl
theorem q142 : (Jvm.Cond.instanceMethod ({ cls := "FuzzyTypeahead", name := "scrap", desc := "()V" } : Jvm.MethodName)) ∈ lw_all := lw_g (lw_at lw_m1 115 rfl) rfl
theorem q143 : (Jvm.Cond.selects "FuzzyTypeahead" ({ cls := "FuzzyTypeahead", name := "scrap", desc := "()V" } : Jvm.MethodName) ({ cls := "FuzzyTypeahead", name := "scrap", desc := "()V" } : Jvm.MethodName)) ∈ lw_all := lw_g (lw_at lw_m1 116 rfl) rfl
theorem q144 : (Jvm.Cond.code ({ cls := "FuzzyTypeahead", name := "scrap", desc := "()V" } : Jvm.MethodName) prog_1_method_4_code (1 : Nat) (Option.none : Option Jvm.ClassFile.FieldType)) ∈ lw_all := lw_g (lw_at lw_m1 117 rfl) rfl
theorem q146 : (Jvm.Cond.instanceMethod ({ cls := "FuzzyTypeahead", name := "add", desc := "(I)I" } : Jvm.MethodName)) ∈ lw_all := lw_g (lw_at lw_m1 119 rfl) rfl
theorem q147 : (Jvm.Cond.selects "FuzzyTypeahead" ({ cls := "FuzzyTypeahead", name := "add", desc := "(I)I" } : Jvm.MethodName) ({ cls := "FuzzyTypeahead", name := "add", desc := "(I)I" } : Jvm.MethodName)) ∈ lw_all := lw_g (lw_at lw_m1 120 rfl) rfl
theorem q148 : (Jvm.Cond.code ({ cls := "FuzzyTypeahead", name := "add", desc := "(I)I" } : Jvm.MethodName) prog_1_method_8_code (6 : Nat) (Option.some Jvm.ClassFile.FieldType.int)) ∈ lw_all := lw_g (lw_at lw_m1 121 rfl) rfl
theorem q149 : (Jvm.Cond.methodLink "FuzzyTypeahead" (70 : Nat) ({ cls := "FuzzyTypeahead", name := "draftNode", desc := "()I" } : Jvm.MethodName)) ∈ lw_all := lw_g (lw_at lw_m1 122 rfl) rfl
theorem q150 : (Jvm.Cond.privateMethod ({ cls := "FuzzyTypeahead", name := "draftNode", desc := "()I" } : Jvm.MethodName)) ∈ lw_tbl := lw_at lw_m1 123 rfl
theorem q151 : (Jvm.Cond.instanceMethod ({ cls := "FuzzyTypeahead", name := "draftNode", desc := "()I" } : Jvm.MethodName)) ∈ lw_all := lw_g (lw_at lw_m1 124 rfl) rfl
theorem q152 : (Jvm.Cond.code ({ cls := "FuzzyTypeahead", name := "draftNode", desc := "()I" } : Jvm.MethodName) prog_1_method_5_code (3 : Nat) (Option.some Jvm.ClassFile.FieldType.int)) ∈ lw_all := lw_g (lw_at lw_m1 125 rfl) rfl
theorem q153 : (Jvm.Cond.methodLink "FuzzyTypeahead" (79 : Nat) ({ cls := "FuzzyTypeahead", name := "makeChild", desc := "(II)I" } : Jvm.MethodName)) ∈ lw_all := lw_g (lw_at lw_m1 126 rfl) rfl
theorem q154 : (Jvm.Cond.privateMethod ({ cls := "FuzzyTypeahead", name := "makeChild", desc := "(II)I" } : Jvm.MethodName)) ∈ lw_tbl := lw_at lw_m1 127 rfl
theorem q155 : (Jvm.Cond.instanceMethod ({ cls := "FuzzyTypeahead", name := "makeChild", desc := "(II)I" } : Jvm.MethodName)) ∈ lw_all := lw_g (lw_at lw_m1 128 rfl) rfl
theorem q156 : (Jvm.Cond.code ({ cls := "FuzzyTypeahead", name := "makeChild", desc := "(II)I" } : Jvm.MethodName) prog_1_method_7_code (5 : Nat) (Option.some Jvm.ClassFile.FieldType.int)) ∈ lw_all := lw_g (lw_at lw_m1 129 rfl) rfl
theorem q157 : (Jvm.Cond.methodLink "FuzzyTypeahead" (66 : Nat) ({ cls := "FuzzyTypeahead", name := "freeNode", desc := "()I" } : Jvm.MethodName)) ∈ lw_all := lw_g (lw_at lw_m1 130 rfl) rfl
theorem q158 : (Jvm.Cond.privateMethod ({ cls := "FuzzyTypeahead", name := "freeNode", desc := "()I" } : Jvm.MethodName)) ∈ lw_tbl := lw_at lw_m1 131 rfl
theorem q159 : (Jvm.Cond.instanceMethod ({ cls := "FuzzyTypeahead", name := "freeNode", desc := "()I" } : Jvm.MethodName)) ∈ lw_all := lw_g (lw_at lw_m1 132 rfl) rfl
theorem q160 : (Jvm.Cond.code ({ cls := "FuzzyTypeahead", name := "freeNode", desc := "()I" } : Jvm.MethodName) prog_1_method_6_code (3 : Nat) (Option.some Jvm.ClassFile.FieldType.int)) ∈ lw_all := lw_g (lw_at lw_m1 133 rfl) rfl
theorem q162 : (Jvm.Cond.instanceMethod ({ cls := "FuzzyTypeahead", name := "remove", desc := "()I" } : Jvm.MethodName)) ∈ lw_all := lw_g (lw_at lw_m1 135 rfl) rfl
theorem q163 : (Jvm.Cond.selects "FuzzyTypeahead" ({ cls := "FuzzyTypeahead", name := "remove", desc := "()I" } : Jvm.MethodName) ({ cls := "FuzzyTypeahead", name := "remove", desc := "()I" } : Jvm.MethodName)) ∈ lw_all := lw_g (lw_at lw_m1 136 rfl) rfl
theorem q164 : (Jvm.Cond.code ({ cls := "FuzzyTypeahead", name := "remove", desc := "()I" } : Jvm.MethodName) prog_1_method_9_code (4 : Nat) (Option.some Jvm.ClassFile.FieldType.int)) ∈ lw_all := lw_g (lw_at lw_m1 137 rfl) rfl
theorem q166 : (Jvm.Cond.instanceMethod ({ cls := "FuzzyTypeahead", name := "weight", desc := "()I" } : Jvm.MethodName)) ∈ lw_all := lw_g (lw_at lw_m1 139 rfl) rfl
theorem q167 : (Jvm.Cond.selects "FuzzyTypeahead" ({ cls := "FuzzyTypeahead", name := "weight", desc := "()I" } : Jvm.MethodName) ({ cls := "FuzzyTypeahead", name := "weight", desc := "()I" } : Jvm.MethodName)) ∈ lw_all := lw_g (lw_at lw_m1 140 rfl) rfl
theorem q168 : (Jvm.Cond.code ({ cls := "FuzzyTypeahead", name := "weight", desc := "()I" } : Jvm.MethodName) prog_1_method_10_code (2 : Nat) (Option.some Jvm.ClassFile.FieldType.int)) ∈ lw_all := lw_g (lw_at lw_m1 141 rfl) rfl
theorem q170 : (Jvm.Cond.instanceMethod ({ cls := "FuzzyTypeahead", name := "words", desc := "()I" } : Jvm.MethodName)) ∈ lw_all := lw_g (lw_at lw_m1 143 rfl) rfl
theorem q171 : (Jvm.Cond.selects "FuzzyTypeahead" ({ cls := "FuzzyTypeahead", name := "words", desc := "()I" } : Jvm.MethodName) ({ cls := "FuzzyTypeahead", name := "words", desc := "()I" } : Jvm.MethodName)) ∈ lw_all := lw_g (lw_at lw_m1 144 rfl) rfl
theorem q172 : (Jvm.Cond.code ({ cls := "FuzzyTypeahead", name := "words", desc := "()I" } : Jvm.MethodName) prog_1_method_11_code (1 : Nat) (Option.some Jvm.ClassFile.FieldType.int)) ∈ lw_all := lw_g (lw_at lw_m1 145 rfl) rfl
theorem q174 : (Jvm.Cond.instanceMethod ({ cls := "FuzzyTypeahead", name := "type", desc := "(I)I" } : Jvm.MethodName)) ∈ lw_all := lw_g (lw_at lw_m1 147 rfl) rfl
theorem q175 : (Jvm.Cond.selects "FuzzyTypeahead" ({ cls := "FuzzyTypeahead", name := "type", desc := "(I)I" } : Jvm.MethodName) ({ cls := "FuzzyTypeahead", name := "type", desc := "(I)I" } : Jvm.MethodName)) ∈ lw_all := lw_g (lw_at lw_m1 148 rfl) rfl
theorem q176 : (Jvm.Cond.code ({ cls := "FuzzyTypeahead", name := "type", desc := "(I)I" } : Jvm.MethodName) prog_1_method_21_code (2 : Nat) (Option.some Jvm.ClassFile.FieldType.int)) ∈ lw_all := lw_g (lw_at lw_m1 149 rfl) rfl
theorem q178 : (Jvm.Cond.instanceMethod ({ cls := "FuzzyTypeahead", name := "backspace", desc := "()I" } : Jvm.MethodName)) ∈ lw_all := lw_g (lw_at lw_m1 151 rfl) rfl
theorem q179 : (Jvm.Cond.selects "FuzzyTypeahead" ({ cls := "FuzzyTypeahead", name := "backspace", desc := "()I" } : Jvm.MethodName) ({ cls := "FuzzyTypeahead", name := "backspace", desc := "()I" } : Jvm.MethodName)) ∈ lw_all := lw_g (lw_at lw_m1 152 rfl) rfl
theorem q180 : (Jvm.Cond.code ({ cls := "FuzzyTypeahead", name := "backspace", desc := "()I" } : Jvm.MethodName) prog_1_method_22_code (1 : Nat) (Option.some Jvm.ClassFile.FieldType.int)) ∈ lw_all := lw_g (lw_at lw_m1 153 rfl) rfl
theorem q182 : (Jvm.Cond.instanceMethod ({ cls := "FuzzyTypeahead", name := "reset", desc := "()V" } : Jvm.MethodName)) ∈ lw_all := lw_g (lw_at lw_m1 155 rfl) rfl
theorem q183 : (Jvm.Cond.selects "FuzzyTypeahead" ({ cls := "FuzzyTypeahead", name := "reset", desc := "()V" } : Jvm.MethodName) ({ cls := "FuzzyTypeahead", name := "reset", desc := "()V" } : Jvm.MethodName)) ∈ lw_all := lw_g (lw_at lw_m1 156 rfl) rfl
theorem q184 : (Jvm.Cond.code ({ cls := "FuzzyTypeahead", name := "reset", desc := "()V" } : Jvm.MethodName) prog_1_method_23_code (1 : Nat) (Option.none : Option Jvm.ClassFile.FieldType)) ∈ lw_all := lw_g (lw_at lw_m1 157 rfl) rfl
theorem q186 : (Jvm.Cond.instanceMethod ({ cls := "FuzzyTypeahead", name := "length", desc := "()I" } : Jvm.MethodName)) ∈ lw_all := lw_g (lw_at lw_m1 159 rfl) rfl
theorem q187 : (Jvm.Cond.selects "FuzzyTypeahead" ({ cls := "FuzzyTypeahead", name := "length", desc := "()I" } : Jvm.MethodName) ({ cls := "FuzzyTypeahead", name := "length", desc := "()I" } : Jvm.MethodName)) ∈ lw_all := lw_g (lw_at lw_m1 160 rfl) rfl
theorem q188 : (Jvm.Cond.code ({ cls := "FuzzyTypeahead", name := "length", desc := "()I" } : Jvm.MethodName) prog_1_method_24_code (1 : Nat) (Option.some Jvm.ClassFile.FieldType.int)) ∈ lw_all := lw_g (lw_at lw_m1 161 rfl) rfl
theorem q190 : (Jvm.Cond.instanceMethod ({ cls := "FuzzyTypeahead", name := "offered", desc := "()I" } : Jvm.MethodName)) ∈ lw_all := lw_g (lw_at lw_m1 163 rfl) rfl
theorem q191 : (Jvm.Cond.selects "FuzzyTypeahead" ({ cls := "FuzzyTypeahead", name := "offered", desc := "()I" } : Jvm.MethodName) ({ cls := "FuzzyTypeahead", name := "offered", desc := "()I" } : Jvm.MethodName)) ∈ lw_all := lw_g (lw_at lw_m1 164 rfl) rfl
theorem q192 : (Jvm.Cond.code ({ cls := "FuzzyTypeahead", name := "offered", desc := "()I" } : Jvm.MethodName) prog_1_method_25_code (1 : Nat) (Option.some Jvm.ClassFile.FieldType.int)) ∈ lw_all := lw_g (lw_at lw_m1 165 rfl) rfl
theorem q194 : (Jvm.Cond.instanceMethod ({ cls := "FuzzyTypeahead", name := "offer", desc := "(I)I" } : Jvm.MethodName)) ∈ lw_all := lw_g (lw_at lw_m1 167 rfl) rfl
theorem q195 : (Jvm.Cond.selects "FuzzyTypeahead" ({ cls := "FuzzyTypeahead", name := "offer", desc := "(I)I" } : Jvm.MethodName) ({ cls := "FuzzyTypeahead", name := "offer", desc := "(I)I" } : Jvm.MethodName)) ∈ lw_all := lw_g (lw_at lw_m1 168 rfl) rfl
theorem q196 : (Jvm.Cond.code ({ cls := "FuzzyTypeahead", name := "offer", desc := "(I)I" } : Jvm.MethodName) prog_1_method_27_code (2 : Nat) (Option.some Jvm.ClassFile.FieldType.int)) ∈ lw_all := lw_g (lw_at lw_m1 169 rfl) rfl
theorem q197 : (Jvm.Cond.methodLink "FuzzyTypeahead" (115 : Nat) ({ cls := "FuzzyTypeahead", name := "badRank", desc := "(I)Z" } : Jvm.MethodName)) ∈ lw_all := lw_g (lw_at lw_m1 170 rfl) rfl
theorem q198 : (Jvm.Cond.privateMethod ({ cls := "FuzzyTypeahead", name := "badRank", desc := "(I)Z" } : Jvm.MethodName)) ∈ lw_tbl := lw_at lw_m1 171 rfl
theorem q199 : (Jvm.Cond.instanceMethod ({ cls := "FuzzyTypeahead", name := "badRank", desc := "(I)Z" } : Jvm.MethodName)) ∈ lw_all := lw_g (lw_at lw_m1 172 rfl) rfl
theorem q200 : (Jvm.Cond.code ({ cls := "FuzzyTypeahead", name := "badRank", desc := "(I)Z" } : Jvm.MethodName) prog_1_method_26_code (2 : Nat) (Option.some Jvm.ClassFile.FieldType.boolean)) ∈ lw_all := lw_g (lw_at lw_m1 173 rfl) rfl
theorem q202 : (Jvm.Cond.instanceMethod ({ cls := "FuzzyTypeahead", name := "distance", desc := "(I)I" } : Jvm.MethodName)) ∈ lw_all := lw_g (lw_at lw_m1 175 rfl) rfl
theorem q203 : (Jvm.Cond.selects "FuzzyTypeahead" ({ cls := "FuzzyTypeahead", name := "distance", desc := "(I)I" } : Jvm.MethodName) ({ cls := "FuzzyTypeahead", name := "distance", desc := "(I)I" } : Jvm.MethodName)) ∈ lw_all := lw_g (lw_at lw_m1 176 rfl) rfl
theorem q204 : (Jvm.Cond.code ({ cls := "FuzzyTypeahead", name := "distance", desc := "(I)I" } : Jvm.MethodName) prog_1_method_28_code (2 : Nat) (Option.some Jvm.ClassFile.FieldType.int)) ∈ lw_all := lw_g (lw_at lw_m1 177 rfl) rfl
theorem q206 : (Jvm.Cond.instanceMethod ({ cls := "FuzzyTypeahead", name := "weightAt", desc := "(I)I" } : Jvm.MethodName)) ∈ lw_all := lw_g (lw_at lw_m1 179 rfl) rfl
theorem q207 : (Jvm.Cond.selects "FuzzyTypeahead" ({ cls := "FuzzyTypeahead", name := "weightAt", desc := "(I)I" } : Jvm.MethodName) ({ cls := "FuzzyTypeahead", name := "weightAt", desc := "(I)I" } : Jvm.MethodName)) ∈ lw_all := lw_g (lw_at lw_m1 180 rfl) rfl
theorem q208 : (Jvm.Cond.code ({ cls := "FuzzyTypeahead", name := "weightAt", desc := "(I)I" } : Jvm.MethodName) prog_1_method_29_code (2 : Nat) (Option.some Jvm.ClassFile.FieldType.int)) ∈ lw_all := lw_g (lw_at lw_m1 181 rfl) rfl
theorem q210 : (Jvm.Cond.instanceMethod ({ cls := "FuzzyTypeahead", name := "nearest", desc := "()I" } : Jvm.MethodName)) ∈ lw_all := lw_g (lw_at lw_m1 183 rfl) rfl
theorem q211 : (Jvm.Cond.selects "FuzzyTypeahead" ({ cls := "FuzzyTypeahead", name := "nearest", desc := "()I" } : Jvm.MethodName) ({ cls := "FuzzyTypeahead", name := "nearest", desc := "()I" } : Jvm.MethodName)) ∈ lw_all := lw_g (lw_at lw_m1 184 rfl) rfl
theorem q212 : (Jvm.Cond.code ({ cls := "FuzzyTypeahead", name := "nearest", desc := "()I" } : Jvm.MethodName) prog_1_method_30_code (3 : Nat) (Option.some Jvm.ClassFile.FieldType.int)) ∈ lw_all := lw_g (lw_at lw_m1 185 rfl) rfl
theorem q214 : (Jvm.Cond.instanceMethod ({ cls := "FuzzyTypeahead", name := "exact", desc := "()I" } : Jvm.MethodName)) ∈ lw_all := lw_g (lw_at lw_m1 187 rfl) rfl
theorem q215 : (Jvm.Cond.selects "FuzzyTypeahead" ({ cls := "FuzzyTypeahead", name := "exact", desc := "()I" } : Jvm.MethodName) ({ cls := "FuzzyTypeahead", name := "exact", desc := "()I" } : Jvm.MethodName)) ∈ lw_all := lw_g (lw_at lw_m1 188 rfl) rfl
theorem q216 : (Jvm.Cond.code ({ cls := "FuzzyTypeahead", name := "exact", desc := "()I" } : Jvm.MethodName) prog_1_method_32_code (2 : Nat) (Option.some Jvm.ClassFile.FieldType.int)) ∈ lw_all := lw_g (lw_at lw_m1 189 rfl) rfl
theorem q217 : (Jvm.Cond.methodLink "FuzzyTypeahead" (118 : Nat) ({ cls := "FuzzyTypeahead", name := "queryNode", desc := "()I" } : Jvm.MethodName)) ∈ lw_all := lw_g (lw_at lw_m1 190 rfl) rfl
theorem q218 : (Jvm.Cond.privateMethod ({ cls := "FuzzyTypeahead", name := "queryNode", desc := "()I" } : Jvm.MethodName)) ∈ lw_tbl := lw_at lw_m1 191 rfl
theorem q219 : (Jvm.Cond.instanceMethod ({ cls := "FuzzyTypeahead", name := "queryNode", desc := "()I" } : Jvm.MethodName)) ∈ lw_all := lw_g (lw_at lw_m1 192 rfl) rfl
theorem q220 : (Jvm.Cond.code ({ cls := "FuzzyTypeahead", name := "queryNode", desc := "()I" } : Jvm.MethodName) prog_1_method_31_code (3 : Nat) (Option.some Jvm.ClassFile.FieldType.int)) ∈ lw_all := lw_g (lw_at lw_m1 193 rfl) rfl
theorem q222 : (Jvm.Cond.instanceMethod ({ cls := "FuzzyTypeahead", name := "continues", desc := "()I" } : Jvm.MethodName)) ∈ lw_all := lw_g (lw_at lw_m1 195 rfl) rfl
theorem q223 : (Jvm.Cond.selects "FuzzyTypeahead" ({ cls := "FuzzyTypeahead", name := "continues", desc := "()I" } : Jvm.MethodName) ({ cls := "FuzzyTypeahead", name := "continues", desc := "()I" } : Jvm.MethodName)) ∈ lw_all := lw_g (lw_at lw_m1 196 rfl) rfl
theorem q224 : (Jvm.Cond.code ({ cls := "FuzzyTypeahead", name := "continues", desc := "()I" } : Jvm.MethodName) prog_1_method_33_code (4 : Nat) (Option.some Jvm.ClassFile.FieldType.int)) ∈ lw_all := lw_g (lw_at lw_m1 197 rfl) rfl
theorem in_X1 : ∀ w ∈ wsX10, w ∈ lw_all := lw_in wsX10 [93, 95, 97, 99, 101, 103, 105, 107, 109, 111, 113, 115, 117, 119, 121, 123, 125, 127, 129] (by decide +kernel) (by decide +kernel)
end
section
/-! FuzzyTypeaheadModel -/
set_option maxRecDepth 100000
def RX2 : String := "FuzzyTypeaheadModel"
def TX2 : u_T := fun k => match k with
  | 0 => ("FuzzyTypeaheadModel", "limit", "I", false)
  | 1 => ("FuzzyTypeaheadModel", "letters", "[I", true)
  | 2 => ("FuzzyTypeaheadModel", "lengths", "[I", true)
  | 3 => ("FuzzyTypeaheadModel", "weights", "[I", true)
  | 4 => ("FuzzyTypeaheadModel", "count", "I", false)
  | _ => ("FuzzyTypeaheadModel", "table", "[I", true)
def tyX2 : Nat → FieldType := fun k => match k with
  | 0 => .int
  | 1 => .array .int
  | 2 => .array .int
  | 3 => .array .int
  | 4 => .int
  | _ => .array .int
abbrev wsX20 : List Cond := u_ws RX2 TX2 6
theorem nmX2 : ∀ a, a < 6 → ∀ b, b < 6 → a ≠ b → (TX2 a).2.1 ≠ (TX2 b).2.1 := by decide +kernel
theorem tyX2_ok : ∀ k, k < 6 → parseFieldDescriptor (TX2 k).2.2.1 = some (tyX2 k) := by decide +kernel
abbrev cX2_init : ByteArray := prog_3_method_1_code
def yX2_init : MethodName := ⟨RX2, "<init>", "(I)V"⟩
theorem dX2_init_0 : decode cX2_init 0 = .ok (.aload_n 0, 1) := by decide +kernel
theorem dX2_init_1 : decode cX2_init 1 = .ok (.invokespecial 1, 3) := by decide +kernel
theorem dX2_init_4 : decode cX2_init 4 = .ok (.aload_n 0, 1) := by decide +kernel
theorem dX2_init_5 : decode cX2_init 5 = .ok (.bipush 84, 2) := by decide +kernel
theorem dX2_init_7 : decode cX2_init 7 = .ok (.newarray .int, 2) := by decide +kernel
theorem dX2_init_9 : decode cX2_init 9 = .ok (.putfield 7, 3) := by decide +kernel
theorem dX2_init_12 : decode cX2_init 12 = .ok (.aload_n 0, 1) := by decide +kernel
theorem dX2_init_13 : decode cX2_init 13 = .ok (.bipush 14, 2) := by decide +kernel
theorem dX2_init_15 : decode cX2_init 15 = .ok (.newarray .int, 2) := by decide +kernel
theorem dX2_init_17 : decode cX2_init 17 = .ok (.putfield 13, 3) := by decide +kernel
theorem dX2_init_20 : decode cX2_init 20 = .ok (.aload_n 0, 1) := by decide +kernel
theorem dX2_init_21 : decode cX2_init 21 = .ok (.bipush 12, 2) := by decide +kernel
theorem dX2_init_23 : decode cX2_init 23 = .ok (.newarray .int, 2) := by decide +kernel
theorem dX2_init_25 : decode cX2_init 25 = .ok (.putfield 16, 3) := by decide +kernel
theorem dX2_init_28 : decode cX2_init 28 = .ok (.aload_n 0, 1) := by decide +kernel
theorem dX2_init_29 : decode cX2_init 29 = .ok (.bipush 49, 2) := by decide +kernel
theorem dX2_init_31 : decode cX2_init 31 = .ok (.newarray .int, 2) := by decide +kernel
theorem dX2_init_33 : decode cX2_init 33 = .ok (.putfield 19, 3) := by decide +kernel
theorem dX2_init_36 : decode cX2_init 36 = .ok (.aload_n 0, 1) := by decide +kernel
theorem dX2_init_37 : decode cX2_init 37 = .ok (.iload_n 1, 1) := by decide +kernel
theorem dX2_init_38 : decode cX2_init 38 = .ok (.ifCond .ge 7, 3) := by decide +kernel
theorem dX2_init_41 : decode cX2_init 41 = .ok (.iconst 0, 1) := by decide +kernel
theorem dX2_init_42 : decode cX2_init 42 = .ok (.goto 13, 3) := by decide +kernel
theorem dX2_init_45 : decode cX2_init 45 = .ok (.iload_n 1, 1) := by decide +kernel
theorem dX2_init_46 : decode cX2_init 46 = .ok (.iconst 3, 1) := by decide +kernel
theorem dX2_init_47 : decode cX2_init 47 = .ok (.if_icmp .le 7, 3) := by decide +kernel
theorem dX2_init_50 : decode cX2_init 50 = .ok (.iconst 3, 1) := by decide +kernel
theorem dX2_init_51 : decode cX2_init 51 = .ok (.goto 4, 3) := by decide +kernel
theorem dX2_init_54 : decode cX2_init 54 = .ok (.iload_n 1, 1) := by decide +kernel
theorem dX2_init_55 : decode cX2_init 55 = .ok (.putfield 22, 3) := by decide +kernel
theorem dX2_init_58 : decode cX2_init 58 = .ok (.return_, 1) := by decide +kernel
abbrev cX2_draft : ByteArray := prog_3_method_3_code
def yX2_draft : MethodName := ⟨RX2, "draft", "(I)I"⟩
theorem dX2_draft_0 : decode cX2_draft 0 = .ok (.aload_n 0, 1) := by decide +kernel
theorem dX2_draft_1 : decode cX2_draft 1 = .ok (.bipush 12, 2) := by decide +kernel
theorem dX2_draft_3 : decode cX2_draft 3 = .ok (.iload_n 1, 1) := by decide +kernel
theorem dX2_draft_4 : decode cX2_draft 4 = .ok (.invokevirtual 26, 3) := by decide +kernel
theorem dX2_draft_7 : decode cX2_draft 7 = .ok (.ireturn, 1) := by decide +kernel
abbrev cX2_append : ByteArray := prog_3_method_2_code
def yX2_append : MethodName := ⟨RX2, "append", "(II)I"⟩
theorem dX2_append_0 : decode cX2_append 0 = .ok (.iload_n 2, 1) := by decide +kernel
theorem dX2_append_1 : decode cX2_append 1 = .ok (.ifCond .lt 8, 3) := by decide +kernel
theorem dX2_append_4 : decode cX2_append 4 = .ok (.iload_n 2, 1) := by decide +kernel
theorem dX2_append_5 : decode cX2_append 5 = .ok (.iconst 3, 1) := by decide +kernel
theorem dX2_append_6 : decode cX2_append 6 = .ok (.if_icmp .le 5, 3) := by decide +kernel
theorem dX2_append_9 : decode cX2_append 9 = .ok (.iconst (-1), 1) := by decide +kernel
theorem dX2_append_10 : decode cX2_append 10 = .ok (.ireturn, 1) := by decide +kernel
theorem dX2_append_11 : decode cX2_append 11 = .ok (.aload_n 0, 1) := by decide +kernel
theorem dX2_append_12 : decode cX2_append 12 = .ok (.getfield 13, 3) := by decide +kernel
theorem dX2_append_15 : decode cX2_append 15 = .ok (.iload_n 1, 1) := by decide +kernel
theorem dX2_append_16 : decode cX2_append 16 = .ok (.iaload, 1) := by decide +kernel
theorem dX2_append_17 : decode cX2_append 17 = .ok (.bipush 6, 2) := by decide +kernel
theorem dX2_append_19 : decode cX2_append 19 = .ok (.if_icmp .ne 6, 3) := by decide +kernel
theorem dX2_append_22 : decode cX2_append 22 = .ok (.bipush (-2), 2) := by decide +kernel
theorem dX2_append_24 : decode cX2_append 24 = .ok (.ireturn, 1) := by decide +kernel
theorem dX2_append_25 : decode cX2_append 25 = .ok (.aload_n 0, 1) := by decide +kernel
theorem dX2_append_26 : decode cX2_append 26 = .ok (.getfield 7, 3) := by decide +kernel
theorem dX2_append_29 : decode cX2_append 29 = .ok (.bipush 6, 2) := by decide +kernel
theorem dX2_append_31 : decode cX2_append 31 = .ok (.iload_n 1, 1) := by decide +kernel
theorem dX2_append_32 : decode cX2_append 32 = .ok (.imul, 1) := by decide +kernel
theorem dX2_append_33 : decode cX2_append 33 = .ok (.aload_n 0, 1) := by decide +kernel
theorem dX2_append_34 : decode cX2_append 34 = .ok (.getfield 13, 3) := by decide +kernel
theorem dX2_append_37 : decode cX2_append 37 = .ok (.iload_n 1, 1) := by decide +kernel
theorem dX2_append_38 : decode cX2_append 38 = .ok (.iaload, 1) := by decide +kernel
theorem dX2_append_39 : decode cX2_append 39 = .ok (.iadd, 1) := by decide +kernel
theorem dX2_append_40 : decode cX2_append 40 = .ok (.iload_n 2, 1) := by decide +kernel
theorem dX2_append_41 : decode cX2_append 41 = .ok (.iastore, 1) := by decide +kernel
theorem dX2_append_42 : decode cX2_append 42 = .ok (.aload_n 0, 1) := by decide +kernel
theorem dX2_append_43 : decode cX2_append 43 = .ok (.getfield 13, 3) := by decide +kernel
theorem dX2_append_46 : decode cX2_append 46 = .ok (.iload_n 1, 1) := by decide +kernel
theorem dX2_append_47 : decode cX2_append 47 = .ok (.dup2, 1) := by decide +kernel
theorem dX2_append_48 : decode cX2_append 48 = .ok (.iaload, 1) := by decide +kernel
theorem dX2_append_49 : decode cX2_append 49 = .ok (.iconst 1, 1) := by decide +kernel
theorem dX2_append_50 : decode cX2_append 50 = .ok (.iadd, 1) := by decide +kernel
theorem dX2_append_51 : decode cX2_append 51 = .ok (.iastore, 1) := by decide +kernel
theorem dX2_append_52 : decode cX2_append 52 = .ok (.aload_n 0, 1) := by decide +kernel
theorem dX2_append_53 : decode cX2_append 53 = .ok (.getfield 13, 3) := by decide +kernel
theorem dX2_append_56 : decode cX2_append 56 = .ok (.iload_n 1, 1) := by decide +kernel
theorem dX2_append_57 : decode cX2_append 57 = .ok (.iaload, 1) := by decide +kernel
theorem dX2_append_58 : decode cX2_append 58 = .ok (.ireturn, 1) := by decide +kernel
abbrev cX2_scrap : ByteArray := prog_3_method_4_code
def yX2_scrap : MethodName := ⟨RX2, "scrap", "()V"⟩
theorem dX2_scrap_0 : decode cX2_scrap 0 = .ok (.aload_n 0, 1) := by decide +kernel
theorem dX2_scrap_1 : decode cX2_scrap 1 = .ok (.getfield 13, 3) := by decide +kernel
theorem dX2_scrap_4 : decode cX2_scrap 4 = .ok (.bipush 12, 2) := by decide +kernel
theorem dX2_scrap_6 : decode cX2_scrap 6 = .ok (.iconst 0, 1) := by decide +kernel
theorem dX2_scrap_7 : decode cX2_scrap 7 = .ok (.iastore, 1) := by decide +kernel
theorem dX2_scrap_8 : decode cX2_scrap 8 = .ok (.return_, 1) := by decide +kernel
abbrev cX2_add : ByteArray := prog_3_method_8_code
def yX2_add : MethodName := ⟨RX2, "add", "(I)I"⟩
theorem dX2_add_0 : decode cX2_add 0 = .ok (.iload_n 1, 1) := by decide +kernel
theorem dX2_add_1 : decode cX2_add 1 = .ok (.ifCond .lt 19, 3) := by decide +kernel
theorem dX2_add_4 : decode cX2_add 4 = .ok (.iload_n 1, 1) := by decide +kernel
theorem dX2_add_5 : decode cX2_add 5 = .ok (.bipush 99, 2) := by decide +kernel
theorem dX2_add_7 : decode cX2_add 7 = .ok (.if_icmp .gt 13, 3) := by decide +kernel
theorem dX2_add_10 : decode cX2_add 10 = .ok (.aload_n 0, 1) := by decide +kernel
theorem dX2_add_11 : decode cX2_add 11 = .ok (.getfield 13, 3) := by decide +kernel
theorem dX2_add_14 : decode cX2_add 14 = .ok (.bipush 12, 2) := by decide +kernel
theorem dX2_add_16 : decode cX2_add 16 = .ok (.iaload, 1) := by decide +kernel
theorem dX2_add_17 : decode cX2_add 17 = .ok (.ifCond .ne 5, 3) := by decide +kernel
theorem dX2_add_20 : decode cX2_add 20 = .ok (.iconst (-1), 1) := by decide +kernel
theorem dX2_add_21 : decode cX2_add 21 = .ok (.ireturn, 1) := by decide +kernel
theorem dX2_add_22 : decode cX2_add 22 = .ok (.aload_n 0, 1) := by decide +kernel
theorem dX2_add_23 : decode cX2_add 23 = .ok (.invokevirtual 37, 3) := by decide +kernel
theorem dX2_add_26 : decode cX2_add 26 = .ok (.istore_n 2, 1) := by decide +kernel
theorem dX2_add_27 : decode cX2_add 27 = .ok (.iload_n 2, 1) := by decide +kernel
theorem dX2_add_28 : decode cX2_add 28 = .ok (.bipush (-4), 2) := by decide +kernel
theorem dX2_add_30 : decode cX2_add 30 = .ok (.if_icmp .ne 15, 3) := by decide +kernel
theorem dX2_add_33 : decode cX2_add 33 = .ok (.aload_n 0, 1) := by decide +kernel
theorem dX2_add_34 : decode cX2_add 34 = .ok (.getfield 30, 3) := by decide +kernel
theorem dX2_add_37 : decode cX2_add 37 = .ok (.bipush 12, 2) := by decide +kernel
theorem dX2_add_39 : decode cX2_add 39 = .ok (.if_icmp .ne 6, 3) := by decide +kernel
theorem dX2_add_42 : decode cX2_add 42 = .ok (.bipush (-2), 2) := by decide +kernel
theorem dX2_add_44 : decode cX2_add 44 = .ok (.ireturn, 1) := by decide +kernel
theorem dX2_add_45 : decode cX2_add 45 = .ok (.iload_n 2, 1) := by decide +kernel
theorem dX2_add_46 : decode cX2_add 46 = .ok (.bipush (-4), 2) := by decide +kernel
theorem dX2_add_48 : decode cX2_add 48 = .ok (.if_icmp .ne 36, 3) := by decide +kernel
theorem dX2_add_51 : decode cX2_add 51 = .ok (.aload_n 0, 1) := by decide +kernel
theorem dX2_add_52 : decode cX2_add 52 = .ok (.bipush 12, 2) := by decide +kernel
theorem dX2_add_54 : decode cX2_add 54 = .ok (.aload_n 0, 1) := by decide +kernel
theorem dX2_add_55 : decode cX2_add 55 = .ok (.getfield 30, 3) := by decide +kernel
theorem dX2_add_58 : decode cX2_add 58 = .ok (.invokevirtual 41, 3) := by decide +kernel
theorem dX2_add_61 : decode cX2_add 61 = .ok (.aload_n 0, 1) := by decide +kernel
theorem dX2_add_62 : decode cX2_add 62 = .ok (.getfield 16, 3) := by decide +kernel
theorem dX2_add_65 : decode cX2_add 65 = .ok (.aload_n 0, 1) := by decide +kernel
theorem dX2_add_66 : decode cX2_add 66 = .ok (.getfield 30, 3) := by decide +kernel
theorem dX2_add_69 : decode cX2_add 69 = .ok (.iload_n 1, 1) := by decide +kernel
theorem dX2_add_70 : decode cX2_add 70 = .ok (.iastore, 1) := by decide +kernel
theorem dX2_add_71 : decode cX2_add 71 = .ok (.aload_n 0, 1) := by decide +kernel
theorem dX2_add_72 : decode cX2_add 72 = .ok (.dup, 1) := by decide +kernel
theorem dX2_add_73 : decode cX2_add 73 = .ok (.getfield 30, 3) := by decide +kernel
theorem dX2_add_76 : decode cX2_add 76 = .ok (.iconst 1, 1) := by decide +kernel
theorem dX2_add_77 : decode cX2_add 77 = .ok (.iadd, 1) := by decide +kernel
theorem dX2_add_78 : decode cX2_add 78 = .ok (.putfield 30, 3) := by decide +kernel
theorem dX2_add_81 : decode cX2_add 81 = .ok (.goto 10, 3) := by decide +kernel
theorem dX2_add_84 : decode cX2_add 84 = .ok (.aload_n 0, 1) := by decide +kernel
theorem dX2_add_85 : decode cX2_add 85 = .ok (.getfield 16, 3) := by decide +kernel
theorem dX2_add_88 : decode cX2_add 88 = .ok (.iload_n 2, 1) := by decide +kernel
theorem dX2_add_89 : decode cX2_add 89 = .ok (.iload_n 1, 1) := by decide +kernel
theorem dX2_add_90 : decode cX2_add 90 = .ok (.iastore, 1) := by decide +kernel
theorem dX2_add_91 : decode cX2_add 91 = .ok (.aload_n 0, 1) := by decide +kernel
theorem dX2_add_92 : decode cX2_add 92 = .ok (.getfield 13, 3) := by decide +kernel
theorem dX2_add_95 : decode cX2_add 95 = .ok (.bipush 12, 2) := by decide +kernel
theorem dX2_add_97 : decode cX2_add 97 = .ok (.iconst 0, 1) := by decide +kernel
theorem dX2_add_98 : decode cX2_add 98 = .ok (.iastore, 1) := by decide +kernel
theorem dX2_add_99 : decode cX2_add 99 = .ok (.iload_n 2, 1) := by decide +kernel
theorem dX2_add_100 : decode cX2_add 100 = .ok (.bipush (-4), 2) := by decide +kernel
theorem dX2_add_102 : decode cX2_add 102 = .ok (.if_icmp .ne 7, 3) := by decide +kernel
theorem dX2_add_105 : decode cX2_add 105 = .ok (.iconst 1, 1) := by decide +kernel
theorem dX2_add_106 : decode cX2_add 106 = .ok (.goto 4, 3) := by decide +kernel
theorem dX2_add_109 : decode cX2_add 109 = .ok (.iconst 0, 1) := by decide +kernel
theorem dX2_add_110 : decode cX2_add 110 = .ok (.ireturn, 1) := by decide +kernel
abbrev cX2_drafted : ByteArray := prog_3_method_6_code
def yX2_drafted : MethodName := ⟨RX2, "drafted", "()I"⟩
theorem dX2_drafted_0 : decode cX2_drafted 0 = .ok (.iconst 0, 1) := by decide +kernel
theorem dX2_drafted_1 : decode cX2_drafted 1 = .ok (.istore_n 1, 1) := by decide +kernel
theorem dX2_drafted_2 : decode cX2_drafted 2 = .ok (.iload_n 1, 1) := by decide +kernel
theorem dX2_drafted_3 : decode cX2_drafted 3 = .ok (.aload_n 0, 1) := by decide +kernel
theorem dX2_drafted_4 : decode cX2_drafted 4 = .ok (.getfield 30, 3) := by decide +kernel
theorem dX2_drafted_7 : decode cX2_drafted 7 = .ok (.if_icmp .ge 37, 3) := by decide +kernel
theorem dX2_drafted_10 : decode cX2_drafted 10 = .ok (.aload_n 0, 1) := by decide +kernel
theorem dX2_drafted_11 : decode cX2_drafted 11 = .ok (.getfield 13, 3) := by decide +kernel
theorem dX2_drafted_14 : decode cX2_drafted 14 = .ok (.iload_n 1, 1) := by decide +kernel
theorem dX2_drafted_15 : decode cX2_drafted 15 = .ok (.iaload, 1) := by decide +kernel
theorem dX2_drafted_16 : decode cX2_drafted 16 = .ok (.aload_n 0, 1) := by decide +kernel
theorem dX2_drafted_17 : decode cX2_drafted 17 = .ok (.getfield 13, 3) := by decide +kernel
theorem dX2_drafted_20 : decode cX2_drafted 20 = .ok (.bipush 12, 2) := by decide +kernel
theorem dX2_drafted_22 : decode cX2_drafted 22 = .ok (.iaload, 1) := by decide +kernel
theorem dX2_drafted_23 : decode cX2_drafted 23 = .ok (.if_icmp .ne 15, 3) := by decide +kernel
theorem dX2_drafted_26 : decode cX2_drafted 26 = .ok (.aload_n 0, 1) := by decide +kernel
theorem dX2_drafted_27 : decode cX2_drafted 27 = .ok (.iload_n 1, 1) := by decide +kernel
theorem dX2_drafted_28 : decode cX2_drafted 28 = .ok (.bipush 12, 2) := by decide +kernel
theorem dX2_drafted_30 : decode cX2_drafted 30 = .ok (.invokevirtual 33, 3) := by decide +kernel
theorem dX2_drafted_33 : decode cX2_drafted 33 = .ok (.ifCond .eq 5, 3) := by decide +kernel
theorem dX2_drafted_36 : decode cX2_drafted 36 = .ok (.iload_n 1, 1) := by decide +kernel
theorem dX2_drafted_37 : decode cX2_drafted 37 = .ok (.ireturn, 1) := by decide +kernel
theorem dX2_drafted_38 : decode cX2_drafted 38 = .ok (.iinc 1 1, 3) := by decide +kernel
theorem dX2_drafted_41 : decode cX2_drafted 41 = .ok (.goto (-39), 3) := by decide +kernel
theorem dX2_drafted_44 : decode cX2_drafted 44 = .ok (.bipush (-4), 2) := by decide +kernel
theorem dX2_drafted_46 : decode cX2_drafted 46 = .ok (.ireturn, 1) := by decide +kernel
abbrev cX2_begins : ByteArray := prog_3_method_5_code
def yX2_begins : MethodName := ⟨RX2, "begins", "(II)Z"⟩
theorem dX2_begins_0 : decode cX2_begins 0 = .ok (.aload_n 0, 1) := by decide +kernel
theorem dX2_begins_1 : decode cX2_begins 1 = .ok (.getfield 13, 3) := by decide +kernel
theorem dX2_begins_4 : decode cX2_begins 4 = .ok (.iload_n 1, 1) := by decide +kernel
theorem dX2_begins_5 : decode cX2_begins 5 = .ok (.iaload, 1) := by decide +kernel
theorem dX2_begins_6 : decode cX2_begins 6 = .ok (.aload_n 0, 1) := by decide +kernel
theorem dX2_begins_7 : decode cX2_begins 7 = .ok (.getfield 13, 3) := by decide +kernel
theorem dX2_begins_10 : decode cX2_begins 10 = .ok (.iload_n 2, 1) := by decide +kernel
theorem dX2_begins_11 : decode cX2_begins 11 = .ok (.iaload, 1) := by decide +kernel
theorem dX2_begins_12 : decode cX2_begins 12 = .ok (.if_icmp .le 5, 3) := by decide +kernel
theorem dX2_begins_15 : decode cX2_begins 15 = .ok (.iconst 0, 1) := by decide +kernel
theorem dX2_begins_16 : decode cX2_begins 16 = .ok (.ireturn, 1) := by decide +kernel
theorem dX2_begins_17 : decode cX2_begins 17 = .ok (.iconst 0, 1) := by decide +kernel
theorem dX2_begins_18 : decode cX2_begins 18 = .ok (.istore_n 3, 1) := by decide +kernel
theorem dX2_begins_19 : decode cX2_begins 19 = .ok (.iload_n 3, 1) := by decide +kernel
theorem dX2_begins_20 : decode cX2_begins 20 = .ok (.aload_n 0, 1) := by decide +kernel
theorem dX2_begins_21 : decode cX2_begins 21 = .ok (.getfield 13, 3) := by decide +kernel
theorem dX2_begins_24 : decode cX2_begins 24 = .ok (.iload_n 1, 1) := by decide +kernel
theorem dX2_begins_25 : decode cX2_begins 25 = .ok (.iaload, 1) := by decide +kernel
theorem dX2_begins_26 : decode cX2_begins 26 = .ok (.if_icmp .ge 36, 3) := by decide +kernel
theorem dX2_begins_29 : decode cX2_begins 29 = .ok (.aload_n 0, 1) := by decide +kernel
theorem dX2_begins_30 : decode cX2_begins 30 = .ok (.getfield 7, 3) := by decide +kernel
theorem dX2_begins_33 : decode cX2_begins 33 = .ok (.bipush 6, 2) := by decide +kernel
theorem dX2_begins_35 : decode cX2_begins 35 = .ok (.iload_n 1, 1) := by decide +kernel
theorem dX2_begins_36 : decode cX2_begins 36 = .ok (.imul, 1) := by decide +kernel
theorem dX2_begins_37 : decode cX2_begins 37 = .ok (.iload_n 3, 1) := by decide +kernel
theorem dX2_begins_38 : decode cX2_begins 38 = .ok (.iadd, 1) := by decide +kernel
theorem dX2_begins_39 : decode cX2_begins 39 = .ok (.iaload, 1) := by decide +kernel
theorem dX2_begins_40 : decode cX2_begins 40 = .ok (.aload_n 0, 1) := by decide +kernel
theorem dX2_begins_41 : decode cX2_begins 41 = .ok (.getfield 7, 3) := by decide +kernel
theorem dX2_begins_44 : decode cX2_begins 44 = .ok (.bipush 6, 2) := by decide +kernel
theorem dX2_begins_46 : decode cX2_begins 46 = .ok (.iload_n 2, 1) := by decide +kernel
theorem dX2_begins_47 : decode cX2_begins 47 = .ok (.imul, 1) := by decide +kernel
theorem dX2_begins_48 : decode cX2_begins 48 = .ok (.iload_n 3, 1) := by decide +kernel
theorem dX2_begins_49 : decode cX2_begins 49 = .ok (.iadd, 1) := by decide +kernel
theorem dX2_begins_50 : decode cX2_begins 50 = .ok (.iaload, 1) := by decide +kernel
theorem dX2_begins_51 : decode cX2_begins 51 = .ok (.if_icmp .eq 5, 3) := by decide +kernel
theorem dX2_begins_54 : decode cX2_begins 54 = .ok (.iconst 0, 1) := by decide +kernel
theorem dX2_begins_55 : decode cX2_begins 55 = .ok (.ireturn, 1) := by decide +kernel
theorem dX2_begins_56 : decode cX2_begins 56 = .ok (.iinc 3 1, 3) := by decide +kernel
theorem dX2_begins_59 : decode cX2_begins 59 = .ok (.goto (-40), 3) := by decide +kernel
theorem dX2_begins_62 : decode cX2_begins 62 = .ok (.iconst 1, 1) := by decide +kernel
theorem dX2_begins_63 : decode cX2_begins 63 = .ok (.ireturn, 1) := by decide +kernel
abbrev cX2_copy : ByteArray := prog_3_method_7_code
def yX2_copy : MethodName := ⟨RX2, "copy", "(II)V"⟩
theorem dX2_copy_0 : decode cX2_copy 0 = .ok (.iconst 0, 1) := by decide +kernel
theorem dX2_copy_1 : decode cX2_copy 1 = .ok (.istore_n 3, 1) := by decide +kernel
theorem dX2_copy_2 : decode cX2_copy 2 = .ok (.iload_n 3, 1) := by decide +kernel
theorem dX2_copy_3 : decode cX2_copy 3 = .ok (.aload_n 0, 1) := by decide +kernel
theorem dX2_copy_4 : decode cX2_copy 4 = .ok (.getfield 13, 3) := by decide +kernel
theorem dX2_copy_7 : decode cX2_copy 7 = .ok (.iload_n 1, 1) := by decide +kernel
theorem dX2_copy_8 : decode cX2_copy 8 = .ok (.iaload, 1) := by decide +kernel
theorem dX2_copy_9 : decode cX2_copy 9 = .ok (.if_icmp .ge 31, 3) := by decide +kernel
theorem dX2_copy_12 : decode cX2_copy 12 = .ok (.aload_n 0, 1) := by decide +kernel
theorem dX2_copy_13 : decode cX2_copy 13 = .ok (.getfield 7, 3) := by decide +kernel
theorem dX2_copy_16 : decode cX2_copy 16 = .ok (.bipush 6, 2) := by decide +kernel
theorem dX2_copy_18 : decode cX2_copy 18 = .ok (.iload_n 2, 1) := by decide +kernel
theorem dX2_copy_19 : decode cX2_copy 19 = .ok (.imul, 1) := by decide +kernel
theorem dX2_copy_20 : decode cX2_copy 20 = .ok (.iload_n 3, 1) := by decide +kernel
theorem dX2_copy_21 : decode cX2_copy 21 = .ok (.iadd, 1) := by decide +kernel
theorem dX2_copy_22 : decode cX2_copy 22 = .ok (.aload_n 0, 1) := by decide +kernel
theorem dX2_copy_23 : decode cX2_copy 23 = .ok (.getfield 7, 3) := by decide +kernel
theorem dX2_copy_26 : decode cX2_copy 26 = .ok (.bipush 6, 2) := by decide +kernel
theorem dX2_copy_28 : decode cX2_copy 28 = .ok (.iload_n 1, 1) := by decide +kernel
theorem dX2_copy_29 : decode cX2_copy 29 = .ok (.imul, 1) := by decide +kernel
theorem dX2_copy_30 : decode cX2_copy 30 = .ok (.iload_n 3, 1) := by decide +kernel
theorem dX2_copy_31 : decode cX2_copy 31 = .ok (.iadd, 1) := by decide +kernel
theorem dX2_copy_32 : decode cX2_copy 32 = .ok (.iaload, 1) := by decide +kernel
theorem dX2_copy_33 : decode cX2_copy 33 = .ok (.iastore, 1) := by decide +kernel
theorem dX2_copy_34 : decode cX2_copy 34 = .ok (.iinc 3 1, 3) := by decide +kernel
theorem dX2_copy_37 : decode cX2_copy 37 = .ok (.goto (-35), 3) := by decide +kernel
theorem dX2_copy_40 : decode cX2_copy 40 = .ok (.aload_n 0, 1) := by decide +kernel
theorem dX2_copy_41 : decode cX2_copy 41 = .ok (.getfield 13, 3) := by decide +kernel
theorem dX2_copy_44 : decode cX2_copy 44 = .ok (.iload_n 2, 1) := by decide +kernel
theorem dX2_copy_45 : decode cX2_copy 45 = .ok (.aload_n 0, 1) := by decide +kernel
theorem dX2_copy_46 : decode cX2_copy 46 = .ok (.getfield 13, 3) := by decide +kernel
theorem dX2_copy_49 : decode cX2_copy 49 = .ok (.iload_n 1, 1) := by decide +kernel
theorem dX2_copy_50 : decode cX2_copy 50 = .ok (.iaload, 1) := by decide +kernel
theorem dX2_copy_51 : decode cX2_copy 51 = .ok (.iastore, 1) := by decide +kernel
theorem dX2_copy_52 : decode cX2_copy 52 = .ok (.return_, 1) := by decide +kernel
abbrev cX2_remove : ByteArray := prog_3_method_9_code
def yX2_remove : MethodName := ⟨RX2, "remove", "()I"⟩
theorem dX2_remove_0 : decode cX2_remove 0 = .ok (.aload_n 0, 1) := by decide +kernel
theorem dX2_remove_1 : decode cX2_remove 1 = .ok (.getfield 13, 3) := by decide +kernel
theorem dX2_remove_4 : decode cX2_remove 4 = .ok (.bipush 12, 2) := by decide +kernel
theorem dX2_remove_6 : decode cX2_remove 6 = .ok (.iaload, 1) := by decide +kernel
theorem dX2_remove_7 : decode cX2_remove 7 = .ok (.ifCond .ne 5, 3) := by decide +kernel
theorem dX2_remove_10 : decode cX2_remove 10 = .ok (.iconst (-1), 1) := by decide +kernel
theorem dX2_remove_11 : decode cX2_remove 11 = .ok (.ireturn, 1) := by decide +kernel
theorem dX2_remove_12 : decode cX2_remove 12 = .ok (.aload_n 0, 1) := by decide +kernel
theorem dX2_remove_13 : decode cX2_remove 13 = .ok (.invokevirtual 37, 3) := by decide +kernel
theorem dX2_remove_16 : decode cX2_remove 16 = .ok (.istore_n 1, 1) := by decide +kernel
theorem dX2_remove_17 : decode cX2_remove 17 = .ok (.iload_n 1, 1) := by decide +kernel
theorem dX2_remove_18 : decode cX2_remove 18 = .ok (.bipush (-4), 2) := by decide +kernel
theorem dX2_remove_20 : decode cX2_remove 20 = .ok (.if_icmp .ne 6, 3) := by decide +kernel
theorem dX2_remove_23 : decode cX2_remove 23 = .ok (.bipush (-4), 2) := by decide +kernel
theorem dX2_remove_25 : decode cX2_remove 25 = .ok (.ireturn, 1) := by decide +kernel
theorem dX2_remove_26 : decode cX2_remove 26 = .ok (.aload_n 0, 1) := by decide +kernel
theorem dX2_remove_27 : decode cX2_remove 27 = .ok (.getfield 16, 3) := by decide +kernel
theorem dX2_remove_30 : decode cX2_remove 30 = .ok (.iload_n 1, 1) := by decide +kernel
theorem dX2_remove_31 : decode cX2_remove 31 = .ok (.iaload, 1) := by decide +kernel
theorem dX2_remove_32 : decode cX2_remove 32 = .ok (.istore_n 2, 1) := by decide +kernel
theorem dX2_remove_33 : decode cX2_remove 33 = .ok (.aload_n 0, 1) := by decide +kernel
theorem dX2_remove_34 : decode cX2_remove 34 = .ok (.dup, 1) := by decide +kernel
theorem dX2_remove_35 : decode cX2_remove 35 = .ok (.getfield 30, 3) := by decide +kernel
theorem dX2_remove_38 : decode cX2_remove 38 = .ok (.iconst 1, 1) := by decide +kernel
theorem dX2_remove_39 : decode cX2_remove 39 = .ok (.isub, 1) := by decide +kernel
theorem dX2_remove_40 : decode cX2_remove 40 = .ok (.putfield 30, 3) := by decide +kernel
theorem dX2_remove_43 : decode cX2_remove 43 = .ok (.aload_n 0, 1) := by decide +kernel
theorem dX2_remove_44 : decode cX2_remove 44 = .ok (.aload_n 0, 1) := by decide +kernel
theorem dX2_remove_45 : decode cX2_remove 45 = .ok (.getfield 30, 3) := by decide +kernel
theorem dX2_remove_48 : decode cX2_remove 48 = .ok (.iload_n 1, 1) := by decide +kernel
theorem dX2_remove_49 : decode cX2_remove 49 = .ok (.invokevirtual 41, 3) := by decide +kernel
theorem dX2_remove_52 : decode cX2_remove 52 = .ok (.aload_n 0, 1) := by decide +kernel
theorem dX2_remove_53 : decode cX2_remove 53 = .ok (.getfield 16, 3) := by decide +kernel
theorem dX2_remove_56 : decode cX2_remove 56 = .ok (.iload_n 1, 1) := by decide +kernel
theorem dX2_remove_57 : decode cX2_remove 57 = .ok (.aload_n 0, 1) := by decide +kernel
theorem dX2_remove_58 : decode cX2_remove 58 = .ok (.getfield 16, 3) := by decide +kernel
theorem dX2_remove_61 : decode cX2_remove 61 = .ok (.aload_n 0, 1) := by decide +kernel
theorem dX2_remove_62 : decode cX2_remove 62 = .ok (.getfield 30, 3) := by decide +kernel
theorem dX2_remove_65 : decode cX2_remove 65 = .ok (.iaload, 1) := by decide +kernel
theorem dX2_remove_66 : decode cX2_remove 66 = .ok (.iastore, 1) := by decide +kernel
theorem dX2_remove_67 : decode cX2_remove 67 = .ok (.aload_n 0, 1) := by decide +kernel
theorem dX2_remove_68 : decode cX2_remove 68 = .ok (.getfield 13, 3) := by decide +kernel
theorem dX2_remove_71 : decode cX2_remove 71 = .ok (.bipush 12, 2) := by decide +kernel
theorem dX2_remove_73 : decode cX2_remove 73 = .ok (.iconst 0, 1) := by decide +kernel
theorem dX2_remove_74 : decode cX2_remove 74 = .ok (.iastore, 1) := by decide +kernel
theorem dX2_remove_75 : decode cX2_remove 75 = .ok (.iload_n 2, 1) := by decide +kernel
theorem dX2_remove_76 : decode cX2_remove 76 = .ok (.ireturn, 1) := by decide +kernel
abbrev cX2_weight : ByteArray := prog_3_method_10_code
def yX2_weight : MethodName := ⟨RX2, "weight", "()I"⟩
theorem dX2_weight_0 : decode cX2_weight 0 = .ok (.aload_n 0, 1) := by decide +kernel
theorem dX2_weight_1 : decode cX2_weight 1 = .ok (.invokevirtual 37, 3) := by decide +kernel
theorem dX2_weight_4 : decode cX2_weight 4 = .ok (.istore_n 1, 1) := by decide +kernel
theorem dX2_weight_5 : decode cX2_weight 5 = .ok (.iload_n 1, 1) := by decide +kernel
theorem dX2_weight_6 : decode cX2_weight 6 = .ok (.bipush (-4), 2) := by decide +kernel
theorem dX2_weight_8 : decode cX2_weight 8 = .ok (.if_icmp .ne 8, 3) := by decide +kernel
theorem dX2_weight_11 : decode cX2_weight 11 = .ok (.bipush (-4), 2) := by decide +kernel
theorem dX2_weight_13 : decode cX2_weight 13 = .ok (.goto 9, 3) := by decide +kernel
theorem dX2_weight_16 : decode cX2_weight 16 = .ok (.aload_n 0, 1) := by decide +kernel
theorem dX2_weight_17 : decode cX2_weight 17 = .ok (.getfield 16, 3) := by decide +kernel
theorem dX2_weight_20 : decode cX2_weight 20 = .ok (.iload_n 1, 1) := by decide +kernel
theorem dX2_weight_21 : decode cX2_weight 21 = .ok (.iaload, 1) := by decide +kernel
theorem dX2_weight_22 : decode cX2_weight 22 = .ok (.ireturn, 1) := by decide +kernel
abbrev cX2_words : ByteArray := prog_3_method_11_code
def yX2_words : MethodName := ⟨RX2, "words", "()I"⟩
theorem dX2_words_0 : decode cX2_words 0 = .ok (.aload_n 0, 1) := by decide +kernel
theorem dX2_words_1 : decode cX2_words 1 = .ok (.getfield 30, 3) := by decide +kernel
theorem dX2_words_4 : decode cX2_words 4 = .ok (.ireturn, 1) := by decide +kernel
abbrev cX2_type : ByteArray := prog_3_method_12_code
def yX2_type : MethodName := ⟨RX2, "type", "(I)I"⟩
theorem dX2_type_0 : decode cX2_type 0 = .ok (.aload_n 0, 1) := by decide +kernel
theorem dX2_type_1 : decode cX2_type 1 = .ok (.bipush 13, 2) := by decide +kernel
theorem dX2_type_3 : decode cX2_type 3 = .ok (.iload_n 1, 1) := by decide +kernel
theorem dX2_type_4 : decode cX2_type 4 = .ok (.invokevirtual 26, 3) := by decide +kernel
theorem dX2_type_7 : decode cX2_type 7 = .ok (.ireturn, 1) := by decide +kernel
abbrev cX2_backspace : ByteArray := prog_3_method_13_code
def yX2_backspace : MethodName := ⟨RX2, "backspace", "()I"⟩
theorem dX2_backspace_0 : decode cX2_backspace 0 = .ok (.aload_n 0, 1) := by decide +kernel
theorem dX2_backspace_1 : decode cX2_backspace 1 = .ok (.getfield 13, 3) := by decide +kernel
theorem dX2_backspace_4 : decode cX2_backspace 4 = .ok (.bipush 13, 2) := by decide +kernel
theorem dX2_backspace_6 : decode cX2_backspace 6 = .ok (.iaload, 1) := by decide +kernel
theorem dX2_backspace_7 : decode cX2_backspace 7 = .ok (.ifCond .ne 6, 3) := by decide +kernel
theorem dX2_backspace_10 : decode cX2_backspace 10 = .ok (.bipush (-4), 2) := by decide +kernel
theorem dX2_backspace_12 : decode cX2_backspace 12 = .ok (.ireturn, 1) := by decide +kernel
theorem dX2_backspace_13 : decode cX2_backspace 13 = .ok (.aload_n 0, 1) := by decide +kernel
theorem dX2_backspace_14 : decode cX2_backspace 14 = .ok (.getfield 13, 3) := by decide +kernel
theorem dX2_backspace_17 : decode cX2_backspace 17 = .ok (.bipush 13, 2) := by decide +kernel
theorem dX2_backspace_19 : decode cX2_backspace 19 = .ok (.dup2, 1) := by decide +kernel
theorem dX2_backspace_20 : decode cX2_backspace 20 = .ok (.iaload, 1) := by decide +kernel
theorem dX2_backspace_21 : decode cX2_backspace 21 = .ok (.iconst 1, 1) := by decide +kernel
theorem dX2_backspace_22 : decode cX2_backspace 22 = .ok (.isub, 1) := by decide +kernel
theorem dX2_backspace_23 : decode cX2_backspace 23 = .ok (.iastore, 1) := by decide +kernel
theorem dX2_backspace_24 : decode cX2_backspace 24 = .ok (.aload_n 0, 1) := by decide +kernel
theorem dX2_backspace_25 : decode cX2_backspace 25 = .ok (.getfield 7, 3) := by decide +kernel
theorem dX2_backspace_28 : decode cX2_backspace 28 = .ok (.bipush 78, 2) := by decide +kernel
theorem dX2_backspace_30 : decode cX2_backspace 30 = .ok (.aload_n 0, 1) := by decide +kernel
theorem dX2_backspace_31 : decode cX2_backspace 31 = .ok (.getfield 13, 3) := by decide +kernel
theorem dX2_backspace_34 : decode cX2_backspace 34 = .ok (.bipush 13, 2) := by decide +kernel
theorem dX2_backspace_36 : decode cX2_backspace 36 = .ok (.iaload, 1) := by decide +kernel
theorem dX2_backspace_37 : decode cX2_backspace 37 = .ok (.iadd, 1) := by decide +kernel
theorem dX2_backspace_38 : decode cX2_backspace 38 = .ok (.iaload, 1) := by decide +kernel
theorem dX2_backspace_39 : decode cX2_backspace 39 = .ok (.ireturn, 1) := by decide +kernel
abbrev cX2_reset : ByteArray := prog_3_method_14_code
def yX2_reset : MethodName := ⟨RX2, "reset", "()V"⟩
theorem dX2_reset_0 : decode cX2_reset 0 = .ok (.aload_n 0, 1) := by decide +kernel
theorem dX2_reset_1 : decode cX2_reset 1 = .ok (.getfield 13, 3) := by decide +kernel
theorem dX2_reset_4 : decode cX2_reset 4 = .ok (.bipush 13, 2) := by decide +kernel
theorem dX2_reset_6 : decode cX2_reset 6 = .ok (.iconst 0, 1) := by decide +kernel
theorem dX2_reset_7 : decode cX2_reset 7 = .ok (.iastore, 1) := by decide +kernel
theorem dX2_reset_8 : decode cX2_reset 8 = .ok (.return_, 1) := by decide +kernel
abbrev cX2_length : ByteArray := prog_3_method_15_code
def yX2_length : MethodName := ⟨RX2, "length", "()I"⟩
theorem dX2_length_0 : decode cX2_length 0 = .ok (.aload_n 0, 1) := by decide +kernel
theorem dX2_length_1 : decode cX2_length 1 = .ok (.getfield 13, 3) := by decide +kernel
theorem dX2_length_4 : decode cX2_length 4 = .ok (.bipush 13, 2) := by decide +kernel
theorem dX2_length_6 : decode cX2_length 6 = .ok (.iaload, 1) := by decide +kernel
theorem dX2_length_7 : decode cX2_length 7 = .ok (.ireturn, 1) := by decide +kernel
abbrev cX2_offered : ByteArray := prog_3_method_22_code
def yX2_offered : MethodName := ⟨RX2, "offered", "()I"⟩
theorem dX2_offered_0 : decode cX2_offered 0 = .ok (.iconst 0, 1) := by decide +kernel
theorem dX2_offered_1 : decode cX2_offered 1 = .ok (.istore_n 1, 1) := by decide +kernel
theorem dX2_offered_2 : decode cX2_offered 2 = .ok (.iconst 0, 1) := by decide +kernel
theorem dX2_offered_3 : decode cX2_offered 3 = .ok (.istore_n 2, 1) := by decide +kernel
theorem dX2_offered_4 : decode cX2_offered 4 = .ok (.iload_n 2, 1) := by decide +kernel
theorem dX2_offered_5 : decode cX2_offered 5 = .ok (.aload_n 0, 1) := by decide +kernel
theorem dX2_offered_6 : decode cX2_offered 6 = .ok (.getfield 30, 3) := by decide +kernel
theorem dX2_offered_9 : decode cX2_offered 9 = .ok (.if_icmp .ge 20, 3) := by decide +kernel
theorem dX2_offered_12 : decode cX2_offered 12 = .ok (.aload_n 0, 1) := by decide +kernel
theorem dX2_offered_13 : decode cX2_offered 13 = .ok (.iload_n 2, 1) := by decide +kernel
theorem dX2_offered_14 : decode cX2_offered 14 = .ok (.invokevirtual 59, 3) := by decide +kernel
theorem dX2_offered_17 : decode cX2_offered 17 = .ok (.ifCond .eq 6, 3) := by decide +kernel
theorem dX2_offered_20 : decode cX2_offered 20 = .ok (.iinc 1 1, 3) := by decide +kernel
theorem dX2_offered_23 : decode cX2_offered 23 = .ok (.iinc 2 1, 3) := by decide +kernel
theorem dX2_offered_26 : decode cX2_offered 26 = .ok (.goto (-22), 3) := by decide +kernel
theorem dX2_offered_29 : decode cX2_offered 29 = .ok (.iload_n 1, 1) := by decide +kernel
theorem dX2_offered_30 : decode cX2_offered 30 = .ok (.ireturn, 1) := by decide +kernel
abbrev cX2_isOffered : ByteArray := prog_3_method_19_code
def yX2_isOffered : MethodName := ⟨RX2, "isOffered", "(I)Z"⟩
theorem dX2_isOffered_0 : decode cX2_isOffered 0 = .ok (.aload_n 0, 1) := by decide +kernel
theorem dX2_isOffered_1 : decode cX2_isOffered 1 = .ok (.iload_n 1, 1) := by decide +kernel
theorem dX2_isOffered_2 : decode cX2_isOffered 2 = .ok (.invokevirtual 52, 3) := by decide +kernel
theorem dX2_isOffered_5 : decode cX2_isOffered 5 = .ok (.aload_n 0, 1) := by decide +kernel
theorem dX2_isOffered_6 : decode cX2_isOffered 6 = .ok (.getfield 22, 3) := by decide +kernel
theorem dX2_isOffered_9 : decode cX2_isOffered 9 = .ok (.if_icmp .gt 7, 3) := by decide +kernel
theorem dX2_isOffered_12 : decode cX2_isOffered 12 = .ok (.iconst 1, 1) := by decide +kernel
theorem dX2_isOffered_13 : decode cX2_isOffered 13 = .ok (.goto 4, 3) := by decide +kernel
theorem dX2_isOffered_16 : decode cX2_isOffered 16 = .ok (.iconst 0, 1) := by decide +kernel
theorem dX2_isOffered_17 : decode cX2_isOffered 17 = .ok (.ireturn, 1) := by decide +kernel
abbrev cX2_reach : ByteArray := prog_3_method_18_code
def yX2_reach : MethodName := ⟨RX2, "reach", "(I)I"⟩
theorem dX2_reach_0 : decode cX2_reach 0 = .ok (.aload_n 0, 1) := by decide +kernel
theorem dX2_reach_1 : decode cX2_reach 1 = .ok (.iload_n 1, 1) := by decide +kernel
theorem dX2_reach_2 : decode cX2_reach 2 = .ok (.invokevirtual 48, 3) := by decide +kernel
theorem dX2_reach_5 : decode cX2_reach 5 = .ok (.bipush 9, 2) := by decide +kernel
theorem dX2_reach_7 : decode cX2_reach 7 = .ok (.istore_n 2, 1) := by decide +kernel
theorem dX2_reach_8 : decode cX2_reach 8 = .ok (.iconst 0, 1) := by decide +kernel
theorem dX2_reach_9 : decode cX2_reach 9 = .ok (.istore_n 3, 1) := by decide +kernel
theorem dX2_reach_10 : decode cX2_reach 10 = .ok (.iload_n 3, 1) := by decide +kernel
theorem dX2_reach_11 : decode cX2_reach 11 = .ok (.aload_n 0, 1) := by decide +kernel
theorem dX2_reach_12 : decode cX2_reach 12 = .ok (.getfield 13, 3) := by decide +kernel
theorem dX2_reach_15 : decode cX2_reach 15 = .ok (.iload_n 1, 1) := by decide +kernel
theorem dX2_reach_16 : decode cX2_reach 16 = .ok (.iaload, 1) := by decide +kernel
theorem dX2_reach_17 : decode cX2_reach 17 = .ok (.if_icmp .gt 32, 3) := by decide +kernel
theorem dX2_reach_20 : decode cX2_reach 20 = .ok (.aload_n 0, 1) := by decide +kernel
theorem dX2_reach_21 : decode cX2_reach 21 = .ok (.iload_n 2, 1) := by decide +kernel
theorem dX2_reach_22 : decode cX2_reach 22 = .ok (.aload_n 0, 1) := by decide +kernel
theorem dX2_reach_23 : decode cX2_reach 23 = .ok (.getfield 19, 3) := by decide +kernel
theorem dX2_reach_26 : decode cX2_reach 26 = .ok (.aload_n 0, 1) := by decide +kernel
theorem dX2_reach_27 : decode cX2_reach 27 = .ok (.getfield 13, 3) := by decide +kernel
theorem dX2_reach_30 : decode cX2_reach 30 = .ok (.bipush 13, 2) := by decide +kernel
theorem dX2_reach_32 : decode cX2_reach 32 = .ok (.iaload, 1) := by decide +kernel
theorem dX2_reach_33 : decode cX2_reach 33 = .ok (.bipush 7, 2) := by decide +kernel
theorem dX2_reach_35 : decode cX2_reach 35 = .ok (.imul, 1) := by decide +kernel
theorem dX2_reach_36 : decode cX2_reach 36 = .ok (.iload_n 3, 1) := by decide +kernel
theorem dX2_reach_37 : decode cX2_reach 37 = .ok (.iadd, 1) := by decide +kernel
theorem dX2_reach_38 : decode cX2_reach 38 = .ok (.iaload, 1) := by decide +kernel
theorem dX2_reach_39 : decode cX2_reach 39 = .ok (.invokevirtual 45, 3) := by decide +kernel
theorem dX2_reach_42 : decode cX2_reach 42 = .ok (.istore_n 2, 1) := by decide +kernel
theorem dX2_reach_43 : decode cX2_reach 43 = .ok (.iinc 3 1, 3) := by decide +kernel
theorem dX2_reach_46 : decode cX2_reach 46 = .ok (.goto (-36), 3) := by decide +kernel
theorem dX2_reach_49 : decode cX2_reach 49 = .ok (.iload_n 2, 1) := by decide +kernel
theorem dX2_reach_50 : decode cX2_reach 50 = .ok (.ireturn, 1) := by decide +kernel
abbrev cX2_fill : ByteArray := prog_3_method_17_code
def yX2_fill : MethodName := ⟨RX2, "fill", "(I)V"⟩
theorem dX2_fill_0 : decode cX2_fill 0 = .ok (.iconst 0, 1) := by decide +kernel
theorem dX2_fill_1 : decode cX2_fill 1 = .ok (.istore_n 2, 1) := by decide +kernel
theorem dX2_fill_2 : decode cX2_fill 2 = .ok (.iload_n 2, 1) := by decide +kernel
theorem dX2_fill_3 : decode cX2_fill 3 = .ok (.aload_n 0, 1) := by decide +kernel
theorem dX2_fill_4 : decode cX2_fill 4 = .ok (.getfield 13, 3) := by decide +kernel
theorem dX2_fill_7 : decode cX2_fill 7 = .ok (.bipush 13, 2) := by decide +kernel
theorem dX2_fill_9 : decode cX2_fill 9 = .ok (.iaload, 1) := by decide +kernel
theorem dX2_fill_10 : decode cX2_fill 10 = .ok (.if_icmp .gt 166, 3) := by decide +kernel
theorem dX2_fill_13 : decode cX2_fill 13 = .ok (.iconst 0, 1) := by decide +kernel
theorem dX2_fill_14 : decode cX2_fill 14 = .ok (.istore_n 3, 1) := by decide +kernel
theorem dX2_fill_15 : decode cX2_fill 15 = .ok (.iload_n 3, 1) := by decide +kernel
theorem dX2_fill_16 : decode cX2_fill 16 = .ok (.aload_n 0, 1) := by decide +kernel
theorem dX2_fill_17 : decode cX2_fill 17 = .ok (.getfield 13, 3) := by decide +kernel
theorem dX2_fill_20 : decode cX2_fill 20 = .ok (.iload_n 1, 1) := by decide +kernel
theorem dX2_fill_21 : decode cX2_fill 21 = .ok (.iaload, 1) := by decide +kernel
theorem dX2_fill_22 : decode cX2_fill 22 = .ok (.if_icmp .gt 148, 3) := by decide +kernel
theorem dX2_fill_25 : decode cX2_fill 25 = .ok (.iload_n 2, 1) := by decide +kernel
theorem dX2_fill_26 : decode cX2_fill 26 = .ok (.ifCond .ne 7, 3) := by decide +kernel
theorem dX2_fill_29 : decode cX2_fill 29 = .ok (.iload_n 3, 1) := by decide +kernel
theorem dX2_fill_30 : decode cX2_fill 30 = .ok (.goto 13, 3) := by decide +kernel
theorem dX2_fill_33 : decode cX2_fill 33 = .ok (.iload_n 3, 1) := by decide +kernel
theorem dX2_fill_34 : decode cX2_fill 34 = .ok (.ifCond .ne 7, 3) := by decide +kernel
theorem dX2_fill_37 : decode cX2_fill 37 = .ok (.iload_n 2, 1) := by decide +kernel
theorem dX2_fill_38 : decode cX2_fill 38 = .ok (.goto 5, 3) := by decide +kernel
theorem dX2_fill_41 : decode cX2_fill 41 = .ok (.bipush 9, 2) := by decide +kernel
theorem dX2_fill_43 : decode cX2_fill 43 = .ok (.istore 4, 2) := by decide +kernel
theorem dX2_fill_45 : decode cX2_fill 45 = .ok (.iload_n 2, 1) := by decide +kernel
theorem dX2_fill_46 : decode cX2_fill 46 = .ok (.ifCond .le 105, 3) := by decide +kernel
theorem dX2_fill_49 : decode cX2_fill 49 = .ok (.iload_n 3, 1) := by decide +kernel
theorem dX2_fill_50 : decode cX2_fill 50 = .ok (.ifCond .le 101, 3) := by decide +kernel
theorem dX2_fill_53 : decode cX2_fill 53 = .ok (.aload_n 0, 1) := by decide +kernel
theorem dX2_fill_54 : decode cX2_fill 54 = .ok (.getfield 7, 3) := by decide +kernel
theorem dX2_fill_57 : decode cX2_fill 57 = .ok (.bipush 78, 2) := by decide +kernel
theorem dX2_fill_59 : decode cX2_fill 59 = .ok (.iload_n 2, 1) := by decide +kernel
theorem dX2_fill_60 : decode cX2_fill 60 = .ok (.iadd, 1) := by decide +kernel
theorem dX2_fill_61 : decode cX2_fill 61 = .ok (.iconst 1, 1) := by decide +kernel
theorem dX2_fill_62 : decode cX2_fill 62 = .ok (.isub, 1) := by decide +kernel
theorem dX2_fill_63 : decode cX2_fill 63 = .ok (.iaload, 1) := by decide +kernel
theorem dX2_fill_64 : decode cX2_fill 64 = .ok (.aload_n 0, 1) := by decide +kernel
theorem dX2_fill_65 : decode cX2_fill 65 = .ok (.getfield 7, 3) := by decide +kernel
theorem dX2_fill_68 : decode cX2_fill 68 = .ok (.bipush 6, 2) := by decide +kernel
theorem dX2_fill_70 : decode cX2_fill 70 = .ok (.iload_n 1, 1) := by decide +kernel
theorem dX2_fill_71 : decode cX2_fill 71 = .ok (.imul, 1) := by decide +kernel
theorem dX2_fill_72 : decode cX2_fill 72 = .ok (.iload_n 3, 1) := by decide +kernel
theorem dX2_fill_73 : decode cX2_fill 73 = .ok (.iadd, 1) := by decide +kernel
theorem dX2_fill_74 : decode cX2_fill 74 = .ok (.iconst 1, 1) := by decide +kernel
theorem dX2_fill_75 : decode cX2_fill 75 = .ok (.isub, 1) := by decide +kernel
theorem dX2_fill_76 : decode cX2_fill 76 = .ok (.iaload, 1) := by decide +kernel
theorem dX2_fill_77 : decode cX2_fill 77 = .ok (.if_icmp .ne 7, 3) := by decide +kernel
theorem dX2_fill_80 : decode cX2_fill 80 = .ok (.iconst 0, 1) := by decide +kernel
theorem dX2_fill_81 : decode cX2_fill 81 = .ok (.goto 4, 3) := by decide +kernel
theorem dX2_fill_84 : decode cX2_fill 84 = .ok (.iconst 1, 1) := by decide +kernel
theorem dX2_fill_85 : decode cX2_fill 85 = .ok (.istore 5, 2) := by decide +kernel
theorem dX2_fill_87 : decode cX2_fill 87 = .ok (.aload_n 0, 1) := by decide +kernel
theorem dX2_fill_88 : decode cX2_fill 88 = .ok (.getfield 19, 3) := by decide +kernel
theorem dX2_fill_91 : decode cX2_fill 91 = .ok (.iload_n 2, 1) := by decide +kernel
theorem dX2_fill_92 : decode cX2_fill 92 = .ok (.iconst 1, 1) := by decide +kernel
theorem dX2_fill_93 : decode cX2_fill 93 = .ok (.isub, 1) := by decide +kernel
theorem dX2_fill_94 : decode cX2_fill 94 = .ok (.bipush 7, 2) := by decide +kernel
theorem dX2_fill_96 : decode cX2_fill 96 = .ok (.imul, 1) := by decide +kernel
theorem dX2_fill_97 : decode cX2_fill 97 = .ok (.iload_n 3, 1) := by decide +kernel
theorem dX2_fill_98 : decode cX2_fill 98 = .ok (.iadd, 1) := by decide +kernel
theorem dX2_fill_99 : decode cX2_fill 99 = .ok (.iconst 1, 1) := by decide +kernel
theorem dX2_fill_100 : decode cX2_fill 100 = .ok (.isub, 1) := by decide +kernel
theorem dX2_fill_101 : decode cX2_fill 101 = .ok (.iaload, 1) := by decide +kernel
theorem dX2_fill_102 : decode cX2_fill 102 = .ok (.iload 5, 2) := by decide +kernel
theorem dX2_fill_104 : decode cX2_fill 104 = .ok (.iadd, 1) := by decide +kernel
theorem dX2_fill_105 : decode cX2_fill 105 = .ok (.istore 6, 2) := by decide +kernel
theorem dX2_fill_107 : decode cX2_fill 107 = .ok (.aload_n 0, 1) := by decide +kernel
theorem dX2_fill_108 : decode cX2_fill 108 = .ok (.aload_n 0, 1) := by decide +kernel
theorem dX2_fill_109 : decode cX2_fill 109 = .ok (.getfield 19, 3) := by decide +kernel
theorem dX2_fill_112 : decode cX2_fill 112 = .ok (.iload_n 2, 1) := by decide +kernel
theorem dX2_fill_113 : decode cX2_fill 113 = .ok (.iconst 1, 1) := by decide +kernel
theorem dX2_fill_114 : decode cX2_fill 114 = .ok (.isub, 1) := by decide +kernel
theorem dX2_fill_115 : decode cX2_fill 115 = .ok (.bipush 7, 2) := by decide +kernel
theorem dX2_fill_117 : decode cX2_fill 117 = .ok (.imul, 1) := by decide +kernel
theorem dX2_fill_118 : decode cX2_fill 118 = .ok (.iload_n 3, 1) := by decide +kernel
theorem dX2_fill_119 : decode cX2_fill 119 = .ok (.iadd, 1) := by decide +kernel
theorem dX2_fill_120 : decode cX2_fill 120 = .ok (.iaload, 1) := by decide +kernel
theorem dX2_fill_121 : decode cX2_fill 121 = .ok (.aload_n 0, 1) := by decide +kernel
theorem dX2_fill_122 : decode cX2_fill 122 = .ok (.getfield 19, 3) := by decide +kernel
theorem dX2_fill_125 : decode cX2_fill 125 = .ok (.iload_n 2, 1) := by decide +kernel
theorem dX2_fill_126 : decode cX2_fill 126 = .ok (.bipush 7, 2) := by decide +kernel
theorem dX2_fill_128 : decode cX2_fill 128 = .ok (.imul, 1) := by decide +kernel
theorem dX2_fill_129 : decode cX2_fill 129 = .ok (.iload_n 3, 1) := by decide +kernel
theorem dX2_fill_130 : decode cX2_fill 130 = .ok (.iadd, 1) := by decide +kernel
theorem dX2_fill_131 : decode cX2_fill 131 = .ok (.iconst 1, 1) := by decide +kernel
theorem dX2_fill_132 : decode cX2_fill 132 = .ok (.isub, 1) := by decide +kernel
theorem dX2_fill_133 : decode cX2_fill 133 = .ok (.iaload, 1) := by decide +kernel
theorem dX2_fill_134 : decode cX2_fill 134 = .ok (.invokevirtual 45, 3) := by decide +kernel
theorem dX2_fill_137 : decode cX2_fill 137 = .ok (.iconst 1, 1) := by decide +kernel
theorem dX2_fill_138 : decode cX2_fill 138 = .ok (.iadd, 1) := by decide +kernel
theorem dX2_fill_139 : decode cX2_fill 139 = .ok (.istore 7, 2) := by decide +kernel
theorem dX2_fill_141 : decode cX2_fill 141 = .ok (.aload_n 0, 1) := by decide +kernel
theorem dX2_fill_142 : decode cX2_fill 142 = .ok (.iload 6, 2) := by decide +kernel
theorem dX2_fill_144 : decode cX2_fill 144 = .ok (.iload 7, 2) := by decide +kernel
theorem dX2_fill_146 : decode cX2_fill 146 = .ok (.invokevirtual 45, 3) := by decide +kernel
theorem dX2_fill_149 : decode cX2_fill 149 = .ok (.istore 4, 2) := by decide +kernel
theorem dX2_fill_151 : decode cX2_fill 151 = .ok (.aload_n 0, 1) := by decide +kernel
theorem dX2_fill_152 : decode cX2_fill 152 = .ok (.getfield 19, 3) := by decide +kernel
theorem dX2_fill_155 : decode cX2_fill 155 = .ok (.iload_n 2, 1) := by decide +kernel
theorem dX2_fill_156 : decode cX2_fill 156 = .ok (.bipush 7, 2) := by decide +kernel
theorem dX2_fill_158 : decode cX2_fill 158 = .ok (.imul, 1) := by decide +kernel
theorem dX2_fill_159 : decode cX2_fill 159 = .ok (.iload_n 3, 1) := by decide +kernel
theorem dX2_fill_160 : decode cX2_fill 160 = .ok (.iadd, 1) := by decide +kernel
theorem dX2_fill_161 : decode cX2_fill 161 = .ok (.iload 4, 2) := by decide +kernel
theorem dX2_fill_163 : decode cX2_fill 163 = .ok (.iastore, 1) := by decide +kernel
theorem dX2_fill_164 : decode cX2_fill 164 = .ok (.iinc 3 1, 3) := by decide +kernel
theorem dX2_fill_167 : decode cX2_fill 167 = .ok (.goto (-152), 3) := by decide +kernel
theorem dX2_fill_170 : decode cX2_fill 170 = .ok (.iinc 2 1, 3) := by decide +kernel
theorem dX2_fill_173 : decode cX2_fill 173 = .ok (.goto (-171), 3) := by decide +kernel
theorem dX2_fill_176 : decode cX2_fill 176 = .ok (.return_, 1) := by decide +kernel
abbrev cX2_least : ByteArray := prog_3_method_16_code
def yX2_least : MethodName := ⟨RX2, "least", "(II)I"⟩
theorem dX2_least_0 : decode cX2_least 0 = .ok (.iload_n 1, 1) := by decide +kernel
theorem dX2_least_1 : decode cX2_least 1 = .ok (.iload_n 2, 1) := by decide +kernel
theorem dX2_least_2 : decode cX2_least 2 = .ok (.if_icmp .ge 7, 3) := by decide +kernel
theorem dX2_least_5 : decode cX2_least 5 = .ok (.iload_n 1, 1) := by decide +kernel
theorem dX2_least_6 : decode cX2_least 6 = .ok (.goto 4, 3) := by decide +kernel
theorem dX2_least_9 : decode cX2_least 9 = .ok (.iload_n 2, 1) := by decide +kernel
theorem dX2_least_10 : decode cX2_least 10 = .ok (.ireturn, 1) := by decide +kernel
abbrev cX2_offer : ByteArray := prog_3_method_25_code
def yX2_offer : MethodName := ⟨RX2, "offer", "(I)I"⟩
theorem dX2_offer_0 : decode cX2_offer 0 = .ok (.aload_n 0, 1) := by decide +kernel
theorem dX2_offer_1 : decode cX2_offer 1 = .ok (.iload_n 1, 1) := by decide +kernel
theorem dX2_offer_2 : decode cX2_offer 2 = .ok (.invokevirtual 69, 3) := by decide +kernel
theorem dX2_offer_5 : decode cX2_offer 5 = .ok (.istore_n 2, 1) := by decide +kernel
theorem dX2_offer_6 : decode cX2_offer 6 = .ok (.iload_n 2, 1) := by decide +kernel
theorem dX2_offer_7 : decode cX2_offer 7 = .ok (.bipush (-4), 2) := by decide +kernel
theorem dX2_offer_9 : decode cX2_offer 9 = .ok (.if_icmp .ne 6, 3) := by decide +kernel
theorem dX2_offer_12 : decode cX2_offer 12 = .ok (.bipush (-4), 2) := by decide +kernel
theorem dX2_offer_14 : decode cX2_offer 14 = .ok (.ireturn, 1) := by decide +kernel
theorem dX2_offer_15 : decode cX2_offer 15 = .ok (.iconst 0, 1) := by decide +kernel
theorem dX2_offer_16 : decode cX2_offer 16 = .ok (.istore_n 3, 1) := by decide +kernel
theorem dX2_offer_17 : decode cX2_offer 17 = .ok (.iconst 0, 1) := by decide +kernel
theorem dX2_offer_18 : decode cX2_offer 18 = .ok (.istore 4, 2) := by decide +kernel
theorem dX2_offer_20 : decode cX2_offer 20 = .ok (.iload 4, 2) := by decide +kernel
theorem dX2_offer_22 : decode cX2_offer 22 = .ok (.aload_n 0, 1) := by decide +kernel
theorem dX2_offer_23 : decode cX2_offer 23 = .ok (.getfield 13, 3) := by decide +kernel
theorem dX2_offer_26 : decode cX2_offer 26 = .ok (.iload_n 2, 1) := by decide +kernel
theorem dX2_offer_27 : decode cX2_offer 27 = .ok (.iaload, 1) := by decide +kernel
theorem dX2_offer_28 : decode cX2_offer 28 = .ok (.if_icmp .ge 28, 3) := by decide +kernel
theorem dX2_offer_31 : decode cX2_offer 31 = .ok (.iload_n 3, 1) := by decide +kernel
theorem dX2_offer_32 : decode cX2_offer 32 = .ok (.iconst 5, 1) := by decide +kernel
theorem dX2_offer_33 : decode cX2_offer 33 = .ok (.imul, 1) := by decide +kernel
theorem dX2_offer_34 : decode cX2_offer 34 = .ok (.aload_n 0, 1) := by decide +kernel
theorem dX2_offer_35 : decode cX2_offer 35 = .ok (.getfield 7, 3) := by decide +kernel
theorem dX2_offer_38 : decode cX2_offer 38 = .ok (.bipush 6, 2) := by decide +kernel
theorem dX2_offer_40 : decode cX2_offer 40 = .ok (.iload_n 2, 1) := by decide +kernel
theorem dX2_offer_41 : decode cX2_offer 41 = .ok (.imul, 1) := by decide +kernel
theorem dX2_offer_42 : decode cX2_offer 42 = .ok (.iload 4, 2) := by decide +kernel
theorem dX2_offer_44 : decode cX2_offer 44 = .ok (.iadd, 1) := by decide +kernel
theorem dX2_offer_45 : decode cX2_offer 45 = .ok (.iaload, 1) := by decide +kernel
theorem dX2_offer_46 : decode cX2_offer 46 = .ok (.iadd, 1) := by decide +kernel
theorem dX2_offer_47 : decode cX2_offer 47 = .ok (.iconst 1, 1) := by decide +kernel
theorem dX2_offer_48 : decode cX2_offer 48 = .ok (.iadd, 1) := by decide +kernel
theorem dX2_offer_49 : decode cX2_offer 49 = .ok (.istore_n 3, 1) := by decide +kernel
theorem dX2_offer_50 : decode cX2_offer 50 = .ok (.iinc 4 1, 3) := by decide +kernel
theorem dX2_offer_53 : decode cX2_offer 53 = .ok (.goto (-33), 3) := by decide +kernel
theorem dX2_offer_56 : decode cX2_offer 56 = .ok (.iload_n 3, 1) := by decide +kernel
theorem dX2_offer_57 : decode cX2_offer 57 = .ok (.ireturn, 1) := by decide +kernel
abbrev cX2_wordAt : ByteArray := prog_3_method_24_code
def yX2_wordAt : MethodName := ⟨RX2, "wordAt", "(I)I"⟩
theorem dX2_wordAt_0 : decode cX2_wordAt 0 = .ok (.iconst 0, 1) := by decide +kernel
theorem dX2_wordAt_1 : decode cX2_wordAt 1 = .ok (.istore_n 2, 1) := by decide +kernel
theorem dX2_wordAt_2 : decode cX2_wordAt 2 = .ok (.iload_n 2, 1) := by decide +kernel
theorem dX2_wordAt_3 : decode cX2_wordAt 3 = .ok (.aload_n 0, 1) := by decide +kernel
theorem dX2_wordAt_4 : decode cX2_wordAt 4 = .ok (.getfield 30, 3) := by decide +kernel
theorem dX2_wordAt_7 : decode cX2_wordAt 7 = .ok (.if_icmp .ge 28, 3) := by decide +kernel
theorem dX2_wordAt_10 : decode cX2_wordAt 10 = .ok (.aload_n 0, 1) := by decide +kernel
theorem dX2_wordAt_11 : decode cX2_wordAt 11 = .ok (.iload_n 2, 1) := by decide +kernel
theorem dX2_wordAt_12 : decode cX2_wordAt 12 = .ok (.invokevirtual 59, 3) := by decide +kernel
theorem dX2_wordAt_15 : decode cX2_wordAt 15 = .ok (.ifCond .eq 14, 3) := by decide +kernel
theorem dX2_wordAt_18 : decode cX2_wordAt 18 = .ok (.aload_n 0, 1) := by decide +kernel
theorem dX2_wordAt_19 : decode cX2_wordAt 19 = .ok (.iload_n 2, 1) := by decide +kernel
theorem dX2_wordAt_20 : decode cX2_wordAt 20 = .ok (.invokevirtual 66, 3) := by decide +kernel
theorem dX2_wordAt_23 : decode cX2_wordAt 23 = .ok (.iload_n 1, 1) := by decide +kernel
theorem dX2_wordAt_24 : decode cX2_wordAt 24 = .ok (.if_icmp .ne 5, 3) := by decide +kernel
theorem dX2_wordAt_27 : decode cX2_wordAt 27 = .ok (.iload_n 2, 1) := by decide +kernel
theorem dX2_wordAt_28 : decode cX2_wordAt 28 = .ok (.ireturn, 1) := by decide +kernel
theorem dX2_wordAt_29 : decode cX2_wordAt 29 = .ok (.iinc 2 1, 3) := by decide +kernel
theorem dX2_wordAt_32 : decode cX2_wordAt 32 = .ok (.goto (-30), 3) := by decide +kernel
theorem dX2_wordAt_35 : decode cX2_wordAt 35 = .ok (.bipush (-4), 2) := by decide +kernel
theorem dX2_wordAt_37 : decode cX2_wordAt 37 = .ok (.ireturn, 1) := by decide +kernel
abbrev cX2_rankOf : ByteArray := prog_3_method_23_code
def yX2_rankOf : MethodName := ⟨RX2, "rankOf", "(I)I"⟩
theorem dX2_rankOf_0 : decode cX2_rankOf 0 = .ok (.iconst 0, 1) := by decide +kernel
theorem dX2_rankOf_1 : decode cX2_rankOf 1 = .ok (.istore_n 2, 1) := by decide +kernel
theorem dX2_rankOf_2 : decode cX2_rankOf 2 = .ok (.iconst 0, 1) := by decide +kernel
theorem dX2_rankOf_3 : decode cX2_rankOf 3 = .ok (.istore_n 3, 1) := by decide +kernel
theorem dX2_rankOf_4 : decode cX2_rankOf 4 = .ok (.iload_n 3, 1) := by decide +kernel
theorem dX2_rankOf_5 : decode cX2_rankOf 5 = .ok (.aload_n 0, 1) := by decide +kernel
theorem dX2_rankOf_6 : decode cX2_rankOf 6 = .ok (.getfield 30, 3) := by decide +kernel
theorem dX2_rankOf_9 : decode cX2_rankOf 9 = .ok (.if_icmp .ge 29, 3) := by decide +kernel
theorem dX2_rankOf_12 : decode cX2_rankOf 12 = .ok (.aload_n 0, 1) := by decide +kernel
theorem dX2_rankOf_13 : decode cX2_rankOf 13 = .ok (.iload_n 3, 1) := by decide +kernel
theorem dX2_rankOf_14 : decode cX2_rankOf 14 = .ok (.invokevirtual 59, 3) := by decide +kernel
theorem dX2_rankOf_17 : decode cX2_rankOf 17 = .ok (.ifCond .eq 15, 3) := by decide +kernel
theorem dX2_rankOf_20 : decode cX2_rankOf 20 = .ok (.aload_n 0, 1) := by decide +kernel
theorem dX2_rankOf_21 : decode cX2_rankOf 21 = .ok (.iload_n 3, 1) := by decide +kernel
theorem dX2_rankOf_22 : decode cX2_rankOf 22 = .ok (.iload_n 1, 1) := by decide +kernel
theorem dX2_rankOf_23 : decode cX2_rankOf 23 = .ok (.invokevirtual 63, 3) := by decide +kernel
theorem dX2_rankOf_26 : decode cX2_rankOf 26 = .ok (.ifCond .eq 6, 3) := by decide +kernel
theorem dX2_rankOf_29 : decode cX2_rankOf 29 = .ok (.iinc 2 1, 3) := by decide +kernel
theorem dX2_rankOf_32 : decode cX2_rankOf 32 = .ok (.iinc 3 1, 3) := by decide +kernel
theorem dX2_rankOf_35 : decode cX2_rankOf 35 = .ok (.goto (-31), 3) := by decide +kernel
theorem dX2_rankOf_38 : decode cX2_rankOf 38 = .ok (.iload_n 2, 1) := by decide +kernel
theorem dX2_rankOf_39 : decode cX2_rankOf 39 = .ok (.ireturn, 1) := by decide +kernel
abbrev cX2_ranksBefore : ByteArray := prog_3_method_21_code
def yX2_ranksBefore : MethodName := ⟨RX2, "ranksBefore", "(II)Z"⟩
theorem dX2_ranksBefore_0 : decode cX2_ranksBefore 0 = .ok (.aload_n 0, 1) := by decide +kernel
theorem dX2_ranksBefore_1 : decode cX2_ranksBefore 1 = .ok (.iload_n 1, 1) := by decide +kernel
theorem dX2_ranksBefore_2 : decode cX2_ranksBefore 2 = .ok (.invokevirtual 52, 3) := by decide +kernel
theorem dX2_ranksBefore_5 : decode cX2_ranksBefore 5 = .ok (.istore_n 3, 1) := by decide +kernel
theorem dX2_ranksBefore_6 : decode cX2_ranksBefore 6 = .ok (.aload_n 0, 1) := by decide +kernel
theorem dX2_ranksBefore_7 : decode cX2_ranksBefore 7 = .ok (.iload_n 2, 1) := by decide +kernel
theorem dX2_ranksBefore_8 : decode cX2_ranksBefore 8 = .ok (.invokevirtual 52, 3) := by decide +kernel
theorem dX2_ranksBefore_11 : decode cX2_ranksBefore 11 = .ok (.istore 4, 2) := by decide +kernel
theorem dX2_ranksBefore_13 : decode cX2_ranksBefore 13 = .ok (.iload_n 3, 1) := by decide +kernel
theorem dX2_ranksBefore_14 : decode cX2_ranksBefore 14 = .ok (.iload 4, 2) := by decide +kernel
theorem dX2_ranksBefore_16 : decode cX2_ranksBefore 16 = .ok (.if_icmp .eq 15, 3) := by decide +kernel
theorem dX2_ranksBefore_19 : decode cX2_ranksBefore 19 = .ok (.iload_n 3, 1) := by decide +kernel
theorem dX2_ranksBefore_20 : decode cX2_ranksBefore 20 = .ok (.iload 4, 2) := by decide +kernel
theorem dX2_ranksBefore_22 : decode cX2_ranksBefore 22 = .ok (.if_icmp .ge 7, 3) := by decide +kernel
theorem dX2_ranksBefore_25 : decode cX2_ranksBefore 25 = .ok (.iconst 1, 1) := by decide +kernel
theorem dX2_ranksBefore_26 : decode cX2_ranksBefore 26 = .ok (.goto 4, 3) := by decide +kernel
theorem dX2_ranksBefore_29 : decode cX2_ranksBefore 29 = .ok (.iconst 0, 1) := by decide +kernel
theorem dX2_ranksBefore_30 : decode cX2_ranksBefore 30 = .ok (.ireturn, 1) := by decide +kernel
theorem dX2_ranksBefore_31 : decode cX2_ranksBefore 31 = .ok (.aload_n 0, 1) := by decide +kernel
theorem dX2_ranksBefore_32 : decode cX2_ranksBefore 32 = .ok (.getfield 16, 3) := by decide +kernel
theorem dX2_ranksBefore_35 : decode cX2_ranksBefore 35 = .ok (.iload_n 1, 1) := by decide +kernel
theorem dX2_ranksBefore_36 : decode cX2_ranksBefore 36 = .ok (.iaload, 1) := by decide +kernel
theorem dX2_ranksBefore_37 : decode cX2_ranksBefore 37 = .ok (.aload_n 0, 1) := by decide +kernel
theorem dX2_ranksBefore_38 : decode cX2_ranksBefore 38 = .ok (.getfield 16, 3) := by decide +kernel
theorem dX2_ranksBefore_41 : decode cX2_ranksBefore 41 = .ok (.iload_n 2, 1) := by decide +kernel
theorem dX2_ranksBefore_42 : decode cX2_ranksBefore 42 = .ok (.iaload, 1) := by decide +kernel
theorem dX2_ranksBefore_43 : decode cX2_ranksBefore 43 = .ok (.if_icmp .eq 26, 3) := by decide +kernel
theorem dX2_ranksBefore_46 : decode cX2_ranksBefore 46 = .ok (.aload_n 0, 1) := by decide +kernel
theorem dX2_ranksBefore_47 : decode cX2_ranksBefore 47 = .ok (.getfield 16, 3) := by decide +kernel
theorem dX2_ranksBefore_50 : decode cX2_ranksBefore 50 = .ok (.iload_n 1, 1) := by decide +kernel
theorem dX2_ranksBefore_51 : decode cX2_ranksBefore 51 = .ok (.iaload, 1) := by decide +kernel
theorem dX2_ranksBefore_52 : decode cX2_ranksBefore 52 = .ok (.aload_n 0, 1) := by decide +kernel
theorem dX2_ranksBefore_53 : decode cX2_ranksBefore 53 = .ok (.getfield 16, 3) := by decide +kernel
theorem dX2_ranksBefore_56 : decode cX2_ranksBefore 56 = .ok (.iload_n 2, 1) := by decide +kernel
theorem dX2_ranksBefore_57 : decode cX2_ranksBefore 57 = .ok (.iaload, 1) := by decide +kernel
theorem dX2_ranksBefore_58 : decode cX2_ranksBefore 58 = .ok (.if_icmp .le 7, 3) := by decide +kernel
theorem dX2_ranksBefore_61 : decode cX2_ranksBefore 61 = .ok (.iconst 1, 1) := by decide +kernel
theorem dX2_ranksBefore_62 : decode cX2_ranksBefore 62 = .ok (.goto 13, 3) := by decide +kernel
theorem dX2_ranksBefore_65 : decode cX2_ranksBefore 65 = .ok (.iconst 0, 1) := by decide +kernel
theorem dX2_ranksBefore_66 : decode cX2_ranksBefore 66 = .ok (.goto 9, 3) := by decide +kernel
theorem dX2_ranksBefore_69 : decode cX2_ranksBefore 69 = .ok (.aload_n 0, 1) := by decide +kernel
theorem dX2_ranksBefore_70 : decode cX2_ranksBefore 70 = .ok (.iload_n 1, 1) := by decide +kernel
theorem dX2_ranksBefore_71 : decode cX2_ranksBefore 71 = .ok (.iload_n 2, 1) := by decide +kernel
theorem dX2_ranksBefore_72 : decode cX2_ranksBefore 72 = .ok (.invokevirtual 56, 3) := by decide +kernel
theorem dX2_ranksBefore_75 : decode cX2_ranksBefore 75 = .ok (.ireturn, 1) := by decide +kernel
abbrev cX2_before : ByteArray := prog_3_method_20_code
def yX2_before : MethodName := ⟨RX2, "before", "(II)Z"⟩
theorem dX2_before_0 : decode cX2_before 0 = .ok (.iconst 0, 1) := by decide +kernel
theorem dX2_before_1 : decode cX2_before 1 = .ok (.istore_n 3, 1) := by decide +kernel
theorem dX2_before_2 : decode cX2_before 2 = .ok (.iload_n 3, 1) := by decide +kernel
theorem dX2_before_3 : decode cX2_before 3 = .ok (.aload_n 0, 1) := by decide +kernel
theorem dX2_before_4 : decode cX2_before 4 = .ok (.getfield 13, 3) := by decide +kernel
theorem dX2_before_7 : decode cX2_before 7 = .ok (.iload_n 1, 1) := by decide +kernel
theorem dX2_before_8 : decode cX2_before 8 = .ok (.iaload, 1) := by decide +kernel
theorem dX2_before_9 : decode cX2_before 9 = .ok (.if_icmp .ge 75, 3) := by decide +kernel
theorem dX2_before_12 : decode cX2_before 12 = .ok (.iload_n 3, 1) := by decide +kernel
theorem dX2_before_13 : decode cX2_before 13 = .ok (.aload_n 0, 1) := by decide +kernel
theorem dX2_before_14 : decode cX2_before 14 = .ok (.getfield 13, 3) := by decide +kernel
theorem dX2_before_17 : decode cX2_before 17 = .ok (.iload_n 2, 1) := by decide +kernel
theorem dX2_before_18 : decode cX2_before 18 = .ok (.iaload, 1) := by decide +kernel
theorem dX2_before_19 : decode cX2_before 19 = .ok (.if_icmp .ge 65, 3) := by decide +kernel
theorem dX2_before_22 : decode cX2_before 22 = .ok (.aload_n 0, 1) := by decide +kernel
theorem dX2_before_23 : decode cX2_before 23 = .ok (.getfield 7, 3) := by decide +kernel
theorem dX2_before_26 : decode cX2_before 26 = .ok (.bipush 6, 2) := by decide +kernel
theorem dX2_before_28 : decode cX2_before 28 = .ok (.iload_n 1, 1) := by decide +kernel
theorem dX2_before_29 : decode cX2_before 29 = .ok (.imul, 1) := by decide +kernel
theorem dX2_before_30 : decode cX2_before 30 = .ok (.iload_n 3, 1) := by decide +kernel
theorem dX2_before_31 : decode cX2_before 31 = .ok (.iadd, 1) := by decide +kernel
theorem dX2_before_32 : decode cX2_before 32 = .ok (.iaload, 1) := by decide +kernel
theorem dX2_before_33 : decode cX2_before 33 = .ok (.aload_n 0, 1) := by decide +kernel
theorem dX2_before_34 : decode cX2_before 34 = .ok (.getfield 7, 3) := by decide +kernel
theorem dX2_before_37 : decode cX2_before 37 = .ok (.bipush 6, 2) := by decide +kernel
theorem dX2_before_39 : decode cX2_before 39 = .ok (.iload_n 2, 1) := by decide +kernel
theorem dX2_before_40 : decode cX2_before 40 = .ok (.imul, 1) := by decide +kernel
theorem dX2_before_41 : decode cX2_before 41 = .ok (.iload_n 3, 1) := by decide +kernel
theorem dX2_before_42 : decode cX2_before 42 = .ok (.iadd, 1) := by decide +kernel
theorem dX2_before_43 : decode cX2_before 43 = .ok (.iaload, 1) := by decide +kernel
theorem dX2_before_44 : decode cX2_before 44 = .ok (.if_icmp .eq 34, 3) := by decide +kernel
theorem dX2_before_47 : decode cX2_before 47 = .ok (.aload_n 0, 1) := by decide +kernel
theorem dX2_before_48 : decode cX2_before 48 = .ok (.getfield 7, 3) := by decide +kernel
theorem dX2_before_51 : decode cX2_before 51 = .ok (.bipush 6, 2) := by decide +kernel
theorem dX2_before_53 : decode cX2_before 53 = .ok (.iload_n 1, 1) := by decide +kernel
theorem dX2_before_54 : decode cX2_before 54 = .ok (.imul, 1) := by decide +kernel
theorem dX2_before_55 : decode cX2_before 55 = .ok (.iload_n 3, 1) := by decide +kernel
theorem dX2_before_56 : decode cX2_before 56 = .ok (.iadd, 1) := by decide +kernel
theorem dX2_before_57 : decode cX2_before 57 = .ok (.iaload, 1) := by decide +kernel
theorem dX2_before_58 : decode cX2_before 58 = .ok (.aload_n 0, 1) := by decide +kernel
theorem dX2_before_59 : decode cX2_before 59 = .ok (.getfield 7, 3) := by decide +kernel
theorem dX2_before_62 : decode cX2_before 62 = .ok (.bipush 6, 2) := by decide +kernel
theorem dX2_before_64 : decode cX2_before 64 = .ok (.iload_n 2, 1) := by decide +kernel
theorem dX2_before_65 : decode cX2_before 65 = .ok (.imul, 1) := by decide +kernel
theorem dX2_before_66 : decode cX2_before 66 = .ok (.iload_n 3, 1) := by decide +kernel
theorem dX2_before_67 : decode cX2_before 67 = .ok (.iadd, 1) := by decide +kernel
theorem dX2_before_68 : decode cX2_before 68 = .ok (.iaload, 1) := by decide +kernel
theorem dX2_before_69 : decode cX2_before 69 = .ok (.if_icmp .ge 7, 3) := by decide +kernel
theorem dX2_before_72 : decode cX2_before 72 = .ok (.iconst 1, 1) := by decide +kernel
theorem dX2_before_73 : decode cX2_before 73 = .ok (.goto 4, 3) := by decide +kernel
theorem dX2_before_76 : decode cX2_before 76 = .ok (.iconst 0, 1) := by decide +kernel
theorem dX2_before_77 : decode cX2_before 77 = .ok (.ireturn, 1) := by decide +kernel
theorem dX2_before_78 : decode cX2_before 78 = .ok (.iinc 3 1, 3) := by decide +kernel
theorem dX2_before_81 : decode cX2_before 81 = .ok (.goto (-79), 3) := by decide +kernel
theorem dX2_before_84 : decode cX2_before 84 = .ok (.aload_n 0, 1) := by decide +kernel
theorem dX2_before_85 : decode cX2_before 85 = .ok (.getfield 13, 3) := by decide +kernel
theorem dX2_before_88 : decode cX2_before 88 = .ok (.iload_n 1, 1) := by decide +kernel
theorem dX2_before_89 : decode cX2_before 89 = .ok (.iaload, 1) := by decide +kernel
theorem dX2_before_90 : decode cX2_before 90 = .ok (.aload_n 0, 1) := by decide +kernel
theorem dX2_before_91 : decode cX2_before 91 = .ok (.getfield 13, 3) := by decide +kernel
theorem dX2_before_94 : decode cX2_before 94 = .ok (.iload_n 2, 1) := by decide +kernel
theorem dX2_before_95 : decode cX2_before 95 = .ok (.iaload, 1) := by decide +kernel
theorem dX2_before_96 : decode cX2_before 96 = .ok (.if_icmp .ge 7, 3) := by decide +kernel
theorem dX2_before_99 : decode cX2_before 99 = .ok (.iconst 1, 1) := by decide +kernel
theorem dX2_before_100 : decode cX2_before 100 = .ok (.goto 4, 3) := by decide +kernel
theorem dX2_before_103 : decode cX2_before 103 = .ok (.iconst 0, 1) := by decide +kernel
theorem dX2_before_104 : decode cX2_before 104 = .ok (.ireturn, 1) := by decide +kernel
abbrev cX2_distance : ByteArray := prog_3_method_26_code
def yX2_distance : MethodName := ⟨RX2, "distance", "(I)I"⟩
theorem dX2_distance_0 : decode cX2_distance 0 = .ok (.aload_n 0, 1) := by decide +kernel
theorem dX2_distance_1 : decode cX2_distance 1 = .ok (.iload_n 1, 1) := by decide +kernel
theorem dX2_distance_2 : decode cX2_distance 2 = .ok (.invokevirtual 69, 3) := by decide +kernel
theorem dX2_distance_5 : decode cX2_distance 5 = .ok (.istore_n 2, 1) := by decide +kernel
theorem dX2_distance_6 : decode cX2_distance 6 = .ok (.iload_n 2, 1) := by decide +kernel
theorem dX2_distance_7 : decode cX2_distance 7 = .ok (.bipush (-4), 2) := by decide +kernel
theorem dX2_distance_9 : decode cX2_distance 9 = .ok (.if_icmp .ne 8, 3) := by decide +kernel
theorem dX2_distance_12 : decode cX2_distance 12 = .ok (.bipush (-4), 2) := by decide +kernel
theorem dX2_distance_14 : decode cX2_distance 14 = .ok (.goto 8, 3) := by decide +kernel
theorem dX2_distance_17 : decode cX2_distance 17 = .ok (.aload_n 0, 1) := by decide +kernel
theorem dX2_distance_18 : decode cX2_distance 18 = .ok (.iload_n 2, 1) := by decide +kernel
theorem dX2_distance_19 : decode cX2_distance 19 = .ok (.invokevirtual 52, 3) := by decide +kernel
theorem dX2_distance_22 : decode cX2_distance 22 = .ok (.ireturn, 1) := by decide +kernel
abbrev cX2_weightAt : ByteArray := prog_3_method_27_code
def yX2_weightAt : MethodName := ⟨RX2, "weightAt", "(I)I"⟩
theorem dX2_weightAt_0 : decode cX2_weightAt 0 = .ok (.aload_n 0, 1) := by decide +kernel
theorem dX2_weightAt_1 : decode cX2_weightAt 1 = .ok (.iload_n 1, 1) := by decide +kernel
theorem dX2_weightAt_2 : decode cX2_weightAt 2 = .ok (.invokevirtual 69, 3) := by decide +kernel
theorem dX2_weightAt_5 : decode cX2_weightAt 5 = .ok (.istore_n 2, 1) := by decide +kernel
theorem dX2_weightAt_6 : decode cX2_weightAt 6 = .ok (.iload_n 2, 1) := by decide +kernel
theorem dX2_weightAt_7 : decode cX2_weightAt 7 = .ok (.bipush (-4), 2) := by decide +kernel
theorem dX2_weightAt_9 : decode cX2_weightAt 9 = .ok (.if_icmp .ne 8, 3) := by decide +kernel
theorem dX2_weightAt_12 : decode cX2_weightAt 12 = .ok (.bipush (-4), 2) := by decide +kernel
theorem dX2_weightAt_14 : decode cX2_weightAt 14 = .ok (.goto 9, 3) := by decide +kernel
theorem dX2_weightAt_17 : decode cX2_weightAt 17 = .ok (.aload_n 0, 1) := by decide +kernel
theorem dX2_weightAt_18 : decode cX2_weightAt 18 = .ok (.getfield 16, 3) := by decide +kernel
theorem dX2_weightAt_21 : decode cX2_weightAt 21 = .ok (.iload_n 2, 1) := by decide +kernel
theorem dX2_weightAt_22 : decode cX2_weightAt 22 = .ok (.iaload, 1) := by decide +kernel
theorem dX2_weightAt_23 : decode cX2_weightAt 23 = .ok (.ireturn, 1) := by decide +kernel
abbrev cX2_nearest : ByteArray := prog_3_method_28_code
def yX2_nearest : MethodName := ⟨RX2, "nearest", "()I"⟩
theorem dX2_nearest_0 : decode cX2_nearest 0 = .ok (.bipush 9, 2) := by decide +kernel
theorem dX2_nearest_2 : decode cX2_nearest 2 = .ok (.istore_n 1, 1) := by decide +kernel
theorem dX2_nearest_3 : decode cX2_nearest 3 = .ok (.iconst 0, 1) := by decide +kernel
theorem dX2_nearest_4 : decode cX2_nearest 4 = .ok (.istore_n 2, 1) := by decide +kernel
theorem dX2_nearest_5 : decode cX2_nearest 5 = .ok (.iload_n 2, 1) := by decide +kernel
theorem dX2_nearest_6 : decode cX2_nearest 6 = .ok (.aload_n 0, 1) := by decide +kernel
theorem dX2_nearest_7 : decode cX2_nearest 7 = .ok (.getfield 30, 3) := by decide +kernel
theorem dX2_nearest_10 : decode cX2_nearest 10 = .ok (.if_icmp .ge 42, 3) := by decide +kernel
theorem dX2_nearest_13 : decode cX2_nearest 13 = .ok (.aload_n 0, 1) := by decide +kernel
theorem dX2_nearest_14 : decode cX2_nearest 14 = .ok (.iload_n 2, 1) := by decide +kernel
theorem dX2_nearest_15 : decode cX2_nearest 15 = .ok (.invokevirtual 48, 3) := by decide +kernel
theorem dX2_nearest_18 : decode cX2_nearest 18 = .ok (.aload_n 0, 1) := by decide +kernel
theorem dX2_nearest_19 : decode cX2_nearest 19 = .ok (.iload_n 1, 1) := by decide +kernel
theorem dX2_nearest_20 : decode cX2_nearest 20 = .ok (.aload_n 0, 1) := by decide +kernel
theorem dX2_nearest_21 : decode cX2_nearest 21 = .ok (.getfield 19, 3) := by decide +kernel
theorem dX2_nearest_24 : decode cX2_nearest 24 = .ok (.aload_n 0, 1) := by decide +kernel
theorem dX2_nearest_25 : decode cX2_nearest 25 = .ok (.getfield 13, 3) := by decide +kernel
theorem dX2_nearest_28 : decode cX2_nearest 28 = .ok (.bipush 13, 2) := by decide +kernel
theorem dX2_nearest_30 : decode cX2_nearest 30 = .ok (.iaload, 1) := by decide +kernel
theorem dX2_nearest_31 : decode cX2_nearest 31 = .ok (.bipush 7, 2) := by decide +kernel
theorem dX2_nearest_33 : decode cX2_nearest 33 = .ok (.imul, 1) := by decide +kernel
theorem dX2_nearest_34 : decode cX2_nearest 34 = .ok (.aload_n 0, 1) := by decide +kernel
theorem dX2_nearest_35 : decode cX2_nearest 35 = .ok (.getfield 13, 3) := by decide +kernel
theorem dX2_nearest_38 : decode cX2_nearest 38 = .ok (.iload_n 2, 1) := by decide +kernel
theorem dX2_nearest_39 : decode cX2_nearest 39 = .ok (.iaload, 1) := by decide +kernel
theorem dX2_nearest_40 : decode cX2_nearest 40 = .ok (.iadd, 1) := by decide +kernel
theorem dX2_nearest_41 : decode cX2_nearest 41 = .ok (.iaload, 1) := by decide +kernel
theorem dX2_nearest_42 : decode cX2_nearest 42 = .ok (.invokevirtual 45, 3) := by decide +kernel
theorem dX2_nearest_45 : decode cX2_nearest 45 = .ok (.istore_n 1, 1) := by decide +kernel
theorem dX2_nearest_46 : decode cX2_nearest 46 = .ok (.iinc 2 1, 3) := by decide +kernel
theorem dX2_nearest_49 : decode cX2_nearest 49 = .ok (.goto (-44), 3) := by decide +kernel
theorem dX2_nearest_52 : decode cX2_nearest 52 = .ok (.iload_n 1, 1) := by decide +kernel
theorem dX2_nearest_53 : decode cX2_nearest 53 = .ok (.aload_n 0, 1) := by decide +kernel
theorem dX2_nearest_54 : decode cX2_nearest 54 = .ok (.getfield 22, 3) := by decide +kernel
theorem dX2_nearest_57 : decode cX2_nearest 57 = .ok (.if_icmp .gt 7, 3) := by decide +kernel
theorem dX2_nearest_60 : decode cX2_nearest 60 = .ok (.iload_n 1, 1) := by decide +kernel
theorem dX2_nearest_61 : decode cX2_nearest 61 = .ok (.goto 5, 3) := by decide +kernel
theorem dX2_nearest_64 : decode cX2_nearest 64 = .ok (.bipush (-4), 2) := by decide +kernel
theorem dX2_nearest_66 : decode cX2_nearest 66 = .ok (.ireturn, 1) := by decide +kernel
abbrev cX2_exact : ByteArray := prog_3_method_29_code
def yX2_exact : MethodName := ⟨RX2, "exact", "()I"⟩
theorem dX2_exact_0 : decode cX2_exact 0 = .ok (.iconst 0, 1) := by decide +kernel
theorem dX2_exact_1 : decode cX2_exact 1 = .ok (.istore_n 1, 1) := by decide +kernel
theorem dX2_exact_2 : decode cX2_exact 2 = .ok (.iconst 0, 1) := by decide +kernel
theorem dX2_exact_3 : decode cX2_exact 3 = .ok (.istore_n 2, 1) := by decide +kernel
theorem dX2_exact_4 : decode cX2_exact 4 = .ok (.iload_n 2, 1) := by decide +kernel
theorem dX2_exact_5 : decode cX2_exact 5 = .ok (.aload_n 0, 1) := by decide +kernel
theorem dX2_exact_6 : decode cX2_exact 6 = .ok (.getfield 30, 3) := by decide +kernel
theorem dX2_exact_9 : decode cX2_exact 9 = .ok (.if_icmp .ge 22, 3) := by decide +kernel
theorem dX2_exact_12 : decode cX2_exact 12 = .ok (.aload_n 0, 1) := by decide +kernel
theorem dX2_exact_13 : decode cX2_exact 13 = .ok (.bipush 13, 2) := by decide +kernel
theorem dX2_exact_15 : decode cX2_exact 15 = .ok (.iload_n 2, 1) := by decide +kernel
theorem dX2_exact_16 : decode cX2_exact 16 = .ok (.invokevirtual 33, 3) := by decide +kernel
theorem dX2_exact_19 : decode cX2_exact 19 = .ok (.ifCond .eq 6, 3) := by decide +kernel
theorem dX2_exact_22 : decode cX2_exact 22 = .ok (.iinc 1 1, 3) := by decide +kernel
theorem dX2_exact_25 : decode cX2_exact 25 = .ok (.iinc 2 1, 3) := by decide +kernel
theorem dX2_exact_28 : decode cX2_exact 28 = .ok (.goto (-24), 3) := by decide +kernel
theorem dX2_exact_31 : decode cX2_exact 31 = .ok (.iload_n 1, 1) := by decide +kernel
theorem dX2_exact_32 : decode cX2_exact 32 = .ok (.ireturn, 1) := by decide +kernel
abbrev cX2_continues : ByteArray := prog_3_method_30_code
def yX2_continues : MethodName := ⟨RX2, "continues", "()I"⟩
theorem dX2_continues_0 : decode cX2_continues 0 = .ok (.iconst 0, 1) := by decide +kernel
theorem dX2_continues_1 : decode cX2_continues 1 = .ok (.istore_n 1, 1) := by decide +kernel
theorem dX2_continues_2 : decode cX2_continues 2 = .ok (.iconst 0, 1) := by decide +kernel
theorem dX2_continues_3 : decode cX2_continues 3 = .ok (.istore_n 2, 1) := by decide +kernel
theorem dX2_continues_4 : decode cX2_continues 4 = .ok (.iload_n 2, 1) := by decide +kernel
theorem dX2_continues_5 : decode cX2_continues 5 = .ok (.aload_n 0, 1) := by decide +kernel
theorem dX2_continues_6 : decode cX2_continues 6 = .ok (.getfield 30, 3) := by decide +kernel
theorem dX2_continues_9 : decode cX2_continues 9 = .ok (.if_icmp .ge 57, 3) := by decide +kernel
theorem dX2_continues_12 : decode cX2_continues 12 = .ok (.aload_n 0, 1) := by decide +kernel
theorem dX2_continues_13 : decode cX2_continues 13 = .ok (.bipush 13, 2) := by decide +kernel
theorem dX2_continues_15 : decode cX2_continues 15 = .ok (.iload_n 2, 1) := by decide +kernel
theorem dX2_continues_16 : decode cX2_continues 16 = .ok (.invokevirtual 33, 3) := by decide +kernel
theorem dX2_continues_19 : decode cX2_continues 19 = .ok (.ifCond .eq 41, 3) := by decide +kernel
theorem dX2_continues_22 : decode cX2_continues 22 = .ok (.aload_n 0, 1) := by decide +kernel
theorem dX2_continues_23 : decode cX2_continues 23 = .ok (.getfield 13, 3) := by decide +kernel
theorem dX2_continues_26 : decode cX2_continues 26 = .ok (.iload_n 2, 1) := by decide +kernel
theorem dX2_continues_27 : decode cX2_continues 27 = .ok (.iaload, 1) := by decide +kernel
theorem dX2_continues_28 : decode cX2_continues 28 = .ok (.aload_n 0, 1) := by decide +kernel
theorem dX2_continues_29 : decode cX2_continues 29 = .ok (.getfield 13, 3) := by decide +kernel
theorem dX2_continues_32 : decode cX2_continues 32 = .ok (.bipush 13, 2) := by decide +kernel
theorem dX2_continues_34 : decode cX2_continues 34 = .ok (.iaload, 1) := by decide +kernel
theorem dX2_continues_35 : decode cX2_continues 35 = .ok (.if_icmp .le 25, 3) := by decide +kernel
theorem dX2_continues_38 : decode cX2_continues 38 = .ok (.iload_n 1, 1) := by decide +kernel
theorem dX2_continues_39 : decode cX2_continues 39 = .ok (.iconst 1, 1) := by decide +kernel
theorem dX2_continues_40 : decode cX2_continues 40 = .ok (.aload_n 0, 1) := by decide +kernel
theorem dX2_continues_41 : decode cX2_continues 41 = .ok (.getfield 7, 3) := by decide +kernel
theorem dX2_continues_44 : decode cX2_continues 44 = .ok (.bipush 6, 2) := by decide +kernel
theorem dX2_continues_46 : decode cX2_continues 46 = .ok (.iload_n 2, 1) := by decide +kernel
theorem dX2_continues_47 : decode cX2_continues 47 = .ok (.imul, 1) := by decide +kernel
theorem dX2_continues_48 : decode cX2_continues 48 = .ok (.aload_n 0, 1) := by decide +kernel
theorem dX2_continues_49 : decode cX2_continues 49 = .ok (.getfield 13, 3) := by decide +kernel
theorem dX2_continues_52 : decode cX2_continues 52 = .ok (.bipush 13, 2) := by decide +kernel
theorem dX2_continues_54 : decode cX2_continues 54 = .ok (.iaload, 1) := by decide +kernel
theorem dX2_continues_55 : decode cX2_continues 55 = .ok (.iadd, 1) := by decide +kernel
theorem dX2_continues_56 : decode cX2_continues 56 = .ok (.iaload, 1) := by decide +kernel
theorem dX2_continues_57 : decode cX2_continues 57 = .ok (.ishl, 1) := by decide +kernel
theorem dX2_continues_58 : decode cX2_continues 58 = .ok (.ior, 1) := by decide +kernel
theorem dX2_continues_59 : decode cX2_continues 59 = .ok (.istore_n 1, 1) := by decide +kernel
theorem dX2_continues_60 : decode cX2_continues 60 = .ok (.iinc 2 1, 3) := by decide +kernel
theorem dX2_continues_63 : decode cX2_continues 63 = .ok (.goto (-59), 3) := by decide +kernel
theorem dX2_continues_66 : decode cX2_continues 66 = .ok (.iload_n 1, 1) := by decide +kernel
theorem dX2_continues_67 : decode cX2_continues 67 = .ok (.ireturn, 1) := by decide +kernel
theorem q29 : (Jvm.Cond.initialized "FuzzyTypeaheadModel") ∈ lw_all := lw_g (lw_at lw_m1 2 rfl) rfl
theorem q229 : (Jvm.Cond.instantiable "FuzzyTypeaheadModel" (6 : Nat)) ∈ lw_all := lw_g (lw_at lw_m1 202 rfl) rfl
theorem q231 : (Jvm.Cond.instanceMethod ({ cls := "FuzzyTypeaheadModel", name := "<init>", desc := "(I)V" } : Jvm.MethodName)) ∈ lw_all := lw_g (lw_at lw_m1 204 rfl) rfl
theorem q232 : (Jvm.Cond.code ({ cls := "FuzzyTypeaheadModel", name := "<init>", desc := "(I)V" } : Jvm.MethodName) prog_3_method_1_code (2 : Nat) (Option.none : Option Jvm.ClassFile.FieldType)) ∈ lw_all := lw_g (lw_at lw_m1 205 rfl) rfl
theorem q233 : (Jvm.Cond.methodLink "FuzzyTypeaheadModel" (1 : Nat) ({ cls := "java/lang/Object", name := "<init>", desc := "()V" } : Jvm.MethodName)) ∈ lw_all := lw_g (lw_at lw_m1 206 rfl) rfl
theorem q234 : (Jvm.Cond.fieldLink "FuzzyTypeaheadModel" (22 : Nat) "FuzzyTypeaheadModel" "limit" "I") ∈ lw_all := lw_g (lw_at lw_m1 207 rfl) rfl
theorem q235 : (Jvm.Cond.fieldLink "FuzzyTypeaheadModel" (7 : Nat) "FuzzyTypeaheadModel" "letters" "[I") ∈ lw_all := lw_g (lw_at lw_m1 208 rfl) rfl
theorem q236 : (Jvm.Cond.fieldLink "FuzzyTypeaheadModel" (13 : Nat) "FuzzyTypeaheadModel" "lengths" "[I") ∈ lw_all := lw_g (lw_at lw_m1 209 rfl) rfl
theorem q237 : (Jvm.Cond.fieldLink "FuzzyTypeaheadModel" (16 : Nat) "FuzzyTypeaheadModel" "weights" "[I") ∈ lw_all := lw_g (lw_at lw_m1 210 rfl) rfl
theorem q238 : (Jvm.Cond.fieldLink "FuzzyTypeaheadModel" (30 : Nat) "FuzzyTypeaheadModel" "count" "I") ∈ lw_all := lw_g (lw_at lw_m1 211 rfl) rfl
theorem q239 : (Jvm.Cond.fieldLink "FuzzyTypeaheadModel" (19 : Nat) "FuzzyTypeaheadModel" "table" "[I") ∈ lw_all := lw_g (lw_at lw_m1 212 rfl) rfl
theorem q240 : (Jvm.Cond.lays "FuzzyTypeaheadModel" "FuzzyTypeaheadModel" "limit" "I") ∈ lw_all := lw_g (lw_at lw_m1 213 rfl) rfl
theorem q241 : (Jvm.Cond.soleField "FuzzyTypeaheadModel" "limit") ∈ lw_all := lw_g (lw_at lw_m1 214 rfl) rfl
theorem q242 : (Jvm.Cond.laysFinal "FuzzyTypeaheadModel" "FuzzyTypeaheadModel" "letters" "[I") ∈ lw_all := lw_g (lw_at lw_m1 215 rfl) rfl
theorem q243 : (Jvm.Cond.soleField "FuzzyTypeaheadModel" "letters") ∈ lw_all := lw_g (lw_at lw_m1 216 rfl) rfl
theorem q244 : (Jvm.Cond.laysFinal "FuzzyTypeaheadModel" "FuzzyTypeaheadModel" "lengths" "[I") ∈ lw_all := lw_g (lw_at lw_m1 217 rfl) rfl
theorem q245 : (Jvm.Cond.soleField "FuzzyTypeaheadModel" "lengths") ∈ lw_all := lw_g (lw_at lw_m1 218 rfl) rfl
theorem q246 : (Jvm.Cond.laysFinal "FuzzyTypeaheadModel" "FuzzyTypeaheadModel" "weights" "[I") ∈ lw_all := lw_g (lw_at lw_m1 219 rfl) rfl
theorem q247 : (Jvm.Cond.soleField "FuzzyTypeaheadModel" "weights") ∈ lw_all := lw_g (lw_at lw_m1 220 rfl) rfl
theorem q248 : (Jvm.Cond.lays "FuzzyTypeaheadModel" "FuzzyTypeaheadModel" "count" "I") ∈ lw_all := lw_g (lw_at lw_m1 221 rfl) rfl
theorem q249 : (Jvm.Cond.soleField "FuzzyTypeaheadModel" "count") ∈ lw_all := lw_g (lw_at lw_m1 222 rfl) rfl
theorem q250 : (Jvm.Cond.laysFinal "FuzzyTypeaheadModel" "FuzzyTypeaheadModel" "table" "[I") ∈ lw_all := lw_g (lw_at lw_m1 223 rfl) rfl
theorem q251 : (Jvm.Cond.soleField "FuzzyTypeaheadModel" "table") ∈ lw_all := lw_g (lw_at lw_m1 224 rfl) rfl
theorem q252 : (Jvm.Cond.superclass "FuzzyTypeaheadModel" "java/lang/Object") ∈ lw_all := lw_g (lw_at lw_m1 225 rfl) rfl
theorem q254 : (Jvm.Cond.instanceMethod ({ cls := "FuzzyTypeaheadModel", name := "draft", desc := "(I)I" } : Jvm.MethodName)) ∈ lw_all := lw_g (lw_at lw_m1 227 rfl) rfl
theorem q255 : (Jvm.Cond.selects "FuzzyTypeaheadModel" ({ cls := "FuzzyTypeaheadModel", name := "draft", desc := "(I)I" } : Jvm.MethodName) ({ cls := "FuzzyTypeaheadModel", name := "draft", desc := "(I)I" } : Jvm.MethodName)) ∈ lw_all := lw_g (lw_at lw_m1 228 rfl) rfl
theorem q256 : (Jvm.Cond.code ({ cls := "FuzzyTypeaheadModel", name := "draft", desc := "(I)I" } : Jvm.MethodName) prog_3_method_3_code (2 : Nat) (Option.some Jvm.ClassFile.FieldType.int)) ∈ lw_all := lw_g (lw_at lw_m1 229 rfl) rfl
theorem q257 : (Jvm.Cond.methodLink "FuzzyTypeaheadModel" (26 : Nat) ({ cls := "FuzzyTypeaheadModel", name := "append", desc := "(II)I" } : Jvm.MethodName)) ∈ lw_all := lw_g (lw_at lw_m1 230 rfl) rfl
theorem q258 : (Jvm.Cond.privateMethod ({ cls := "FuzzyTypeaheadModel", name := "append", desc := "(II)I" } : Jvm.MethodName)) ∈ lw_tbl := lw_at lw_m1 231 rfl
theorem q259 : (Jvm.Cond.instanceMethod ({ cls := "FuzzyTypeaheadModel", name := "append", desc := "(II)I" } : Jvm.MethodName)) ∈ lw_all := lw_g (lw_at lw_m1 232 rfl) rfl
theorem q260 : (Jvm.Cond.code ({ cls := "FuzzyTypeaheadModel", name := "append", desc := "(II)I" } : Jvm.MethodName) prog_3_method_2_code (3 : Nat) (Option.some Jvm.ClassFile.FieldType.int)) ∈ lw_all := lw_g (lw_at lw_m1 233 rfl) rfl
theorem q262 : (Jvm.Cond.instanceMethod ({ cls := "FuzzyTypeaheadModel", name := "scrap", desc := "()V" } : Jvm.MethodName)) ∈ lw_all := lw_g (lw_at lw_m1 235 rfl) rfl
theorem q263 : (Jvm.Cond.selects "FuzzyTypeaheadModel" ({ cls := "FuzzyTypeaheadModel", name := "scrap", desc := "()V" } : Jvm.MethodName) ({ cls := "FuzzyTypeaheadModel", name := "scrap", desc := "()V" } : Jvm.MethodName)) ∈ lw_all := lw_g (lw_at lw_m1 236 rfl) rfl
theorem q264 : (Jvm.Cond.code ({ cls := "FuzzyTypeaheadModel", name := "scrap", desc := "()V" } : Jvm.MethodName) prog_3_method_4_code (1 : Nat) (Option.none : Option Jvm.ClassFile.FieldType)) ∈ lw_all := lw_g (lw_at lw_m1 237 rfl) rfl
theorem q266 : (Jvm.Cond.instanceMethod ({ cls := "FuzzyTypeaheadModel", name := "add", desc := "(I)I" } : Jvm.MethodName)) ∈ lw_all := lw_g (lw_at lw_m1 239 rfl) rfl
theorem q267 : (Jvm.Cond.selects "FuzzyTypeaheadModel" ({ cls := "FuzzyTypeaheadModel", name := "add", desc := "(I)I" } : Jvm.MethodName) ({ cls := "FuzzyTypeaheadModel", name := "add", desc := "(I)I" } : Jvm.MethodName)) ∈ lw_all := lw_g (lw_at lw_m2 0 rfl) rfl
theorem q268 : (Jvm.Cond.code ({ cls := "FuzzyTypeaheadModel", name := "add", desc := "(I)I" } : Jvm.MethodName) prog_3_method_8_code (3 : Nat) (Option.some Jvm.ClassFile.FieldType.int)) ∈ lw_all := lw_g (lw_at lw_m2 1 rfl) rfl
theorem q269 : (Jvm.Cond.methodLink "FuzzyTypeaheadModel" (37 : Nat) ({ cls := "FuzzyTypeaheadModel", name := "drafted", desc := "()I" } : Jvm.MethodName)) ∈ lw_all := lw_g (lw_at lw_m2 2 rfl) rfl
theorem q270 : (Jvm.Cond.privateMethod ({ cls := "FuzzyTypeaheadModel", name := "drafted", desc := "()I" } : Jvm.MethodName)) ∈ lw_tbl := lw_at lw_m2 3 rfl
theorem q271 : (Jvm.Cond.instanceMethod ({ cls := "FuzzyTypeaheadModel", name := "drafted", desc := "()I" } : Jvm.MethodName)) ∈ lw_all := lw_g (lw_at lw_m2 4 rfl) rfl
theorem q272 : (Jvm.Cond.code ({ cls := "FuzzyTypeaheadModel", name := "drafted", desc := "()I" } : Jvm.MethodName) prog_3_method_6_code (2 : Nat) (Option.some Jvm.ClassFile.FieldType.int)) ∈ lw_all := lw_g (lw_at lw_m2 5 rfl) rfl
theorem q273 : (Jvm.Cond.methodLink "FuzzyTypeaheadModel" (33 : Nat) ({ cls := "FuzzyTypeaheadModel", name := "begins", desc := "(II)Z" } : Jvm.MethodName)) ∈ lw_all := lw_g (lw_at lw_m2 6 rfl) rfl
theorem q274 : (Jvm.Cond.privateMethod ({ cls := "FuzzyTypeaheadModel", name := "begins", desc := "(II)Z" } : Jvm.MethodName)) ∈ lw_tbl := lw_at lw_m2 7 rfl
theorem q275 : (Jvm.Cond.instanceMethod ({ cls := "FuzzyTypeaheadModel", name := "begins", desc := "(II)Z" } : Jvm.MethodName)) ∈ lw_all := lw_g (lw_at lw_m2 8 rfl) rfl
theorem q276 : (Jvm.Cond.code ({ cls := "FuzzyTypeaheadModel", name := "begins", desc := "(II)Z" } : Jvm.MethodName) prog_3_method_5_code (4 : Nat) (Option.some Jvm.ClassFile.FieldType.boolean)) ∈ lw_all := lw_g (lw_at lw_m2 9 rfl) rfl
theorem q277 : (Jvm.Cond.methodLink "FuzzyTypeaheadModel" (41 : Nat) ({ cls := "FuzzyTypeaheadModel", name := "copy", desc := "(II)V" } : Jvm.MethodName)) ∈ lw_all := lw_g (lw_at lw_m2 10 rfl) rfl
theorem q278 : (Jvm.Cond.privateMethod ({ cls := "FuzzyTypeaheadModel", name := "copy", desc := "(II)V" } : Jvm.MethodName)) ∈ lw_tbl := lw_at lw_m2 11 rfl
theorem q279 : (Jvm.Cond.instanceMethod ({ cls := "FuzzyTypeaheadModel", name := "copy", desc := "(II)V" } : Jvm.MethodName)) ∈ lw_all := lw_g (lw_at lw_m2 12 rfl) rfl
theorem q280 : (Jvm.Cond.code ({ cls := "FuzzyTypeaheadModel", name := "copy", desc := "(II)V" } : Jvm.MethodName) prog_3_method_7_code (4 : Nat) (Option.none : Option Jvm.ClassFile.FieldType)) ∈ lw_all := lw_g (lw_at lw_m2 13 rfl) rfl
theorem q282 : (Jvm.Cond.instanceMethod ({ cls := "FuzzyTypeaheadModel", name := "remove", desc := "()I" } : Jvm.MethodName)) ∈ lw_all := lw_g (lw_at lw_m2 15 rfl) rfl
theorem q283 : (Jvm.Cond.selects "FuzzyTypeaheadModel" ({ cls := "FuzzyTypeaheadModel", name := "remove", desc := "()I" } : Jvm.MethodName) ({ cls := "FuzzyTypeaheadModel", name := "remove", desc := "()I" } : Jvm.MethodName)) ∈ lw_all := lw_g (lw_at lw_m2 16 rfl) rfl
theorem q284 : (Jvm.Cond.code ({ cls := "FuzzyTypeaheadModel", name := "remove", desc := "()I" } : Jvm.MethodName) prog_3_method_9_code (3 : Nat) (Option.some Jvm.ClassFile.FieldType.int)) ∈ lw_all := lw_g (lw_at lw_m2 17 rfl) rfl
theorem q286 : (Jvm.Cond.instanceMethod ({ cls := "FuzzyTypeaheadModel", name := "weight", desc := "()I" } : Jvm.MethodName)) ∈ lw_all := lw_g (lw_at lw_m2 19 rfl) rfl
theorem q287 : (Jvm.Cond.selects "FuzzyTypeaheadModel" ({ cls := "FuzzyTypeaheadModel", name := "weight", desc := "()I" } : Jvm.MethodName) ({ cls := "FuzzyTypeaheadModel", name := "weight", desc := "()I" } : Jvm.MethodName)) ∈ lw_all := lw_g (lw_at lw_m2 20 rfl) rfl
theorem q288 : (Jvm.Cond.code ({ cls := "FuzzyTypeaheadModel", name := "weight", desc := "()I" } : Jvm.MethodName) prog_3_method_10_code (2 : Nat) (Option.some Jvm.ClassFile.FieldType.int)) ∈ lw_all := lw_g (lw_at lw_m2 21 rfl) rfl
theorem q290 : (Jvm.Cond.instanceMethod ({ cls := "FuzzyTypeaheadModel", name := "words", desc := "()I" } : Jvm.MethodName)) ∈ lw_all := lw_g (lw_at lw_m2 23 rfl) rfl
theorem q291 : (Jvm.Cond.selects "FuzzyTypeaheadModel" ({ cls := "FuzzyTypeaheadModel", name := "words", desc := "()I" } : Jvm.MethodName) ({ cls := "FuzzyTypeaheadModel", name := "words", desc := "()I" } : Jvm.MethodName)) ∈ lw_all := lw_g (lw_at lw_m2 24 rfl) rfl
theorem q292 : (Jvm.Cond.code ({ cls := "FuzzyTypeaheadModel", name := "words", desc := "()I" } : Jvm.MethodName) prog_3_method_11_code (1 : Nat) (Option.some Jvm.ClassFile.FieldType.int)) ∈ lw_all := lw_g (lw_at lw_m2 25 rfl) rfl
theorem q294 : (Jvm.Cond.instanceMethod ({ cls := "FuzzyTypeaheadModel", name := "type", desc := "(I)I" } : Jvm.MethodName)) ∈ lw_all := lw_g (lw_at lw_m2 27 rfl) rfl
theorem q295 : (Jvm.Cond.selects "FuzzyTypeaheadModel" ({ cls := "FuzzyTypeaheadModel", name := "type", desc := "(I)I" } : Jvm.MethodName) ({ cls := "FuzzyTypeaheadModel", name := "type", desc := "(I)I" } : Jvm.MethodName)) ∈ lw_all := lw_g (lw_at lw_m2 28 rfl) rfl
theorem q296 : (Jvm.Cond.code ({ cls := "FuzzyTypeaheadModel", name := "type", desc := "(I)I" } : Jvm.MethodName) prog_3_method_12_code (2 : Nat) (Option.some Jvm.ClassFile.FieldType.int)) ∈ lw_all := lw_g (lw_at lw_m2 29 rfl) rfl
theorem q298 : (Jvm.Cond.instanceMethod ({ cls := "FuzzyTypeaheadModel", name := "backspace", desc := "()I" } : Jvm.MethodName)) ∈ lw_all := lw_g (lw_at lw_m2 31 rfl) rfl
theorem q299 : (Jvm.Cond.selects "FuzzyTypeaheadModel" ({ cls := "FuzzyTypeaheadModel", name := "backspace", desc := "()I" } : Jvm.MethodName) ({ cls := "FuzzyTypeaheadModel", name := "backspace", desc := "()I" } : Jvm.MethodName)) ∈ lw_all := lw_g (lw_at lw_m2 32 rfl) rfl
theorem q300 : (Jvm.Cond.code ({ cls := "FuzzyTypeaheadModel", name := "backspace", desc := "()I" } : Jvm.MethodName) prog_3_method_13_code (1 : Nat) (Option.some Jvm.ClassFile.FieldType.int)) ∈ lw_all := lw_g (lw_at lw_m2 33 rfl) rfl
theorem q302 : (Jvm.Cond.instanceMethod ({ cls := "FuzzyTypeaheadModel", name := "reset", desc := "()V" } : Jvm.MethodName)) ∈ lw_all := lw_g (lw_at lw_m2 35 rfl) rfl
theorem q303 : (Jvm.Cond.selects "FuzzyTypeaheadModel" ({ cls := "FuzzyTypeaheadModel", name := "reset", desc := "()V" } : Jvm.MethodName) ({ cls := "FuzzyTypeaheadModel", name := "reset", desc := "()V" } : Jvm.MethodName)) ∈ lw_all := lw_g (lw_at lw_m2 36 rfl) rfl
theorem q304 : (Jvm.Cond.code ({ cls := "FuzzyTypeaheadModel", name := "reset", desc := "()V" } : Jvm.MethodName) prog_3_method_14_code (1 : Nat) (Option.none : Option Jvm.ClassFile.FieldType)) ∈ lw_all := lw_g (lw_at lw_m2 37 rfl) rfl
theorem q306 : (Jvm.Cond.instanceMethod ({ cls := "FuzzyTypeaheadModel", name := "length", desc := "()I" } : Jvm.MethodName)) ∈ lw_all := lw_g (lw_at lw_m2 39 rfl) rfl
theorem q307 : (Jvm.Cond.selects "FuzzyTypeaheadModel" ({ cls := "FuzzyTypeaheadModel", name := "length", desc := "()I" } : Jvm.MethodName) ({ cls := "FuzzyTypeaheadModel", name := "length", desc := "()I" } : Jvm.MethodName)) ∈ lw_all := lw_g (lw_at lw_m2 40 rfl) rfl
theorem q308 : (Jvm.Cond.code ({ cls := "FuzzyTypeaheadModel", name := "length", desc := "()I" } : Jvm.MethodName) prog_3_method_15_code (1 : Nat) (Option.some Jvm.ClassFile.FieldType.int)) ∈ lw_all := lw_g (lw_at lw_m2 41 rfl) rfl
theorem q310 : (Jvm.Cond.instanceMethod ({ cls := "FuzzyTypeaheadModel", name := "offered", desc := "()I" } : Jvm.MethodName)) ∈ lw_all := lw_g (lw_at lw_m2 43 rfl) rfl
theorem q311 : (Jvm.Cond.selects "FuzzyTypeaheadModel" ({ cls := "FuzzyTypeaheadModel", name := "offered", desc := "()I" } : Jvm.MethodName) ({ cls := "FuzzyTypeaheadModel", name := "offered", desc := "()I" } : Jvm.MethodName)) ∈ lw_all := lw_g (lw_at lw_m2 44 rfl) rfl
theorem q312 : (Jvm.Cond.code ({ cls := "FuzzyTypeaheadModel", name := "offered", desc := "()I" } : Jvm.MethodName) prog_3_method_22_code (3 : Nat) (Option.some Jvm.ClassFile.FieldType.int)) ∈ lw_all := lw_g (lw_at lw_m2 45 rfl) rfl
theorem q313 : (Jvm.Cond.methodLink "FuzzyTypeaheadModel" (59 : Nat) ({ cls := "FuzzyTypeaheadModel", name := "isOffered", desc := "(I)Z" } : Jvm.MethodName)) ∈ lw_all := lw_g (lw_at lw_m2 46 rfl) rfl
theorem q314 : (Jvm.Cond.privateMethod ({ cls := "FuzzyTypeaheadModel", name := "isOffered", desc := "(I)Z" } : Jvm.MethodName)) ∈ lw_tbl := lw_at lw_m2 47 rfl
theorem q315 : (Jvm.Cond.instanceMethod ({ cls := "FuzzyTypeaheadModel", name := "isOffered", desc := "(I)Z" } : Jvm.MethodName)) ∈ lw_all := lw_g (lw_at lw_m2 48 rfl) rfl
theorem q316 : (Jvm.Cond.code ({ cls := "FuzzyTypeaheadModel", name := "isOffered", desc := "(I)Z" } : Jvm.MethodName) prog_3_method_19_code (2 : Nat) (Option.some Jvm.ClassFile.FieldType.boolean)) ∈ lw_all := lw_g (lw_at lw_m2 49 rfl) rfl
theorem q317 : (Jvm.Cond.methodLink "FuzzyTypeaheadModel" (52 : Nat) ({ cls := "FuzzyTypeaheadModel", name := "reach", desc := "(I)I" } : Jvm.MethodName)) ∈ lw_all := lw_g (lw_at lw_m2 50 rfl) rfl
theorem q318 : (Jvm.Cond.privateMethod ({ cls := "FuzzyTypeaheadModel", name := "reach", desc := "(I)I" } : Jvm.MethodName)) ∈ lw_tbl := lw_at lw_m2 51 rfl
theorem q319 : (Jvm.Cond.instanceMethod ({ cls := "FuzzyTypeaheadModel", name := "reach", desc := "(I)I" } : Jvm.MethodName)) ∈ lw_all := lw_g (lw_at lw_m2 52 rfl) rfl
theorem q320 : (Jvm.Cond.code ({ cls := "FuzzyTypeaheadModel", name := "reach", desc := "(I)I" } : Jvm.MethodName) prog_3_method_18_code (4 : Nat) (Option.some Jvm.ClassFile.FieldType.int)) ∈ lw_all := lw_g (lw_at lw_m2 53 rfl) rfl
theorem q321 : (Jvm.Cond.methodLink "FuzzyTypeaheadModel" (48 : Nat) ({ cls := "FuzzyTypeaheadModel", name := "fill", desc := "(I)V" } : Jvm.MethodName)) ∈ lw_all := lw_g (lw_at lw_m2 54 rfl) rfl
theorem q322 : (Jvm.Cond.privateMethod ({ cls := "FuzzyTypeaheadModel", name := "fill", desc := "(I)V" } : Jvm.MethodName)) ∈ lw_tbl := lw_at lw_m2 55 rfl
theorem q323 : (Jvm.Cond.instanceMethod ({ cls := "FuzzyTypeaheadModel", name := "fill", desc := "(I)V" } : Jvm.MethodName)) ∈ lw_all := lw_g (lw_at lw_m2 56 rfl) rfl
theorem q324 : (Jvm.Cond.code ({ cls := "FuzzyTypeaheadModel", name := "fill", desc := "(I)V" } : Jvm.MethodName) prog_3_method_17_code (8 : Nat) (Option.none : Option Jvm.ClassFile.FieldType)) ∈ lw_all := lw_g (lw_at lw_m2 57 rfl) rfl
theorem q325 : (Jvm.Cond.methodLink "FuzzyTypeaheadModel" (45 : Nat) ({ cls := "FuzzyTypeaheadModel", name := "least", desc := "(II)I" } : Jvm.MethodName)) ∈ lw_all := lw_g (lw_at lw_m2 58 rfl) rfl
theorem q326 : (Jvm.Cond.privateMethod ({ cls := "FuzzyTypeaheadModel", name := "least", desc := "(II)I" } : Jvm.MethodName)) ∈ lw_tbl := lw_at lw_m2 59 rfl
theorem q327 : (Jvm.Cond.instanceMethod ({ cls := "FuzzyTypeaheadModel", name := "least", desc := "(II)I" } : Jvm.MethodName)) ∈ lw_all := lw_g (lw_at lw_m2 60 rfl) rfl
theorem q328 : (Jvm.Cond.code ({ cls := "FuzzyTypeaheadModel", name := "least", desc := "(II)I" } : Jvm.MethodName) prog_3_method_16_code (3 : Nat) (Option.some Jvm.ClassFile.FieldType.int)) ∈ lw_all := lw_g (lw_at lw_m2 61 rfl) rfl
theorem q330 : (Jvm.Cond.instanceMethod ({ cls := "FuzzyTypeaheadModel", name := "offer", desc := "(I)I" } : Jvm.MethodName)) ∈ lw_all := lw_g (lw_at lw_m2 63 rfl) rfl
theorem q331 : (Jvm.Cond.selects "FuzzyTypeaheadModel" ({ cls := "FuzzyTypeaheadModel", name := "offer", desc := "(I)I" } : Jvm.MethodName) ({ cls := "FuzzyTypeaheadModel", name := "offer", desc := "(I)I" } : Jvm.MethodName)) ∈ lw_all := lw_g (lw_at lw_m2 64 rfl) rfl
theorem q332 : (Jvm.Cond.code ({ cls := "FuzzyTypeaheadModel", name := "offer", desc := "(I)I" } : Jvm.MethodName) prog_3_method_25_code (5 : Nat) (Option.some Jvm.ClassFile.FieldType.int)) ∈ lw_all := lw_g (lw_at lw_m2 65 rfl) rfl
theorem q333 : (Jvm.Cond.methodLink "FuzzyTypeaheadModel" (69 : Nat) ({ cls := "FuzzyTypeaheadModel", name := "wordAt", desc := "(I)I" } : Jvm.MethodName)) ∈ lw_all := lw_g (lw_at lw_m2 66 rfl) rfl
theorem q334 : (Jvm.Cond.privateMethod ({ cls := "FuzzyTypeaheadModel", name := "wordAt", desc := "(I)I" } : Jvm.MethodName)) ∈ lw_tbl := lw_at lw_m2 67 rfl
theorem q335 : (Jvm.Cond.instanceMethod ({ cls := "FuzzyTypeaheadModel", name := "wordAt", desc := "(I)I" } : Jvm.MethodName)) ∈ lw_all := lw_g (lw_at lw_m2 68 rfl) rfl
theorem q336 : (Jvm.Cond.code ({ cls := "FuzzyTypeaheadModel", name := "wordAt", desc := "(I)I" } : Jvm.MethodName) prog_3_method_24_code (3 : Nat) (Option.some Jvm.ClassFile.FieldType.int)) ∈ lw_all := lw_g (lw_at lw_m2 69 rfl) rfl
theorem q337 : (Jvm.Cond.methodLink "FuzzyTypeaheadModel" (66 : Nat) ({ cls := "FuzzyTypeaheadModel", name := "rankOf", desc := "(I)I" } : Jvm.MethodName)) ∈ lw_all := lw_g (lw_at lw_m2 70 rfl) rfl
theorem q338 : (Jvm.Cond.privateMethod ({ cls := "FuzzyTypeaheadModel", name := "rankOf", desc := "(I)I" } : Jvm.MethodName)) ∈ lw_tbl := lw_at lw_m2 71 rfl
theorem q339 : (Jvm.Cond.instanceMethod ({ cls := "FuzzyTypeaheadModel", name := "rankOf", desc := "(I)I" } : Jvm.MethodName)) ∈ lw_all := lw_g (lw_at lw_m2 72 rfl) rfl
theorem q340 : (Jvm.Cond.code ({ cls := "FuzzyTypeaheadModel", name := "rankOf", desc := "(I)I" } : Jvm.MethodName) prog_3_method_23_code (4 : Nat) (Option.some Jvm.ClassFile.FieldType.int)) ∈ lw_all := lw_g (lw_at lw_m2 73 rfl) rfl
theorem q341 : (Jvm.Cond.methodLink "FuzzyTypeaheadModel" (63 : Nat) ({ cls := "FuzzyTypeaheadModel", name := "ranksBefore", desc := "(II)Z" } : Jvm.MethodName)) ∈ lw_all := lw_g (lw_at lw_m2 74 rfl) rfl
theorem q342 : (Jvm.Cond.privateMethod ({ cls := "FuzzyTypeaheadModel", name := "ranksBefore", desc := "(II)Z" } : Jvm.MethodName)) ∈ lw_tbl := lw_at lw_m2 75 rfl
theorem q343 : (Jvm.Cond.instanceMethod ({ cls := "FuzzyTypeaheadModel", name := "ranksBefore", desc := "(II)Z" } : Jvm.MethodName)) ∈ lw_all := lw_g (lw_at lw_m2 76 rfl) rfl
theorem q344 : (Jvm.Cond.code ({ cls := "FuzzyTypeaheadModel", name := "ranksBefore", desc := "(II)Z" } : Jvm.MethodName) prog_3_method_21_code (5 : Nat) (Option.some Jvm.ClassFile.FieldType.boolean)) ∈ lw_all := lw_g (lw_at lw_m2 77 rfl) rfl
theorem q345 : (Jvm.Cond.methodLink "FuzzyTypeaheadModel" (56 : Nat) ({ cls := "FuzzyTypeaheadModel", name := "before", desc := "(II)Z" } : Jvm.MethodName)) ∈ lw_all := lw_g (lw_at lw_m2 78 rfl) rfl
theorem q346 : (Jvm.Cond.privateMethod ({ cls := "FuzzyTypeaheadModel", name := "before", desc := "(II)Z" } : Jvm.MethodName)) ∈ lw_tbl := lw_at lw_m2 79 rfl
theorem q347 : (Jvm.Cond.instanceMethod ({ cls := "FuzzyTypeaheadModel", name := "before", desc := "(II)Z" } : Jvm.MethodName)) ∈ lw_all := lw_g (lw_at lw_m2 80 rfl) rfl
theorem q348 : (Jvm.Cond.code ({ cls := "FuzzyTypeaheadModel", name := "before", desc := "(II)Z" } : Jvm.MethodName) prog_3_method_20_code (4 : Nat) (Option.some Jvm.ClassFile.FieldType.boolean)) ∈ lw_all := lw_g (lw_at lw_m2 81 rfl) rfl
theorem q350 : (Jvm.Cond.instanceMethod ({ cls := "FuzzyTypeaheadModel", name := "distance", desc := "(I)I" } : Jvm.MethodName)) ∈ lw_all := lw_g (lw_at lw_m2 83 rfl) rfl
theorem q351 : (Jvm.Cond.selects "FuzzyTypeaheadModel" ({ cls := "FuzzyTypeaheadModel", name := "distance", desc := "(I)I" } : Jvm.MethodName) ({ cls := "FuzzyTypeaheadModel", name := "distance", desc := "(I)I" } : Jvm.MethodName)) ∈ lw_all := lw_g (lw_at lw_m2 84 rfl) rfl
theorem q352 : (Jvm.Cond.code ({ cls := "FuzzyTypeaheadModel", name := "distance", desc := "(I)I" } : Jvm.MethodName) prog_3_method_26_code (3 : Nat) (Option.some Jvm.ClassFile.FieldType.int)) ∈ lw_all := lw_g (lw_at lw_m2 85 rfl) rfl
theorem q354 : (Jvm.Cond.instanceMethod ({ cls := "FuzzyTypeaheadModel", name := "weightAt", desc := "(I)I" } : Jvm.MethodName)) ∈ lw_all := lw_g (lw_at lw_m2 87 rfl) rfl
theorem q355 : (Jvm.Cond.selects "FuzzyTypeaheadModel" ({ cls := "FuzzyTypeaheadModel", name := "weightAt", desc := "(I)I" } : Jvm.MethodName) ({ cls := "FuzzyTypeaheadModel", name := "weightAt", desc := "(I)I" } : Jvm.MethodName)) ∈ lw_all := lw_g (lw_at lw_m2 88 rfl) rfl
theorem q356 : (Jvm.Cond.code ({ cls := "FuzzyTypeaheadModel", name := "weightAt", desc := "(I)I" } : Jvm.MethodName) prog_3_method_27_code (3 : Nat) (Option.some Jvm.ClassFile.FieldType.int)) ∈ lw_all := lw_g (lw_at lw_m2 89 rfl) rfl
theorem q358 : (Jvm.Cond.instanceMethod ({ cls := "FuzzyTypeaheadModel", name := "nearest", desc := "()I" } : Jvm.MethodName)) ∈ lw_all := lw_g (lw_at lw_m2 91 rfl) rfl
theorem q359 : (Jvm.Cond.selects "FuzzyTypeaheadModel" ({ cls := "FuzzyTypeaheadModel", name := "nearest", desc := "()I" } : Jvm.MethodName) ({ cls := "FuzzyTypeaheadModel", name := "nearest", desc := "()I" } : Jvm.MethodName)) ∈ lw_all := lw_g (lw_at lw_m2 92 rfl) rfl
theorem q360 : (Jvm.Cond.code ({ cls := "FuzzyTypeaheadModel", name := "nearest", desc := "()I" } : Jvm.MethodName) prog_3_method_28_code (3 : Nat) (Option.some Jvm.ClassFile.FieldType.int)) ∈ lw_all := lw_g (lw_at lw_m2 93 rfl) rfl
theorem q362 : (Jvm.Cond.instanceMethod ({ cls := "FuzzyTypeaheadModel", name := "exact", desc := "()I" } : Jvm.MethodName)) ∈ lw_all := lw_g (lw_at lw_m2 95 rfl) rfl
theorem q363 : (Jvm.Cond.selects "FuzzyTypeaheadModel" ({ cls := "FuzzyTypeaheadModel", name := "exact", desc := "()I" } : Jvm.MethodName) ({ cls := "FuzzyTypeaheadModel", name := "exact", desc := "()I" } : Jvm.MethodName)) ∈ lw_all := lw_g (lw_at lw_m2 96 rfl) rfl
theorem q364 : (Jvm.Cond.code ({ cls := "FuzzyTypeaheadModel", name := "exact", desc := "()I" } : Jvm.MethodName) prog_3_method_29_code (3 : Nat) (Option.some Jvm.ClassFile.FieldType.int)) ∈ lw_all := lw_g (lw_at lw_m2 97 rfl) rfl
theorem q366 : (Jvm.Cond.instanceMethod ({ cls := "FuzzyTypeaheadModel", name := "continues", desc := "()I" } : Jvm.MethodName)) ∈ lw_all := lw_g (lw_at lw_m2 99 rfl) rfl
theorem q367 : (Jvm.Cond.selects "FuzzyTypeaheadModel" ({ cls := "FuzzyTypeaheadModel", name := "continues", desc := "()I" } : Jvm.MethodName) ({ cls := "FuzzyTypeaheadModel", name := "continues", desc := "()I" } : Jvm.MethodName)) ∈ lw_all := lw_g (lw_at lw_m2 100 rfl) rfl
theorem q368 : (Jvm.Cond.code ({ cls := "FuzzyTypeaheadModel", name := "continues", desc := "()I" } : Jvm.MethodName) prog_3_method_30_code (3 : Nat) (Option.some Jvm.ClassFile.FieldType.int)) ∈ lw_all := lw_g (lw_at lw_m2 101 rfl) rfl
theorem in_X2 : ∀ w ∈ wsX20, w ∈ lw_all := lw_in wsX20 [240, 242, 244, 246, 248, 250] (by decide +kernel) (by decide +kernel)
end
section
/-! THE LAYER XW: a method's state as pure data: S the fields' values (ints, arrays from Int to Int), L the locals, st the operand stack -/
set_option maxRecDepth 100000
abbrev XS : Type := (Nat → Int) × (Nat → Int → Int)
def iI (z : Int) : Int32 := Int32.ofInt z
theorem iI_add (a b : Int) : iI a + iI b = iI (a + b) := (Int32.ofInt_add a b).symm
theorem iI_sub (a b : Int) : iI a - iI b = iI (a - b) := (Int32.ofInt_sub a b).symm
theorem iI_mul (a b : Int) : iI a * iI b = iI (a * b) := (Int32.ofInt_mul a b).symm
theorem iI_toInt {z : Int} (h : -2147483648 ≤ z ∧ z ≤ 2147483647) : (iI z).toInt = z := Int32.toInt_ofInt_of_le (by omega) (by omega)
theorem iI_of (x : Int32) : iI x.toInt = x := Int32.ofInt_toInt x
theorem iI_rg (x : Int32) : -2147483648 ≤ x.toInt ∧ x.toInt ≤ 2147483647 := by
  have h1 := x.le_toInt
  have h2 := x.toInt_lt
  omega
theorem iI_0 : iI 0 = 0 := rfl
theorem iI_eq {a b : Int} (ha : -2147483648 ≤ a ∧ a ≤ 2147483647) (hb : -2147483648 ≤ b ∧ b ≤ 2147483647) : iI a = iI b ↔ a = b := by
  rw [← Int32.toInt_inj, iI_toInt ha, iI_toInt hb]
theorem iI_le {a b : Int} (ha : -2147483648 ≤ a ∧ a ≤ 2147483647) (hb : -2147483648 ≤ b ∧ b ≤ 2147483647) : iI a ≤ iI b ↔ a ≤ b := by
  rw [Int32.le_iff_toInt_le, iI_toInt ha, iI_toInt hb]
theorem iI_lt {a b : Int} (ha : -2147483648 ≤ a ∧ a ≤ 2147483647) (hb : -2147483648 ≤ b ∧ b ≤ 2147483647) : iI a < iI b ↔ a < b := by
  rw [Int32.lt_iff_toInt_lt, iI_toInt ha, iI_toInt hb]
theorem iI_in {i : Int} {n : Nat} (h : 0 ≤ i ∧ i < (n : Int)) (hn : n < 2147483648) : vp_in (iI i) n := by
  rw [vp_in_iff, iI_toInt (by omega)]
  omega
theorem iI_cl {i : Int} (h : 0 ≤ i ∧ i ≤ 2147483647) : (((iI i).toNatClampNeg : Nat) : Int) = i := by
  have e : (iI i).toNatClampNeg = (iI i).toInt.toNat := rfl
  rw [e, iI_toInt (by omega)]
  omega
/-- one place of an array; one place of the state -/
def fU (f : Int → Int) (i v : Int) : Int → Int := fun j => if j = i then v else f j
def sI (σ : XS) (k : Nat) (v : Int) : XS := (fun q => if q = k then v else σ.1 q, σ.2)
def sF (σ : XS) (k : Nat) (f : Int → Int) : XS := (σ.1, fun q => if q = k then f else σ.2 q)
def sA (σ : XS) (k : Nat) (i v : Int) : XS := sF σ k (fU (σ.2 k) i v)
theorem iI_upd {f : Int → Int} {i v : Int} (h : 0 ≤ i ∧ i ≤ 2147483647) : upd (fun j : Nat => iI (f (j : Int))) (iI i).toNatClampNeg (iI v) = fun j : Nat => iI (fU f i v (j : Int)) := by
  funext j
  have e := iI_cl h
  unfold upd fU
  by_cases hj : j = (iI i).toNatClampNeg
  · rw [if_pos hj, if_pos (by omega)]
  · rw [if_neg hj, if_neg (by omega)]
/-- the locals: a value a place, or nothing known -/
def lz (ls : Array Slot) (L : List (Option Value)) : Prop := ls.size = L.length ∧ lv_wf ls ∧ ∀ (i : Nat) (v : Value), L[i]? = some (some v) → ls[i]? = some (.val v) ∧ v.category = 1
def lzl (L : List (Option Value)) : List (Nat × Value) := (List.range L.length).filterMap (fun i => match L[i]? with
  | some (some v) => some (i, v)
  | _ => none)
theorem mem_lzl {L : List (Option Value)} {q : Nat × Value} : q ∈ lzl L ↔ L[q.1]? = some (some q.2) := by
  unfold lzl
  rw [List.mem_filterMap]
  constructor
  · rintro ⟨i, -, h⟩
    split at h
    · rename_i v hv
      cases h
      exact hv
    · cases h
  · intro h
    refine ⟨q.1, List.mem_range.mpr (List.getElem?_eq_some_iff.mp h).1, ?_⟩
    rw [h]
theorem lz_has {ls : Array Slot} {L : List (Option Value)} (h : lz ls L) : lv_has ls L.length (lzl L) := ⟨h.1, h.2.1, fun q hq => (h.2.2 q.1 q.2 (mem_lzl.mp hq)).1⟩
theorem lz_set {ls ls' : Array Slot} {L : List (Option Value)} {i : Nat} {v : Value} (hz : lz ls L) (hi : i < L.length) (hv : v.category = 1) (h : lv_has ls' L.length ((i, v) :: (lzl L).filter (fun q => !(q.1 == i) && !(q.1 + 1 == i && q.2.category == 2)))) : lz ls' (L.set i (some v)) := by
  refine ⟨by rw [List.length_set]; exact h.1, h.2.1, fun j u hj => ?_⟩
  by_cases e : j = i
  · subst e
    rw [List.getElem?_set_self hi] at hj
    cases hj
    exact ⟨h.2.2 (j, v) List.mem_cons_self, hv⟩
  · rw [List.getElem?_set_ne (Ne.symm e)] at hj
    have hc := (hz.2.2 j u hj).2
    refine ⟨h.2.2 (j, u) (List.mem_cons_of_mem _ (List.mem_filter.mpr ⟨mem_lzl.mpr hj, ?_⟩)), hc⟩
    simp [e, hc]
theorem lz_drop {ls : Array Slot} {L L' : List (Option Value)} (h : lz ls L) (hl : L'.length = L.length) (hs : ∀ (i : Nat) (v : Value), L'[i]? = some (some v) → L[i]? = some (some v)) : lz ls L' := ⟨by rw [hl]; exact h.1, h.2.1, fun i v hv => h.2.2 i v (hs i v hv)⟩
/-- fewer known locals, place by place -/
def lzle : List (Option Value) → List (Option Value) → Prop
  | [], [] => True
  | a :: l, b :: k => (b = none ∨ a = b) ∧ lzle l k
  | _, _ => False
theorem lzle_get : ∀ (L L' : List (Option Value)), lzle L L' → L'.length = L.length ∧ ∀ (i : Nat) (v : Value), L'[i]? = some (some v) → L[i]? = some (some v)
  | [], [], _ => ⟨rfl, fun i v h => h⟩
  | a :: l, b :: k, h => by
    obtain ⟨h1, h2⟩ := lzle_get l k h.2
    refine ⟨by simp [h1], fun i v hv => ?_⟩
    cases i with
    | zero =>
      simp only [List.getElem?_cons_zero, Option.some.injEq] at hv ⊢
      rcases h.1 with e | e
      · rw [e] at hv; cases hv
      · rw [e]; exact hv
    | succ i =>
      simp only [List.getElem?_cons_succ] at hv ⊢
      exact h2 i v hv
  | [], _ :: _, h => absurd h id
  | _ :: _, [], h => absurd h id
section XR
variable {S : Type} {p : Program} {l : Launch} {e : Env} {R : Room} {s : State} {m : MethodId} {args : Array Value} {below : List Frame} {meth : Method} {c : Code} {cells slots : Nat} {Q : State → Prop} {D : va_G} {cl : List vw_C} {A : Nat → Prop} {w : S → va_W} {cc : ByteArray} {nL : Nat} {own : String} {tys : List (ClassId × FieldType)} {σ : S} {L : List (Option Value)} {st : List Value} {pc : Nat}
/-- the machine at pc, with the state σ in its cells, the locals L, the stack st -/
def XW (p : Program) (l : Launch) (e : Env) (R : Room) (s : State) (m : MethodId) (args : Array Value) (below : List Frame) (meth : Method) (c : Code) (cells slots : Nat) (Q : State → Prop) (D : va_G) (cl : List vw_C) (A : Nat → Prop) (w : S → va_W) (σ : S) (L : List (Option Value)) (st : List Value) (pc : Nat) : Prop :=
  ∀ (H : Heap) (locs : List Loc) (ls : Array Slot), va_P D cl (w σ) H → va_D A (w σ) → va_S A s.heap H locs → lz ls L → W p l e R s m args below meth c H locs cells slots Q (F0 m pc ls st)
/-- what stays all through a method's walk -/
def XC (p : Program) (s : State) (m : MethodId) (args : Array Value) (meth : Method) (c : Code) (D : va_G) (cl : List vw_C) (A : Nat → Prop) (cc : ByteArray) (nL : Nat) (own : String) (tys : List (ClassId × FieldType)) : Prop :=
  p.tables.exec = Jvm.exec ∧ c.code = cc ∧ c.maxLocals = nL ∧ s.vm.findClass own = some m.cls ∧ (∀ w ∈ lw_all, w.before args s = true) ∧ va_K D cl tys s ∧ meth.locks = false ∧ ∀ q, s.heap.size ≤ q → A q
theorem x_weak {L' : List (Option Value)} (h : lzle L L') (kk : XW p l e R s m args below meth c cells slots Q D cl A w σ L' st pc) : XW p l e R s m args below meth c cells slots Q D cl A w σ L st pc :=
  fun H locs ls hP hD hS hz => kk H locs ls hP hD hS (lz_drop hz (lzle_get L L' h).1 (lzle_get L L' h).2)
theorem x_eq {σ' : S} (h : σ = σ') (kk : XW p l e R s m args below meth c cells slots Q D cl A w σ' L st pc) : XW p l e R s m args below meth c cells slots Q D cl A w σ L st pc := h ▸ kk

theorem x_iconst (hC : XC p s m args meth c D cl A cc nL own tys) {n : Int} (hd : decode cc pc = .ok (.iconst n, 1)) (kk : XW p l e R s m args below meth c cells slots Q D cl A w σ L (.int (iI n) :: st) (pc + 1)) : XW p l e R s m args below meth c cells slots Q D cl A w σ L st pc :=
  fun H locs ls hP hD hS hz => lv_iconst hC.1 hC.2.1 hd rfl (kk H locs ls hP hD hS hz)

theorem x_bipush (hC : XC p s m args meth c D cl A cc nL own tys) {n : Int} (hd : decode cc pc = .ok (.bipush n, 2)) (hv : (Int8.ofInt n).toInt32 = iI n) (kk : XW p l e R s m args below meth c cells slots Q D cl A w σ L (.int (iI n) :: st) (pc + 2)) : XW p l e R s m args below meth c cells slots Q D cl A w σ L st pc :=
  fun H locs ls hP hD hS hz => lv_bipush hC.1 hC.2.1 hd hv (kk H locs ls hP hD hS hz)

theorem x_sipush (hC : XC p s m args meth c D cl A cc nL own tys) {n : Int} (hd : decode cc pc = .ok (.sipush n, 3)) (hv : (Int16.ofInt n).toInt32 = iI n) (kk : XW p l e R s m args below meth c cells slots Q D cl A w σ L (.int (iI n) :: st) (pc + 3)) : XW p l e R s m args below meth c cells slots Q D cl A w σ L st pc :=
  fun H locs ls hP hD hS hz => lv_sipush hC.1 hC.2.1 hd hv (kk H locs ls hP hD hS hz)

theorem x_iload_n (hC : XC p s m args meth c D cl A cc nL own tys) {k : Fin 4} {i : Nat} {x : Int32} (hd : decode cc pc = .ok (.iload_n k, 1)) (hi : (k : Nat) = i) (hl : L[i]? = some (some (.int x))) (kk : XW p l e R s m args below meth c cells slots Q D cl A w σ L (.int x :: st) (pc + 1)) : XW p l e R s m args below meth c cells slots Q D cl A w σ L st pc :=
  fun H locs ls hP hD hS hz => lv_iload_n hC.1 hC.2.1 hd hi (hz.2.2 _ _ hl).1 (kk H locs ls hP hD hS hz)

theorem x_iload (hC : XC p s m args meth c D cl A cc nL own tys) {i : Nat} {x : Int32} (hd : decode cc pc = .ok (.iload i, 2)) (hl : L[i]? = some (some (.int x))) (kk : XW p l e R s m args below meth c cells slots Q D cl A w σ L (.int x :: st) (pc + 2)) : XW p l e R s m args below meth c cells slots Q D cl A w σ L st pc :=
  fun H locs ls hP hD hS hz => lv_iload hC.1 hC.2.1 hd (hz.2.2 _ _ hl).1 (kk H locs ls hP hD hS hz)

theorem x_aload_n (hC : XC p s m args meth c D cl A cc nL own tys) {k : Fin 4} {i : Nat} {x : Nat} (hd : decode cc pc = .ok (.aload_n k, 1)) (hi : (k : Nat) = i) (hl : L[i]? = some (some (.ref x))) (kk : XW p l e R s m args below meth c cells slots Q D cl A w σ L (.ref x :: st) (pc + 1)) : XW p l e R s m args below meth c cells slots Q D cl A w σ L st pc :=
  fun H locs ls hP hD hS hz => lv_aload_n hC.1 hC.2.1 hd hi (hz.2.2 _ _ hl).1 (kk H locs ls hP hD hS hz)

theorem x_aload (hC : XC p s m args meth c D cl A cc nL own tys) {i : Nat} {x : Nat} (hd : decode cc pc = .ok (.aload i, 2)) (hl : L[i]? = some (some (.ref x))) (kk : XW p l e R s m args below meth c cells slots Q D cl A w σ L (.ref x :: st) (pc + 2)) : XW p l e R s m args below meth c cells slots Q D cl A w σ L st pc :=
  fun H locs ls hP hD hS hz => lv_aload hC.1 hC.2.1 hd (hz.2.2 _ _ hl).1 (kk H locs ls hP hD hS hz)

theorem x_istore_n (hC : XC p s m args meth c D cl A cc nL own tys) {k : Fin 4} {i : Nat} {x : Int32} {L' : List (Option Value)} (hd : decode cc pc = .ok (.istore_n k, 1)) (hi : (k : Nat) = i) (hn : i < L.length) (hl : L.set i (some (.int x)) = L') (kk : XW p l e R s m args below meth c cells slots Q D cl A w σ L' st (pc + 1)) : XW p l e R s m args below meth c cells slots Q D cl A w σ L (.int x :: st) pc :=
  fun H locs ls hP hD hS hz => lv_istore_n hC.1 hC.2.1 hd hi (lz_has hz) hn rfl (fun ls' hl' => kk H locs ls' hP hD hS (hl ▸ lz_set hz hn rfl hl'))

theorem x_istore (hC : XC p s m args meth c D cl A cc nL own tys) {i : Nat} {x : Int32} {L' : List (Option Value)} (hd : decode cc pc = .ok (.istore i, 2)) (hn : i < L.length) (hl : L.set i (some (.int x)) = L') (kk : XW p l e R s m args below meth c cells slots Q D cl A w σ L' st (pc + 2)) : XW p l e R s m args below meth c cells slots Q D cl A w σ L (.int x :: st) pc :=
  fun H locs ls hP hD hS hz => lv_istore hC.1 hC.2.1 hd (lz_has hz) hn rfl (fun ls' hl' => kk H locs ls' hP hD hS (hl ▸ lz_set hz hn rfl hl'))

theorem x_astore_n (hC : XC p s m args meth c D cl A cc nL own tys) {k : Fin 4} {i : Nat} {x : Nat} {L' : List (Option Value)} (hd : decode cc pc = .ok (.astore_n k, 1)) (hi : (k : Nat) = i) (hn : i < L.length) (hl : L.set i (some (.ref x)) = L') (kk : XW p l e R s m args below meth c cells slots Q D cl A w σ L' st (pc + 1)) : XW p l e R s m args below meth c cells slots Q D cl A w σ L (.ref x :: st) pc :=
  fun H locs ls hP hD hS hz => lv_astore_n hC.1 hC.2.1 hd hi (lz_has hz) hn rfl (fun ls' hl' => kk H locs ls' hP hD hS (hl ▸ lz_set hz hn rfl hl'))

theorem x_astore (hC : XC p s m args meth c D cl A cc nL own tys) {i : Nat} {x : Nat} {L' : List (Option Value)} (hd : decode cc pc = .ok (.astore i, 2)) (hn : i < L.length) (hl : L.set i (some (.ref x)) = L') (kk : XW p l e R s m args below meth c cells slots Q D cl A w σ L' st (pc + 2)) : XW p l e R s m args below meth c cells slots Q D cl A w σ L (.ref x :: st) pc :=
  fun H locs ls hP hD hS hz => lv_astore hC.1 hC.2.1 hd (lz_has hz) hn rfl (fun ls' hl' => kk H locs ls' hP hD hS (hl ▸ lz_set hz hn rfl hl'))

theorem lzl_at {L : List (Option Value)} {i : Nat} {v : Value} (h : L[i]? = some (some v)) : ∃ k : Nat, (lzl L)[k]? = some (i, v) := List.getElem?_of_mem (mem_lzl.mpr h)
theorem x_iinc (hC : XC p s m args meth c D cl A cc nL own tys) {i : Nat} {n : Int} {a : Int} {L' : List (Option Value)} (hd : decode cc pc = .ok (.iinc i n, 3)) (hi : L[i]? = some (some (.int (iI a)))) (hl : L.set i (some (.int (iI (a + n)))) = L') (kk : XW p l e R s m args below meth c cells slots Q D cl A w σ L' st (pc + 3)) : XW p l e R s m args below meth c cells slots Q D cl A w σ L st pc := by
  intro H locs ls hP hD hS hz
  obtain ⟨k, hk⟩ := lzl_at hi
  have hn : i < L.length := (List.getElem?_eq_some_iff.mp hi).1
  exact lv_iinc (v := iI (a + n)) hC.1 hC.2.1 hd (lz_has hz) hk (iI_add a n) hn rfl (fun ls' hl' => kk H locs ls' hP hD hS (hl ▸ lz_set hz hn rfl hl'))

theorem x_iadd (hC : XC p s m args meth c D cl A cc nL own tys) {a b : Int} (hd : decode cc pc = .ok (.iadd, 1)) (kk : XW p l e R s m args below meth c cells slots Q D cl A w σ L (.int (iI (a + b)) :: st) (pc + 1)) : XW p l e R s m args below meth c cells slots Q D cl A w σ L (.int (iI b) :: .int (iI a) :: st) pc := by
  intro H locs ls hP hD hS hz
  refine lv_iadd hC.1 hC.2.1 hd ?_
  rw [iI_add]
  exact kk H locs ls hP hD hS hz

theorem x_isub (hC : XC p s m args meth c D cl A cc nL own tys) {a b : Int} (hd : decode cc pc = .ok (.isub, 1)) (kk : XW p l e R s m args below meth c cells slots Q D cl A w σ L (.int (iI (a - b)) :: st) (pc + 1)) : XW p l e R s m args below meth c cells slots Q D cl A w σ L (.int (iI b) :: .int (iI a) :: st) pc := by
  intro H locs ls hP hD hS hz
  refine lv_isub hC.1 hC.2.1 hd ?_
  rw [iI_sub]
  exact kk H locs ls hP hD hS hz

theorem x_imul (hC : XC p s m args meth c D cl A cc nL own tys) {a b : Int} (hd : decode cc pc = .ok (.imul, 1)) (kk : XW p l e R s m args below meth c cells slots Q D cl A w σ L (.int (iI (a * b)) :: st) (pc + 1)) : XW p l e R s m args below meth c cells slots Q D cl A w σ L (.int (iI b) :: .int (iI a) :: st) pc := by
  intro H locs ls hP hD hS hz
  refine lv_imul hC.1 hC.2.1 hd ?_
  rw [iI_mul]
  exact kk H locs ls hP hD hS hz

theorem x_ishl (hC : XC p s m args meth c D cl A cc nL own tys) {x y : Int32} {v : Int} (hd : decode cc pc = .ok (.ishl, 1)) (hv : x <<< (y &&& 31) = iI v) (kk : XW p l e R s m args below meth c cells slots Q D cl A w σ L (.int (iI v) :: st) (pc + 1)) : XW p l e R s m args below meth c cells slots Q D cl A w σ L (.int y :: .int x :: st) pc := by
  intro H locs ls hP hD hS hz
  refine lv_ishl hC.1 hC.2.1 hd ?_
  rw [hv]
  exact kk H locs ls hP hD hS hz
theorem x_ior (hC : XC p s m args meth c D cl A cc nL own tys) {x y : Int32} {v : Int} (hd : decode cc pc = .ok (.ior, 1)) (hv : x ||| y = iI v) (kk : XW p l e R s m args below meth c cells slots Q D cl A w σ L (.int (iI v) :: st) (pc + 1)) : XW p l e R s m args below meth c cells slots Q D cl A w σ L (.int y :: .int x :: st) pc := by
  intro H locs ls hP hD hS hz
  refine lv_ior hC.1 hC.2.1 hd ?_
  rw [hv]
  exact kk H locs ls hP hD hS hz
theorem x_iand (hC : XC p s m args meth c D cl A cc nL own tys) {x y : Int32} {v : Int} (hd : decode cc pc = .ok (.iand, 1)) (hv : x &&& y = iI v) (kk : XW p l e R s m args below meth c cells slots Q D cl A w σ L (.int (iI v) :: st) (pc + 1)) : XW p l e R s m args below meth c cells slots Q D cl A w σ L (.int y :: .int x :: st) pc := by
  intro H locs ls hP hD hS hz
  refine lv_iand hC.1 hC.2.1 hd ?_
  rw [hv]
  exact kk H locs ls hP hD hS hz
theorem x_dup (hC : XC p s m args meth c D cl A cc nL own tys) {va : Value} (hd : decode cc pc = .ok (.dup, 1)) (hva : va.category = 1) (kk : XW p l e R s m args below meth c cells slots Q D cl A w σ L (va :: va :: st) (pc + 1)) : XW p l e R s m args below meth c cells slots Q D cl A w σ L (va :: st) pc :=
  fun H locs ls hP hD hS hz => lv_dup hC.1 hC.2.1 hd hva (kk H locs ls hP hD hS hz)
theorem x_dup2 (hC : XC p s m args meth c D cl A cc nL own tys) {va vb : Value} (hd : decode cc pc = .ok (.dup2, 1)) (hva : va.category = 1) (hvb : vb.category = 1) (kk : XW p l e R s m args below meth c cells slots Q D cl A w σ L (va :: vb :: va :: vb :: st) (pc + 1)) : XW p l e R s m args below meth c cells slots Q D cl A w σ L (va :: vb :: st) pc :=
  fun H locs ls hP hD hS hz => lv_dup2_11 hC.1 hC.2.1 hd hva hvb (kk H locs ls hP hD hS hz)
theorem x_goto (hC : XC p s m args meth c D cl A cc nL own tys) {off : Int} (tgt : Nat) (hd : decode cc pc = .ok (.goto off, 3)) (ht : (pc : Int) + off = (tgt : Int)) (kk : XW p l e R s m args below meth c cells slots Q D cl A w σ L st tgt) : XW p l e R s m args below meth c cells slots Q D cl A w σ L st pc :=
  fun H locs ls hP hD hS hz => lv_goto hC.1 hC.2.1 hd ht (kk H locs ls hP hD hS hz)

theorem x_icmp_eq (hC : XC p s m args meth c D cl A cc nL own tys) {a b : Int} {off : Int} (tgt : Nat) (hd : decode cc pc = .ok (.if_icmp .eq off, 3)) (ht : (pc : Int) + off = (tgt : Int)) (ha : -2147483648 ≤ a ∧ a ≤ 2147483647) (hb : -2147483648 ≤ b ∧ b ≤ 2147483647) (kt : a = b → XW p l e R s m args below meth c cells slots Q D cl A w σ L st tgt) (kf : ¬ a = b → XW p l e R s m args below meth c cells slots Q D cl A w σ L st (pc + 3)) : XW p l e R s m args below meth c cells slots Q D cl A w σ L (.int (iI b) :: .int (iI a) :: st) pc :=
  fun H locs ls hP hD hS hz => lv_icmp_eq hC.1 hC.2.1 hd ht (fun h => kt ((iI_eq ha hb).mp h) H locs ls hP hD hS hz) (fun h => kf (fun z => h ((iI_eq ha hb).mpr z)) H locs ls hP hD hS hz)

theorem x_if_eq (hC : XC p s m args meth c D cl A cc nL own tys) {a : Int} {off : Int} (tgt : Nat) (hd : decode cc pc = .ok (.ifCond .eq off, 3)) (ht : (pc : Int) + off = (tgt : Int)) (ha : -2147483648 ≤ a ∧ a ≤ 2147483647) (kt : a = 0 → XW p l e R s m args below meth c cells slots Q D cl A w σ L st tgt) (kf : ¬ a = 0 → XW p l e R s m args below meth c cells slots Q D cl A w σ L st (pc + 3)) : XW p l e R s m args below meth c cells slots Q D cl A w σ L (.int (iI a) :: st) pc :=
  fun H locs ls hP hD hS hz => lv_if_eq hC.1 hC.2.1 hd ht (fun h => kt ((iI_eq ha (b := 0) (by decide)).mp h) H locs ls hP hD hS hz) (fun h => kf (fun z => h ((iI_eq ha (b := 0) (by decide)).mpr z)) H locs ls hP hD hS hz)

theorem x_icmp_ne (hC : XC p s m args meth c D cl A cc nL own tys) {a b : Int} {off : Int} (tgt : Nat) (hd : decode cc pc = .ok (.if_icmp .ne off, 3)) (ht : (pc : Int) + off = (tgt : Int)) (ha : -2147483648 ≤ a ∧ a ≤ 2147483647) (hb : -2147483648 ≤ b ∧ b ≤ 2147483647) (kt : ¬ a = b → XW p l e R s m args below meth c cells slots Q D cl A w σ L st tgt) (kf : a = b → XW p l e R s m args below meth c cells slots Q D cl A w σ L st (pc + 3)) : XW p l e R s m args below meth c cells slots Q D cl A w σ L (.int (iI b) :: .int (iI a) :: st) pc :=
  fun H locs ls hP hD hS hz => lv_icmp_ne hC.1 hC.2.1 hd ht (fun h => kt (fun z => h ((iI_eq ha hb).mpr z)) H locs ls hP hD hS hz) (fun h => kf ((iI_eq ha hb).mp h) H locs ls hP hD hS hz)

theorem x_if_ne (hC : XC p s m args meth c D cl A cc nL own tys) {a : Int} {off : Int} (tgt : Nat) (hd : decode cc pc = .ok (.ifCond .ne off, 3)) (ht : (pc : Int) + off = (tgt : Int)) (ha : -2147483648 ≤ a ∧ a ≤ 2147483647) (kt : ¬ a = 0 → XW p l e R s m args below meth c cells slots Q D cl A w σ L st tgt) (kf : a = 0 → XW p l e R s m args below meth c cells slots Q D cl A w σ L st (pc + 3)) : XW p l e R s m args below meth c cells slots Q D cl A w σ L (.int (iI a) :: st) pc :=
  fun H locs ls hP hD hS hz => lv_if_ne hC.1 hC.2.1 hd ht (fun h => kt (fun z => h ((iI_eq ha (b := 0) (by decide)).mpr z)) H locs ls hP hD hS hz) (fun h => kf ((iI_eq ha (b := 0) (by decide)).mp h) H locs ls hP hD hS hz)

theorem x_icmp_lt (hC : XC p s m args meth c D cl A cc nL own tys) {a b : Int} {off : Int} (tgt : Nat) (hd : decode cc pc = .ok (.if_icmp .lt off, 3)) (ht : (pc : Int) + off = (tgt : Int)) (ha : -2147483648 ≤ a ∧ a ≤ 2147483647) (hb : -2147483648 ≤ b ∧ b ≤ 2147483647) (kt : a < b → XW p l e R s m args below meth c cells slots Q D cl A w σ L st tgt) (kf : ¬ a < b → XW p l e R s m args below meth c cells slots Q D cl A w σ L st (pc + 3)) : XW p l e R s m args below meth c cells slots Q D cl A w σ L (.int (iI b) :: .int (iI a) :: st) pc :=
  fun H locs ls hP hD hS hz => lv_icmp_lt hC.1 hC.2.1 hd ht (fun h => kt ((iI_lt ha hb).mp h) H locs ls hP hD hS hz) (fun h => kf (fun z => h ((iI_lt ha hb).mpr z)) H locs ls hP hD hS hz)

theorem x_if_lt (hC : XC p s m args meth c D cl A cc nL own tys) {a : Int} {off : Int} (tgt : Nat) (hd : decode cc pc = .ok (.ifCond .lt off, 3)) (ht : (pc : Int) + off = (tgt : Int)) (ha : -2147483648 ≤ a ∧ a ≤ 2147483647) (kt : a < 0 → XW p l e R s m args below meth c cells slots Q D cl A w σ L st tgt) (kf : ¬ a < 0 → XW p l e R s m args below meth c cells slots Q D cl A w σ L st (pc + 3)) : XW p l e R s m args below meth c cells slots Q D cl A w σ L (.int (iI a) :: st) pc :=
  fun H locs ls hP hD hS hz => lv_if_lt hC.1 hC.2.1 hd ht (fun h => kt ((iI_lt ha (b := 0) (by decide)).mp h) H locs ls hP hD hS hz) (fun h => kf (fun z => h ((iI_lt ha (b := 0) (by decide)).mpr z)) H locs ls hP hD hS hz)

theorem x_icmp_ge (hC : XC p s m args meth c D cl A cc nL own tys) {a b : Int} {off : Int} (tgt : Nat) (hd : decode cc pc = .ok (.if_icmp .ge off, 3)) (ht : (pc : Int) + off = (tgt : Int)) (ha : -2147483648 ≤ a ∧ a ≤ 2147483647) (hb : -2147483648 ≤ b ∧ b ≤ 2147483647) (kt : b ≤ a → XW p l e R s m args below meth c cells slots Q D cl A w σ L st tgt) (kf : ¬ b ≤ a → XW p l e R s m args below meth c cells slots Q D cl A w σ L st (pc + 3)) : XW p l e R s m args below meth c cells slots Q D cl A w σ L (.int (iI b) :: .int (iI a) :: st) pc :=
  fun H locs ls hP hD hS hz => lv_icmp_ge hC.1 hC.2.1 hd ht (fun h => kt ((iI_le hb ha).mp h) H locs ls hP hD hS hz) (fun h => kf (fun z => h ((iI_le hb ha).mpr z)) H locs ls hP hD hS hz)

theorem x_if_ge (hC : XC p s m args meth c D cl A cc nL own tys) {a : Int} {off : Int} (tgt : Nat) (hd : decode cc pc = .ok (.ifCond .ge off, 3)) (ht : (pc : Int) + off = (tgt : Int)) (ha : -2147483648 ≤ a ∧ a ≤ 2147483647) (kt : 0 ≤ a → XW p l e R s m args below meth c cells slots Q D cl A w σ L st tgt) (kf : ¬ 0 ≤ a → XW p l e R s m args below meth c cells slots Q D cl A w σ L st (pc + 3)) : XW p l e R s m args below meth c cells slots Q D cl A w σ L (.int (iI a) :: st) pc :=
  fun H locs ls hP hD hS hz => lv_if_ge hC.1 hC.2.1 hd ht (fun h => kt ((iI_le (a := 0) (by decide) ha).mp h) H locs ls hP hD hS hz) (fun h => kf (fun z => h ((iI_le (a := 0) (by decide) ha).mpr z)) H locs ls hP hD hS hz)

theorem x_icmp_gt (hC : XC p s m args meth c D cl A cc nL own tys) {a b : Int} {off : Int} (tgt : Nat) (hd : decode cc pc = .ok (.if_icmp .gt off, 3)) (ht : (pc : Int) + off = (tgt : Int)) (ha : -2147483648 ≤ a ∧ a ≤ 2147483647) (hb : -2147483648 ≤ b ∧ b ≤ 2147483647) (kt : b < a → XW p l e R s m args below meth c cells slots Q D cl A w σ L st tgt) (kf : ¬ b < a → XW p l e R s m args below meth c cells slots Q D cl A w σ L st (pc + 3)) : XW p l e R s m args below meth c cells slots Q D cl A w σ L (.int (iI b) :: .int (iI a) :: st) pc :=
  fun H locs ls hP hD hS hz => lv_icmp_gt hC.1 hC.2.1 hd ht (fun h => kt ((iI_lt hb ha).mp h) H locs ls hP hD hS hz) (fun h => kf (fun z => h ((iI_lt hb ha).mpr z)) H locs ls hP hD hS hz)

theorem x_if_gt (hC : XC p s m args meth c D cl A cc nL own tys) {a : Int} {off : Int} (tgt : Nat) (hd : decode cc pc = .ok (.ifCond .gt off, 3)) (ht : (pc : Int) + off = (tgt : Int)) (ha : -2147483648 ≤ a ∧ a ≤ 2147483647) (kt : 0 < a → XW p l e R s m args below meth c cells slots Q D cl A w σ L st tgt) (kf : ¬ 0 < a → XW p l e R s m args below meth c cells slots Q D cl A w σ L st (pc + 3)) : XW p l e R s m args below meth c cells slots Q D cl A w σ L (.int (iI a) :: st) pc :=
  fun H locs ls hP hD hS hz => lv_if_gt hC.1 hC.2.1 hd ht (fun h => kt ((iI_lt (a := 0) (by decide) ha).mp h) H locs ls hP hD hS hz) (fun h => kf (fun z => h ((iI_lt (a := 0) (by decide) ha).mpr z)) H locs ls hP hD hS hz)

theorem x_icmp_le (hC : XC p s m args meth c D cl A cc nL own tys) {a b : Int} {off : Int} (tgt : Nat) (hd : decode cc pc = .ok (.if_icmp .le off, 3)) (ht : (pc : Int) + off = (tgt : Int)) (ha : -2147483648 ≤ a ∧ a ≤ 2147483647) (hb : -2147483648 ≤ b ∧ b ≤ 2147483647) (kt : a ≤ b → XW p l e R s m args below meth c cells slots Q D cl A w σ L st tgt) (kf : ¬ a ≤ b → XW p l e R s m args below meth c cells slots Q D cl A w σ L st (pc + 3)) : XW p l e R s m args below meth c cells slots Q D cl A w σ L (.int (iI b) :: .int (iI a) :: st) pc :=
  fun H locs ls hP hD hS hz => lv_icmp_le hC.1 hC.2.1 hd ht (fun h => kt ((iI_le ha hb).mp h) H locs ls hP hD hS hz) (fun h => kf (fun z => h ((iI_le ha hb).mpr z)) H locs ls hP hD hS hz)

theorem x_if_le (hC : XC p s m args meth c D cl A cc nL own tys) {a : Int} {off : Int} (tgt : Nat) (hd : decode cc pc = .ok (.ifCond .le off, 3)) (ht : (pc : Int) + off = (tgt : Int)) (ha : -2147483648 ≤ a ∧ a ≤ 2147483647) (kt : a ≤ 0 → XW p l e R s m args below meth c cells slots Q D cl A w σ L st tgt) (kf : ¬ a ≤ 0 → XW p l e R s m args below meth c cells slots Q D cl A w σ L st (pc + 3)) : XW p l e R s m args below meth c cells slots Q D cl A w σ L (.int (iI a) :: st) pc :=
  fun H locs ls hP hD hS hz => lv_if_le hC.1 hC.2.1 hd ht (fun h => kt ((iI_le ha (b := 0) (by decide)).mp h) H locs ls hP hD hS hz) (fun h => kf (fun z => h ((iI_le ha (b := 0) (by decide)).mpr z)) H locs ls hP hD hS hz)

/-- a field of an object of the world -/
theorem x_get (hC : XC p s m args meth c D cl A cc nL own tys) {ref C : String} {T : u_T} {N ci index a : Nat} (hin : ∀ w ∈ u_ws C T N, w ∈ lw_all) (q0 : Nat) {fs : List Value} (he : (w σ)[q0]? = some (a, .inr (ci, fs))) (hc : cl[ci]? = some (C, T, N)) (k : Nat) (hk : k < N) (hlink : Cond.fieldLink own index ref (T k).2.1 (T k).2.2.1 ∈ lw_all) (hr : (T k).1 = ref) {v : Value} (hv : fs[k]? = some v) (hd : decode cc pc = .ok (.getfield index, 3)) (kk : XW p l e R s m args below meth c cells slots Q D cl A w σ L (v :: st) (pc + 3)) : XW p l e R s m args below meth c cells slots Q D cl A w σ L (.ref a :: st) pc :=
  fun H locs ls hP hD hS hz => va_get hC.1 hC.2.1 hC.2.2.2.2.1 hin hC.2.2.2.1 hC.2.2.2.2.2.1 hP q0 he hc k hk (hC.2.2.2.2.1 _ hlink) (fun x h => by rw [← hr]; exact h) hv hd (kk H locs ls hP hD hS hz)
theorem x_put (hC : XC p s m args meth c D cl A cc nL own tys) {ref C : String} {T : u_T} {N ci index a : Nat} (hin : ∀ w ∈ u_ws C T N, w ∈ lw_all) (ty0 : Nat → FieldType) (hty : ∀ k, k < N → parseFieldDescriptor (T k).2.2.1 = some (ty0 k)) (hnm : ∀ a, a < N → ∀ b, b < N → a ≠ b → (T a).2.1 ≠ (T b).2.1) (q0 : Nat) {fs : List Value} (he : (w σ)[q0]? = some (a, .inr (ci, fs))) (hc : cl[ci]? = some (C, T, N)) (k : Nat) (hk : k < N) (hlink : Cond.fieldLink own index ref (T k).2.1 (T k).2.2.1 ∈ lw_all) (hr : (T k).1 = ref) (hfin : (T k).2.2.2 = false) {v : Value} (htk : ty0 k = .int) (hn : narrow .int v = v) (hfit : fits .int v = true) (hl : k < fs.length) {σ' : S} (hw : (w σ).set q0 (a, .inr (ci, fs.set k v)) = w σ') (hd : decode cc pc = .ok (.putfield index, 3)) (kk : XW p l e R s m args below meth c cells slots Q D cl A w σ' L st (pc + 3)) : XW p l e R s m args below meth c cells slots Q D cl A w σ L (v :: .ref a :: st) pc :=
  fun H locs ls hP hD hS hz => va_put hC.1 hC.2.1 hC.2.2.2.2.1 hin ty0 hty hnm hC.2.2.2.1 hC.2.2.2.2.2.1 hP hD hS q0 he hc k hk (hC.2.2.2.2.1 _ hlink) (fun x h => by rw [← hr]; exact h) hfin (by rw [hty k hk, htk]) hn hfit hl hd (fun H1 locs1 hP1 hD1 hS1 => kk H1 locs1 ls (hw ▸ hP1) (hw ▸ hD1) hS1 hz)
theorem x_ald (hC : XC p s m args meth c D cl A cc nL own tys) {a : Nat} (q0 t0 : Nat) {cA : ClassId} {n : Nat} {f : Int → Int} (ha : (w σ)[q0]? = some (a, .inl (cA, n, .inl (fun j : Nat => iI (f (j : Int)))))) (ht : tys[t0]? = some (cA, .int)) (hn : n < 2147483648) {i : Int} (hi : 0 ≤ i ∧ i < (n : Int)) (hd : decode cc pc = .ok (.iaload, 1)) (kk : XW p l e R s m args below meth c cells slots Q D cl A w σ L (.int (iI (f i)) :: st) (pc + 1)) : XW p l e R s m args below meth c cells slots Q D cl A w σ L (.int (iI i) :: .ref a :: st) pc := by
  intro H locs ls hP hD hS hz
  refine va_iald hC.1 hC.2.1 hC.2.2.2.2.2.1 hP q0 t0 ha ht (iI_in hi hn) hd ?_
  show W _ _ _ _ _ _ _ _ _ _ _ _ _ _ _ (F0 _ _ _ (.int (iI (f (((iI i).toNatClampNeg : Nat) : Int))) :: _))
  rw [iI_cl (by omega)]
  exact kk H locs ls hP hD hS hz
theorem x_ast (hC : XC p s m args meth c D cl A cc nL own tys) {a : Nat} (q0 t0 : Nat) {cA : ClassId} {n : Nat} {f : Int → Int} (ha : (w σ)[q0]? = some (a, .inl (cA, n, .inl (fun j : Nat => iI (f (j : Int)))))) (ht : tys[t0]? = some (cA, .int)) (hn : n < 2147483648) {i v : Int} (hi : 0 ≤ i ∧ i < (n : Int)) {σ' : S} (hw : (w σ).set q0 (a, .inl (cA, n, .inl (fun j : Nat => iI (fU f i v (j : Int))))) = w σ') (hd : decode cc pc = .ok (.iastore, 1)) (kk : XW p l e R s m args below meth c cells slots Q D cl A w σ' L st (pc + 1)) : XW p l e R s m args below meth c cells slots Q D cl A w σ L (.int (iI v) :: .int (iI i) :: .ref a :: st) pc := by
  intro H locs ls hP hD hS hz
  refine va_iast hC.1 hC.2.1 hC.2.2.2.2.2.1 hP hD hS q0 t0 ha ht (iI_in hi hn) hd (fun H1 locs1 hP1 hD1 hS1 => ?_)
  rw [iI_upd (by omega), hw] at hP1 hD1
  exact kk H1 locs1 ls hP1 hD1 hS1 hz

/-- the world behind a method that makes nothing -/
def BW (D : va_G) (cl : List vw_C) (tys : List (ClassId × FieldType)) (A : Nat → Prop) (w : S → va_W) (u : S) (t : State) : Prop := va_P D cl (w u) t.heap ∧ va_K D cl tys t ∧ va_D A (w u)
def PI (post : Int → S → Prop) : Int32 → S → Prop := fun r u => ∃ z : Int, r = iI z ∧ post z u
theorem x_iret (hC : XC p s m args meth c D cl A cc nL own tys) (hr : meth.sig.returnType = some .int) {post : Int → S → Prop} {z : Int} (hd : decode cc pc = .ok (.ireturn, 1)) (hp : post z σ) : XW p l e R s m args below meth c cells slots (MQ below (va_Qi (PI post) (BW D cl tys A w) A) args s cells slots A) D cl A w σ L [.int (iI z)] pc :=
  fun H locs ls hP hD hS hz => W.iret hC.1 hC.2.1 hr (fun t ht hW => ⟨⟨iI z, σ, rfl, ⟨z, rfl, hp⟩, by rw [ht]; exact hP, va_K.moved hW.alike hC.2.2.2.2.2.1, hD⟩, hS.F ht⟩) hS.2.2 hd hC.2.2.2.2.2.2.1
theorem x_zret (hC : XC p s m args meth c D cl A cc nL own tys) (hr : meth.sig.returnType = some .boolean) {post : Int → S → Prop} {z : Int} (hd : decode cc pc = .ok (.ireturn, 1)) (hz01 : z = 0 ∨ z = 1) (hp : post z σ) : XW p l e R s m args below meth c cells slots (MQ below (va_Qi (PI post) (BW D cl tys A w) A) args s cells slots A) D cl A w σ L [.int (iI z)] pc :=
  fun H locs ls hP hD hS hz => W.zret hC.1 hC.2.1 hr (by rcases hz01 with h | h <;> subst h <;> rfl) (fun t ht hW => ⟨⟨iI z, σ, rfl, ⟨z, rfl, hp⟩, by rw [ht]; exact hP, va_K.moved hW.alike hC.2.2.2.2.2.1, hD⟩, hS.F ht⟩) hS.2.2 hd hC.2.2.2.2.2.2.1
theorem x_vret (hC : XC p s m args meth c D cl A cc nL own tys) (hr : meth.sig.returnType = none) {post : S → Prop} (hd : decode cc pc = .ok (.return_, 1)) (hp : post σ) : XW p l e R s m args below meth c cells slots (MQ below (va_Qv post (BW D cl tys A w) A) args s cells slots A) D cl A w σ L [] pc :=
  fun H locs ls hP hD hS hz => W.vret hC.1 hC.2.1 hr (fun t ht hW => ⟨⟨σ, rfl, hp, by rw [ht]; exact hP, va_K.moved hW.alike hC.2.2.2.2.2.1, hD⟩, hS.F ht⟩) hS.2.2 hd hC.2.2.2.2.2.2.1
/-- a contract of a method of the world's object o that makes nothing: it answers z, the state is u: post z u -/
def MI (l : Launch) (y : MethodName) (ws : List Cond) (rm : Room) (w : S → va_W) (D : va_G) (cl : List vw_C) (tys : List (ClassId × FieldType)) (o : Nat) (As : List Value) (σ : S) (post : Int → S → Prop) : Prop :=
  ∀ sz : Nat, Met l y ws rm (va_Pc (.ref o :: As) (fun U => U.heap.size = sz ∧ va_P D cl (w σ) U.heap ∧ va_K D cl tys U ∧ va_D (fun _ => True) (w σ))) (va_Qi (PI post) (BW D cl tys (va_A (w σ) sz) w) (va_A (w σ) sz)) 0 0 (va_A (w σ) sz)
def MV (l : Launch) (y : MethodName) (ws : List Cond) (rm : Room) (w : S → va_W) (D : va_G) (cl : List vw_C) (tys : List (ClassId × FieldType)) (o : Nat) (As : List Value) (σ : S) (post : S → Prop) : Prop :=
  ∀ sz : Nat, Met l y ws rm (va_Pc (.ref o :: As) (fun U => U.heap.size = sz ∧ va_P D cl (w σ) U.heap ∧ va_K D cl tys U ∧ va_D (fun _ => True) (w σ))) (va_Qv post (BW D cl tys (va_A (w σ) sz) w) (va_A (w σ) sz)) 0 0 (va_A (w σ) sz)
theorem lz_entry (vs : List Value) (hc : ∀ v ∈ vs, v.category = 1) {n : Nat} (hn : vs.length ≤ n) : lz ((lg_sl vs ++ List.replicate (n - (lg_sl vs).length) Slot.unset).toArray) (vs.map some ++ List.replicate (n - vs.length) none) := by
  have e : lg_sl vs = vs.map Slot.val := by
    clear hn
    induction vs with
    | nil => rfl
    | cons v t ih =>
      have h1 : ¬ v.category = 2 := by rw [hc v List.mem_cons_self]; decide
      have h2 := ih (fun q hq => hc q (List.mem_cons_of_mem _ hq))
      unfold lg_sl at h2 ⊢
      rw [List.flatMap_cons, h2, if_neg h1]
      rfl
  have h := lv_entry vs (n := n) (by rw [e, List.length_map]; exact hn)
  refine ⟨by rw [h.1, List.length_append, List.length_map, List.length_replicate]; omega, h.2.1, fun i v hv => ?_⟩
  by_cases hi : i < vs.length
  · rw [List.getElem?_append_left (by rw [List.length_map]; exact hi), List.getElem?_map] at hv
    cases hg : vs[i]? with
    | none => rw [hg] at hv; cases hv
    | some u =>
      rw [hg] at hv
      simp only [Option.map_some, Option.some.injEq] at hv
      subst hv
      refine ⟨?_, hc u (List.mem_of_getElem? hg)⟩
      rw [List.getElem?_toArray, e, List.getElem?_append_left (by rw [List.length_map]; exact hi), List.getElem?_map, hg]
      rfl
  · rw [List.getElem?_append_right (by rw [List.length_map]; omega), List.getElem?_replicate] at hv
    split at hv <;> cases hv
theorem MI.of {y : MethodName} {ret : Option FieldType} {rm : Room} {o : Nat} {As : List Value} {post : Int → S → Prop} (hy : plainName y.cls = true) (ho : y.cls = own) (hc : ∀ v ∈ As, v.category = 1) (hn : As.length + 1 ≤ nL) (hL : (Value.ref o :: As).map some ++ List.replicate (nL - (Value.ref o :: As).length) none = L)
    (body : ∀ (p : Program) (e : Env) (s : State) (m : MethodId) (below : List Frame) (meth : Method) (c : Code) (A : Nat → Prop), XC p s m (Value.ref o :: As).toArray meth c D cl A cc nL own tys → meth.sig.returnType = ret →
      XW p l e rm s m (Value.ref o :: As).toArray below meth c 0 0 (MQ below (va_Qi (PI post) (BW D cl tys A w) A) (Value.ref o :: As).toArray s 0 0 A) D cl A w σ L [] 0) : MI l y (ws_ y cc nL ret) rm w D cl tys o As σ post := by
  intro sz
  refine Met.ofW (cc := cc) (maxL := nL) (ret := ret) hy rfl ?_
  intro p e s m args below meth c s₁ B hml hv
  obtain ⟨rfl, hsz, hP, hK, hD0⟩ := hv
  have hts := atoms_spec (ws := ws_ y cc nL ret) B.pre
  have hts : ∀ w ∈ lw_all, w.before _ s = true := fun w h => hts w (List.mem_cons_of_mem _ h)
  have hown : s.vm.findClass own = some m.cls := ho ▸ findClass_of_methodNamed B.named
  subst hsz
  have hD := hD0.self (sz := s.heap.size)
  have hz := lz_entry (Value.ref o :: As) (fun v hv => by
    rcases List.mem_cons.mp hv with h | h
    · rw [h]; rfl
    · exact hc v h) (n := nL) (by simpa using hn)
  rw [hL] at hz
  rw [lg_entry_eq]
  exact body p e s m below meth c _ ⟨B.exec, B.bytes, hml, hown, hts, hK, B.notSynchronized, fun q h => Or.inr h⟩ B.returns s.heap [] _ hP hD va_S.rf hz
theorem MV.of {y : MethodName} {rm : Room} {o : Nat} {As : List Value} {post : S → Prop} (hy : plainName y.cls = true) (ho : y.cls = own) (hc : ∀ v ∈ As, v.category = 1) (hn : As.length + 1 ≤ nL) (hL : (Value.ref o :: As).map some ++ List.replicate (nL - (Value.ref o :: As).length) none = L)
    (body : ∀ (p : Program) (e : Env) (s : State) (m : MethodId) (below : List Frame) (meth : Method) (c : Code) (A : Nat → Prop), XC p s m (Value.ref o :: As).toArray meth c D cl A cc nL own tys → meth.sig.returnType = none →
      XW p l e rm s m (Value.ref o :: As).toArray below meth c 0 0 (MQ below (va_Qv post (BW D cl tys A w) A) (Value.ref o :: As).toArray s 0 0 A) D cl A w σ L [] 0) : MV l y (ws_ y cc nL none) rm w D cl tys o As σ post := by
  intro sz
  refine Met.ofW (cc := cc) (maxL := nL) (ret := none) hy rfl ?_
  intro p e s m args below meth c s₁ B hml hv
  obtain ⟨rfl, hsz, hP, hK, hD0⟩ := hv
  have hts := atoms_spec (ws := ws_ y cc nL none) B.pre
  have hts : ∀ w ∈ lw_all, w.before _ s = true := fun w h => hts w (List.mem_cons_of_mem _ h)
  have hown : s.vm.findClass own = some m.cls := ho ▸ findClass_of_methodNamed B.named
  subst hsz
  have hD := hD0.self (sz := s.heap.size)
  have hz := lz_entry (Value.ref o :: As) (fun v hv => by
    rcases List.mem_cons.mp hv with h | h
    · rw [h]; rfl
    · exact hc v h) (n := nL) (by simpa using hn)
  rw [hL] at hz
  rw [lg_entry_eq]
  exact body p e s m below meth c _ ⟨B.exec, B.bytes, hml, hown, hts, hK, B.notSynchronized, fun q h => Or.inr h⟩ B.returns s.heap [] _ hP hD va_S.rf hz
theorem XC.free (hC : XC p s m args meth c D cl A cc nL own tys) {H : Heap} {locs : List Loc} {ws : va_W} (hD : va_D A ws) (hS : va_S A s.heap H locs) : ∀ q, va_A ws H.size q → A q := by
  intro q h
  rcases h with ⟨k, e, h⟩ | h
  · exact hD.2 k (q, e) h
  · exact hC.2.2.2.2.2.2.2 q (Nat.le_trans hS.1 h)

/-- a call of a method of the world's object, by its contract -/
theorem x_callI (hC : XC p s m args meth c D cl A cc nL own tys) {y : MethodName} {bytes : ByteArray} {maxL n idx o q0 ci N : Nat} {ret : Option FieldType} {rm : Room} {As fs : List Value} {st0 : List Value} {T : u_T} {post : Int → S → Prop} (hM : MI l y (ws_ y bytes maxL ret) rm w D cl tys o As σ post) (hG : GoodIn lw_all (wsV own idx y.cls y (ws_ y bytes maxL ret))) (hy : y.cls ≠ "java/lang/invoke/MethodHandle" ∧ y.cls ≠ "java/lang/invoke/VarHandle" ∧ (parseMethodDescriptor y.desc).map (fun d => d.parameters.length) = some n) (hrc : rm.cells = 0 ∧ rm.slots = 0) (hR : rm.frames + 1 ≤ R.frames ∧ 8 + (maxL + 11) + rm.locals ≤ R.locals) (hcs : cells ≤ R.cells ∧ slots ≤ R.slots) (hc : cl[ci]? = some (y.cls, T, N)) (he : (w σ)[q0]? = some (o, .inr (ci, fs))) (hn : As.length = n) (hst : st0 = As.reverse ++ .ref o :: st) (hcat : (st.map fun v => v.category).sum ≤ 8) (hLn : L.length = nL) (hd : decode cc pc = .ok (.invokevirtual idx, 3)) (kk : ∀ (z : Int) (u : S), post z u → XW p l e R s m args below meth c cells slots Q D cl A w u L (.int (iI z) :: st) (pc + 3)) : XW p l e R s m args below meth c cells slots Q D cl A w σ L st0 pc := by
  intro H locs ls hP hD hS hz
  have hFc := XC.free hC hD hS
  refine va_calli (va_runV (As := As) (rest := st) (nL := nL) ⟨hC.1, hC.2.1, hC.2.2.1, hC.2.2.2.1, hC.2.2.2.2.1⟩ (hM H.size) (cwV n hC.2.2.2.2.1 hG rfl hrc.1 hrc.2 ⟨rfl, hy⟩ hR) ⟨fun a U g mk q => by obtain ⟨q0, q1, qP, qK, qD⟩ := q; exact ⟨q0, q1, qP, va_K.moved (u := U) (U := U.calling g mk a) (Vm.Alike.refl U.vm) qK, qD⟩, va_recv hC.2.2.2.2.2.1 hP hc he, fun U hU hW => ⟨rfl, by rw [hU], by rw [hU]; exact hP, va_K.moved hW.alike hC.2.2.2.2.2.1, hD.weaken (fun _ _ _ _ => trivial)⟩⟩ rfl hn (hz.1.trans hLn) hst (lv_room hcat) hd ⟨hcs.1, hcs.2⟩) hS (fun q _ h => hFc q h) hFc (fun r u t H1 locs1 ht hvm hpost hB hz1 hk1 hS1 => ?_)
  obtain ⟨z, rfl, hp⟩ := hpost
  obtain ⟨hP1, hK1, hD1⟩ := hB
  rw [ht] at hP1
  exact kk z u hp H1 locs1 ls hP1 (hD1.weaken (fun _ _ _ h => hFc _ h)) hS1 hz
theorem x_callV (hC : XC p s m args meth c D cl A cc nL own tys) {y : MethodName} {bytes : ByteArray} {maxL n idx o q0 ci N : Nat} {ret : Option FieldType} {rm : Room} {As fs : List Value} {st0 : List Value} {T : u_T} {post : S → Prop} (hM : MV l y (ws_ y bytes maxL ret) rm w D cl tys o As σ post) (hG : GoodIn lw_all (wsV own idx y.cls y (ws_ y bytes maxL ret))) (hy : y.cls ≠ "java/lang/invoke/MethodHandle" ∧ y.cls ≠ "java/lang/invoke/VarHandle" ∧ (parseMethodDescriptor y.desc).map (fun d => d.parameters.length) = some n) (hrc : rm.cells = 0 ∧ rm.slots = 0) (hR : rm.frames + 1 ≤ R.frames ∧ 8 + (maxL + 11) + rm.locals ≤ R.locals) (hcs : cells ≤ R.cells ∧ slots ≤ R.slots) (hc : cl[ci]? = some (y.cls, T, N)) (he : (w σ)[q0]? = some (o, .inr (ci, fs))) (hn : As.length = n) (hst : st0 = As.reverse ++ .ref o :: st) (hcat : (st.map fun v => v.category).sum ≤ 8) (hLn : L.length = nL) (hd : decode cc pc = .ok (.invokevirtual idx, 3)) (kk : ∀ (u : S), post u → XW p l e R s m args below meth c cells slots Q D cl A w u L st (pc + 3)) : XW p l e R s m args below meth c cells slots Q D cl A w σ L st0 pc := by
  intro H locs ls hP hD hS hz
  have hFc := XC.free hC hD hS
  refine va_callv (va_runV (As := As) (rest := st) (nL := nL) ⟨hC.1, hC.2.1, hC.2.2.1, hC.2.2.2.1, hC.2.2.2.2.1⟩ (hM H.size) (cwV n hC.2.2.2.2.1 hG rfl hrc.1 hrc.2 ⟨rfl, hy⟩ hR) ⟨fun a U g mk q => by obtain ⟨q0, q1, qP, qK, qD⟩ := q; exact ⟨q0, q1, qP, va_K.moved (u := U) (U := U.calling g mk a) (Vm.Alike.refl U.vm) qK, qD⟩, va_recv hC.2.2.2.2.2.1 hP hc he, fun U hU hW => ⟨rfl, by rw [hU], by rw [hU]; exact hP, va_K.moved hW.alike hC.2.2.2.2.2.1, hD.weaken (fun _ _ _ _ => trivial)⟩⟩ rfl hn (hz.1.trans hLn) hst (lv_room hcat) hd ⟨hcs.1, hcs.2⟩) hS (fun q _ h => hFc q h) hFc (fun u t H1 locs1 ht hvm hpost hB hz1 hk1 hS1 => ?_)
  obtain ⟨hP1, hK1, hD1⟩ := hB
  rw [ht] at hP1
  exact kk u hpost H1 locs1 ls hP1 (hD1.weaken (fun _ _ _ h => hFc _ h)) hS1 hz
end XR
end
section
/-! THE WORLDS of the two classes: wX, wM; a row a field; what each call asks -/
set_option maxRecDepth 100000
abbrev vwCl : List vw_C := [(RX1, TX1, 19), (RX2, TX2, 6)]
/-- the cells of FuzzyTypeahead: its object at h 0, the array of its field k at h k -/
def wX (h : Nat → Nat) (cA : ClassId) (σ : XS) : va_W := [(h 0, .inr (0, [.int (iI (σ.1 0)), .int (iI (σ.1 1)), .ref (h 2), .int (iI (σ.1 3)), .ref (h 4), .int (iI (σ.1 5)), .ref (h 6), .ref (h 7), .ref (h 8), .ref (h 9), .ref (h 10), .ref (h 11), .ref (h 12), .ref (h 13), .int (iI (σ.1 14)), .ref (h 15), .ref (h 16), .ref (h 17), .ref (h 18)])), (h 2, .inl (cA, 6, .inl (fun j : Nat => iI (σ.2 2 (j : Int))))), (h 4, .inl (cA, 6, .inl (fun j : Nat => iI (σ.2 4 (j : Int))))), (h 6, .inl (cA, 80, .inl (fun j : Nat => iI (σ.2 6 (j : Int))))), (h 7, .inl (cA, 320, .inl (fun j : Nat => iI (σ.2 7 (j : Int))))), (h 8, .inl (cA, 80, .inl (fun j : Nat => iI (σ.2 8 (j : Int))))), (h 9, .inl (cA, 80, .inl (fun j : Nat => iI (σ.2 9 (j : Int))))), (h 10, .inl (cA, 80, .inl (fun j : Nat => iI (σ.2 10 (j : Int))))), (h 11, .inl (cA, 80, .inl (fun j : Nat => iI (σ.2 11 (j : Int))))), (h 12, .inl (cA, 80, .inl (fun j : Nat => iI (σ.2 12 (j : Int))))), (h 13, .inl (cA, 560, .inl (fun j : Nat => iI (σ.2 13 (j : Int))))), (h 15, .inl (cA, 12, .inl (fun j : Nat => iI (σ.2 15 (j : Int))))), (h 16, .inl (cA, 12, .inl (fun j : Nat => iI (σ.2 16 (j : Int))))), (h 17, .inl (cA, 80, .inl (fun j : Nat => iI (σ.2 17 (j : Int))))), (h 18, .inl (cA, 80, .inl (fun j : Nat => iI (σ.2 18 (j : Int)))))]
/-- the cells of FuzzyTypeaheadModel: its object at h 0, the array of its field k at h k -/
def wM (h : Nat → Nat) (cA : ClassId) (σ : XS) : va_W := [(h 0, .inr (1, [.int (iI (σ.1 0)), .ref (h 1), .ref (h 2), .ref (h 3), .int (iI (σ.1 4)), .ref (h 5)])), (h 1, .inl (cA, 84, .inl (fun j : Nat => iI (σ.2 1 (j : Int))))), (h 2, .inl (cA, 14, .inl (fun j : Nat => iI (σ.2 2 (j : Int))))), (h 3, .inl (cA, 12, .inl (fun j : Nat => iI (σ.2 3 (j : Int))))), (h 5, .inl (cA, 49, .inl (fun j : Nat => iI (σ.2 5 (j : Int)))))]
section XF
variable {p : Program} {l : Launch} {e : Env} {R : Room} {s : State} {m : MethodId} {args : Array Value} {below : List Frame} {meth : Method} {c : Code} {cells slots : Nat} {Q : State → Prop} {D : va_G} {A : Nat → Prop} {h : Nat → Nat} {cA : ClassId} {cc : ByteArray} {nL : Nat} {σ : XS} {L : List (Option Value)} {st : List Value} {pc : Nat}
/-- limit -/
theorem x1_g0 (hC : XC p s m args meth c D vwCl A cc nL RX1 [(cA, .int)]) (hd : decode cc pc = .ok (.getfield 52, 3)) (kk : XW p l e R s m args below meth c cells slots Q D vwCl A (wX h cA) σ L (.int (iI (σ.1 0)) :: st) (pc + 3)) : XW p l e R s m args below meth c cells slots Q D vwCl A (wX h cA) σ L (.ref (h 0) :: st) pc := x_get hC in_X1 0 rfl rfl 0 (by decide) q74 rfl rfl hd kk
/-- drafted -/
theorem x1_g1 (hC : XC p s m args meth c D vwCl A cc nL RX1 [(cA, .int)]) (hd : decode cc pc = .ok (.getfield 63, 3)) (kk : XW p l e R s m args below meth c cells slots Q D vwCl A (wX h cA) σ L (.int (iI (σ.1 1)) :: st) (pc + 3)) : XW p l e R s m args below meth c cells slots Q D vwCl A (wX h cA) σ L (.ref (h 0) :: st) pc := x_get hC in_X1 0 rfl rfl 1 (by decide) q75 rfl rfl hd kk
theorem x1_p1 (hC : XC p s m args meth c D vwCl A cc nL RX1 [(cA, .int)]) {v : Int} (hd : decode cc pc = .ok (.putfield 63, 3)) (kk : XW p l e R s m args below meth c cells slots Q D vwCl A (wX h cA) (sI σ 1 v) L st (pc + 3)) : XW p l e R s m args below meth c cells slots Q D vwCl A (wX h cA) σ L (.int (iI v) :: .ref (h 0) :: st) pc := x_put hC in_X1 tyX1 tyX1_ok nmX1 0 rfl rfl 1 (by decide) q75 rfl rfl rfl rfl rfl (by simp) rfl hd kk
/-- draft -/
theorem x1_g2 (hC : XC p s m args meth c D vwCl A cc nL RX1 [(cA, .int)]) (hd : decode cc pc = .ok (.getfield 7, 3)) (kk : XW p l e R s m args below meth c cells slots Q D vwCl A (wX h cA) σ L (.ref (h 2) :: st) (pc + 3)) : XW p l e R s m args below meth c cells slots Q D vwCl A (wX h cA) σ L (.ref (h 0) :: st) pc := x_get hC in_X1 0 rfl rfl 2 (by decide) q76 rfl rfl hd kk
theorem x1_l2 (hC : XC p s m args meth c D vwCl A cc nL RX1 [(cA, .int)]) {i : Int} (hi : 0 ≤ i ∧ i < 6) (hd : decode cc pc = .ok (.iaload, 1)) (kk : XW p l e R s m args below meth c cells slots Q D vwCl A (wX h cA) σ L (.int (iI (σ.2 2 i)) :: st) (pc + 1)) : XW p l e R s m args below meth c cells slots Q D vwCl A (wX h cA) σ L (.int (iI i) :: .ref (h 2) :: st) pc := x_ald (n := 6) (f := σ.2 2) hC 1 0 rfl rfl (by decide) hi hd kk
theorem x1_s2 (hC : XC p s m args meth c D vwCl A cc nL RX1 [(cA, .int)]) {i v : Int} (hi : 0 ≤ i ∧ i < 6) (hd : decode cc pc = .ok (.iastore, 1)) (kk : XW p l e R s m args below meth c cells slots Q D vwCl A (wX h cA) (sA σ 2 i v) L st (pc + 1)) : XW p l e R s m args below meth c cells slots Q D vwCl A (wX h cA) σ L (.int (iI v) :: .int (iI i) :: .ref (h 2) :: st) pc := x_ast (n := 6) (f := σ.2 2) (σ' := sA σ 2 i v) hC 1 0 rfl rfl (by decide) hi rfl hd kk
/-- typed -/
theorem x1_g3 (hC : XC p s m args meth c D vwCl A cc nL RX1 [(cA, .int)]) (hd : decode cc pc = .ok (.getfield 97, 3)) (kk : XW p l e R s m args below meth c cells slots Q D vwCl A (wX h cA) σ L (.int (iI (σ.1 3)) :: st) (pc + 3)) : XW p l e R s m args below meth c cells slots Q D vwCl A (wX h cA) σ L (.ref (h 0) :: st) pc := x_get hC in_X1 0 rfl rfl 3 (by decide) q77 rfl rfl hd kk
theorem x1_p3 (hC : XC p s m args meth c D vwCl A cc nL RX1 [(cA, .int)]) {v : Int} (hd : decode cc pc = .ok (.putfield 97, 3)) (kk : XW p l e R s m args below meth c cells slots Q D vwCl A (wX h cA) (sI σ 3 v) L st (pc + 3)) : XW p l e R s m args below meth c cells slots Q D vwCl A (wX h cA) σ L (.int (iI v) :: .ref (h 0) :: st) pc := x_put hC in_X1 tyX1 tyX1_ok nmX1 0 rfl rfl 3 (by decide) q77 rfl rfl rfl rfl rfl (by simp) rfl hd kk
/-- query -/
theorem x1_g4 (hC : XC p s m args meth c D vwCl A cc nL RX1 [(cA, .int)]) (hd : decode cc pc = .ok (.getfield 13, 3)) (kk : XW p l e R s m args below meth c cells slots Q D vwCl A (wX h cA) σ L (.ref (h 4) :: st) (pc + 3)) : XW p l e R s m args below meth c cells slots Q D vwCl A (wX h cA) σ L (.ref (h 0) :: st) pc := x_get hC in_X1 0 rfl rfl 4 (by decide) q78 rfl rfl hd kk
theorem x1_l4 (hC : XC p s m args meth c D vwCl A cc nL RX1 [(cA, .int)]) {i : Int} (hi : 0 ≤ i ∧ i < 6) (hd : decode cc pc = .ok (.iaload, 1)) (kk : XW p l e R s m args below meth c cells slots Q D vwCl A (wX h cA) σ L (.int (iI (σ.2 4 i)) :: st) (pc + 1)) : XW p l e R s m args below meth c cells slots Q D vwCl A (wX h cA) σ L (.int (iI i) :: .ref (h 4) :: st) pc := x_ald (n := 6) (f := σ.2 4) hC 2 0 rfl rfl (by decide) hi hd kk
theorem x1_s4 (hC : XC p s m args meth c D vwCl A cc nL RX1 [(cA, .int)]) {i v : Int} (hi : 0 ≤ i ∧ i < 6) (hd : decode cc pc = .ok (.iastore, 1)) (kk : XW p l e R s m args below meth c cells slots Q D vwCl A (wX h cA) (sA σ 4 i v) L st (pc + 1)) : XW p l e R s m args below meth c cells slots Q D vwCl A (wX h cA) σ L (.int (iI v) :: .int (iI i) :: .ref (h 4) :: st) pc := x_ast (n := 6) (f := σ.2 4) (σ' := sA σ 4 i v) hC 2 0 rfl rfl (by decide) hi rfl hd kk
/-- words -/
theorem x1_g5 (hC : XC p s m args meth c D vwCl A cc nL RX1 [(cA, .int)]) (hd : decode cc pc = .ok (.getfield 76, 3)) (kk : XW p l e R s m args below meth c cells slots Q D vwCl A (wX h cA) σ L (.int (iI (σ.1 5)) :: st) (pc + 3)) : XW p l e R s m args below meth c cells slots Q D vwCl A (wX h cA) σ L (.ref (h 0) :: st) pc := x_get hC in_X1 0 rfl rfl 5 (by decide) q79 rfl rfl hd kk
theorem x1_p5 (hC : XC p s m args meth c D vwCl A cc nL RX1 [(cA, .int)]) {v : Int} (hd : decode cc pc = .ok (.putfield 76, 3)) (kk : XW p l e R s m args below meth c cells slots Q D vwCl A (wX h cA) (sI σ 5 v) L st (pc + 3)) : XW p l e R s m args below meth c cells slots Q D vwCl A (wX h cA) σ L (.int (iI v) :: .ref (h 0) :: st) pc := x_put hC in_X1 tyX1 tyX1_ok nmX1 0 rfl rfl 5 (by decide) q79 rfl rfl rfl rfl rfl (by simp) rfl hd kk
/-- below -/
theorem x1_g6 (hC : XC p s m args meth c D vwCl A cc nL RX1 [(cA, .int)]) (hd : decode cc pc = .ok (.getfield 16, 3)) (kk : XW p l e R s m args below meth c cells slots Q D vwCl A (wX h cA) σ L (.ref (h 6) :: st) (pc + 3)) : XW p l e R s m args below meth c cells slots Q D vwCl A (wX h cA) σ L (.ref (h 0) :: st) pc := x_get hC in_X1 0 rfl rfl 6 (by decide) q80 rfl rfl hd kk
theorem x1_l6 (hC : XC p s m args meth c D vwCl A cc nL RX1 [(cA, .int)]) {i : Int} (hi : 0 ≤ i ∧ i < 80) (hd : decode cc pc = .ok (.iaload, 1)) (kk : XW p l e R s m args below meth c cells slots Q D vwCl A (wX h cA) σ L (.int (iI (σ.2 6 i)) :: st) (pc + 1)) : XW p l e R s m args below meth c cells slots Q D vwCl A (wX h cA) σ L (.int (iI i) :: .ref (h 6) :: st) pc := x_ald (n := 80) (f := σ.2 6) hC 3 0 rfl rfl (by decide) hi hd kk
theorem x1_s6 (hC : XC p s m args meth c D vwCl A cc nL RX1 [(cA, .int)]) {i v : Int} (hi : 0 ≤ i ∧ i < 80) (hd : decode cc pc = .ok (.iastore, 1)) (kk : XW p l e R s m args below meth c cells slots Q D vwCl A (wX h cA) (sA σ 6 i v) L st (pc + 1)) : XW p l e R s m args below meth c cells slots Q D vwCl A (wX h cA) σ L (.int (iI v) :: .int (iI i) :: .ref (h 6) :: st) pc := x_ast (n := 80) (f := σ.2 6) (σ' := sA σ 6 i v) hC 3 0 rfl rfl (by decide) hi rfl hd kk
/-- child -/
theorem x1_g7 (hC : XC p s m args meth c D vwCl A cc nL RX1 [(cA, .int)]) (hd : decode cc pc = .ok (.getfield 19, 3)) (kk : XW p l e R s m args below meth c cells slots Q D vwCl A (wX h cA) σ L (.ref (h 7) :: st) (pc + 3)) : XW p l e R s m args below meth c cells slots Q D vwCl A (wX h cA) σ L (.ref (h 0) :: st) pc := x_get hC in_X1 0 rfl rfl 7 (by decide) q81 rfl rfl hd kk
theorem x1_l7 (hC : XC p s m args meth c D vwCl A cc nL RX1 [(cA, .int)]) {i : Int} (hi : 0 ≤ i ∧ i < 320) (hd : decode cc pc = .ok (.iaload, 1)) (kk : XW p l e R s m args below meth c cells slots Q D vwCl A (wX h cA) σ L (.int (iI (σ.2 7 i)) :: st) (pc + 1)) : XW p l e R s m args below meth c cells slots Q D vwCl A (wX h cA) σ L (.int (iI i) :: .ref (h 7) :: st) pc := x_ald (n := 320) (f := σ.2 7) hC 4 0 rfl rfl (by decide) hi hd kk
theorem x1_s7 (hC : XC p s m args meth c D vwCl A cc nL RX1 [(cA, .int)]) {i v : Int} (hi : 0 ≤ i ∧ i < 320) (hd : decode cc pc = .ok (.iastore, 1)) (kk : XW p l e R s m args below meth c cells slots Q D vwCl A (wX h cA) (sA σ 7 i v) L st (pc + 1)) : XW p l e R s m args below meth c cells slots Q D vwCl A (wX h cA) σ L (.int (iI v) :: .int (iI i) :: .ref (h 7) :: st) pc := x_ast (n := 320) (f := σ.2 7) (σ' := sA σ 7 i v) hC 4 0 rfl rfl (by decide) hi rfl hd kk
/-- parent -/
theorem x1_g8 (hC : XC p s m args meth c D vwCl A cc nL RX1 [(cA, .int)]) (hd : decode cc pc = .ok (.getfield 22, 3)) (kk : XW p l e R s m args below meth c cells slots Q D vwCl A (wX h cA) σ L (.ref (h 8) :: st) (pc + 3)) : XW p l e R s m args below meth c cells slots Q D vwCl A (wX h cA) σ L (.ref (h 0) :: st) pc := x_get hC in_X1 0 rfl rfl 8 (by decide) q82 rfl rfl hd kk
theorem x1_l8 (hC : XC p s m args meth c D vwCl A cc nL RX1 [(cA, .int)]) {i : Int} (hi : 0 ≤ i ∧ i < 80) (hd : decode cc pc = .ok (.iaload, 1)) (kk : XW p l e R s m args below meth c cells slots Q D vwCl A (wX h cA) σ L (.int (iI (σ.2 8 i)) :: st) (pc + 1)) : XW p l e R s m args below meth c cells slots Q D vwCl A (wX h cA) σ L (.int (iI i) :: .ref (h 8) :: st) pc := x_ald (n := 80) (f := σ.2 8) hC 5 0 rfl rfl (by decide) hi hd kk
theorem x1_s8 (hC : XC p s m args meth c D vwCl A cc nL RX1 [(cA, .int)]) {i v : Int} (hi : 0 ≤ i ∧ i < 80) (hd : decode cc pc = .ok (.iastore, 1)) (kk : XW p l e R s m args below meth c cells slots Q D vwCl A (wX h cA) (sA σ 8 i v) L st (pc + 1)) : XW p l e R s m args below meth c cells slots Q D vwCl A (wX h cA) σ L (.int (iI v) :: .int (iI i) :: .ref (h 8) :: st) pc := x_ast (n := 80) (f := σ.2 8) (σ' := sA σ 8 i v) hC 5 0 rfl rfl (by decide) hi rfl hd kk
/-- letter -/
theorem x1_g9 (hC : XC p s m args meth c D vwCl A cc nL RX1 [(cA, .int)]) (hd : decode cc pc = .ok (.getfield 25, 3)) (kk : XW p l e R s m args below meth c cells slots Q D vwCl A (wX h cA) σ L (.ref (h 9) :: st) (pc + 3)) : XW p l e R s m args below meth c cells slots Q D vwCl A (wX h cA) σ L (.ref (h 0) :: st) pc := x_get hC in_X1 0 rfl rfl 9 (by decide) q83 rfl rfl hd kk
theorem x1_l9 (hC : XC p s m args meth c D vwCl A cc nL RX1 [(cA, .int)]) {i : Int} (hi : 0 ≤ i ∧ i < 80) (hd : decode cc pc = .ok (.iaload, 1)) (kk : XW p l e R s m args below meth c cells slots Q D vwCl A (wX h cA) σ L (.int (iI (σ.2 9 i)) :: st) (pc + 1)) : XW p l e R s m args below meth c cells slots Q D vwCl A (wX h cA) σ L (.int (iI i) :: .ref (h 9) :: st) pc := x_ald (n := 80) (f := σ.2 9) hC 6 0 rfl rfl (by decide) hi hd kk
theorem x1_s9 (hC : XC p s m args meth c D vwCl A cc nL RX1 [(cA, .int)]) {i v : Int} (hi : 0 ≤ i ∧ i < 80) (hd : decode cc pc = .ok (.iastore, 1)) (kk : XW p l e R s m args below meth c cells slots Q D vwCl A (wX h cA) (sA σ 9 i v) L st (pc + 1)) : XW p l e R s m args below meth c cells slots Q D vwCl A (wX h cA) σ L (.int (iI v) :: .int (iI i) :: .ref (h 9) :: st) pc := x_ast (n := 80) (f := σ.2 9) (σ' := sA σ 9 i v) hC 6 0 rfl rfl (by decide) hi rfl hd kk
/-- depth -/
theorem x1_g10 (hC : XC p s m args meth c D vwCl A cc nL RX1 [(cA, .int)]) (hd : decode cc pc = .ok (.getfield 28, 3)) (kk : XW p l e R s m args below meth c cells slots Q D vwCl A (wX h cA) σ L (.ref (h 10) :: st) (pc + 3)) : XW p l e R s m args below meth c cells slots Q D vwCl A (wX h cA) σ L (.ref (h 0) :: st) pc := x_get hC in_X1 0 rfl rfl 10 (by decide) q84 rfl rfl hd kk
theorem x1_l10 (hC : XC p s m args meth c D vwCl A cc nL RX1 [(cA, .int)]) {i : Int} (hi : 0 ≤ i ∧ i < 80) (hd : decode cc pc = .ok (.iaload, 1)) (kk : XW p l e R s m args below meth c cells slots Q D vwCl A (wX h cA) σ L (.int (iI (σ.2 10 i)) :: st) (pc + 1)) : XW p l e R s m args below meth c cells slots Q D vwCl A (wX h cA) σ L (.int (iI i) :: .ref (h 10) :: st) pc := x_ald (n := 80) (f := σ.2 10) hC 7 0 rfl rfl (by decide) hi hd kk
theorem x1_s10 (hC : XC p s m args meth c D vwCl A cc nL RX1 [(cA, .int)]) {i v : Int} (hi : 0 ≤ i ∧ i < 80) (hd : decode cc pc = .ok (.iastore, 1)) (kk : XW p l e R s m args below meth c cells slots Q D vwCl A (wX h cA) (sA σ 10 i v) L st (pc + 1)) : XW p l e R s m args below meth c cells slots Q D vwCl A (wX h cA) σ L (.int (iI v) :: .int (iI i) :: .ref (h 10) :: st) pc := x_ast (n := 80) (f := σ.2 10) (σ' := sA σ 10 i v) hC 7 0 rfl rfl (by decide) hi rfl hd kk
/-- code -/
theorem x1_g11 (hC : XC p s m args meth c D vwCl A cc nL RX1 [(cA, .int)]) (hd : decode cc pc = .ok (.getfield 31, 3)) (kk : XW p l e R s m args below meth c cells slots Q D vwCl A (wX h cA) σ L (.ref (h 11) :: st) (pc + 3)) : XW p l e R s m args below meth c cells slots Q D vwCl A (wX h cA) σ L (.ref (h 0) :: st) pc := x_get hC in_X1 0 rfl rfl 11 (by decide) q85 rfl rfl hd kk
theorem x1_l11 (hC : XC p s m args meth c D vwCl A cc nL RX1 [(cA, .int)]) {i : Int} (hi : 0 ≤ i ∧ i < 80) (hd : decode cc pc = .ok (.iaload, 1)) (kk : XW p l e R s m args below meth c cells slots Q D vwCl A (wX h cA) σ L (.int (iI (σ.2 11 i)) :: st) (pc + 1)) : XW p l e R s m args below meth c cells slots Q D vwCl A (wX h cA) σ L (.int (iI i) :: .ref (h 11) :: st) pc := x_ald (n := 80) (f := σ.2 11) hC 8 0 rfl rfl (by decide) hi hd kk
theorem x1_s11 (hC : XC p s m args meth c D vwCl A cc nL RX1 [(cA, .int)]) {i v : Int} (hi : 0 ≤ i ∧ i < 80) (hd : decode cc pc = .ok (.iastore, 1)) (kk : XW p l e R s m args below meth c cells slots Q D vwCl A (wX h cA) (sA σ 11 i v) L st (pc + 1)) : XW p l e R s m args below meth c cells slots Q D vwCl A (wX h cA) σ L (.int (iI v) :: .int (iI i) :: .ref (h 11) :: st) pc := x_ast (n := 80) (f := σ.2 11) (σ' := sA σ 11 i v) hC 8 0 rfl rfl (by decide) hi rfl hd kk
/-- wordWeight -/
theorem x1_g12 (hC : XC p s m args meth c D vwCl A cc nL RX1 [(cA, .int)]) (hd : decode cc pc = .ok (.getfield 34, 3)) (kk : XW p l e R s m args below meth c cells slots Q D vwCl A (wX h cA) σ L (.ref (h 12) :: st) (pc + 3)) : XW p l e R s m args below meth c cells slots Q D vwCl A (wX h cA) σ L (.ref (h 0) :: st) pc := x_get hC in_X1 0 rfl rfl 12 (by decide) q86 rfl rfl hd kk
theorem x1_l12 (hC : XC p s m args meth c D vwCl A cc nL RX1 [(cA, .int)]) {i : Int} (hi : 0 ≤ i ∧ i < 80) (hd : decode cc pc = .ok (.iaload, 1)) (kk : XW p l e R s m args below meth c cells slots Q D vwCl A (wX h cA) σ L (.int (iI (σ.2 12 i)) :: st) (pc + 1)) : XW p l e R s m args below meth c cells slots Q D vwCl A (wX h cA) σ L (.int (iI i) :: .ref (h 12) :: st) pc := x_ald (n := 80) (f := σ.2 12) hC 9 0 rfl rfl (by decide) hi hd kk
theorem x1_s12 (hC : XC p s m args meth c D vwCl A cc nL RX1 [(cA, .int)]) {i v : Int} (hi : 0 ≤ i ∧ i < 80) (hd : decode cc pc = .ok (.iastore, 1)) (kk : XW p l e R s m args below meth c cells slots Q D vwCl A (wX h cA) (sA σ 12 i v) L st (pc + 1)) : XW p l e R s m args below meth c cells slots Q D vwCl A (wX h cA) σ L (.int (iI v) :: .int (iI i) :: .ref (h 12) :: st) pc := x_ast (n := 80) (f := σ.2 12) (σ' := sA σ 12 i v) hC 9 0 rfl rfl (by decide) hi rfl hd kk
/-- near -/
theorem x1_g13 (hC : XC p s m args meth c D vwCl A cc nL RX1 [(cA, .int)]) (hd : decode cc pc = .ok (.getfield 37, 3)) (kk : XW p l e R s m args below meth c cells slots Q D vwCl A (wX h cA) σ L (.ref (h 13) :: st) (pc + 3)) : XW p l e R s m args below meth c cells slots Q D vwCl A (wX h cA) σ L (.ref (h 0) :: st) pc := x_get hC in_X1 0 rfl rfl 13 (by decide) q87 rfl rfl hd kk
theorem x1_l13 (hC : XC p s m args meth c D vwCl A cc nL RX1 [(cA, .int)]) {i : Int} (hi : 0 ≤ i ∧ i < 560) (hd : decode cc pc = .ok (.iaload, 1)) (kk : XW p l e R s m args below meth c cells slots Q D vwCl A (wX h cA) σ L (.int (iI (σ.2 13 i)) :: st) (pc + 1)) : XW p l e R s m args below meth c cells slots Q D vwCl A (wX h cA) σ L (.int (iI i) :: .ref (h 13) :: st) pc := x_ald (n := 560) (f := σ.2 13) hC 10 0 rfl rfl (by decide) hi hd kk
theorem x1_s13 (hC : XC p s m args meth c D vwCl A cc nL RX1 [(cA, .int)]) {i v : Int} (hi : 0 ≤ i ∧ i < 560) (hd : decode cc pc = .ok (.iastore, 1)) (kk : XW p l e R s m args below meth c cells slots Q D vwCl A (wX h cA) (sA σ 13 i v) L st (pc + 1)) : XW p l e R s m args below meth c cells slots Q D vwCl A (wX h cA) σ L (.int (iI v) :: .int (iI i) :: .ref (h 13) :: st) pc := x_ast (n := 560) (f := σ.2 13) (σ' := sA σ 13 i v) hC 10 0 rfl rfl (by decide) hi rfl hd kk
/-- count -/
theorem x1_g14 (hC : XC p s m args meth c D vwCl A cc nL RX1 [(cA, .int)]) (hd : decode cc pc = .ok (.getfield 104, 3)) (kk : XW p l e R s m args below meth c cells slots Q D vwCl A (wX h cA) σ L (.int (iI (σ.1 14)) :: st) (pc + 3)) : XW p l e R s m args below meth c cells slots Q D vwCl A (wX h cA) σ L (.ref (h 0) :: st) pc := x_get hC in_X1 0 rfl rfl 14 (by decide) q88 rfl rfl hd kk
theorem x1_p14 (hC : XC p s m args meth c D vwCl A cc nL RX1 [(cA, .int)]) {v : Int} (hd : decode cc pc = .ok (.putfield 104, 3)) (kk : XW p l e R s m args below meth c cells slots Q D vwCl A (wX h cA) (sI σ 14 v) L st (pc + 3)) : XW p l e R s m args below meth c cells slots Q D vwCl A (wX h cA) σ L (.int (iI v) :: .ref (h 0) :: st) pc := x_put hC in_X1 tyX1 tyX1_ok nmX1 0 rfl rfl 14 (by decide) q88 rfl rfl rfl rfl rfl (by simp) rfl hd kk
/-- rankNode -/
theorem x1_g15 (hC : XC p s m args meth c D vwCl A cc nL RX1 [(cA, .int)]) (hd : decode cc pc = .ok (.getfield 40, 3)) (kk : XW p l e R s m args below meth c cells slots Q D vwCl A (wX h cA) σ L (.ref (h 15) :: st) (pc + 3)) : XW p l e R s m args below meth c cells slots Q D vwCl A (wX h cA) σ L (.ref (h 0) :: st) pc := x_get hC in_X1 0 rfl rfl 15 (by decide) q89 rfl rfl hd kk
theorem x1_l15 (hC : XC p s m args meth c D vwCl A cc nL RX1 [(cA, .int)]) {i : Int} (hi : 0 ≤ i ∧ i < 12) (hd : decode cc pc = .ok (.iaload, 1)) (kk : XW p l e R s m args below meth c cells slots Q D vwCl A (wX h cA) σ L (.int (iI (σ.2 15 i)) :: st) (pc + 1)) : XW p l e R s m args below meth c cells slots Q D vwCl A (wX h cA) σ L (.int (iI i) :: .ref (h 15) :: st) pc := x_ald (n := 12) (f := σ.2 15) hC 11 0 rfl rfl (by decide) hi hd kk
theorem x1_s15 (hC : XC p s m args meth c D vwCl A cc nL RX1 [(cA, .int)]) {i v : Int} (hi : 0 ≤ i ∧ i < 12) (hd : decode cc pc = .ok (.iastore, 1)) (kk : XW p l e R s m args below meth c cells slots Q D vwCl A (wX h cA) (sA σ 15 i v) L st (pc + 1)) : XW p l e R s m args below meth c cells slots Q D vwCl A (wX h cA) σ L (.int (iI v) :: .int (iI i) :: .ref (h 15) :: st) pc := x_ast (n := 12) (f := σ.2 15) (σ' := sA σ 15 i v) hC 11 0 rfl rfl (by decide) hi rfl hd kk
/-- rankDistance -/
theorem x1_g16 (hC : XC p s m args meth c D vwCl A cc nL RX1 [(cA, .int)]) (hd : decode cc pc = .ok (.getfield 43, 3)) (kk : XW p l e R s m args below meth c cells slots Q D vwCl A (wX h cA) σ L (.ref (h 16) :: st) (pc + 3)) : XW p l e R s m args below meth c cells slots Q D vwCl A (wX h cA) σ L (.ref (h 0) :: st) pc := x_get hC in_X1 0 rfl rfl 16 (by decide) q90 rfl rfl hd kk
theorem x1_l16 (hC : XC p s m args meth c D vwCl A cc nL RX1 [(cA, .int)]) {i : Int} (hi : 0 ≤ i ∧ i < 12) (hd : decode cc pc = .ok (.iaload, 1)) (kk : XW p l e R s m args below meth c cells slots Q D vwCl A (wX h cA) σ L (.int (iI (σ.2 16 i)) :: st) (pc + 1)) : XW p l e R s m args below meth c cells slots Q D vwCl A (wX h cA) σ L (.int (iI i) :: .ref (h 16) :: st) pc := x_ald (n := 12) (f := σ.2 16) hC 12 0 rfl rfl (by decide) hi hd kk
theorem x1_s16 (hC : XC p s m args meth c D vwCl A cc nL RX1 [(cA, .int)]) {i v : Int} (hi : 0 ≤ i ∧ i < 12) (hd : decode cc pc = .ok (.iastore, 1)) (kk : XW p l e R s m args below meth c cells slots Q D vwCl A (wX h cA) (sA σ 16 i v) L st (pc + 1)) : XW p l e R s m args below meth c cells slots Q D vwCl A (wX h cA) σ L (.int (iI v) :: .int (iI i) :: .ref (h 16) :: st) pc := x_ast (n := 12) (f := σ.2 16) (σ' := sA σ 16 i v) hC 12 0 rfl rfl (by decide) hi rfl hd kk
/-- stack -/
theorem x1_g17 (hC : XC p s m args meth c D vwCl A cc nL RX1 [(cA, .int)]) (hd : decode cc pc = .ok (.getfield 46, 3)) (kk : XW p l e R s m args below meth c cells slots Q D vwCl A (wX h cA) σ L (.ref (h 17) :: st) (pc + 3)) : XW p l e R s m args below meth c cells slots Q D vwCl A (wX h cA) σ L (.ref (h 0) :: st) pc := x_get hC in_X1 0 rfl rfl 17 (by decide) q91 rfl rfl hd kk
theorem x1_l17 (hC : XC p s m args meth c D vwCl A cc nL RX1 [(cA, .int)]) {i : Int} (hi : 0 ≤ i ∧ i < 80) (hd : decode cc pc = .ok (.iaload, 1)) (kk : XW p l e R s m args below meth c cells slots Q D vwCl A (wX h cA) σ L (.int (iI (σ.2 17 i)) :: st) (pc + 1)) : XW p l e R s m args below meth c cells slots Q D vwCl A (wX h cA) σ L (.int (iI i) :: .ref (h 17) :: st) pc := x_ald (n := 80) (f := σ.2 17) hC 13 0 rfl rfl (by decide) hi hd kk
theorem x1_s17 (hC : XC p s m args meth c D vwCl A cc nL RX1 [(cA, .int)]) {i v : Int} (hi : 0 ≤ i ∧ i < 80) (hd : decode cc pc = .ok (.iastore, 1)) (kk : XW p l e R s m args below meth c cells slots Q D vwCl A (wX h cA) (sA σ 17 i v) L st (pc + 1)) : XW p l e R s m args below meth c cells slots Q D vwCl A (wX h cA) σ L (.int (iI v) :: .int (iI i) :: .ref (h 17) :: st) pc := x_ast (n := 80) (f := σ.2 17) (σ' := sA σ 17 i v) hC 13 0 rfl rfl (by decide) hi rfl hd kk
/-- reach -/
theorem x1_g18 (hC : XC p s m args meth c D vwCl A cc nL RX1 [(cA, .int)]) (hd : decode cc pc = .ok (.getfield 49, 3)) (kk : XW p l e R s m args below meth c cells slots Q D vwCl A (wX h cA) σ L (.ref (h 18) :: st) (pc + 3)) : XW p l e R s m args below meth c cells slots Q D vwCl A (wX h cA) σ L (.ref (h 0) :: st) pc := x_get hC in_X1 0 rfl rfl 18 (by decide) q92 rfl rfl hd kk
theorem x1_l18 (hC : XC p s m args meth c D vwCl A cc nL RX1 [(cA, .int)]) {i : Int} (hi : 0 ≤ i ∧ i < 80) (hd : decode cc pc = .ok (.iaload, 1)) (kk : XW p l e R s m args below meth c cells slots Q D vwCl A (wX h cA) σ L (.int (iI (σ.2 18 i)) :: st) (pc + 1)) : XW p l e R s m args below meth c cells slots Q D vwCl A (wX h cA) σ L (.int (iI i) :: .ref (h 18) :: st) pc := x_ald (n := 80) (f := σ.2 18) hC 14 0 rfl rfl (by decide) hi hd kk
theorem x1_s18 (hC : XC p s m args meth c D vwCl A cc nL RX1 [(cA, .int)]) {i v : Int} (hi : 0 ≤ i ∧ i < 80) (hd : decode cc pc = .ok (.iastore, 1)) (kk : XW p l e R s m args below meth c cells slots Q D vwCl A (wX h cA) (sA σ 18 i v) L st (pc + 1)) : XW p l e R s m args below meth c cells slots Q D vwCl A (wX h cA) σ L (.int (iI v) :: .int (iI i) :: .ref (h 18) :: st) pc := x_ast (n := 80) (f := σ.2 18) (σ' := sA σ 18 i v) hC 14 0 rfl rfl (by decide) hi rfl hd kk
/-- limit -/
theorem x2_g0 (hC : XC p s m args meth c D vwCl A cc nL RX2 [(cA, .int)]) (hd : decode cc pc = .ok (.getfield 22, 3)) (kk : XW p l e R s m args below meth c cells slots Q D vwCl A (wM h cA) σ L (.int (iI (σ.1 0)) :: st) (pc + 3)) : XW p l e R s m args below meth c cells slots Q D vwCl A (wM h cA) σ L (.ref (h 0) :: st) pc := x_get hC in_X2 0 rfl rfl 0 (by decide) q234 rfl rfl hd kk
/-- letters -/
theorem x2_g1 (hC : XC p s m args meth c D vwCl A cc nL RX2 [(cA, .int)]) (hd : decode cc pc = .ok (.getfield 7, 3)) (kk : XW p l e R s m args below meth c cells slots Q D vwCl A (wM h cA) σ L (.ref (h 1) :: st) (pc + 3)) : XW p l e R s m args below meth c cells slots Q D vwCl A (wM h cA) σ L (.ref (h 0) :: st) pc := x_get hC in_X2 0 rfl rfl 1 (by decide) q235 rfl rfl hd kk
theorem x2_l1 (hC : XC p s m args meth c D vwCl A cc nL RX2 [(cA, .int)]) {i : Int} (hi : 0 ≤ i ∧ i < 84) (hd : decode cc pc = .ok (.iaload, 1)) (kk : XW p l e R s m args below meth c cells slots Q D vwCl A (wM h cA) σ L (.int (iI (σ.2 1 i)) :: st) (pc + 1)) : XW p l e R s m args below meth c cells slots Q D vwCl A (wM h cA) σ L (.int (iI i) :: .ref (h 1) :: st) pc := x_ald (n := 84) (f := σ.2 1) hC 1 0 rfl rfl (by decide) hi hd kk
theorem x2_s1 (hC : XC p s m args meth c D vwCl A cc nL RX2 [(cA, .int)]) {i v : Int} (hi : 0 ≤ i ∧ i < 84) (hd : decode cc pc = .ok (.iastore, 1)) (kk : XW p l e R s m args below meth c cells slots Q D vwCl A (wM h cA) (sA σ 1 i v) L st (pc + 1)) : XW p l e R s m args below meth c cells slots Q D vwCl A (wM h cA) σ L (.int (iI v) :: .int (iI i) :: .ref (h 1) :: st) pc := x_ast (n := 84) (f := σ.2 1) (σ' := sA σ 1 i v) hC 1 0 rfl rfl (by decide) hi rfl hd kk
/-- lengths -/
theorem x2_g2 (hC : XC p s m args meth c D vwCl A cc nL RX2 [(cA, .int)]) (hd : decode cc pc = .ok (.getfield 13, 3)) (kk : XW p l e R s m args below meth c cells slots Q D vwCl A (wM h cA) σ L (.ref (h 2) :: st) (pc + 3)) : XW p l e R s m args below meth c cells slots Q D vwCl A (wM h cA) σ L (.ref (h 0) :: st) pc := x_get hC in_X2 0 rfl rfl 2 (by decide) q236 rfl rfl hd kk
theorem x2_l2 (hC : XC p s m args meth c D vwCl A cc nL RX2 [(cA, .int)]) {i : Int} (hi : 0 ≤ i ∧ i < 14) (hd : decode cc pc = .ok (.iaload, 1)) (kk : XW p l e R s m args below meth c cells slots Q D vwCl A (wM h cA) σ L (.int (iI (σ.2 2 i)) :: st) (pc + 1)) : XW p l e R s m args below meth c cells slots Q D vwCl A (wM h cA) σ L (.int (iI i) :: .ref (h 2) :: st) pc := x_ald (n := 14) (f := σ.2 2) hC 2 0 rfl rfl (by decide) hi hd kk
theorem x2_s2 (hC : XC p s m args meth c D vwCl A cc nL RX2 [(cA, .int)]) {i v : Int} (hi : 0 ≤ i ∧ i < 14) (hd : decode cc pc = .ok (.iastore, 1)) (kk : XW p l e R s m args below meth c cells slots Q D vwCl A (wM h cA) (sA σ 2 i v) L st (pc + 1)) : XW p l e R s m args below meth c cells slots Q D vwCl A (wM h cA) σ L (.int (iI v) :: .int (iI i) :: .ref (h 2) :: st) pc := x_ast (n := 14) (f := σ.2 2) (σ' := sA σ 2 i v) hC 2 0 rfl rfl (by decide) hi rfl hd kk
/-- weights -/
theorem x2_g3 (hC : XC p s m args meth c D vwCl A cc nL RX2 [(cA, .int)]) (hd : decode cc pc = .ok (.getfield 16, 3)) (kk : XW p l e R s m args below meth c cells slots Q D vwCl A (wM h cA) σ L (.ref (h 3) :: st) (pc + 3)) : XW p l e R s m args below meth c cells slots Q D vwCl A (wM h cA) σ L (.ref (h 0) :: st) pc := x_get hC in_X2 0 rfl rfl 3 (by decide) q237 rfl rfl hd kk
theorem x2_l3 (hC : XC p s m args meth c D vwCl A cc nL RX2 [(cA, .int)]) {i : Int} (hi : 0 ≤ i ∧ i < 12) (hd : decode cc pc = .ok (.iaload, 1)) (kk : XW p l e R s m args below meth c cells slots Q D vwCl A (wM h cA) σ L (.int (iI (σ.2 3 i)) :: st) (pc + 1)) : XW p l e R s m args below meth c cells slots Q D vwCl A (wM h cA) σ L (.int (iI i) :: .ref (h 3) :: st) pc := x_ald (n := 12) (f := σ.2 3) hC 3 0 rfl rfl (by decide) hi hd kk
theorem x2_s3 (hC : XC p s m args meth c D vwCl A cc nL RX2 [(cA, .int)]) {i v : Int} (hi : 0 ≤ i ∧ i < 12) (hd : decode cc pc = .ok (.iastore, 1)) (kk : XW p l e R s m args below meth c cells slots Q D vwCl A (wM h cA) (sA σ 3 i v) L st (pc + 1)) : XW p l e R s m args below meth c cells slots Q D vwCl A (wM h cA) σ L (.int (iI v) :: .int (iI i) :: .ref (h 3) :: st) pc := x_ast (n := 12) (f := σ.2 3) (σ' := sA σ 3 i v) hC 3 0 rfl rfl (by decide) hi rfl hd kk
/-- count -/
theorem x2_g4 (hC : XC p s m args meth c D vwCl A cc nL RX2 [(cA, .int)]) (hd : decode cc pc = .ok (.getfield 30, 3)) (kk : XW p l e R s m args below meth c cells slots Q D vwCl A (wM h cA) σ L (.int (iI (σ.1 4)) :: st) (pc + 3)) : XW p l e R s m args below meth c cells slots Q D vwCl A (wM h cA) σ L (.ref (h 0) :: st) pc := x_get hC in_X2 0 rfl rfl 4 (by decide) q238 rfl rfl hd kk
theorem x2_p4 (hC : XC p s m args meth c D vwCl A cc nL RX2 [(cA, .int)]) {v : Int} (hd : decode cc pc = .ok (.putfield 30, 3)) (kk : XW p l e R s m args below meth c cells slots Q D vwCl A (wM h cA) (sI σ 4 v) L st (pc + 3)) : XW p l e R s m args below meth c cells slots Q D vwCl A (wM h cA) σ L (.int (iI v) :: .ref (h 0) :: st) pc := x_put hC in_X2 tyX2 tyX2_ok nmX2 0 rfl rfl 4 (by decide) q238 rfl rfl rfl rfl rfl (by simp) rfl hd kk
/-- table -/
theorem x2_g5 (hC : XC p s m args meth c D vwCl A cc nL RX2 [(cA, .int)]) (hd : decode cc pc = .ok (.getfield 19, 3)) (kk : XW p l e R s m args below meth c cells slots Q D vwCl A (wM h cA) σ L (.ref (h 5) :: st) (pc + 3)) : XW p l e R s m args below meth c cells slots Q D vwCl A (wM h cA) σ L (.ref (h 0) :: st) pc := x_get hC in_X2 0 rfl rfl 5 (by decide) q239 rfl rfl hd kk
theorem x2_l5 (hC : XC p s m args meth c D vwCl A cc nL RX2 [(cA, .int)]) {i : Int} (hi : 0 ≤ i ∧ i < 49) (hd : decode cc pc = .ok (.iaload, 1)) (kk : XW p l e R s m args below meth c cells slots Q D vwCl A (wM h cA) σ L (.int (iI (σ.2 5 i)) :: st) (pc + 1)) : XW p l e R s m args below meth c cells slots Q D vwCl A (wM h cA) σ L (.int (iI i) :: .ref (h 5) :: st) pc := x_ald (n := 49) (f := σ.2 5) hC 4 0 rfl rfl (by decide) hi hd kk
theorem x2_s5 (hC : XC p s m args meth c D vwCl A cc nL RX2 [(cA, .int)]) {i v : Int} (hi : 0 ≤ i ∧ i < 49) (hd : decode cc pc = .ok (.iastore, 1)) (kk : XW p l e R s m args below meth c cells slots Q D vwCl A (wM h cA) (sA σ 5 i v) L st (pc + 1)) : XW p l e R s m args below meth c cells slots Q D vwCl A (wM h cA) σ L (.int (iI v) :: .int (iI i) :: .ref (h 5) :: st) pc := x_ast (n := 49) (f := σ.2 5) (σ' := sA σ 5 i v) hC 4 0 rfl rfl (by decide) hi rfl hd kk
end XF
theorem hyX1_layOut : yX1_layOut.cls ≠ "java/lang/invoke/MethodHandle" ∧ yX1_layOut.cls ≠ "java/lang/invoke/VarHandle" ∧ (parseMethodDescriptor yX1_layOut.desc).map (fun d => d.parameters.length) = some 0 := by decide +kernel
theorem gX1_X1_layOut : GoodIn lw_all (wsV RX1 56 RX1 yX1_layOut (ws_ yX1_layOut cX1_layOut 2 none)) := lw_V q38 q40 qs0 q28 q41
theorem hyX1_firstLayer : yX1_firstLayer.cls ≠ "java/lang/invoke/MethodHandle" ∧ yX1_firstLayer.cls ≠ "java/lang/invoke/VarHandle" ∧ (parseMethodDescriptor yX1_firstLayer.desc).map (fun d => d.parameters.length) = some 0 := by decide +kernel
theorem gX1_X1_firstLayer : GoodIn lw_all (wsV RX1 94 RX1 yX1_firstLayer (ws_ yX1_firstLayer cX1_firstLayer 2 none)) := lw_V q42 q44 qs1 q28 q45
theorem hyX1_inTree : yX1_inTree.cls ≠ "java/lang/invoke/MethodHandle" ∧ yX1_inTree.cls ≠ "java/lang/invoke/VarHandle" ∧ (parseMethodDescriptor yX1_inTree.desc).map (fun d => d.parameters.length) = some 1 := by decide +kernel
theorem gX1_X1_inTree : GoodIn lw_all (wsV RX1 83 RX1 yX1_inTree (ws_ yX1_inTree cX1_inTree 2 (some .boolean))) := lw_V q46 q48 qs2 q28 q49
theorem hyX1_capped : yX1_capped.cls ≠ "java/lang/invoke/MethodHandle" ∧ yX1_capped.cls ≠ "java/lang/invoke/VarHandle" ∧ (parseMethodDescriptor yX1_capped.desc).map (fun d => d.parameters.length) = some 1 := by decide +kernel
theorem gX1_X1_capped : GoodIn lw_all (wsV RX1 86 RX1 yX1_capped (ws_ yX1_capped cX1_capped 2 (some .int))) := lw_V q50 q52 qs3 q28 q53
theorem hyX1_nextLayer : yX1_nextLayer.cls ≠ "java/lang/invoke/MethodHandle" ∧ yX1_nextLayer.cls ≠ "java/lang/invoke/VarHandle" ∧ (parseMethodDescriptor yX1_nextLayer.desc).map (fun d => d.parameters.length) = some 1 := by decide +kernel
theorem gX1_X1_nextLayer : GoodIn lw_all (wsV RX1 100 RX1 yX1_nextLayer (ws_ yX1_nextLayer cX1_nextLayer 6 none)) := lw_V q54 q56 qs4 q28 q57
theorem hyX1_step : yX1_step.cls ≠ "java/lang/invoke/MethodHandle" ∧ yX1_step.cls ≠ "java/lang/invoke/VarHandle" ∧ (parseMethodDescriptor yX1_step.desc).map (fun d => d.parameters.length) = some 4 := by decide +kernel
theorem gX1_X1_step : GoodIn lw_all (wsV RX1 90 RX1 yX1_step (ws_ yX1_step cX1_step 9 (some .int))) := lw_V q58 q60 qs5 q28 q61
theorem hyX1_rank : yX1_rank.cls ≠ "java/lang/invoke/MethodHandle" ∧ yX1_rank.cls ≠ "java/lang/invoke/VarHandle" ∧ (parseMethodDescriptor yX1_rank.desc).map (fun d => d.parameters.length) = some 0 := by decide +kernel
theorem gX1_X1_rank : GoodIn lw_all (wsV RX1 73 RX1 yX1_rank (ws_ yX1_rank cX1_rank 8 none)) := lw_V q62 q64 qs6 q28 q65
theorem hyX1_insert : yX1_insert.cls ≠ "java/lang/invoke/MethodHandle" ∧ yX1_insert.cls ≠ "java/lang/invoke/VarHandle" ∧ (parseMethodDescriptor yX1_insert.desc).map (fun d => d.parameters.length) = some 2 := by decide +kernel
theorem gX1_X1_insert : GoodIn lw_all (wsV RX1 107 RX1 yX1_insert (ws_ yX1_insert cX1_insert 6 none)) := lw_V q66 q68 qs7 q28 q69
theorem hyX1_before : yX1_before.cls ≠ "java/lang/invoke/MethodHandle" ∧ yX1_before.cls ≠ "java/lang/invoke/VarHandle" ∧ (parseMethodDescriptor yX1_before.desc).map (fun d => d.parameters.length) = some 3 := by decide +kernel
theorem gX1_X1_before : GoodIn lw_all (wsV RX1 111 RX1 yX1_before (ws_ yX1_before cX1_before 4 (some .boolean))) := lw_V q70 q72 qs8 q28 q73
theorem hyX1_draft : yX1_draft.cls ≠ "java/lang/invoke/MethodHandle" ∧ yX1_draft.cls ≠ "java/lang/invoke/VarHandle" ∧ (parseMethodDescriptor yX1_draft.desc).map (fun d => d.parameters.length) = some 1 := by decide +kernel
theorem gX0_X1_draft : GoodIn lw_all (wsV RX0 21 RX1 yX1_draft (ws_ yX1_draft cX1_draft 2 (some .int))) := lw_V q133 q134 q135 q28 q136
theorem hyX1_badLetter : yX1_badLetter.cls ≠ "java/lang/invoke/MethodHandle" ∧ yX1_badLetter.cls ≠ "java/lang/invoke/VarHandle" ∧ (parseMethodDescriptor yX1_badLetter.desc).map (fun d => d.parameters.length) = some 1 := by decide +kernel
theorem gX1_X1_badLetter : GoodIn lw_all (wsV RX1 59 RX1 yX1_badLetter (ws_ yX1_badLetter cX1_badLetter 2 (some .boolean))) := lw_V q137 q139 qs9 q28 q140
theorem hyX1_scrap : yX1_scrap.cls ≠ "java/lang/invoke/MethodHandle" ∧ yX1_scrap.cls ≠ "java/lang/invoke/VarHandle" ∧ (parseMethodDescriptor yX1_scrap.desc).map (fun d => d.parameters.length) = some 0 := by decide +kernel
theorem gX0_X1_scrap : GoodIn lw_all (wsV RX0 26 RX1 yX1_scrap (ws_ yX1_scrap cX1_scrap 1 none)) := lw_V q141 q142 q143 q28 q144
theorem hyX1_add : yX1_add.cls ≠ "java/lang/invoke/MethodHandle" ∧ yX1_add.cls ≠ "java/lang/invoke/VarHandle" ∧ (parseMethodDescriptor yX1_add.desc).map (fun d => d.parameters.length) = some 1 := by decide +kernel
theorem gX0_X1_add : GoodIn lw_all (wsV RX0 30 RX1 yX1_add (ws_ yX1_add cX1_add 6 (some .int))) := lw_V q145 q146 q147 q28 q148
theorem hyX1_draftNode : yX1_draftNode.cls ≠ "java/lang/invoke/MethodHandle" ∧ yX1_draftNode.cls ≠ "java/lang/invoke/VarHandle" ∧ (parseMethodDescriptor yX1_draftNode.desc).map (fun d => d.parameters.length) = some 0 := by decide +kernel
theorem gX1_X1_draftNode : GoodIn lw_all (wsV RX1 70 RX1 yX1_draftNode (ws_ yX1_draftNode cX1_draftNode 3 (some .int))) := lw_V q149 q151 qs10 q28 q152
theorem hyX1_makeChild : yX1_makeChild.cls ≠ "java/lang/invoke/MethodHandle" ∧ yX1_makeChild.cls ≠ "java/lang/invoke/VarHandle" ∧ (parseMethodDescriptor yX1_makeChild.desc).map (fun d => d.parameters.length) = some 2 := by decide +kernel
theorem gX1_X1_makeChild : GoodIn lw_all (wsV RX1 79 RX1 yX1_makeChild (ws_ yX1_makeChild cX1_makeChild 5 (some .int))) := lw_V q153 q155 qs11 q28 q156
theorem hyX1_freeNode : yX1_freeNode.cls ≠ "java/lang/invoke/MethodHandle" ∧ yX1_freeNode.cls ≠ "java/lang/invoke/VarHandle" ∧ (parseMethodDescriptor yX1_freeNode.desc).map (fun d => d.parameters.length) = some 0 := by decide +kernel
theorem gX1_X1_freeNode : GoodIn lw_all (wsV RX1 66 RX1 yX1_freeNode (ws_ yX1_freeNode cX1_freeNode 3 (some .int))) := lw_V q157 q159 qs12 q28 q160
theorem hyX1_remove : yX1_remove.cls ≠ "java/lang/invoke/MethodHandle" ∧ yX1_remove.cls ≠ "java/lang/invoke/VarHandle" ∧ (parseMethodDescriptor yX1_remove.desc).map (fun d => d.parameters.length) = some 0 := by decide +kernel
theorem gX0_X1_remove : GoodIn lw_all (wsV RX0 34 RX1 yX1_remove (ws_ yX1_remove cX1_remove 4 (some .int))) := lw_V q161 q162 q163 q28 q164
theorem hyX1_weight : yX1_weight.cls ≠ "java/lang/invoke/MethodHandle" ∧ yX1_weight.cls ≠ "java/lang/invoke/VarHandle" ∧ (parseMethodDescriptor yX1_weight.desc).map (fun d => d.parameters.length) = some 0 := by decide +kernel
theorem gX0_X1_weight : GoodIn lw_all (wsV RX0 39 RX1 yX1_weight (ws_ yX1_weight cX1_weight 2 (some .int))) := lw_V q165 q166 q167 q28 q168
theorem hyX1_words : yX1_words.cls ≠ "java/lang/invoke/MethodHandle" ∧ yX1_words.cls ≠ "java/lang/invoke/VarHandle" ∧ (parseMethodDescriptor yX1_words.desc).map (fun d => d.parameters.length) = some 0 := by decide +kernel
theorem gX0_X1_words : GoodIn lw_all (wsV RX0 43 RX1 yX1_words (ws_ yX1_words cX1_words 1 (some .int))) := lw_V q169 q170 q171 q28 q172
theorem hyX1_type : yX1_type.cls ≠ "java/lang/invoke/MethodHandle" ∧ yX1_type.cls ≠ "java/lang/invoke/VarHandle" ∧ (parseMethodDescriptor yX1_type.desc).map (fun d => d.parameters.length) = some 1 := by decide +kernel
theorem gX0_X1_type : GoodIn lw_all (wsV RX0 47 RX1 yX1_type (ws_ yX1_type cX1_type 2 (some .int))) := lw_V q173 q174 q175 q28 q176
theorem hyX1_backspace : yX1_backspace.cls ≠ "java/lang/invoke/MethodHandle" ∧ yX1_backspace.cls ≠ "java/lang/invoke/VarHandle" ∧ (parseMethodDescriptor yX1_backspace.desc).map (fun d => d.parameters.length) = some 0 := by decide +kernel
theorem gX0_X1_backspace : GoodIn lw_all (wsV RX0 51 RX1 yX1_backspace (ws_ yX1_backspace cX1_backspace 1 (some .int))) := lw_V q177 q178 q179 q28 q180
theorem hyX1_reset : yX1_reset.cls ≠ "java/lang/invoke/MethodHandle" ∧ yX1_reset.cls ≠ "java/lang/invoke/VarHandle" ∧ (parseMethodDescriptor yX1_reset.desc).map (fun d => d.parameters.length) = some 0 := by decide +kernel
theorem gX0_X1_reset : GoodIn lw_all (wsV RX0 55 RX1 yX1_reset (ws_ yX1_reset cX1_reset 1 none)) := lw_V q181 q182 q183 q28 q184
theorem hyX1_length : yX1_length.cls ≠ "java/lang/invoke/MethodHandle" ∧ yX1_length.cls ≠ "java/lang/invoke/VarHandle" ∧ (parseMethodDescriptor yX1_length.desc).map (fun d => d.parameters.length) = some 0 := by decide +kernel
theorem gX0_X1_length : GoodIn lw_all (wsV RX0 59 RX1 yX1_length (ws_ yX1_length cX1_length 1 (some .int))) := lw_V q185 q186 q187 q28 q188
theorem hyX1_offered : yX1_offered.cls ≠ "java/lang/invoke/MethodHandle" ∧ yX1_offered.cls ≠ "java/lang/invoke/VarHandle" ∧ (parseMethodDescriptor yX1_offered.desc).map (fun d => d.parameters.length) = some 0 := by decide +kernel
theorem gX0_X1_offered : GoodIn lw_all (wsV RX0 63 RX1 yX1_offered (ws_ yX1_offered cX1_offered 1 (some .int))) := lw_V q189 q190 q191 q28 q192
theorem hyX1_offer : yX1_offer.cls ≠ "java/lang/invoke/MethodHandle" ∧ yX1_offer.cls ≠ "java/lang/invoke/VarHandle" ∧ (parseMethodDescriptor yX1_offer.desc).map (fun d => d.parameters.length) = some 1 := by decide +kernel
theorem gX0_X1_offer : GoodIn lw_all (wsV RX0 67 RX1 yX1_offer (ws_ yX1_offer cX1_offer 2 (some .int))) := lw_V q193 q194 q195 q28 q196
theorem hyX1_badRank : yX1_badRank.cls ≠ "java/lang/invoke/MethodHandle" ∧ yX1_badRank.cls ≠ "java/lang/invoke/VarHandle" ∧ (parseMethodDescriptor yX1_badRank.desc).map (fun d => d.parameters.length) = some 1 := by decide +kernel
theorem gX1_X1_badRank : GoodIn lw_all (wsV RX1 115 RX1 yX1_badRank (ws_ yX1_badRank cX1_badRank 2 (some .boolean))) := lw_V q197 q199 qs13 q28 q200
theorem hyX1_distance : yX1_distance.cls ≠ "java/lang/invoke/MethodHandle" ∧ yX1_distance.cls ≠ "java/lang/invoke/VarHandle" ∧ (parseMethodDescriptor yX1_distance.desc).map (fun d => d.parameters.length) = some 1 := by decide +kernel
theorem gX0_X1_distance : GoodIn lw_all (wsV RX0 71 RX1 yX1_distance (ws_ yX1_distance cX1_distance 2 (some .int))) := lw_V q201 q202 q203 q28 q204
theorem hyX1_weightAt : yX1_weightAt.cls ≠ "java/lang/invoke/MethodHandle" ∧ yX1_weightAt.cls ≠ "java/lang/invoke/VarHandle" ∧ (parseMethodDescriptor yX1_weightAt.desc).map (fun d => d.parameters.length) = some 1 := by decide +kernel
theorem gX0_X1_weightAt : GoodIn lw_all (wsV RX0 75 RX1 yX1_weightAt (ws_ yX1_weightAt cX1_weightAt 2 (some .int))) := lw_V q205 q206 q207 q28 q208
theorem hyX1_nearest : yX1_nearest.cls ≠ "java/lang/invoke/MethodHandle" ∧ yX1_nearest.cls ≠ "java/lang/invoke/VarHandle" ∧ (parseMethodDescriptor yX1_nearest.desc).map (fun d => d.parameters.length) = some 0 := by decide +kernel
theorem gX0_X1_nearest : GoodIn lw_all (wsV RX0 79 RX1 yX1_nearest (ws_ yX1_nearest cX1_nearest 3 (some .int))) := lw_V q209 q210 q211 q28 q212
theorem hyX1_exact : yX1_exact.cls ≠ "java/lang/invoke/MethodHandle" ∧ yX1_exact.cls ≠ "java/lang/invoke/VarHandle" ∧ (parseMethodDescriptor yX1_exact.desc).map (fun d => d.parameters.length) = some 0 := by decide +kernel
theorem gX0_X1_exact : GoodIn lw_all (wsV RX0 83 RX1 yX1_exact (ws_ yX1_exact cX1_exact 2 (some .int))) := lw_V q213 q214 q215 q28 q216
theorem hyX1_queryNode : yX1_queryNode.cls ≠ "java/lang/invoke/MethodHandle" ∧ yX1_queryNode.cls ≠ "java/lang/invoke/VarHandle" ∧ (parseMethodDescriptor yX1_queryNode.desc).map (fun d => d.parameters.length) = some 0 := by decide +kernel
theorem gX1_X1_queryNode : GoodIn lw_all (wsV RX1 118 RX1 yX1_queryNode (ws_ yX1_queryNode cX1_queryNode 3 (some .int))) := lw_V q217 q219 qs14 q28 q220
theorem hyX1_continues : yX1_continues.cls ≠ "java/lang/invoke/MethodHandle" ∧ yX1_continues.cls ≠ "java/lang/invoke/VarHandle" ∧ (parseMethodDescriptor yX1_continues.desc).map (fun d => d.parameters.length) = some 0 := by decide +kernel
theorem gX0_X1_continues : GoodIn lw_all (wsV RX0 87 RX1 yX1_continues (ws_ yX1_continues cX1_continues 4 (some .int))) := lw_V q221 q222 q223 q28 q224
theorem hyX2_draft : yX2_draft.cls ≠ "java/lang/invoke/MethodHandle" ∧ yX2_draft.cls ≠ "java/lang/invoke/VarHandle" ∧ (parseMethodDescriptor yX2_draft.desc).map (fun d => d.parameters.length) = some 1 := by decide +kernel
theorem gX0_X2_draft : GoodIn lw_all (wsV RX0 25 RX2 yX2_draft (ws_ yX2_draft cX2_draft 2 (some .int))) := lw_V q253 q254 q255 q29 q256
theorem hyX2_append : yX2_append.cls ≠ "java/lang/invoke/MethodHandle" ∧ yX2_append.cls ≠ "java/lang/invoke/VarHandle" ∧ (parseMethodDescriptor yX2_append.desc).map (fun d => d.parameters.length) = some 2 := by decide +kernel
theorem gX2_X2_append : GoodIn lw_all (wsV RX2 26 RX2 yX2_append (ws_ yX2_append cX2_append 3 (some .int))) := lw_V q257 q259 qs15 q29 q260
theorem hyX2_scrap : yX2_scrap.cls ≠ "java/lang/invoke/MethodHandle" ∧ yX2_scrap.cls ≠ "java/lang/invoke/VarHandle" ∧ (parseMethodDescriptor yX2_scrap.desc).map (fun d => d.parameters.length) = some 0 := by decide +kernel
theorem gX0_X2_scrap : GoodIn lw_all (wsV RX0 29 RX2 yX2_scrap (ws_ yX2_scrap cX2_scrap 1 none)) := lw_V q261 q262 q263 q29 q264
theorem hyX2_add : yX2_add.cls ≠ "java/lang/invoke/MethodHandle" ∧ yX2_add.cls ≠ "java/lang/invoke/VarHandle" ∧ (parseMethodDescriptor yX2_add.desc).map (fun d => d.parameters.length) = some 1 := by decide +kernel
theorem gX0_X2_add : GoodIn lw_all (wsV RX0 33 RX2 yX2_add (ws_ yX2_add cX2_add 3 (some .int))) := lw_V q265 q266 q267 q29 q268
theorem hyX2_drafted : yX2_drafted.cls ≠ "java/lang/invoke/MethodHandle" ∧ yX2_drafted.cls ≠ "java/lang/invoke/VarHandle" ∧ (parseMethodDescriptor yX2_drafted.desc).map (fun d => d.parameters.length) = some 0 := by decide +kernel
theorem gX2_X2_drafted : GoodIn lw_all (wsV RX2 37 RX2 yX2_drafted (ws_ yX2_drafted cX2_drafted 2 (some .int))) := lw_V q269 q271 qs16 q29 q272
theorem hyX2_begins : yX2_begins.cls ≠ "java/lang/invoke/MethodHandle" ∧ yX2_begins.cls ≠ "java/lang/invoke/VarHandle" ∧ (parseMethodDescriptor yX2_begins.desc).map (fun d => d.parameters.length) = some 2 := by decide +kernel
theorem gX2_X2_begins : GoodIn lw_all (wsV RX2 33 RX2 yX2_begins (ws_ yX2_begins cX2_begins 4 (some .boolean))) := lw_V q273 q275 qs17 q29 q276
theorem hyX2_copy : yX2_copy.cls ≠ "java/lang/invoke/MethodHandle" ∧ yX2_copy.cls ≠ "java/lang/invoke/VarHandle" ∧ (parseMethodDescriptor yX2_copy.desc).map (fun d => d.parameters.length) = some 2 := by decide +kernel
theorem gX2_X2_copy : GoodIn lw_all (wsV RX2 41 RX2 yX2_copy (ws_ yX2_copy cX2_copy 4 none)) := lw_V q277 q279 qs18 q29 q280
theorem hyX2_remove : yX2_remove.cls ≠ "java/lang/invoke/MethodHandle" ∧ yX2_remove.cls ≠ "java/lang/invoke/VarHandle" ∧ (parseMethodDescriptor yX2_remove.desc).map (fun d => d.parameters.length) = some 0 := by decide +kernel
theorem gX0_X2_remove : GoodIn lw_all (wsV RX0 38 RX2 yX2_remove (ws_ yX2_remove cX2_remove 3 (some .int))) := lw_V q281 q282 q283 q29 q284
theorem hyX2_weight : yX2_weight.cls ≠ "java/lang/invoke/MethodHandle" ∧ yX2_weight.cls ≠ "java/lang/invoke/VarHandle" ∧ (parseMethodDescriptor yX2_weight.desc).map (fun d => d.parameters.length) = some 0 := by decide +kernel
theorem gX0_X2_weight : GoodIn lw_all (wsV RX0 42 RX2 yX2_weight (ws_ yX2_weight cX2_weight 2 (some .int))) := lw_V q285 q286 q287 q29 q288
theorem hyX2_words : yX2_words.cls ≠ "java/lang/invoke/MethodHandle" ∧ yX2_words.cls ≠ "java/lang/invoke/VarHandle" ∧ (parseMethodDescriptor yX2_words.desc).map (fun d => d.parameters.length) = some 0 := by decide +kernel
theorem gX0_X2_words : GoodIn lw_all (wsV RX0 46 RX2 yX2_words (ws_ yX2_words cX2_words 1 (some .int))) := lw_V q289 q290 q291 q29 q292
theorem hyX2_type : yX2_type.cls ≠ "java/lang/invoke/MethodHandle" ∧ yX2_type.cls ≠ "java/lang/invoke/VarHandle" ∧ (parseMethodDescriptor yX2_type.desc).map (fun d => d.parameters.length) = some 1 := by decide +kernel
theorem gX0_X2_type : GoodIn lw_all (wsV RX0 50 RX2 yX2_type (ws_ yX2_type cX2_type 2 (some .int))) := lw_V q293 q294 q295 q29 q296
theorem hyX2_backspace : yX2_backspace.cls ≠ "java/lang/invoke/MethodHandle" ∧ yX2_backspace.cls ≠ "java/lang/invoke/VarHandle" ∧ (parseMethodDescriptor yX2_backspace.desc).map (fun d => d.parameters.length) = some 0 := by decide +kernel
theorem gX0_X2_backspace : GoodIn lw_all (wsV RX0 54 RX2 yX2_backspace (ws_ yX2_backspace cX2_backspace 1 (some .int))) := lw_V q297 q298 q299 q29 q300
theorem hyX2_reset : yX2_reset.cls ≠ "java/lang/invoke/MethodHandle" ∧ yX2_reset.cls ≠ "java/lang/invoke/VarHandle" ∧ (parseMethodDescriptor yX2_reset.desc).map (fun d => d.parameters.length) = some 0 := by decide +kernel
theorem gX0_X2_reset : GoodIn lw_all (wsV RX0 58 RX2 yX2_reset (ws_ yX2_reset cX2_reset 1 none)) := lw_V q301 q302 q303 q29 q304
theorem hyX2_length : yX2_length.cls ≠ "java/lang/invoke/MethodHandle" ∧ yX2_length.cls ≠ "java/lang/invoke/VarHandle" ∧ (parseMethodDescriptor yX2_length.desc).map (fun d => d.parameters.length) = some 0 := by decide +kernel
theorem gX0_X2_length : GoodIn lw_all (wsV RX0 62 RX2 yX2_length (ws_ yX2_length cX2_length 1 (some .int))) := lw_V q305 q306 q307 q29 q308
theorem hyX2_offered : yX2_offered.cls ≠ "java/lang/invoke/MethodHandle" ∧ yX2_offered.cls ≠ "java/lang/invoke/VarHandle" ∧ (parseMethodDescriptor yX2_offered.desc).map (fun d => d.parameters.length) = some 0 := by decide +kernel
theorem gX0_X2_offered : GoodIn lw_all (wsV RX0 66 RX2 yX2_offered (ws_ yX2_offered cX2_offered 3 (some .int))) := lw_V q309 q310 q311 q29 q312
theorem hyX2_isOffered : yX2_isOffered.cls ≠ "java/lang/invoke/MethodHandle" ∧ yX2_isOffered.cls ≠ "java/lang/invoke/VarHandle" ∧ (parseMethodDescriptor yX2_isOffered.desc).map (fun d => d.parameters.length) = some 1 := by decide +kernel
theorem gX2_X2_isOffered : GoodIn lw_all (wsV RX2 59 RX2 yX2_isOffered (ws_ yX2_isOffered cX2_isOffered 2 (some .boolean))) := lw_V q313 q315 qs19 q29 q316
theorem hyX2_reach : yX2_reach.cls ≠ "java/lang/invoke/MethodHandle" ∧ yX2_reach.cls ≠ "java/lang/invoke/VarHandle" ∧ (parseMethodDescriptor yX2_reach.desc).map (fun d => d.parameters.length) = some 1 := by decide +kernel
theorem gX2_X2_reach : GoodIn lw_all (wsV RX2 52 RX2 yX2_reach (ws_ yX2_reach cX2_reach 4 (some .int))) := lw_V q317 q319 qs20 q29 q320
theorem hyX2_fill : yX2_fill.cls ≠ "java/lang/invoke/MethodHandle" ∧ yX2_fill.cls ≠ "java/lang/invoke/VarHandle" ∧ (parseMethodDescriptor yX2_fill.desc).map (fun d => d.parameters.length) = some 1 := by decide +kernel
theorem gX2_X2_fill : GoodIn lw_all (wsV RX2 48 RX2 yX2_fill (ws_ yX2_fill cX2_fill 8 none)) := lw_V q321 q323 qs21 q29 q324
theorem hyX2_least : yX2_least.cls ≠ "java/lang/invoke/MethodHandle" ∧ yX2_least.cls ≠ "java/lang/invoke/VarHandle" ∧ (parseMethodDescriptor yX2_least.desc).map (fun d => d.parameters.length) = some 2 := by decide +kernel
theorem gX2_X2_least : GoodIn lw_all (wsV RX2 45 RX2 yX2_least (ws_ yX2_least cX2_least 3 (some .int))) := lw_V q325 q327 qs22 q29 q328
theorem hyX2_offer : yX2_offer.cls ≠ "java/lang/invoke/MethodHandle" ∧ yX2_offer.cls ≠ "java/lang/invoke/VarHandle" ∧ (parseMethodDescriptor yX2_offer.desc).map (fun d => d.parameters.length) = some 1 := by decide +kernel
theorem gX0_X2_offer : GoodIn lw_all (wsV RX0 70 RX2 yX2_offer (ws_ yX2_offer cX2_offer 5 (some .int))) := lw_V q329 q330 q331 q29 q332
theorem hyX2_wordAt : yX2_wordAt.cls ≠ "java/lang/invoke/MethodHandle" ∧ yX2_wordAt.cls ≠ "java/lang/invoke/VarHandle" ∧ (parseMethodDescriptor yX2_wordAt.desc).map (fun d => d.parameters.length) = some 1 := by decide +kernel
theorem gX2_X2_wordAt : GoodIn lw_all (wsV RX2 69 RX2 yX2_wordAt (ws_ yX2_wordAt cX2_wordAt 3 (some .int))) := lw_V q333 q335 qs23 q29 q336
theorem hyX2_rankOf : yX2_rankOf.cls ≠ "java/lang/invoke/MethodHandle" ∧ yX2_rankOf.cls ≠ "java/lang/invoke/VarHandle" ∧ (parseMethodDescriptor yX2_rankOf.desc).map (fun d => d.parameters.length) = some 1 := by decide +kernel
theorem gX2_X2_rankOf : GoodIn lw_all (wsV RX2 66 RX2 yX2_rankOf (ws_ yX2_rankOf cX2_rankOf 4 (some .int))) := lw_V q337 q339 qs24 q29 q340
theorem hyX2_ranksBefore : yX2_ranksBefore.cls ≠ "java/lang/invoke/MethodHandle" ∧ yX2_ranksBefore.cls ≠ "java/lang/invoke/VarHandle" ∧ (parseMethodDescriptor yX2_ranksBefore.desc).map (fun d => d.parameters.length) = some 2 := by decide +kernel
theorem gX2_X2_ranksBefore : GoodIn lw_all (wsV RX2 63 RX2 yX2_ranksBefore (ws_ yX2_ranksBefore cX2_ranksBefore 5 (some .boolean))) := lw_V q341 q343 qs25 q29 q344
theorem hyX2_before : yX2_before.cls ≠ "java/lang/invoke/MethodHandle" ∧ yX2_before.cls ≠ "java/lang/invoke/VarHandle" ∧ (parseMethodDescriptor yX2_before.desc).map (fun d => d.parameters.length) = some 2 := by decide +kernel
theorem gX2_X2_before : GoodIn lw_all (wsV RX2 56 RX2 yX2_before (ws_ yX2_before cX2_before 4 (some .boolean))) := lw_V q345 q347 qs26 q29 q348
theorem hyX2_distance : yX2_distance.cls ≠ "java/lang/invoke/MethodHandle" ∧ yX2_distance.cls ≠ "java/lang/invoke/VarHandle" ∧ (parseMethodDescriptor yX2_distance.desc).map (fun d => d.parameters.length) = some 1 := by decide +kernel
theorem gX0_X2_distance : GoodIn lw_all (wsV RX0 74 RX2 yX2_distance (ws_ yX2_distance cX2_distance 3 (some .int))) := lw_V q349 q350 q351 q29 q352
theorem hyX2_weightAt : yX2_weightAt.cls ≠ "java/lang/invoke/MethodHandle" ∧ yX2_weightAt.cls ≠ "java/lang/invoke/VarHandle" ∧ (parseMethodDescriptor yX2_weightAt.desc).map (fun d => d.parameters.length) = some 1 := by decide +kernel
theorem gX0_X2_weightAt : GoodIn lw_all (wsV RX0 78 RX2 yX2_weightAt (ws_ yX2_weightAt cX2_weightAt 3 (some .int))) := lw_V q353 q354 q355 q29 q356
theorem hyX2_nearest : yX2_nearest.cls ≠ "java/lang/invoke/MethodHandle" ∧ yX2_nearest.cls ≠ "java/lang/invoke/VarHandle" ∧ (parseMethodDescriptor yX2_nearest.desc).map (fun d => d.parameters.length) = some 0 := by decide +kernel
theorem gX0_X2_nearest : GoodIn lw_all (wsV RX0 82 RX2 yX2_nearest (ws_ yX2_nearest cX2_nearest 3 (some .int))) := lw_V q357 q358 q359 q29 q360
theorem hyX2_exact : yX2_exact.cls ≠ "java/lang/invoke/MethodHandle" ∧ yX2_exact.cls ≠ "java/lang/invoke/VarHandle" ∧ (parseMethodDescriptor yX2_exact.desc).map (fun d => d.parameters.length) = some 0 := by decide +kernel
theorem gX0_X2_exact : GoodIn lw_all (wsV RX0 86 RX2 yX2_exact (ws_ yX2_exact cX2_exact 3 (some .int))) := lw_V q361 q362 q363 q29 q364
theorem hyX2_continues : yX2_continues.cls ≠ "java/lang/invoke/MethodHandle" ∧ yX2_continues.cls ≠ "java/lang/invoke/VarHandle" ∧ (parseMethodDescriptor yX2_continues.desc).map (fun d => d.parameters.length) = some 0 := by decide +kernel
theorem gX0_X2_continues : GoodIn lw_all (wsV RX0 90 RX2 yX2_continues (ws_ yX2_continues cX2_continues 3 (some .int))) := lw_V q365 q366 q367 q29 q368
end
section
/-! WHAT FuzzyTypeahead COMPUTES. Fields: ints 0 limit, 1 drafted, 3 typed, 5 words, 14 count; arrays 2 draft, 4 query, 6 below, 7 child, 8 parent, 9 letter, 10 depth, 11 code, 12 wordWeight, 13 near, 15 rankNode, 16 rankDistance, 17 stack, 18 reach -/
set_option maxRecDepth 100000
def capF (σ : XS) (d : Int) : Int := if σ.1 0 < d then σ.1 0 + 1 else d
def flLoop : Nat → Int → XS → XS
  | 0, _, σ => σ
  | n + 1, i, σ => flLoop n (i + 1) (sA σ 13 i (if i = 0 ∨ 0 < σ.2 6 i then capF σ (σ.2 10 i) else σ.1 0 + 1))
def firstF (σ : XS) : XS := flLoop 80 0 σ
def minF (a b : Int) : Int := if a < b then a else b
def stepF (σ : XS) (node fr to c : Int) : Int :=
  if node = 0 then capF σ (σ.2 13 (fr + node) + 1)
  else capF σ (minF (σ.2 13 (to + σ.2 8 node) + 1) (minF (σ.2 13 (fr + σ.2 8 node) + (if σ.2 9 node = c then 0 else 1)) (σ.2 13 (fr + node) + 1)))
def nlIn (n d : Int) : Nat → Int → XS → XS
  | 0, _, σ => σ
  | k + 1, node, σ => nlIn n d k (node + 1) (if (node = 0 ∨ 0 < σ.2 6 node) ∧ σ.2 10 node = d then sA σ 13 (n * 80 + 80 + node) (stepF σ node (n * 80) (n * 80 + 80) (σ.2 4 n)) else σ)
def nlOut (n : Int) : Nat → Int → XS → XS
  | 0, _, σ => σ
  | k + 1, d, σ => nlOut n k (d + 1) (nlIn n d 80 0 σ)
def nextF (σ : XS) (n : Int) : XS := nlOut n 7 0 σ
def befF (σ : XS) (d wt r : Int) : Bool := if d = σ.2 16 r then decide (σ.2 12 (σ.2 15 r) < wt) else decide (d < σ.2 16 r)
def insLoop (node dist : Int) : Nat → Int → XS → Int × XS
  | 0, at', σ => (at', σ)
  | k + 1, at', σ => if befF σ dist (σ.2 12 node) (k : Int) = true then insLoop node dist k (k : Int) (sA (sA σ 15 ((k : Int) + 1) (σ.2 15 (k : Int))) 16 ((k : Int) + 1) (σ.2 16 (k : Int))) else (at', σ)
def insFin (q : Int × XS) (node dist : Int) : XS := sI (sA (sA q.2 15 q.1 node) 16 q.1 dist) 14 (q.2.1 14 + 1)
def insF (σ : XS) (node dist : Int) : XS := insFin (insLoop node dist (σ.1 14).toNat (σ.1 14) σ) node dist
def rkPush (layer node c : Int) (q : XS × Int) : XS × Int :=
  if q.1.2 7 (node * 4 + c) = 0 then q
  else (sA (sA q.1 18 (q.1.2 7 (node * 4 + c)) (minF (q.1.2 13 (layer + q.1.2 7 (node * 4 + c))) (q.1.2 18 node))) 17 q.2 (q.1.2 7 (node * 4 + c)), q.2 + 1)
def rkPushes (layer node : Int) : Nat → XS × Int → XS × Int
  | 0, q => q
  | k + 1, q => rkPushes layer node k (rkPush layer node (k : Int) q)
def rkTake (σ : XS) (node : Int) : XS := if 0 ≤ σ.2 12 node ∧ node ≠ 0 ∧ σ.2 18 node ≤ σ.1 0 then insF σ node (σ.2 18 node) else σ
def rkRound (layer : Int) (q : XS × Int) : XS × Int := rkPushes layer (q.1.2 17 (q.2 - 1)) 4 (rkTake q.1 (q.1.2 17 (q.2 - 1)), q.2 - 1)
def rkLoop (layer : Int) : Nat → XS × Int → XS × Int
  | 0, q => q
  | n + 1, q => if 0 < q.2 then rkLoop layer n (rkRound layer q) else q
def rkStart (σ : XS) : XS := sA (sA (sI σ 14 0) 17 0 0) 18 0 (σ.2 13 (σ.1 3 * 80))
def rankF (σ : XS) : XS := (rkLoop (σ.1 3 * 80) 80 (rkStart σ, 1)).1
/-- the walk through the tree stays inside its arrays -/
def rkSafe (layer : Int) : Nat → XS × Int → Prop
  | 0, _ => True
  | n + 1, q => 0 < q.2 → (q.2 ≤ 80 ∧ (rkRound layer q).2 ≤ 80 ∧ ((0 ≤ q.1.2 12 (q.1.2 17 (q.2 - 1)) ∧ q.1.2 17 (q.2 - 1) ≠ 0 ∧ q.1.2 18 (q.1.2 17 (q.2 - 1)) ≤ q.1.1 0) → q.1.1 14 ≤ 11) ∧ rkSafe layer n (rkRound layer q))
def rankOK (σ : XS) : Prop := rkSafe (σ.1 3 * 80) 80 (rkStart σ, 1)
def loLoop : Nat → Int → XS → XS
  | 0, _, σ => σ
  | k + 1, n, σ => loLoop k (n + 1) (nextF σ n)
def layP (σ : XS) : XS := loLoop (σ.1 3).toNat 0 (firstF σ)
def layF (σ : XS) : XS := rankF (layP σ)
def dnode (ch q : Int → Int) : Nat → Int → Int → Int
  | 0, _, node => node
  | n + 1, i, node => if ch (node * 4 + q i) = 0 then -1 else dnode ch q n (i + 1) (ch (node * 4 + q i))
def fnode (bl : Int → Int) : Nat → Int → Int
  | 0, f => f
  | k + 1, f => fnode bl k (if bl ((k : Int) + 1) = 0 then (k : Int) + 1 else f)
def freeF (σ : XS) : Int := fnode (σ.2 6) 79 1
def mkA (σ : XS) (node c made : Int) : XS := sA (sA (sA σ 7 (node * 4 + c) made) 8 made node) 9 made c
def mkB (σ : XS) (node c made : Int) : XS := sA (sA (sA σ 10 made (σ.2 10 node + 1)) 11 made (σ.2 11 node * 5 + c + 1)) 12 made (-4)
def mkC (σ : XS) (made : Int) : XS := sA (sA (sA (sA σ 7 (made * 4 + 0) 0) 7 (made * 4 + 1) 0) 7 (made * 4 + 2) 0) 7 (made * 4 + 3) 0
def mkF (σ : XS) (node c : Int) : XS := mkC (mkB (mkA σ node c (freeF σ)) node c (freeF σ)) (freeF σ)
def adStep (σ : XS) (node c : Int) : Int × XS := if σ.2 7 (node * 4 + c) = 0 then (freeF σ, mkF σ node c) else (σ.2 7 (node * 4 + c), σ)
def adBump (q : Int × XS) : Int × XS := (q.1, sA q.2 6 q.1 (q.2.2 6 q.1 + 1))
def adLoop : Nat → Int → Int × XS → Int × XS
  | 0, _, q => q
  | k + 1, i, q => adLoop k (i + 1) (adBump (adStep q.2 q.1 (q.2.2 2 i)))
def adIns (σ : XS) (wt : Int) : XS := (fun q : Int × XS => sI (sI (sA q.2 12 q.1 wt) 5 (q.2.1 5 + 1)) 1 0) (adLoop (σ.1 1).toNat 0 (0, sA σ 6 0 (σ.2 6 0 + 1)))
def adThere (σ : XS) : Int := dnode (σ.2 7) (σ.2 2) (σ.1 1).toNat 0 0
def adRep (σ : XS) (wt : Int) : XS := sI (sA σ 12 (adThere σ) wt) 1 0
def addF (σ : XS) (wt : Int) : Int × XS :=
  if wt < 0 ∨ 99 < wt ∨ σ.1 1 = 0 then (-1, σ)
  else if 0 < adThere σ ∧ 0 ≤ σ.2 12 (adThere σ) then (0, rankF (adRep σ wt))
  else if σ.1 5 = 12 then (-2, σ)
  else (1, layF (adIns σ wt))
def rmStep (σ : XS) (node : Int) : XS :=
  if σ.2 6 node - 1 = 0 then sA (sA σ 6 node (σ.2 6 node - 1)) 7 (σ.2 8 node * 4 + σ.2 9 node) 0 else sA σ 6 node (σ.2 6 node - 1)
def rmLoop : Nat → Int → XS → XS
  | 0, _, σ => σ
  | k + 1, node, σ => if node = 0 then σ else rmLoop k (σ.2 8 node) (rmStep σ node)
def rmStart (σ : XS) (node : Int) : XS := (fun σ1 : XS => sA σ1 6 0 (σ1.2 6 0 - 1)) (sI (sA σ 12 node (-4)) 5 (σ.1 5 - 1))
def rmDel (σ : XS) (node : Int) : XS := sI (rmLoop 6 node (rmStart σ node)) 1 0
def removeF (σ : XS) : Int × XS :=
  if σ.1 1 = 0 then (-1, σ)
  else if adThere σ < 0 ∨ σ.2 12 (adThere σ) < 0 then (-4, σ)
  else (σ.2 12 (adThere σ), layF (rmDel σ (adThere σ)))
def nrLoop (σ : XS) : Nat → Int → Int → Int
  | 0, _, b => b
  | k + 1, n, b => nrLoop σ k (n + 1) (if 0 < σ.2 6 n ∧ 0 ≤ σ.2 12 n ∧ σ.2 13 (σ.1 3 * 80 + n) < b then σ.2 13 (σ.1 3 * 80 + n) else b)
def nrF (σ : XS) : Int := if σ.1 0 < nrLoop σ 79 1 (σ.1 0 + 1) then -4 else nrLoop σ 79 1 (σ.1 0 + 1)
def qyNode (σ : XS) : Int := dnode (σ.2 7) (σ.2 4) (σ.1 3).toNat 0 0
def orb (a c : Int) : Int := ((a.toNat ||| 2 ^ c.toNat : Nat) : Int)
def coLoop (σ : XS) (node : Int) : Nat → Int → Int → Int
  | 0, _, b => b
  | k + 1, c, b => coLoop σ node k (c + 1) (if 0 ≤ node ∧ σ.2 7 (node * 4 + c) ≠ 0 then orb b c else b)
theorem orb_lt : ∀ a : Nat, a < 16 → ∀ c : Nat, c < 4 → a ||| 2 ^ c < 16 := by decide
theorem orb_rg {a c : Int} (ha : 0 ≤ a ∧ a < 16) (hc : 0 ≤ c ∧ c < 4) : 0 ≤ orb a c ∧ orb a c < 16 := by
  have h := orb_lt a.toNat (by omega) c.toNat (by omega)
  unfold orb
  omega
theorem orb_ii : ∀ a : Nat, a < 16 → ∀ c : Nat, c < 4 → iI (a : Int) ||| (iI 1 <<< (iI (c : Int) &&& 31)) = iI (((a ||| 2 ^ c : Nat) : Int)) := by decide
theorem orb_or {a c : Int} (ha : 0 ≤ a ∧ a < 16) (hc : 0 ≤ c ∧ c < 4) : iI a ||| (iI 1 <<< (iI c &&& 31)) = iI (orb a c) := by
  have h := orb_ii a.toNat (by omega) c.toNat (by omega)
  rw [Int.toNat_of_nonneg ha.1, Int.toNat_of_nonneg hc.1] at h
  exact h
theorem shl_ii : ∀ c : Nat, c < 4 → iI 1 <<< (iI (c : Int) &&& 31) = iI (((2 ^ c : Nat) : Int)) := by decide
theorem shl_or {c : Int} (hc : 0 ≤ c ∧ c < 4) : iI 1 <<< (iI c &&& 31) = iI (((2 ^ c.toNat : Nat) : Int)) := by
  have h := shl_ii c.toNat (by omega)
  rw [Int.toNat_of_nonneg hc.1] at h
  exact h
theorem orb_or2 {a c : Int} (ha : 0 ≤ a ∧ a < 16) (hc : 0 ≤ c ∧ c < 4) : iI a ||| iI (((2 ^ c.toNat : Nat) : Int)) = iI (orb a c) := by
  rw [← shl_or hc]
  exact orb_or ha hc

/-- the ranges -/
def OKx (B : Int) (σ : XS) : Prop := (0 ≤ σ.1 0 ∧ σ.1 0 ≤ 3) ∧ (0 ≤ σ.1 1 ∧ σ.1 1 ≤ 6) ∧ (∀ j : Int, 0 ≤ σ.2 2 j ∧ σ.2 2 j ≤ 3) ∧ (0 ≤ σ.1 3 ∧ σ.1 3 ≤ 6) ∧ (∀ j : Int, 0 ≤ σ.2 4 j ∧ σ.2 4 j ≤ 3) ∧ (-B ≤ σ.1 5 ∧ σ.1 5 ≤ B) ∧ (∀ j : Int, -B ≤ σ.2 6 j ∧ σ.2 6 j ≤ B) ∧ (∀ j : Int, 0 ≤ σ.2 7 j ∧ σ.2 7 j ≤ 79) ∧ (∀ j : Int, 0 ≤ σ.2 8 j ∧ σ.2 8 j ≤ 79) ∧ (∀ j : Int, 0 ≤ σ.2 9 j ∧ σ.2 9 j ≤ 3) ∧ (∀ j : Int, -B ≤ σ.2 10 j ∧ σ.2 10 j ≤ B) ∧ (∀ j : Int, -4 ≤ σ.2 12 j ∧ σ.2 12 j ≤ 99) ∧ (∀ j : Int, -B ≤ σ.2 13 j ∧ σ.2 13 j ≤ B) ∧ (0 ≤ σ.1 14 ∧ σ.1 14 ≤ 12) ∧ (∀ j : Int, 0 ≤ σ.2 15 j ∧ σ.2 15 j ≤ 79) ∧ (∀ j : Int, -B ≤ σ.2 16 j ∧ σ.2 16 j ≤ B) ∧ (∀ j : Int, 0 ≤ σ.2 17 j ∧ σ.2 17 j ≤ 79) ∧ (∀ j : Int, -B ≤ σ.2 18 j ∧ σ.2 18 j ≤ B)
theorem fU_rg {f : Int → Int} {lo hi i v : Int} (h : ∀ j : Int, lo ≤ f j ∧ f j ≤ hi) (hv : lo ≤ v ∧ v ≤ hi) (j : Int) : lo ≤ fU f i v j ∧ fU f i v j ≤ hi := by
  unfold fU
  split
  · exact hv
  · exact h j
theorem OKx.i0 {B : Int} {σ : XS} (h : OKx B σ) : 0 ≤ σ.1 0 ∧ σ.1 0 ≤ 3 := h.1
theorem OKx.sI0 {B v : Int} {σ : XS} (h : OKx B σ) (hv : 0 ≤ v ∧ v ≤ 3) : OKx B (sI σ 0 v) := ⟨hv, h.2.1, h.2.2.1, h.2.2.2.1, h.2.2.2.2.1, h.2.2.2.2.2.1, h.2.2.2.2.2.2.1, h.2.2.2.2.2.2.2.1, h.2.2.2.2.2.2.2.2.1, h.2.2.2.2.2.2.2.2.2.1, h.2.2.2.2.2.2.2.2.2.2.1, h.2.2.2.2.2.2.2.2.2.2.2.1, h.2.2.2.2.2.2.2.2.2.2.2.2.1, h.2.2.2.2.2.2.2.2.2.2.2.2.2.1, h.2.2.2.2.2.2.2.2.2.2.2.2.2.2.1, h.2.2.2.2.2.2.2.2.2.2.2.2.2.2.2.1, h.2.2.2.2.2.2.2.2.2.2.2.2.2.2.2.2.1, h.2.2.2.2.2.2.2.2.2.2.2.2.2.2.2.2.2⟩
theorem OKx.i1 {B : Int} {σ : XS} (h : OKx B σ) : 0 ≤ σ.1 1 ∧ σ.1 1 ≤ 6 := h.2.1
theorem OKx.sI1 {B v : Int} {σ : XS} (h : OKx B σ) (hv : 0 ≤ v ∧ v ≤ 6) : OKx B (sI σ 1 v) := ⟨h.1, hv, h.2.2.1, h.2.2.2.1, h.2.2.2.2.1, h.2.2.2.2.2.1, h.2.2.2.2.2.2.1, h.2.2.2.2.2.2.2.1, h.2.2.2.2.2.2.2.2.1, h.2.2.2.2.2.2.2.2.2.1, h.2.2.2.2.2.2.2.2.2.2.1, h.2.2.2.2.2.2.2.2.2.2.2.1, h.2.2.2.2.2.2.2.2.2.2.2.2.1, h.2.2.2.2.2.2.2.2.2.2.2.2.2.1, h.2.2.2.2.2.2.2.2.2.2.2.2.2.2.1, h.2.2.2.2.2.2.2.2.2.2.2.2.2.2.2.1, h.2.2.2.2.2.2.2.2.2.2.2.2.2.2.2.2.1, h.2.2.2.2.2.2.2.2.2.2.2.2.2.2.2.2.2⟩
theorem OKx.f2 {B : Int} {σ : XS} (h : OKx B σ) (j : Int) : 0 ≤ σ.2 2 j ∧ σ.2 2 j ≤ 3 := h.2.2.1 j
theorem OKx.sA2 {B i v : Int} {σ : XS} (h : OKx B σ) (hv : 0 ≤ v ∧ v ≤ 3) : OKx B (sA σ 2 i v) := ⟨h.1, h.2.1, fun j => fU_rg h.2.2.1 hv j, h.2.2.2.1, h.2.2.2.2.1, h.2.2.2.2.2.1, h.2.2.2.2.2.2.1, h.2.2.2.2.2.2.2.1, h.2.2.2.2.2.2.2.2.1, h.2.2.2.2.2.2.2.2.2.1, h.2.2.2.2.2.2.2.2.2.2.1, h.2.2.2.2.2.2.2.2.2.2.2.1, h.2.2.2.2.2.2.2.2.2.2.2.2.1, h.2.2.2.2.2.2.2.2.2.2.2.2.2.1, h.2.2.2.2.2.2.2.2.2.2.2.2.2.2.1, h.2.2.2.2.2.2.2.2.2.2.2.2.2.2.2.1, h.2.2.2.2.2.2.2.2.2.2.2.2.2.2.2.2.1, h.2.2.2.2.2.2.2.2.2.2.2.2.2.2.2.2.2⟩
theorem OKx.i3 {B : Int} {σ : XS} (h : OKx B σ) : 0 ≤ σ.1 3 ∧ σ.1 3 ≤ 6 := h.2.2.2.1
theorem OKx.sI3 {B v : Int} {σ : XS} (h : OKx B σ) (hv : 0 ≤ v ∧ v ≤ 6) : OKx B (sI σ 3 v) := ⟨h.1, h.2.1, h.2.2.1, hv, h.2.2.2.2.1, h.2.2.2.2.2.1, h.2.2.2.2.2.2.1, h.2.2.2.2.2.2.2.1, h.2.2.2.2.2.2.2.2.1, h.2.2.2.2.2.2.2.2.2.1, h.2.2.2.2.2.2.2.2.2.2.1, h.2.2.2.2.2.2.2.2.2.2.2.1, h.2.2.2.2.2.2.2.2.2.2.2.2.1, h.2.2.2.2.2.2.2.2.2.2.2.2.2.1, h.2.2.2.2.2.2.2.2.2.2.2.2.2.2.1, h.2.2.2.2.2.2.2.2.2.2.2.2.2.2.2.1, h.2.2.2.2.2.2.2.2.2.2.2.2.2.2.2.2.1, h.2.2.2.2.2.2.2.2.2.2.2.2.2.2.2.2.2⟩
theorem OKx.f4 {B : Int} {σ : XS} (h : OKx B σ) (j : Int) : 0 ≤ σ.2 4 j ∧ σ.2 4 j ≤ 3 := h.2.2.2.2.1 j
theorem OKx.sA4 {B i v : Int} {σ : XS} (h : OKx B σ) (hv : 0 ≤ v ∧ v ≤ 3) : OKx B (sA σ 4 i v) := ⟨h.1, h.2.1, h.2.2.1, h.2.2.2.1, fun j => fU_rg h.2.2.2.2.1 hv j, h.2.2.2.2.2.1, h.2.2.2.2.2.2.1, h.2.2.2.2.2.2.2.1, h.2.2.2.2.2.2.2.2.1, h.2.2.2.2.2.2.2.2.2.1, h.2.2.2.2.2.2.2.2.2.2.1, h.2.2.2.2.2.2.2.2.2.2.2.1, h.2.2.2.2.2.2.2.2.2.2.2.2.1, h.2.2.2.2.2.2.2.2.2.2.2.2.2.1, h.2.2.2.2.2.2.2.2.2.2.2.2.2.2.1, h.2.2.2.2.2.2.2.2.2.2.2.2.2.2.2.1, h.2.2.2.2.2.2.2.2.2.2.2.2.2.2.2.2.1, h.2.2.2.2.2.2.2.2.2.2.2.2.2.2.2.2.2⟩
theorem OKx.i5 {B : Int} {σ : XS} (h : OKx B σ) : -B ≤ σ.1 5 ∧ σ.1 5 ≤ B := h.2.2.2.2.2.1
theorem OKx.sI5 {B v : Int} {σ : XS} (h : OKx B σ) (hv : -B ≤ v ∧ v ≤ B) : OKx B (sI σ 5 v) := ⟨h.1, h.2.1, h.2.2.1, h.2.2.2.1, h.2.2.2.2.1, hv, h.2.2.2.2.2.2.1, h.2.2.2.2.2.2.2.1, h.2.2.2.2.2.2.2.2.1, h.2.2.2.2.2.2.2.2.2.1, h.2.2.2.2.2.2.2.2.2.2.1, h.2.2.2.2.2.2.2.2.2.2.2.1, h.2.2.2.2.2.2.2.2.2.2.2.2.1, h.2.2.2.2.2.2.2.2.2.2.2.2.2.1, h.2.2.2.2.2.2.2.2.2.2.2.2.2.2.1, h.2.2.2.2.2.2.2.2.2.2.2.2.2.2.2.1, h.2.2.2.2.2.2.2.2.2.2.2.2.2.2.2.2.1, h.2.2.2.2.2.2.2.2.2.2.2.2.2.2.2.2.2⟩
theorem OKx.f6 {B : Int} {σ : XS} (h : OKx B σ) (j : Int) : -B ≤ σ.2 6 j ∧ σ.2 6 j ≤ B := h.2.2.2.2.2.2.1 j
theorem OKx.sA6 {B i v : Int} {σ : XS} (h : OKx B σ) (hv : -B ≤ v ∧ v ≤ B) : OKx B (sA σ 6 i v) := ⟨h.1, h.2.1, h.2.2.1, h.2.2.2.1, h.2.2.2.2.1, h.2.2.2.2.2.1, fun j => fU_rg h.2.2.2.2.2.2.1 hv j, h.2.2.2.2.2.2.2.1, h.2.2.2.2.2.2.2.2.1, h.2.2.2.2.2.2.2.2.2.1, h.2.2.2.2.2.2.2.2.2.2.1, h.2.2.2.2.2.2.2.2.2.2.2.1, h.2.2.2.2.2.2.2.2.2.2.2.2.1, h.2.2.2.2.2.2.2.2.2.2.2.2.2.1, h.2.2.2.2.2.2.2.2.2.2.2.2.2.2.1, h.2.2.2.2.2.2.2.2.2.2.2.2.2.2.2.1, h.2.2.2.2.2.2.2.2.2.2.2.2.2.2.2.2.1, h.2.2.2.2.2.2.2.2.2.2.2.2.2.2.2.2.2⟩
theorem OKx.f7 {B : Int} {σ : XS} (h : OKx B σ) (j : Int) : 0 ≤ σ.2 7 j ∧ σ.2 7 j ≤ 79 := h.2.2.2.2.2.2.2.1 j
theorem OKx.sA7 {B i v : Int} {σ : XS} (h : OKx B σ) (hv : 0 ≤ v ∧ v ≤ 79) : OKx B (sA σ 7 i v) := ⟨h.1, h.2.1, h.2.2.1, h.2.2.2.1, h.2.2.2.2.1, h.2.2.2.2.2.1, h.2.2.2.2.2.2.1, fun j => fU_rg h.2.2.2.2.2.2.2.1 hv j, h.2.2.2.2.2.2.2.2.1, h.2.2.2.2.2.2.2.2.2.1, h.2.2.2.2.2.2.2.2.2.2.1, h.2.2.2.2.2.2.2.2.2.2.2.1, h.2.2.2.2.2.2.2.2.2.2.2.2.1, h.2.2.2.2.2.2.2.2.2.2.2.2.2.1, h.2.2.2.2.2.2.2.2.2.2.2.2.2.2.1, h.2.2.2.2.2.2.2.2.2.2.2.2.2.2.2.1, h.2.2.2.2.2.2.2.2.2.2.2.2.2.2.2.2.1, h.2.2.2.2.2.2.2.2.2.2.2.2.2.2.2.2.2⟩
theorem OKx.f8 {B : Int} {σ : XS} (h : OKx B σ) (j : Int) : 0 ≤ σ.2 8 j ∧ σ.2 8 j ≤ 79 := h.2.2.2.2.2.2.2.2.1 j
theorem OKx.sA8 {B i v : Int} {σ : XS} (h : OKx B σ) (hv : 0 ≤ v ∧ v ≤ 79) : OKx B (sA σ 8 i v) := ⟨h.1, h.2.1, h.2.2.1, h.2.2.2.1, h.2.2.2.2.1, h.2.2.2.2.2.1, h.2.2.2.2.2.2.1, h.2.2.2.2.2.2.2.1, fun j => fU_rg h.2.2.2.2.2.2.2.2.1 hv j, h.2.2.2.2.2.2.2.2.2.1, h.2.2.2.2.2.2.2.2.2.2.1, h.2.2.2.2.2.2.2.2.2.2.2.1, h.2.2.2.2.2.2.2.2.2.2.2.2.1, h.2.2.2.2.2.2.2.2.2.2.2.2.2.1, h.2.2.2.2.2.2.2.2.2.2.2.2.2.2.1, h.2.2.2.2.2.2.2.2.2.2.2.2.2.2.2.1, h.2.2.2.2.2.2.2.2.2.2.2.2.2.2.2.2.1, h.2.2.2.2.2.2.2.2.2.2.2.2.2.2.2.2.2⟩
theorem OKx.f9 {B : Int} {σ : XS} (h : OKx B σ) (j : Int) : 0 ≤ σ.2 9 j ∧ σ.2 9 j ≤ 3 := h.2.2.2.2.2.2.2.2.2.1 j
theorem OKx.sA9 {B i v : Int} {σ : XS} (h : OKx B σ) (hv : 0 ≤ v ∧ v ≤ 3) : OKx B (sA σ 9 i v) := ⟨h.1, h.2.1, h.2.2.1, h.2.2.2.1, h.2.2.2.2.1, h.2.2.2.2.2.1, h.2.2.2.2.2.2.1, h.2.2.2.2.2.2.2.1, h.2.2.2.2.2.2.2.2.1, fun j => fU_rg h.2.2.2.2.2.2.2.2.2.1 hv j, h.2.2.2.2.2.2.2.2.2.2.1, h.2.2.2.2.2.2.2.2.2.2.2.1, h.2.2.2.2.2.2.2.2.2.2.2.2.1, h.2.2.2.2.2.2.2.2.2.2.2.2.2.1, h.2.2.2.2.2.2.2.2.2.2.2.2.2.2.1, h.2.2.2.2.2.2.2.2.2.2.2.2.2.2.2.1, h.2.2.2.2.2.2.2.2.2.2.2.2.2.2.2.2.1, h.2.2.2.2.2.2.2.2.2.2.2.2.2.2.2.2.2⟩
theorem OKx.f10 {B : Int} {σ : XS} (h : OKx B σ) (j : Int) : -B ≤ σ.2 10 j ∧ σ.2 10 j ≤ B := h.2.2.2.2.2.2.2.2.2.2.1 j
theorem OKx.sA10 {B i v : Int} {σ : XS} (h : OKx B σ) (hv : -B ≤ v ∧ v ≤ B) : OKx B (sA σ 10 i v) := ⟨h.1, h.2.1, h.2.2.1, h.2.2.2.1, h.2.2.2.2.1, h.2.2.2.2.2.1, h.2.2.2.2.2.2.1, h.2.2.2.2.2.2.2.1, h.2.2.2.2.2.2.2.2.1, h.2.2.2.2.2.2.2.2.2.1, fun j => fU_rg h.2.2.2.2.2.2.2.2.2.2.1 hv j, h.2.2.2.2.2.2.2.2.2.2.2.1, h.2.2.2.2.2.2.2.2.2.2.2.2.1, h.2.2.2.2.2.2.2.2.2.2.2.2.2.1, h.2.2.2.2.2.2.2.2.2.2.2.2.2.2.1, h.2.2.2.2.2.2.2.2.2.2.2.2.2.2.2.1, h.2.2.2.2.2.2.2.2.2.2.2.2.2.2.2.2.1, h.2.2.2.2.2.2.2.2.2.2.2.2.2.2.2.2.2⟩
theorem OKx.f12 {B : Int} {σ : XS} (h : OKx B σ) (j : Int) : -4 ≤ σ.2 12 j ∧ σ.2 12 j ≤ 99 := h.2.2.2.2.2.2.2.2.2.2.2.1 j
theorem OKx.sA12 {B i v : Int} {σ : XS} (h : OKx B σ) (hv : -4 ≤ v ∧ v ≤ 99) : OKx B (sA σ 12 i v) := ⟨h.1, h.2.1, h.2.2.1, h.2.2.2.1, h.2.2.2.2.1, h.2.2.2.2.2.1, h.2.2.2.2.2.2.1, h.2.2.2.2.2.2.2.1, h.2.2.2.2.2.2.2.2.1, h.2.2.2.2.2.2.2.2.2.1, h.2.2.2.2.2.2.2.2.2.2.1, fun j => fU_rg h.2.2.2.2.2.2.2.2.2.2.2.1 hv j, h.2.2.2.2.2.2.2.2.2.2.2.2.1, h.2.2.2.2.2.2.2.2.2.2.2.2.2.1, h.2.2.2.2.2.2.2.2.2.2.2.2.2.2.1, h.2.2.2.2.2.2.2.2.2.2.2.2.2.2.2.1, h.2.2.2.2.2.2.2.2.2.2.2.2.2.2.2.2.1, h.2.2.2.2.2.2.2.2.2.2.2.2.2.2.2.2.2⟩
theorem OKx.f13 {B : Int} {σ : XS} (h : OKx B σ) (j : Int) : -B ≤ σ.2 13 j ∧ σ.2 13 j ≤ B := h.2.2.2.2.2.2.2.2.2.2.2.2.1 j
theorem OKx.sA13 {B i v : Int} {σ : XS} (h : OKx B σ) (hv : -B ≤ v ∧ v ≤ B) : OKx B (sA σ 13 i v) := ⟨h.1, h.2.1, h.2.2.1, h.2.2.2.1, h.2.2.2.2.1, h.2.2.2.2.2.1, h.2.2.2.2.2.2.1, h.2.2.2.2.2.2.2.1, h.2.2.2.2.2.2.2.2.1, h.2.2.2.2.2.2.2.2.2.1, h.2.2.2.2.2.2.2.2.2.2.1, h.2.2.2.2.2.2.2.2.2.2.2.1, fun j => fU_rg h.2.2.2.2.2.2.2.2.2.2.2.2.1 hv j, h.2.2.2.2.2.2.2.2.2.2.2.2.2.1, h.2.2.2.2.2.2.2.2.2.2.2.2.2.2.1, h.2.2.2.2.2.2.2.2.2.2.2.2.2.2.2.1, h.2.2.2.2.2.2.2.2.2.2.2.2.2.2.2.2.1, h.2.2.2.2.2.2.2.2.2.2.2.2.2.2.2.2.2⟩
theorem OKx.i14 {B : Int} {σ : XS} (h : OKx B σ) : 0 ≤ σ.1 14 ∧ σ.1 14 ≤ 12 := h.2.2.2.2.2.2.2.2.2.2.2.2.2.1
theorem OKx.sI14 {B v : Int} {σ : XS} (h : OKx B σ) (hv : 0 ≤ v ∧ v ≤ 12) : OKx B (sI σ 14 v) := ⟨h.1, h.2.1, h.2.2.1, h.2.2.2.1, h.2.2.2.2.1, h.2.2.2.2.2.1, h.2.2.2.2.2.2.1, h.2.2.2.2.2.2.2.1, h.2.2.2.2.2.2.2.2.1, h.2.2.2.2.2.2.2.2.2.1, h.2.2.2.2.2.2.2.2.2.2.1, h.2.2.2.2.2.2.2.2.2.2.2.1, h.2.2.2.2.2.2.2.2.2.2.2.2.1, hv, h.2.2.2.2.2.2.2.2.2.2.2.2.2.2.1, h.2.2.2.2.2.2.2.2.2.2.2.2.2.2.2.1, h.2.2.2.2.2.2.2.2.2.2.2.2.2.2.2.2.1, h.2.2.2.2.2.2.2.2.2.2.2.2.2.2.2.2.2⟩
theorem OKx.f15 {B : Int} {σ : XS} (h : OKx B σ) (j : Int) : 0 ≤ σ.2 15 j ∧ σ.2 15 j ≤ 79 := h.2.2.2.2.2.2.2.2.2.2.2.2.2.2.1 j
theorem OKx.sA15 {B i v : Int} {σ : XS} (h : OKx B σ) (hv : 0 ≤ v ∧ v ≤ 79) : OKx B (sA σ 15 i v) := ⟨h.1, h.2.1, h.2.2.1, h.2.2.2.1, h.2.2.2.2.1, h.2.2.2.2.2.1, h.2.2.2.2.2.2.1, h.2.2.2.2.2.2.2.1, h.2.2.2.2.2.2.2.2.1, h.2.2.2.2.2.2.2.2.2.1, h.2.2.2.2.2.2.2.2.2.2.1, h.2.2.2.2.2.2.2.2.2.2.2.1, h.2.2.2.2.2.2.2.2.2.2.2.2.1, h.2.2.2.2.2.2.2.2.2.2.2.2.2.1, fun j => fU_rg h.2.2.2.2.2.2.2.2.2.2.2.2.2.2.1 hv j, h.2.2.2.2.2.2.2.2.2.2.2.2.2.2.2.1, h.2.2.2.2.2.2.2.2.2.2.2.2.2.2.2.2.1, h.2.2.2.2.2.2.2.2.2.2.2.2.2.2.2.2.2⟩
theorem OKx.f16 {B : Int} {σ : XS} (h : OKx B σ) (j : Int) : -B ≤ σ.2 16 j ∧ σ.2 16 j ≤ B := h.2.2.2.2.2.2.2.2.2.2.2.2.2.2.2.1 j
theorem OKx.sA16 {B i v : Int} {σ : XS} (h : OKx B σ) (hv : -B ≤ v ∧ v ≤ B) : OKx B (sA σ 16 i v) := ⟨h.1, h.2.1, h.2.2.1, h.2.2.2.1, h.2.2.2.2.1, h.2.2.2.2.2.1, h.2.2.2.2.2.2.1, h.2.2.2.2.2.2.2.1, h.2.2.2.2.2.2.2.2.1, h.2.2.2.2.2.2.2.2.2.1, h.2.2.2.2.2.2.2.2.2.2.1, h.2.2.2.2.2.2.2.2.2.2.2.1, h.2.2.2.2.2.2.2.2.2.2.2.2.1, h.2.2.2.2.2.2.2.2.2.2.2.2.2.1, h.2.2.2.2.2.2.2.2.2.2.2.2.2.2.1, fun j => fU_rg h.2.2.2.2.2.2.2.2.2.2.2.2.2.2.2.1 hv j, h.2.2.2.2.2.2.2.2.2.2.2.2.2.2.2.2.1, h.2.2.2.2.2.2.2.2.2.2.2.2.2.2.2.2.2⟩
theorem OKx.f17 {B : Int} {σ : XS} (h : OKx B σ) (j : Int) : 0 ≤ σ.2 17 j ∧ σ.2 17 j ≤ 79 := h.2.2.2.2.2.2.2.2.2.2.2.2.2.2.2.2.1 j
theorem OKx.sA17 {B i v : Int} {σ : XS} (h : OKx B σ) (hv : 0 ≤ v ∧ v ≤ 79) : OKx B (sA σ 17 i v) := ⟨h.1, h.2.1, h.2.2.1, h.2.2.2.1, h.2.2.2.2.1, h.2.2.2.2.2.1, h.2.2.2.2.2.2.1, h.2.2.2.2.2.2.2.1, h.2.2.2.2.2.2.2.2.1, h.2.2.2.2.2.2.2.2.2.1, h.2.2.2.2.2.2.2.2.2.2.1, h.2.2.2.2.2.2.2.2.2.2.2.1, h.2.2.2.2.2.2.2.2.2.2.2.2.1, h.2.2.2.2.2.2.2.2.2.2.2.2.2.1, h.2.2.2.2.2.2.2.2.2.2.2.2.2.2.1, h.2.2.2.2.2.2.2.2.2.2.2.2.2.2.2.1, fun j => fU_rg h.2.2.2.2.2.2.2.2.2.2.2.2.2.2.2.2.1 hv j, h.2.2.2.2.2.2.2.2.2.2.2.2.2.2.2.2.2⟩
theorem OKx.f18 {B : Int} {σ : XS} (h : OKx B σ) (j : Int) : -B ≤ σ.2 18 j ∧ σ.2 18 j ≤ B := h.2.2.2.2.2.2.2.2.2.2.2.2.2.2.2.2.2 j
theorem OKx.sA18 {B i v : Int} {σ : XS} (h : OKx B σ) (hv : -B ≤ v ∧ v ≤ B) : OKx B (sA σ 18 i v) := ⟨h.1, h.2.1, h.2.2.1, h.2.2.2.1, h.2.2.2.2.1, h.2.2.2.2.2.1, h.2.2.2.2.2.2.1, h.2.2.2.2.2.2.2.1, h.2.2.2.2.2.2.2.2.1, h.2.2.2.2.2.2.2.2.2.1, h.2.2.2.2.2.2.2.2.2.2.1, h.2.2.2.2.2.2.2.2.2.2.2.1, h.2.2.2.2.2.2.2.2.2.2.2.2.1, h.2.2.2.2.2.2.2.2.2.2.2.2.2.1, h.2.2.2.2.2.2.2.2.2.2.2.2.2.2.1, h.2.2.2.2.2.2.2.2.2.2.2.2.2.2.2.1, h.2.2.2.2.2.2.2.2.2.2.2.2.2.2.2.2.1, fun j => fU_rg h.2.2.2.2.2.2.2.2.2.2.2.2.2.2.2.2.2 hv j⟩
theorem OKx.sA11 {B i v : Int} {σ : XS} (h : OKx B σ) : OKx B (sA σ 11 i v) := ⟨h.1, h.2.1, h.2.2.1, h.2.2.2.1, h.2.2.2.2.1, h.2.2.2.2.2.1, h.2.2.2.2.2.2.1, h.2.2.2.2.2.2.2.1, h.2.2.2.2.2.2.2.2.1, h.2.2.2.2.2.2.2.2.2.1, h.2.2.2.2.2.2.2.2.2.2.1, h.2.2.2.2.2.2.2.2.2.2.2.1, h.2.2.2.2.2.2.2.2.2.2.2.2.1, h.2.2.2.2.2.2.2.2.2.2.2.2.2.1, h.2.2.2.2.2.2.2.2.2.2.2.2.2.2.1, h.2.2.2.2.2.2.2.2.2.2.2.2.2.2.2.1, h.2.2.2.2.2.2.2.2.2.2.2.2.2.2.2.2.1, h.2.2.2.2.2.2.2.2.2.2.2.2.2.2.2.2.2⟩
theorem OKx.mono {B C : Int} {σ : XS} (h : OKx B σ) (hBC : B ≤ C) : OKx C σ := ⟨h.1, h.2.1, h.2.2.1, h.2.2.2.1, h.2.2.2.2.1, (by have q := h.2.2.2.2.2.1; omega), (fun j => by have q := h.2.2.2.2.2.2.1 j; omega), h.2.2.2.2.2.2.2.1, h.2.2.2.2.2.2.2.2.1, h.2.2.2.2.2.2.2.2.2.1, (fun j => by have q := h.2.2.2.2.2.2.2.2.2.2.1 j; omega), h.2.2.2.2.2.2.2.2.2.2.2.1, (fun j => by have q := h.2.2.2.2.2.2.2.2.2.2.2.2.1 j; omega), h.2.2.2.2.2.2.2.2.2.2.2.2.2.1, h.2.2.2.2.2.2.2.2.2.2.2.2.2.2.1, (fun j => by have q := h.2.2.2.2.2.2.2.2.2.2.2.2.2.2.2.1 j; omega), h.2.2.2.2.2.2.2.2.2.2.2.2.2.2.2.2.1, (fun j => by have q := h.2.2.2.2.2.2.2.2.2.2.2.2.2.2.2.2.2 j; omega)⟩
theorem capF_rg {B d : Int} {σ : XS} (h : OKx B σ) (hB : 10 ≤ B) (hd : -B ≤ d) : -B ≤ capF σ d ∧ capF σ d ≤ B := by
  have q := h.i0
  unfold capF
  split <;> omega
theorem minF_rg {B a b : Int} (ha : -B ≤ a ∧ a ≤ B) (hb : -B ≤ b ∧ b ≤ B) : -B ≤ minF a b ∧ minF a b ≤ B := by
  unfold minF
  split <;> omega
theorem stepF_rg {B : Int} {σ : XS} (h : OKx B σ) (hB : 10 ≤ B) (node fr to c : Int) : -B ≤ stepF σ node fr to c ∧ stepF σ node fr to c ≤ B := by
  have q1 := h.f13 (fr + node)
  have q2 := h.f13 (fr + σ.2 8 node)
  have q3 := h.f13 (to + σ.2 8 node)
  unfold stepF
  split
  · exact capF_rg h hB (by omega)
  · refine capF_rg h hB ?_
    unfold minF
    split <;> split <;> split <;> omega
theorem OK_fl {B : Int} (hB : 10 ≤ B) : ∀ (n : Nat) (i : Int) (σ : XS), OKx B σ → OKx B (flLoop n i σ) := by
  intro n
  induction n with
  | zero => intro i σ h; exact h
  | succ n ih =>
    intro i σ h
    refine ih _ _ (h.sA13 ?_)
    have q := h.i0
    split
    · exact capF_rg h hB (h.f10 i).1
    · omega
theorem OK_in {B : Int} (hB : 10 ≤ B) (n d : Int) : ∀ (k : Nat) (node : Int) (σ : XS), OKx B σ → OKx B (nlIn n d k node σ) := by
  intro k
  induction k with
  | zero => intro i σ h; exact h
  | succ k ih =>
    intro i σ h
    refine ih _ _ ?_
    split
    · exact h.sA13 (stepF_rg h hB _ _ _ _)
    · exact h
theorem OK_out {B : Int} (hB : 10 ≤ B) (n : Int) : ∀ (k : Nat) (d : Int) (σ : XS), OKx B σ → OKx B (nlOut n k d σ) := by
  intro k
  induction k with
  | zero => intro i σ h; exact h
  | succ k ih =>
    intro i σ h
    exact ih _ _ (OK_in hB n i 80 0 σ h)
theorem OK_lo {B : Int} (hB : 10 ≤ B) : ∀ (k : Nat) (n : Int) (σ : XS), OKx B σ → OKx B (loLoop k n σ) := by
  intro k
  induction k with
  | zero => intro i σ h; exact h
  | succ k ih =>
    intro i σ h
    exact ih _ _ (OK_out hB i 7 0 σ h)
theorem in_keep (n d : Int) : ∀ (k : Nat) (node : Int) (σ : XS), (nlIn n d k node σ).1 = σ.1 ∧ ∀ q : Nat, q ≠ 13 → (nlIn n d k node σ).2 q = σ.2 q := by
  intro k
  induction k with
  | zero => intro i σ; exact ⟨rfl, fun _ _ => rfl⟩
  | succ k ih =>
    intro i σ
    unfold nlIn
    obtain ⟨h1, h2⟩ := ih (i + 1) (if (i = 0 ∨ 0 < σ.2 6 i) ∧ σ.2 10 i = d then sA σ 13 (n * 80 + 80 + i) (stepF σ i (n * 80) (n * 80 + 80) (σ.2 4 n)) else σ)
    refine ⟨h1.trans ?_, fun q hq => (h2 q hq).trans ?_⟩
    · split <;> rfl
    · split
      · show (if q = 13 then _ else σ.2 q) = _
        rw [if_neg hq]
      · rfl
theorem out_keep (n : Int) : ∀ (k : Nat) (d : Int) (σ : XS), (nlOut n k d σ).1 = σ.1 ∧ ∀ q : Nat, q ≠ 13 → (nlOut n k d σ).2 q = σ.2 q := by
  intro k
  induction k with
  | zero => intro i σ; exact ⟨rfl, fun _ _ => rfl⟩
  | succ k ih =>
    intro i σ
    unfold nlOut
    obtain ⟨h1, h2⟩ := ih (i + 1) (nlIn n i 80 0 σ)
    obtain ⟨g1, g2⟩ := in_keep n i 80 0 σ
    exact ⟨h1.trans g1, fun q hq => (h2 q hq).trans (g2 q hq)⟩
theorem lo_keep : ∀ (k : Nat) (n : Int) (σ : XS), (loLoop k n σ).1 = σ.1 ∧ ∀ q : Nat, q ≠ 13 → (loLoop k n σ).2 q = σ.2 q := by
  intro k
  induction k with
  | zero => intro i σ; exact ⟨rfl, fun _ _ => rfl⟩
  | succ k ih =>
    intro i σ
    unfold loLoop
    obtain ⟨h1, h2⟩ := ih (i + 1) (nextF σ i)
    obtain ⟨g1, g2⟩ := out_keep i 7 0 σ
    exact ⟨h1.trans g1, fun q hq => (h2 q hq).trans (g2 q hq)⟩
theorem fl_keep : ∀ (k : Nat) (n : Int) (σ : XS), (flLoop k n σ).1 = σ.1 ∧ ∀ q : Nat, q ≠ 13 → (flLoop k n σ).2 q = σ.2 q := by
  intro k
  induction k with
  | zero => intro i σ; exact ⟨rfl, fun _ _ => rfl⟩
  | succ k ih =>
    intro i σ
    unfold flLoop
    obtain ⟨h1, h2⟩ := ih (i + 1) (sA σ 13 i (if i = 0 ∨ 0 < σ.2 6 i then capF σ (σ.2 10 i) else σ.1 0 + 1))
    refine ⟨h1.trans rfl, fun q hq => (h2 q hq).trans ?_⟩
    show (if q = 13 then _ else σ.2 q) = _
    rw [if_neg hq]
theorem layP_keep (σ : XS) : (layP σ).1 = σ.1 ∧ ∀ q : Nat, q ≠ 13 → (layP σ).2 q = σ.2 q := by
  obtain ⟨h1, h2⟩ := lo_keep (σ.1 3).toNat 0 (firstF σ)
  obtain ⟨g1, g2⟩ := fl_keep 80 0 σ
  exact ⟨h1.trans g1, fun q hq => (h2 q hq).trans (g2 q hq)⟩
theorem OK_layP {B : Int} (hB : 10 ≤ B) {σ : XS} (h : OKx B σ) : OKx B (layP σ) := OK_lo hB _ _ _ (OK_fl hB _ _ _ h)
theorem dnode_rg {B : Int} {σ : XS} (h : OKx B σ) (q : Int → Int) : ∀ (n : Nat) (i node : Int), 0 ≤ node ∧ node ≤ 79 → -1 ≤ dnode (σ.2 7) q n i node ∧ dnode (σ.2 7) q n i node ≤ 79 := by
  intro n
  induction n with
  | zero => intro i node hn; unfold dnode; omega
  | succ n ih =>
    intro i node hn
    unfold dnode
    split
    · omega
    · exact ih _ _ (h.f7 _)
theorem fnode_rg (bl : Int → Int) : ∀ (k : Nat) (f : Int), k ≤ 79 → 1 ≤ f ∧ f ≤ 79 → 1 ≤ fnode bl k f ∧ fnode bl k f ≤ 79 := by
  intro k
  induction k with
  | zero => intro f _ hf; exact hf
  | succ k ih =>
    intro f hk hf
    refine ih _ (by omega) ?_
    split <;> omega
theorem freeF_rg (σ : XS) : 1 ≤ freeF σ ∧ freeF σ ≤ 79 := fnode_rg _ 79 1 (by omega) (by omega)
theorem OK_mkF {B : Int} {σ : XS} (h : OKx B σ) {node c : Int} (hn : 0 ≤ node ∧ node ≤ 79) (hc : 0 ≤ c ∧ c ≤ 3) : OKx (B + 1) (mkF σ node c) := by
  have q := freeF_rg σ
  have g : OKx (B + 1) σ := h.mono (by omega)
  unfold mkF
  generalize freeF σ = f at q ⊢
  have h1 : OKx (B + 1) (mkA σ node c f) := ((g.sA7 (by omega)).sA8 (by omega)).sA9 (by omega)
  have hd := h.f10 node
  have h2 : OKx (B + 1) (mkB (mkA σ node c f) node c f) := ((h1.sA10 (by show _ ≤ σ.2 10 node + 1 ∧ σ.2 10 node + 1 ≤ _; omega)).sA11).sA12 (by omega)
  exact (((h2.sA7 (by omega)).sA7 (by omega)).sA7 (by omega)).sA7 (by omega)
theorem adStep_ok {B : Int} {σ : XS} (h : OKx B σ) {node c : Int} (hn : 0 ≤ node ∧ node ≤ 79) (hc : 0 ≤ c ∧ c ≤ 3) : OKx (B + 1) (adStep σ node c).2 ∧ 0 ≤ (adStep σ node c).1 ∧ (adStep σ node c).1 ≤ 79 := by
  have q := freeF_rg σ
  have q7 := h.f7 (node * 4 + c)
  unfold adStep
  split
  · exact ⟨OK_mkF h hn hc, by dsimp only; omega, by dsimp only; omega⟩
  · exact ⟨h.mono (by omega), by dsimp only; omega, by dsimp only; omega⟩
theorem adBump_ok {B : Int} {q : Int × XS} (h : OKx B q.2) : OKx (B + 1) (adBump q).2 := by
  have q6 := h.f6 q.1
  have g : OKx (B + 1) q.2 := h.mono (by omega)
  exact g.sA6 (by omega)
theorem rmStep_ok {B : Int} {σ : XS} (h : OKx B σ) (node : Int) : OKx (B + 1) (rmStep σ node) := by
  have q6 := h.f6 node
  have g : OKx (B + 1) σ := h.mono (by omega)
  have g2 : OKx (B + 1) (sA σ 6 node (σ.2 6 node - 1)) := g.sA6 (by omega)
  unfold rmStep
  split
  · exact g2.sA7 (by omega)
  · exact g2
theorem insLoop_ok {B : Int} (node dist : Int) : ∀ (k : Nat) (a : Int) (σ : XS), OKx B σ → k ≤ 12 → 0 ≤ a → a ≤ 11 → OKx B (insLoop node dist k a σ).2 ∧ 0 ≤ (insLoop node dist k a σ).1 ∧ (insLoop node dist k a σ).1 ≤ 11 ∧ (insLoop node dist k a σ).2.1 = σ.1 := by
  intro k
  induction k with
  | zero => intro a σ h _ h0 h1; exact ⟨h, h0, h1, rfl⟩
  | succ k ih =>
    intro a σ h hk h0 h1
    unfold insLoop
    split
    · exact ih _ _ ((h.sA15 (h.f15 _)).sA16 (h.f16 _)) (by omega) (by omega) (by omega)
    · exact ⟨h, h0, h1, rfl⟩
theorem OK_insF {B : Int} {σ : XS} (h : OKx B σ) {node dist : Int} (hn : 0 ≤ node ∧ node ≤ 79) (hd : -B ≤ dist ∧ dist ≤ B) (hc : σ.1 14 ≤ 11) : OKx B (insF σ node dist) := by
  have q := h.i14
  obtain ⟨h1, h2, h3, h4⟩ := insLoop_ok node dist (σ.1 14).toNat (σ.1 14) σ h (by omega) (by omega) hc
  unfold insF insFin
  refine ((h1.sA15 hn).sA16 hd).sI14 ?_
  rw [h4]
  omega
theorem OK_take {B : Int} {σ : XS} (h : OKx B σ) {node : Int} (hn : 0 ≤ node ∧ node ≤ 79) (hc : (0 ≤ σ.2 12 node ∧ node ≠ 0 ∧ σ.2 18 node ≤ σ.1 0) → σ.1 14 ≤ 11) : OKx B (rkTake σ node) := by
  unfold rkTake
  split
  · rename_i c
    exact OK_insF h hn (h.f18 _) (hc c)
  · exact h
theorem OK_push {B : Int} {q : XS × Int} (h : OKx B q.1) (layer node c : Int) : OKx B (rkPush layer node c q).1 := by
  unfold rkPush
  split
  · exact h
  · exact (h.sA18 (minF_rg (h.f13 _) (h.f18 _))).sA17 (h.f7 _)
theorem push_mono (layer node c : Int) (q : XS × Int) : q.2 ≤ (rkPush layer node c q).2 := by
  unfold rkPush
  split
  · exact Int.le_refl _
  · show q.2 ≤ q.2 + 1
    omega
theorem pushes_ok {B : Int} (layer node : Int) : ∀ (k : Nat) (q : XS × Int), OKx B q.1 → OKx B (rkPushes layer node k q).1 ∧ q.2 ≤ (rkPushes layer node k q).2 := by
  intro k
  induction k with
  | zero => intro q h; exact ⟨h, Int.le_refl _⟩
  | succ k ih =>
    intro q h
    have h1 := ih (rkPush layer node (k : Int) q) (OK_push h _ _ _)
    have h2 := push_mono layer node (k : Int) q
    unfold rkPushes
    exact ⟨h1.1, by omega⟩
theorem OK_round {B : Int} {q : XS × Int} (h : OKx B q.1) (layer : Int) (hc : (0 ≤ q.1.2 12 (q.1.2 17 (q.2 - 1)) ∧ q.1.2 17 (q.2 - 1) ≠ 0 ∧ q.1.2 18 (q.1.2 17 (q.2 - 1)) ≤ q.1.1 0) → q.1.1 14 ≤ 11) : OKx B (rkRound layer q).1 := (pushes_ok _ _ 4 _ (OK_take h (h.f17 _) hc)).1
theorem OK_start {B : Int} {σ : XS} (h : OKx B σ) : OKx B (rkStart σ) := ((h.sI14 (by omega)).sA17 (by omega)).sA18 (h.f13 _)
theorem OK_rkl {B : Int} (layer : Int) : ∀ (n : Nat) (q : XS × Int), OKx B q.1 → rkSafe layer n q → OKx B (rkLoop layer n q).1 := by
  intro n
  induction n with
  | zero => intro q h _; exact h
  | succ n ih =>
    intro q h hs
    unfold rkLoop
    split
    · rename_i hp
      obtain ⟨-, -, h3, h4⟩ := hs hp
      exact ih _ (OK_round h layer h3) h4
    · exact h
theorem OK_rankF {B : Int} {σ : XS} (h : OKx B σ) (hs : rankOK σ) : OKx B (rankF σ) := OK_rkl _ _ _ (OK_start h) hs
end
section
/-! THE WALKS of FuzzyTypeahead: badLetter .. nextLayer, the tree -/
set_option maxRecDepth 100000
theorem bp_6 : (Int8.ofInt 6).toInt32 = iI 6 := by decide
theorem bp_80 : (Int8.ofInt 80).toInt32 = iI 80 := by decide
theorem bp_79 : (Int8.ofInt 79).toInt32 = iI 79 := by decide
theorem bp_12 : (Int8.ofInt 12).toInt32 = iI 12 := by decide
theorem bp_99 : (Int8.ofInt 99).toInt32 = iI 99 := by decide
theorem bp_m4 : (Int8.ofInt (-4)).toInt32 = iI (-4) := by decide
theorem bp_m2 : (Int8.ofInt (-2)).toInt32 = iI (-2) := by decide
theorem bp_9 : (Int8.ofInt 9).toInt32 = iI 9 := by decide
theorem bp_7 : (Int8.ofInt 7).toInt32 = iI 7 := by decide
theorem bp_78 : (Int8.ofInt 78).toInt32 = iI 78 := by decide
theorem bp_13 : (Int8.ofInt 13).toInt32 = iI 13 := by decide
theorem bp_84 : (Int8.ofInt 84).toInt32 = iI 84 := by decide
theorem bp_14 : (Int8.ofInt 14).toInt32 = iI 14 := by decide
theorem bp_49 : (Int8.ofInt 49).toInt32 = iI 49 := by decide
theorem bp_31 : (Int8.ofInt 31).toInt32 = iI 31 := by decide
theorem sp_320 : (Int16.ofInt 320).toInt32 = iI 320 := by decide
theorem sp_560 : (Int16.ofInt 560).toInt32 = iI 560 := by decide
abbrev rX1_badLetter : Room := ({ frames := 0, cells := 0, slots := 0, locals := 0 } : Room)
set_option maxHeartbeats 4000000 in
set_option maxRecDepth 100000 in
theorem tX1_badLetter (l : Launch) (D : va_G) (cA : ClassId) (h : Nat → Nat) (σ : XS) (a : Int) (ha : -2147483648 ≤ a ∧ a ≤ 2147483647) : MI l yX1_badLetter (ws_ yX1_badLetter cX1_badLetter 2 (some .boolean)) rX1_badLetter (wX h cA) D vwCl [(cA, .int)] (h 0) [.int (iI a)] σ (fun z u => (z = 1 ∧ (a < 0 ∨ 3 < a) ∨ z = 0 ∧ ¬ (a < 0 ∨ 3 < a)) ∧ σ = u) := by
  refine MI.of (own := RX1) (L := [some (.ref (h 0)), some (.int (iI a))]) (by decide) rfl (by simp [Value.category]) (Nat.le_of_ble_eq_true rfl) rfl ?_
  intro p e s m below meth c A hC hr
  refine x_iload_n (i := 1) hC dX1_badLetter_0 rfl rfl ?_
  refine x_if_lt hC 9 dX1_badLetter_1 (by decide) (by omega) (fun h1 => ?_) (fun h1 => ?_)
  · refine x_iconst hC dX1_badLetter_9 ?_
    refine x_goto hC 14 dX1_badLetter_10 (by decide) ?_
    exact x_zret hC hr dX1_badLetter_14 (by first | exact Or.inl rfl | exact Or.inr rfl) ⟨by omega, rfl⟩
  · refine x_iload_n (i := 1) hC dX1_badLetter_4 rfl rfl ?_
    refine x_iconst hC dX1_badLetter_5 ?_
    refine x_icmp_le hC 13 dX1_badLetter_6 (by decide) (by omega) (by omega) (fun h6 => ?_) (fun h6 => ?_)
    · refine x_iconst hC dX1_badLetter_13 ?_
      exact x_zret hC hr dX1_badLetter_14 (by first | exact Or.inl rfl | exact Or.inr rfl) ⟨by omega, rfl⟩
    · refine x_iconst hC dX1_badLetter_9 ?_
      refine x_goto hC 14 dX1_badLetter_10 (by decide) ?_
      exact x_zret hC hr dX1_badLetter_14 (by first | exact Or.inl rfl | exact Or.inr rfl) ⟨by omega, rfl⟩
abbrev rX1_inTree : Room := ({ frames := 0, cells := 0, slots := 0, locals := 0 } : Room)
set_option maxHeartbeats 4000000 in
set_option maxRecDepth 100000 in
theorem tX1_inTree (l : Launch) (D : va_G) (cA : ClassId) (h : Nat → Nat) (σ : XS) {B : Int} (hB : 10 ≤ B ∧ B ≤ 100000) (hok : OKx B σ) (n : Int) (hn : 0 ≤ n ∧ n ≤ 79) : MI l yX1_inTree (ws_ yX1_inTree cX1_inTree 2 (some .boolean)) rX1_inTree (wX h cA) D vwCl [(cA, .int)] (h 0) [.int (iI n)] σ (fun z u => (z = 1 ∧ (n = 0 ∨ 0 < σ.2 6 n) ∨ z = 0 ∧ ¬ (n = 0 ∨ 0 < σ.2 6 n)) ∧ σ = u) := by
  refine MI.of (own := RX1) (L := [some (.ref (h 0)), some (.int (iI n))]) (by decide) rfl (by simp [Value.category]) (Nat.le_of_ble_eq_true rfl) rfl ?_
  intro p e s m below meth c A hC hr
  have q6 := hok.f6 n
  refine x_iload_n (i := 1) hC dX1_inTree_0 rfl rfl ?_
  refine x_if_eq hC 13 dX1_inTree_1 (by decide) (by omega) (fun h1 => ?_) (fun h1 => ?_)
  · refine x_iconst hC dX1_inTree_13 ?_
    refine x_goto hC 18 dX1_inTree_14 (by decide) ?_
    exact x_zret hC hr dX1_inTree_18 (by first | exact Or.inl rfl | exact Or.inr rfl) ⟨by omega, rfl⟩
  · refine x_aload_n (i := 0) hC dX1_inTree_4 rfl rfl ?_
    refine x1_g6 hC dX1_inTree_5 ?_
    refine x_iload_n (i := 1) hC dX1_inTree_8 rfl rfl ?_
    refine x1_l6 hC (by omega) dX1_inTree_9 ?_
    refine x_if_le hC 17 dX1_inTree_10 (by decide) (by omega) (fun h10 => ?_) (fun h10 => ?_)
    · refine x_iconst hC dX1_inTree_17 ?_
      exact x_zret hC hr dX1_inTree_18 (by first | exact Or.inl rfl | exact Or.inr rfl) ⟨by omega, rfl⟩
    · refine x_iconst hC dX1_inTree_13 ?_
      refine x_goto hC 18 dX1_inTree_14 (by decide) ?_
      exact x_zret hC hr dX1_inTree_18 (by first | exact Or.inl rfl | exact Or.inr rfl) ⟨by omega, rfl⟩
abbrev rX1_capped : Room := ({ frames := 0, cells := 0, slots := 0, locals := 0 } : Room)
set_option maxHeartbeats 4000000 in
set_option maxRecDepth 100000 in
theorem tX1_capped (l : Launch) (D : va_G) (cA : ClassId) (h : Nat → Nat) (σ : XS) {B : Int} (hB : 10 ≤ B ∧ B ≤ 100000) (hok : OKx B σ) (d : Int) (hd : -2147483648 ≤ d ∧ d ≤ 2147483647) : MI l yX1_capped (ws_ yX1_capped cX1_capped 2 (some .int)) rX1_capped (wX h cA) D vwCl [(cA, .int)] (h 0) [.int (iI d)] σ (fun z u => capF σ d = z ∧ σ = u) := by
  refine MI.of (own := RX1) (L := [some (.ref (h 0)), some (.int (iI d))]) (by decide) rfl (by simp [Value.category]) (Nat.le_of_ble_eq_true rfl) rfl ?_
  intro p e s m below meth c A hC hr
  have q0 := hok.i0
  refine x_iload_n (i := 1) hC dX1_capped_0 rfl rfl ?_
  refine x_aload_n (i := 0) hC dX1_capped_1 rfl rfl ?_
  refine x1_g0 hC dX1_capped_2 ?_
  refine x_icmp_le hC 17 dX1_capped_5 (by decide) (by omega) (by omega) (fun h5 => ?_) (fun h5 => ?_)
  · refine x_iload_n (i := 1) hC dX1_capped_17 rfl rfl ?_
    exact x_iret hC hr dX1_capped_18 ⟨by unfold capF; split <;> omega, rfl⟩
  · refine x_aload_n (i := 0) hC dX1_capped_8 rfl rfl ?_
    refine x1_g0 hC dX1_capped_9 ?_
    refine x_iconst hC dX1_capped_12 ?_
    refine x_iadd hC dX1_capped_13 ?_
    refine x_goto hC 18 dX1_capped_14 (by decide) ?_
    exact x_iret hC hr dX1_capped_18 ⟨by unfold capF; split <;> omega, rfl⟩
abbrev rX1_before : Room := ({ frames := 0, cells := 0, slots := 0, locals := 0 } : Room)
set_option maxHeartbeats 4000000 in
set_option maxRecDepth 100000 in
theorem tX1_before (l : Launch) (D : va_G) (cA : ClassId) (h : Nat → Nat) (σ : XS) {B : Int} (hB : 10 ≤ B ∧ B ≤ 100000) (hok : OKx B σ) (d wt r : Int) (hd : -2147483648 ≤ d ∧ d ≤ 2147483647) (hw : -2147483648 ≤ wt ∧ wt ≤ 2147483647) (hr0 : 0 ≤ r ∧ r ≤ 11) : MI l yX1_before (ws_ yX1_before cX1_before 4 (some .boolean)) rX1_before (wX h cA) D vwCl [(cA, .int)] (h 0) [.int (iI d), .int (iI wt), .int (iI r)] σ (fun z u => (z = 1 ∧ (befF σ d wt r = true) ∨ z = 0 ∧ ¬ (befF σ d wt r = true)) ∧ σ = u) := by
  refine MI.of (own := RX1) (L := [some (.ref (h 0)), some (.int (iI d)), some (.int (iI wt)), some (.int (iI r))]) (by decide) rfl (by simp [Value.category]) (Nat.le_of_ble_eq_true rfl) rfl ?_
  intro p e s m below meth c A hC hr
  have q16 := hok.f16 r
  have q15 := hok.f15 r
  have q12 := hok.f12 (σ.2 15 r)
  refine x_iload_n (i := 1) hC dX1_before_0 rfl rfl ?_
  refine x_aload_n (i := 0) hC dX1_before_1 rfl rfl ?_
  refine x1_g16 hC dX1_before_2 ?_
  refine x_iload_n (i := 3) hC dX1_before_5 rfl rfl ?_
  refine x1_l16 hC (by omega) dX1_before_6 ?_
  refine x_icmp_eq hC 26 dX1_before_7 (by decide) (by omega) (by omega) (fun h7 => ?_) (fun h7 => ?_)
  · refine x_iload_n (i := 2) hC dX1_before_26 rfl rfl ?_
    refine x_aload_n (i := 0) hC dX1_before_27 rfl rfl ?_
    refine x1_g12 hC dX1_before_28 ?_
    refine x_aload_n (i := 0) hC dX1_before_31 rfl rfl ?_
    refine x1_g15 hC dX1_before_32 ?_
    refine x_iload_n (i := 3) hC dX1_before_35 rfl rfl ?_
    refine x1_l15 hC (by omega) dX1_before_36 ?_
    refine x1_l12 hC (by omega) dX1_before_37 ?_
    refine x_icmp_le hC 45 dX1_before_38 (by decide) (by omega) (by omega) (fun h38 => ?_) (fun h38 => ?_)
    · refine x_iconst hC dX1_before_45 ?_
      exact x_zret hC hr dX1_before_46 (by first | exact Or.inl rfl | exact Or.inr rfl) ⟨Or.inr ⟨rfl, by unfold befF; rw [if_pos h7]; simp; omega⟩, rfl⟩
    · refine x_iconst hC dX1_before_41 ?_
      refine x_goto hC 46 dX1_before_42 (by decide) ?_
      exact x_zret hC hr dX1_before_46 (by first | exact Or.inl rfl | exact Or.inr rfl) ⟨Or.inl ⟨rfl, by unfold befF; rw [if_pos h7]; simp; omega⟩, rfl⟩
  · refine x_iload_n (i := 1) hC dX1_before_10 rfl rfl ?_
    refine x_aload_n (i := 0) hC dX1_before_11 rfl rfl ?_
    refine x1_g16 hC dX1_before_12 ?_
    refine x_iload_n (i := 3) hC dX1_before_15 rfl rfl ?_
    refine x1_l16 hC (by omega) dX1_before_16 ?_
    refine x_icmp_ge hC 24 dX1_before_17 (by decide) (by omega) (by omega) (fun h17 => ?_) (fun h17 => ?_)
    · refine x_iconst hC dX1_before_24 ?_
      exact x_zret hC hr dX1_before_25 (by first | exact Or.inl rfl | exact Or.inr rfl) ⟨Or.inr ⟨rfl, by unfold befF; rw [if_neg h7]; simp; omega⟩, rfl⟩
    · refine x_iconst hC dX1_before_20 ?_
      refine x_goto hC 25 dX1_before_21 (by decide) ?_
      exact x_zret hC hr dX1_before_25 (by first | exact Or.inl rfl | exact Or.inr rfl) ⟨Or.inl ⟨rfl, by unfold befF; rw [if_neg h7]; simp; omega⟩, rfl⟩
abbrev rX1_badRank : Room := ({ frames := 0, cells := 0, slots := 0, locals := 0 } : Room)
set_option maxHeartbeats 4000000 in
set_option maxRecDepth 100000 in
theorem tX1_badRank (l : Launch) (D : va_G) (cA : ClassId) (h : Nat → Nat) (σ : XS) {B : Int} (hB : 10 ≤ B ∧ B ≤ 100000) (hok : OKx B σ) (r : Int) (hr0 : -2147483648 ≤ r ∧ r ≤ 2147483647) : MI l yX1_badRank (ws_ yX1_badRank cX1_badRank 2 (some .boolean)) rX1_badRank (wX h cA) D vwCl [(cA, .int)] (h 0) [.int (iI r)] σ (fun z u => (z = 1 ∧ (r < 0 ∨ σ.1 14 ≤ r) ∨ z = 0 ∧ ¬ (r < 0 ∨ σ.1 14 ≤ r)) ∧ σ = u) := by
  refine MI.of (own := RX1) (L := [some (.ref (h 0)), some (.int (iI r))]) (by decide) rfl (by simp [Value.category]) (Nat.le_of_ble_eq_true rfl) rfl ?_
  intro p e s m below meth c A hC hr
  have q14 := hok.i14
  refine x_iload_n (i := 1) hC dX1_badRank_0 rfl rfl ?_
  refine x_if_lt hC 12 dX1_badRank_1 (by decide) (by omega) (fun h1 => ?_) (fun h1 => ?_)
  · refine x_iconst hC dX1_badRank_12 ?_
    refine x_goto hC 17 dX1_badRank_13 (by decide) ?_
    exact x_zret hC hr dX1_badRank_17 (by first | exact Or.inl rfl | exact Or.inr rfl) ⟨by omega, rfl⟩
  · refine x_iload_n (i := 1) hC dX1_badRank_4 rfl rfl ?_
    refine x_aload_n (i := 0) hC dX1_badRank_5 rfl rfl ?_
    refine x1_g14 hC dX1_badRank_6 ?_
    refine x_icmp_lt hC 16 dX1_badRank_9 (by decide) (by omega) (by omega) (fun h9 => ?_) (fun h9 => ?_)
    · refine x_iconst hC dX1_badRank_16 ?_
      exact x_zret hC hr dX1_badRank_17 (by first | exact Or.inl rfl | exact Or.inr rfl) ⟨by omega, rfl⟩
    · refine x_iconst hC dX1_badRank_12 ?_
      refine x_goto hC 17 dX1_badRank_13 (by decide) ?_
      exact x_zret hC hr dX1_badRank_17 (by first | exact Or.inl rfl | exact Or.inr rfl) ⟨by omega, rfl⟩
abbrev rX1_draft : Room := ({ frames := 1, cells := 0, slots := 0, locals := 21 } : Room)
set_option maxHeartbeats 4000000 in
set_option maxRecDepth 100000 in
theorem tX1_draft (l : Launch) (D : va_G) (cA : ClassId) (h : Nat → Nat) (σ : XS) {B : Int} (hB : 10 ≤ B ∧ B ≤ 100000) (hok : OKx B σ) (a : Int) (ha : -2147483648 ≤ a ∧ a ≤ 2147483647) : MI l yX1_draft (ws_ yX1_draft cX1_draft 2 (some .int)) rX1_draft (wX h cA) D vwCl [(cA, .int)] (h 0) [.int (iI a)] σ (fun z u => (if a < 0 ∨ 3 < a then ((-1, σ) : Int × XS) else if σ.1 1 = 6 then (-2, σ) else (σ.1 1 + 1, sI (sA σ 2 (σ.1 1) a) 1 (σ.1 1 + 1))) = (z, u)) := by
  refine MI.of (own := RX1) (L := [some (.ref (h 0)), some (.int (iI a))]) (by decide) rfl (by simp [Value.category]) (Nat.le_of_ble_eq_true rfl) rfl ?_
  intro p e s m below meth c A hC hr
  have q1 := hok.i1
  refine x_aload_n (i := 0) hC dX1_draft_0 rfl rfl ?_
  refine x_iload_n (i := 1) hC dX1_draft_1 rfl rfl ?_
  refine x_callI hC (tX1_badLetter l D cA h σ a ha) gX1_X1_badLetter hyX1_badLetter ⟨rfl, rfl⟩ ⟨Nat.le_of_ble_eq_true rfl, Nat.le_of_ble_eq_true rfl⟩ ⟨Nat.zero_le _, Nat.zero_le _⟩ (ci := 0) (q0 := 0) rfl rfl rfl rfl (Nat.le_of_ble_eq_true rfl) rfl dX1_draft_2 (fun z u hu => ?_)
  obtain ⟨⟨rfl, hc⟩ | ⟨rfl, hc⟩, rfl⟩ := hu
  · refine x_if_eq hC 10 dX1_draft_5 (by decide) (by omega) (fun h5 => by exfalso; omega) (fun h5 => ?_)
    refine x_iconst hC dX1_draft_8 ?_
    exact x_iret hC hr dX1_draft_9 (by rw [if_pos hc])
  · refine x_if_eq hC 10 dX1_draft_5 (by decide) (by omega) (fun h5 => ?_) (fun h5 => by exfalso; omega)
    refine x_aload_n (i := 0) hC dX1_draft_10 rfl rfl ?_
    refine x1_g1 hC dX1_draft_11 ?_
    refine x_bipush hC dX1_draft_14 bp_6 ?_
    refine x_icmp_ne hC 22 dX1_draft_16 (by decide) (by omega) (by omega) (fun h16 => ?_) (fun h16 => ?_)
    · refine x_aload_n (i := 0) hC dX1_draft_22 rfl rfl ?_
      refine x1_g2 hC dX1_draft_23 ?_
      refine x_aload_n (i := 0) hC dX1_draft_26 rfl rfl ?_
      refine x1_g1 hC dX1_draft_27 ?_
      refine x_iload_n (i := 1) hC dX1_draft_30 rfl rfl ?_
      refine x1_s2 hC (by omega) dX1_draft_31 ?_
      refine x_aload_n (i := 0) hC dX1_draft_32 rfl rfl ?_
      refine x_dup hC dX1_draft_33 rfl ?_
      refine x1_g1 hC dX1_draft_34 ?_
      refine x_iconst hC dX1_draft_37 ?_
      refine x_iadd hC dX1_draft_38 ?_
      refine x1_p1 hC dX1_draft_39 ?_
      refine x_aload_n (i := 0) hC dX1_draft_42 rfl rfl ?_
      refine x1_g1 hC dX1_draft_43 ?_
      exact x_iret hC hr dX1_draft_46 (by rw [if_neg hc, if_neg (by omega)]; rfl)
    · refine x_bipush hC dX1_draft_19 bp_m2 ?_
      exact x_iret hC hr dX1_draft_21 (by rw [if_neg hc, if_pos (by omega)])
abbrev rX1_scrap : Room := ({ frames := 0, cells := 0, slots := 0, locals := 0 } : Room)
set_option maxHeartbeats 4000000 in
set_option maxRecDepth 100000 in
theorem tX1_scrap (l : Launch) (D : va_G) (cA : ClassId) (h : Nat → Nat) (σ : XS)  : MV l yX1_scrap (ws_ yX1_scrap cX1_scrap 1 none) rX1_scrap (wX h cA) D vwCl [(cA, .int)] (h 0) [] σ (fun u => sI σ 1 0 = u) := by
  refine MV.of (own := RX1) (L := [some (.ref (h 0))]) (by decide) rfl (by simp [Value.category]) (Nat.le_of_ble_eq_true rfl) rfl ?_
  intro p e s m below meth c A hC hr
  refine x_aload_n (i := 0) hC dX1_scrap_0 rfl rfl ?_
  refine x_iconst hC dX1_scrap_1 ?_
  refine x1_p1 hC dX1_scrap_2 ?_
  exact x_vret hC hr dX1_scrap_5 rfl
abbrev rX1_words : Room := ({ frames := 0, cells := 0, slots := 0, locals := 0 } : Room)
set_option maxHeartbeats 4000000 in
set_option maxRecDepth 100000 in
theorem tX1_words (l : Launch) (D : va_G) (cA : ClassId) (h : Nat → Nat) (σ : XS)  : MI l yX1_words (ws_ yX1_words cX1_words 1 (some .int)) rX1_words (wX h cA) D vwCl [(cA, .int)] (h 0) [] σ (fun z u => σ.1 5 = z ∧ σ = u) := by
  refine MI.of (own := RX1) (L := [some (.ref (h 0))]) (by decide) rfl (by simp [Value.category]) (Nat.le_of_ble_eq_true rfl) rfl ?_
  intro p e s m below meth c A hC hr
  refine x_aload_n (i := 0) hC dX1_words_0 rfl rfl ?_
  refine x1_g5 hC dX1_words_1 ?_
  exact x_iret hC hr dX1_words_4 ⟨rfl, rfl⟩
abbrev rX1_length : Room := ({ frames := 0, cells := 0, slots := 0, locals := 0 } : Room)
set_option maxHeartbeats 4000000 in
set_option maxRecDepth 100000 in
theorem tX1_length (l : Launch) (D : va_G) (cA : ClassId) (h : Nat → Nat) (σ : XS)  : MI l yX1_length (ws_ yX1_length cX1_length 1 (some .int)) rX1_length (wX h cA) D vwCl [(cA, .int)] (h 0) [] σ (fun z u => σ.1 3 = z ∧ σ = u) := by
  refine MI.of (own := RX1) (L := [some (.ref (h 0))]) (by decide) rfl (by simp [Value.category]) (Nat.le_of_ble_eq_true rfl) rfl ?_
  intro p e s m below meth c A hC hr
  refine x_aload_n (i := 0) hC dX1_length_0 rfl rfl ?_
  refine x1_g3 hC dX1_length_1 ?_
  exact x_iret hC hr dX1_length_4 ⟨rfl, rfl⟩
abbrev rX1_offered : Room := ({ frames := 0, cells := 0, slots := 0, locals := 0 } : Room)
set_option maxHeartbeats 4000000 in
set_option maxRecDepth 100000 in
theorem tX1_offered (l : Launch) (D : va_G) (cA : ClassId) (h : Nat → Nat) (σ : XS)  : MI l yX1_offered (ws_ yX1_offered cX1_offered 1 (some .int)) rX1_offered (wX h cA) D vwCl [(cA, .int)] (h 0) [] σ (fun z u => σ.1 14 = z ∧ σ = u) := by
  refine MI.of (own := RX1) (L := [some (.ref (h 0))]) (by decide) rfl (by simp [Value.category]) (Nat.le_of_ble_eq_true rfl) rfl ?_
  intro p e s m below meth c A hC hr
  refine x_aload_n (i := 0) hC dX1_offered_0 rfl rfl ?_
  refine x1_g14 hC dX1_offered_1 ?_
  exact x_iret hC hr dX1_offered_4 ⟨rfl, rfl⟩
abbrev rX1_draftNode : Room := ({ frames := 0, cells := 0, slots := 0, locals := 0 } : Room)
set_option maxHeartbeats 4000000 in
set_option maxRecDepth 100000 in
theorem tX1_draftNode (l : Launch) (D : va_G) (cA : ClassId) (h : Nat → Nat) (σ : XS) {B : Int} (hB : 10 ≤ B ∧ B ≤ 100000) (hok : OKx B σ) : MI l yX1_draftNode (ws_ yX1_draftNode cX1_draftNode 3 (some .int)) rX1_draftNode (wX h cA) D vwCl [(cA, .int)] (h 0) [] σ (fun z u => dnode (σ.2 7) (σ.2 2) (σ.1 1).toNat 0 0 = z ∧ σ = u) := by
  refine MI.of (own := RX1) (L := [some (.ref (h 0)), none, none]) (by decide) rfl (by simp [Value.category]) (Nat.le_of_ble_eq_true rfl) rfl ?_
  intro p e s m below meth c A hC hr
  have q1 := hok.i1
  have loop : ∀ (n : Nat) (i node : Int), 0 ≤ i → i + (n : Int) = σ.1 1 → 0 ≤ node ∧ node ≤ 79 → dnode (σ.2 7) (σ.2 2) n i node = dnode (σ.2 7) (σ.2 2) (σ.1 1).toNat 0 0 → XW p l e rX1_draftNode s m (Value.ref (h 0) :: []).toArray below meth c 0 0 (MQ below (va_Qi (PI (fun z u => dnode (σ.2 7) (σ.2 2) (σ.1 1).toNat 0 0 = z ∧ σ = u)) (BW D vwCl [(cA, .int)] A (wX h cA)) A) (Value.ref (h 0) :: []).toArray s 0 0 A) D vwCl A (wX h cA) σ [some (.ref (h 0)), some (.int (iI (node))), some (.int (iI (i)))] [] 4 := by
    intro n
    induction n with
    | zero =>
      intro i node hi hn hd he
      refine x_iload_n (i := 2) hC dX1_draftNode_4 rfl rfl ?_
      refine x_aload_n (i := 0) hC dX1_draftNode_5 rfl rfl ?_
      refine x1_g1 hC dX1_draftNode_6 ?_
      refine x_icmp_ge hC 40 dX1_draftNode_9 (by decide) (by omega) (by omega) (fun h9 => ?_) (fun h9 => by exfalso; omega)
      refine x_iload_n (i := 1) hC dX1_draftNode_40 rfl rfl ?_
      exact x_iret hC hr dX1_draftNode_41 ⟨he.symm, rfl⟩
    | succ n ih =>
      intro i node hi hn hd he
      have q2 := hok.f2 i
      have q7 := hok.f7 (node * 4 + σ.2 2 i)
      refine x_iload_n (i := 2) hC dX1_draftNode_4 rfl rfl ?_
      refine x_aload_n (i := 0) hC dX1_draftNode_5 rfl rfl ?_
      refine x1_g1 hC dX1_draftNode_6 ?_
      refine x_icmp_ge hC 40 dX1_draftNode_9 (by decide) (by omega) (by omega) (fun h9 => by exfalso; omega) (fun h9 => ?_)
      refine x_aload_n (i := 0) hC dX1_draftNode_12 rfl rfl ?_
      refine x1_g7 hC dX1_draftNode_13 ?_
      refine x_iload_n (i := 1) hC dX1_draftNode_16 rfl rfl ?_
      refine x_iconst hC dX1_draftNode_17 ?_
      refine x_imul hC dX1_draftNode_18 ?_
      refine x_aload_n (i := 0) hC dX1_draftNode_19 rfl rfl ?_
      refine x1_g2 hC dX1_draftNode_20 ?_
      refine x_iload_n (i := 2) hC dX1_draftNode_23 rfl rfl ?_
      refine x1_l2 hC (by omega) dX1_draftNode_24 ?_
      refine x_iadd hC dX1_draftNode_25 ?_
      refine x1_l7 hC (by omega) dX1_draftNode_26 ?_
      refine x_istore_n (i := 1) (L' := [_, _, _]) hC dX1_draftNode_27 rfl (Nat.le_of_ble_eq_true rfl) rfl ?_
      refine x_iload_n (i := 1) hC dX1_draftNode_28 rfl rfl ?_
      refine x_if_ne hC 34 dX1_draftNode_29 (by decide) (by omega) (fun h29 => ?_) (fun h29 => ?_)
      · refine x_iinc (L' := [_, _, _]) hC dX1_draftNode_34 rfl rfl ?_
        refine x_goto hC 4 dX1_draftNode_37 (by decide) ?_
        exact ih (i + 1) _ (by omega) (by omega) q7 (by rw [← he]; exact (if_neg h29).symm)
      · refine x_iconst hC dX1_draftNode_32 ?_
        exact x_iret hC hr dX1_draftNode_33 ⟨by rw [← he]; exact if_pos h29, rfl⟩
  refine x_iconst hC dX1_draftNode_0 ?_
  refine x_istore_n (i := 1) (L' := [_, _, _]) hC dX1_draftNode_1 rfl (Nat.le_of_ble_eq_true rfl) rfl ?_
  refine x_iconst hC dX1_draftNode_2 ?_
  refine x_istore_n (i := 2) (L' := [_, _, _]) hC dX1_draftNode_3 rfl (Nat.le_of_ble_eq_true rfl) rfl ?_
  exact loop _ 0 0 (by omega) (by omega) (by omega) rfl
abbrev rX1_queryNode : Room := ({ frames := 0, cells := 0, slots := 0, locals := 0 } : Room)
set_option maxHeartbeats 4000000 in
set_option maxRecDepth 100000 in
theorem tX1_queryNode (l : Launch) (D : va_G) (cA : ClassId) (h : Nat → Nat) (σ : XS) {B : Int} (hB : 10 ≤ B ∧ B ≤ 100000) (hok : OKx B σ) : MI l yX1_queryNode (ws_ yX1_queryNode cX1_queryNode 3 (some .int)) rX1_queryNode (wX h cA) D vwCl [(cA, .int)] (h 0) [] σ (fun z u => dnode (σ.2 7) (σ.2 4) (σ.1 3).toNat 0 0 = z ∧ σ = u) := by
  refine MI.of (own := RX1) (L := [some (.ref (h 0)), none, none]) (by decide) rfl (by simp [Value.category]) (Nat.le_of_ble_eq_true rfl) rfl ?_
  intro p e s m below meth c A hC hr
  have q1 := hok.i3
  have loop : ∀ (n : Nat) (i node : Int), 0 ≤ i → i + (n : Int) = σ.1 3 → 0 ≤ node ∧ node ≤ 79 → dnode (σ.2 7) (σ.2 4) n i node = dnode (σ.2 7) (σ.2 4) (σ.1 3).toNat 0 0 → XW p l e rX1_queryNode s m (Value.ref (h 0) :: []).toArray below meth c 0 0 (MQ below (va_Qi (PI (fun z u => dnode (σ.2 7) (σ.2 4) (σ.1 3).toNat 0 0 = z ∧ σ = u)) (BW D vwCl [(cA, .int)] A (wX h cA)) A) (Value.ref (h 0) :: []).toArray s 0 0 A) D vwCl A (wX h cA) σ [some (.ref (h 0)), some (.int (iI (node))), some (.int (iI (i)))] [] 4 := by
    intro n
    induction n with
    | zero =>
      intro i node hi hn hd he
      refine x_iload_n (i := 2) hC dX1_queryNode_4 rfl rfl ?_
      refine x_aload_n (i := 0) hC dX1_queryNode_5 rfl rfl ?_
      refine x1_g3 hC dX1_queryNode_6 ?_
      refine x_icmp_ge hC 40 dX1_queryNode_9 (by decide) (by omega) (by omega) (fun h9 => ?_) (fun h9 => by exfalso; omega)
      refine x_iload_n (i := 1) hC dX1_queryNode_40 rfl rfl ?_
      exact x_iret hC hr dX1_queryNode_41 ⟨he.symm, rfl⟩
    | succ n ih =>
      intro i node hi hn hd he
      have q2 := hok.f4 i
      have q7 := hok.f7 (node * 4 + σ.2 4 i)
      refine x_iload_n (i := 2) hC dX1_queryNode_4 rfl rfl ?_
      refine x_aload_n (i := 0) hC dX1_queryNode_5 rfl rfl ?_
      refine x1_g3 hC dX1_queryNode_6 ?_
      refine x_icmp_ge hC 40 dX1_queryNode_9 (by decide) (by omega) (by omega) (fun h9 => by exfalso; omega) (fun h9 => ?_)
      refine x_aload_n (i := 0) hC dX1_queryNode_12 rfl rfl ?_
      refine x1_g7 hC dX1_queryNode_13 ?_
      refine x_iload_n (i := 1) hC dX1_queryNode_16 rfl rfl ?_
      refine x_iconst hC dX1_queryNode_17 ?_
      refine x_imul hC dX1_queryNode_18 ?_
      refine x_aload_n (i := 0) hC dX1_queryNode_19 rfl rfl ?_
      refine x1_g4 hC dX1_queryNode_20 ?_
      refine x_iload_n (i := 2) hC dX1_queryNode_23 rfl rfl ?_
      refine x1_l4 hC (by omega) dX1_queryNode_24 ?_
      refine x_iadd hC dX1_queryNode_25 ?_
      refine x1_l7 hC (by omega) dX1_queryNode_26 ?_
      refine x_istore_n (i := 1) (L' := [_, _, _]) hC dX1_queryNode_27 rfl (Nat.le_of_ble_eq_true rfl) rfl ?_
      refine x_iload_n (i := 1) hC dX1_queryNode_28 rfl rfl ?_
      refine x_if_ne hC 34 dX1_queryNode_29 (by decide) (by omega) (fun h29 => ?_) (fun h29 => ?_)
      · refine x_iinc (L' := [_, _, _]) hC dX1_queryNode_34 rfl rfl ?_
        refine x_goto hC 4 dX1_queryNode_37 (by decide) ?_
        exact ih (i + 1) _ (by omega) (by omega) q7 (by rw [← he]; exact (if_neg h29).symm)
      · refine x_iconst hC dX1_queryNode_32 ?_
        exact x_iret hC hr dX1_queryNode_33 ⟨by rw [← he]; exact if_pos h29, rfl⟩
  refine x_iconst hC dX1_queryNode_0 ?_
  refine x_istore_n (i := 1) (L' := [_, _, _]) hC dX1_queryNode_1 rfl (Nat.le_of_ble_eq_true rfl) rfl ?_
  refine x_iconst hC dX1_queryNode_2 ?_
  refine x_istore_n (i := 2) (L' := [_, _, _]) hC dX1_queryNode_3 rfl (Nat.le_of_ble_eq_true rfl) rfl ?_
  exact loop _ 0 0 (by omega) (by omega) (by omega) rfl
abbrev rX1_freeNode : Room := ({ frames := 0, cells := 0, slots := 0, locals := 0 } : Room)
set_option maxHeartbeats 4000000 in
set_option maxRecDepth 100000 in
theorem tX1_freeNode (l : Launch) (D : va_G) (cA : ClassId) (h : Nat → Nat) (σ : XS) {B : Int} (hB : 10 ≤ B ∧ B ≤ 100000) (hok : OKx B σ) : MI l yX1_freeNode (ws_ yX1_freeNode cX1_freeNode 3 (some .int)) rX1_freeNode (wX h cA) D vwCl [(cA, .int)] (h 0) [] σ (fun z u => freeF σ = z ∧ σ = u) := by
  refine MI.of (own := RX1) (L := [some (.ref (h 0)), none, none]) (by decide) rfl (by simp [Value.category]) (Nat.le_of_ble_eq_true rfl) rfl ?_
  intro p e s m below meth c A hC hr
  have loop : ∀ (n : Nat) (f : Int), n ≤ 79 → 1 ≤ f ∧ f ≤ 79 → fnode (σ.2 6) n f = freeF σ → XW p l e rX1_freeNode s m (Value.ref (h 0) :: []).toArray below meth c 0 0 (MQ below (va_Qi (PI (fun z u => freeF σ = z ∧ σ = u)) (BW D vwCl [(cA, .int)] A (wX h cA)) A) (Value.ref (h 0) :: []).toArray s 0 0 A) D vwCl A (wX h cA) σ [some (.ref (h 0)), some (.int (iI (f))), some (.int (iI ((n : Int))))] [] 5 := by
    intro n
    induction n with
    | zero =>
      intro f hn hf he
      refine x_iload_n (i := 2) hC dX1_freeNode_5 rfl rfl ?_
      refine x_if_le hC 26 dX1_freeNode_6 (by decide) (by omega) (fun h6 => ?_) (fun h6 => by exfalso; omega)
      refine x_iload_n (i := 1) hC dX1_freeNode_26 rfl rfl ?_
      exact x_iret hC hr dX1_freeNode_27 ⟨he.symm, rfl⟩
    | succ n ih =>
      intro f hn hf he
      have q6 := hok.f6 ((n : Int) + 1)
      rw [show (((n + 1 : Nat)) : Int) = (n : Int) + 1 from by omega]
      refine x_iload_n (i := 2) hC dX1_freeNode_5 rfl rfl ?_
      refine x_if_le hC 26 dX1_freeNode_6 (by decide) (by omega) (fun h6 => by exfalso; omega) (fun h6 => ?_)
      refine x_aload_n (i := 0) hC dX1_freeNode_9 rfl rfl ?_
      refine x1_g6 hC dX1_freeNode_10 ?_
      refine x_iload_n (i := 2) hC dX1_freeNode_13 rfl rfl ?_
      refine x1_l6 hC (by omega) dX1_freeNode_14 ?_
      refine x_if_ne hC 20 dX1_freeNode_15 (by decide) (by omega) (fun h15 => ?_) (fun h15 => ?_)
      · refine x_iinc (L' := [_, _, _]) hC dX1_freeNode_20 rfl rfl ?_
        refine x_goto hC 5 dX1_freeNode_23 (by decide) ?_
        rw [show (n : Int) + 1 + -1 = (n : Int) from by omega]
        exact ih _ (by omega) (by omega) (by rw [← he]; show _ = fnode _ n (if _ then _ else _); rw [if_neg h15])
      · refine x_iload_n (i := 2) hC dX1_freeNode_18 rfl rfl ?_
        refine x_istore_n (i := 1) (L' := [_, _, _]) hC dX1_freeNode_19 rfl (Nat.le_of_ble_eq_true rfl) rfl ?_
        refine x_iinc (L' := [_, _, _]) hC dX1_freeNode_20 rfl rfl ?_
        refine x_goto hC 5 dX1_freeNode_23 (by decide) ?_
        rw [show (n : Int) + 1 + -1 = (n : Int) from by omega]
        exact ih _ (by omega) (by omega) (by rw [← he]; show _ = fnode _ n (if _ then _ else _); rw [if_pos h15])
  refine x_iconst hC dX1_freeNode_0 ?_
  refine x_istore_n (i := 1) (L' := [_, _, _]) hC dX1_freeNode_1 rfl (Nat.le_of_ble_eq_true rfl) rfl ?_
  refine x_bipush hC dX1_freeNode_2 bp_79 ?_
  refine x_istore_n (i := 2) (L' := [_, _, _]) hC dX1_freeNode_4 rfl (Nat.le_of_ble_eq_true rfl) rfl ?_
  exact loop 79 1 (by omega) (by omega) rfl
abbrev rX1_makeChild : Room := ({ frames := 1, cells := 0, slots := 0, locals := 22 } : Room)
set_option maxHeartbeats 4000000 in
set_option maxRecDepth 100000 in
theorem tX1_makeChild (l : Launch) (D : va_G) (cA : ClassId) (h : Nat → Nat) (σ : XS) {B : Int} (hB : 10 ≤ B ∧ B ≤ 100000) (hok : OKx B σ) (node a : Int) (hn : 0 ≤ node ∧ node ≤ 79) (ha : 0 ≤ a ∧ a ≤ 3) : MI l yX1_makeChild (ws_ yX1_makeChild cX1_makeChild 5 (some .int)) rX1_makeChild (wX h cA) D vwCl [(cA, .int)] (h 0) [.int (iI node), .int (iI a)] σ (fun z u => freeF σ = z ∧ mkF σ node a = u) := by
  refine MI.of (own := RX1) (L := [some (.ref (h 0)), some (.int (iI node)), some (.int (iI a)), none, none]) (by decide) rfl (by simp [Value.category]) (Nat.le_of_ble_eq_true rfl) rfl ?_
  intro p e s m below meth c A hC hr
  have qf := freeF_rg σ
  refine x_aload_n (i := 0) hC dX1_makeChild_0 rfl rfl ?_
  refine x_callI hC (tX1_freeNode l D cA h σ hB hok) gX1_X1_freeNode hyX1_freeNode ⟨rfl, rfl⟩ ⟨Nat.le_of_ble_eq_true rfl, Nat.le_of_ble_eq_true rfl⟩ ⟨Nat.zero_le _, Nat.zero_le _⟩ (ci := 0) (q0 := 0) rfl rfl rfl rfl (Nat.le_of_ble_eq_true rfl) rfl dX1_makeChild_1 (fun z u hu => ?_)
  obtain ⟨rfl, rfl⟩ := hu
  generalize hf : freeF σ = f at qf ⊢
  refine x_istore_n (i := 3) (L' := [_, _, _, _, _]) hC dX1_makeChild_4 rfl (Nat.le_of_ble_eq_true rfl) rfl ?_
  refine x_aload_n (i := 0) hC dX1_makeChild_5 rfl rfl ?_
  refine x1_g7 hC dX1_makeChild_6 ?_
  refine x_iload_n (i := 1) hC dX1_makeChild_9 rfl rfl ?_
  refine x_iconst hC dX1_makeChild_10 ?_
  refine x_imul hC dX1_makeChild_11 ?_
  refine x_iload_n (i := 2) hC dX1_makeChild_12 rfl rfl ?_
  refine x_iadd hC dX1_makeChild_13 ?_
  refine x_iload_n (i := 3) hC dX1_makeChild_14 rfl rfl ?_
  refine x1_s7 hC (by omega) dX1_makeChild_15 ?_
  refine x_aload_n (i := 0) hC dX1_makeChild_16 rfl rfl ?_
  refine x1_g8 hC dX1_makeChild_17 ?_
  refine x_iload_n (i := 3) hC dX1_makeChild_20 rfl rfl ?_
  refine x_iload_n (i := 1) hC dX1_makeChild_21 rfl rfl ?_
  refine x1_s8 hC (by omega) dX1_makeChild_22 ?_
  refine x_aload_n (i := 0) hC dX1_makeChild_23 rfl rfl ?_
  refine x1_g9 hC dX1_makeChild_24 ?_
  refine x_iload_n (i := 3) hC dX1_makeChild_27 rfl rfl ?_
  refine x_iload_n (i := 2) hC dX1_makeChild_28 rfl rfl ?_
  refine x1_s9 hC (by omega) dX1_makeChild_29 ?_
  refine x_aload_n (i := 0) hC dX1_makeChild_30 rfl rfl ?_
  refine x1_g10 hC dX1_makeChild_31 ?_
  refine x_iload_n (i := 3) hC dX1_makeChild_34 rfl rfl ?_
  refine x_aload_n (i := 0) hC dX1_makeChild_35 rfl rfl ?_
  refine x1_g10 hC dX1_makeChild_36 ?_
  refine x_iload_n (i := 1) hC dX1_makeChild_39 rfl rfl ?_
  refine x1_l10 hC (by omega) dX1_makeChild_40 ?_
  refine x_iconst hC dX1_makeChild_41 ?_
  refine x_iadd hC dX1_makeChild_42 ?_
  refine x1_s10 hC (by omega) dX1_makeChild_43 ?_
  refine x_aload_n (i := 0) hC dX1_makeChild_44 rfl rfl ?_
  refine x1_g11 hC dX1_makeChild_45 ?_
  refine x_iload_n (i := 3) hC dX1_makeChild_48 rfl rfl ?_
  refine x_aload_n (i := 0) hC dX1_makeChild_49 rfl rfl ?_
  refine x1_g11 hC dX1_makeChild_50 ?_
  refine x_iload_n (i := 1) hC dX1_makeChild_53 rfl rfl ?_
  refine x1_l11 hC (by omega) dX1_makeChild_54 ?_
  refine x_iconst hC dX1_makeChild_55 ?_
  refine x_imul hC dX1_makeChild_56 ?_
  refine x_iload_n (i := 2) hC dX1_makeChild_57 rfl rfl ?_
  refine x_iadd hC dX1_makeChild_58 ?_
  refine x_iconst hC dX1_makeChild_59 ?_
  refine x_iadd hC dX1_makeChild_60 ?_
  refine x1_s11 hC (by omega) dX1_makeChild_61 ?_
  refine x_aload_n (i := 0) hC dX1_makeChild_62 rfl rfl ?_
  refine x1_g12 hC dX1_makeChild_63 ?_
  refine x_iload_n (i := 3) hC dX1_makeChild_66 rfl rfl ?_
  refine x_bipush hC dX1_makeChild_67 bp_m4 ?_
  refine x1_s12 hC (by omega) dX1_makeChild_69 ?_
  refine x_iconst hC dX1_makeChild_70 ?_
  refine x_istore (L' := [_, _, _, _, _]) hC dX1_makeChild_71 (Nat.le_of_ble_eq_true rfl) rfl ?_
  refine x_iload hC dX1_makeChild_73 rfl ?_
  refine x_iconst hC dX1_makeChild_75 ?_
  refine x_icmp_ge hC 97 dX1_makeChild_76 (by decide) (by omega) (by omega) (fun h76 => by exfalso; omega) (fun h76 => ?_)
  refine x_aload_n (i := 0) hC dX1_makeChild_79 rfl rfl ?_
  refine x1_g7 hC dX1_makeChild_80 ?_
  refine x_iload_n (i := 3) hC dX1_makeChild_83 rfl rfl ?_
  refine x_iconst hC dX1_makeChild_84 ?_
  refine x_imul hC dX1_makeChild_85 ?_
  refine x_iload hC dX1_makeChild_86 rfl ?_
  refine x_iadd hC dX1_makeChild_88 ?_
  refine x_iconst hC dX1_makeChild_89 ?_
  refine x1_s7 hC (by omega) dX1_makeChild_90 ?_
  refine x_iinc (L' := [_, _, _, _, _]) hC dX1_makeChild_91 rfl rfl ?_
  refine x_goto hC 73 dX1_makeChild_94 (by decide) ?_
  refine x_iload hC dX1_makeChild_73 rfl ?_
  refine x_iconst hC dX1_makeChild_75 ?_
  refine x_icmp_ge hC 97 dX1_makeChild_76 (by decide) (by omega) (by omega) (fun h76 => by exfalso; omega) (fun h76 => ?_)
  refine x_aload_n (i := 0) hC dX1_makeChild_79 rfl rfl ?_
  refine x1_g7 hC dX1_makeChild_80 ?_
  refine x_iload_n (i := 3) hC dX1_makeChild_83 rfl rfl ?_
  refine x_iconst hC dX1_makeChild_84 ?_
  refine x_imul hC dX1_makeChild_85 ?_
  refine x_iload hC dX1_makeChild_86 rfl ?_
  refine x_iadd hC dX1_makeChild_88 ?_
  refine x_iconst hC dX1_makeChild_89 ?_
  refine x1_s7 hC (by omega) dX1_makeChild_90 ?_
  refine x_iinc (L' := [_, _, _, _, _]) hC dX1_makeChild_91 rfl rfl ?_
  refine x_goto hC 73 dX1_makeChild_94 (by decide) ?_
  refine x_iload hC dX1_makeChild_73 rfl ?_
  refine x_iconst hC dX1_makeChild_75 ?_
  refine x_icmp_ge hC 97 dX1_makeChild_76 (by decide) (by omega) (by omega) (fun h76 => by exfalso; omega) (fun h76 => ?_)
  refine x_aload_n (i := 0) hC dX1_makeChild_79 rfl rfl ?_
  refine x1_g7 hC dX1_makeChild_80 ?_
  refine x_iload_n (i := 3) hC dX1_makeChild_83 rfl rfl ?_
  refine x_iconst hC dX1_makeChild_84 ?_
  refine x_imul hC dX1_makeChild_85 ?_
  refine x_iload hC dX1_makeChild_86 rfl ?_
  refine x_iadd hC dX1_makeChild_88 ?_
  refine x_iconst hC dX1_makeChild_89 ?_
  refine x1_s7 hC (by omega) dX1_makeChild_90 ?_
  refine x_iinc (L' := [_, _, _, _, _]) hC dX1_makeChild_91 rfl rfl ?_
  refine x_goto hC 73 dX1_makeChild_94 (by decide) ?_
  refine x_iload hC dX1_makeChild_73 rfl ?_
  refine x_iconst hC dX1_makeChild_75 ?_
  refine x_icmp_ge hC 97 dX1_makeChild_76 (by decide) (by omega) (by omega) (fun h76 => by exfalso; omega) (fun h76 => ?_)
  refine x_aload_n (i := 0) hC dX1_makeChild_79 rfl rfl ?_
  refine x1_g7 hC dX1_makeChild_80 ?_
  refine x_iload_n (i := 3) hC dX1_makeChild_83 rfl rfl ?_
  refine x_iconst hC dX1_makeChild_84 ?_
  refine x_imul hC dX1_makeChild_85 ?_
  refine x_iload hC dX1_makeChild_86 rfl ?_
  refine x_iadd hC dX1_makeChild_88 ?_
  refine x_iconst hC dX1_makeChild_89 ?_
  refine x1_s7 hC (by omega) dX1_makeChild_90 ?_
  refine x_iinc (L' := [_, _, _, _, _]) hC dX1_makeChild_91 rfl rfl ?_
  refine x_goto hC 73 dX1_makeChild_94 (by decide) ?_
  refine x_iload hC dX1_makeChild_73 rfl ?_
  refine x_iconst hC dX1_makeChild_75 ?_
  refine x_icmp_ge hC 97 dX1_makeChild_76 (by decide) (by omega) (by omega) (fun h76 => ?_) (fun h76 => by exfalso; omega)
  refine x_iload_n (i := 3) hC dX1_makeChild_97 rfl rfl ?_
  exact x_iret hC hr dX1_makeChild_98 ⟨rfl, by unfold mkF; rw [hf]; rfl⟩
abbrev rX1_firstLayer : Room := ({ frames := 1, cells := 0, slots := 0, locals := 21 } : Room)
set_option maxHeartbeats 4000000 in
set_option maxRecDepth 100000 in
theorem tX1_firstLayer (l : Launch) (D : va_G) (cA : ClassId) (h : Nat → Nat) (σ : XS) {B : Int} (hB : 10 ≤ B ∧ B ≤ 100000) (hok : OKx B σ) : MV l yX1_firstLayer (ws_ yX1_firstLayer cX1_firstLayer 2 none) rX1_firstLayer (wX h cA) D vwCl [(cA, .int)] (h 0) [] σ (fun u => firstF σ = u) := by
  refine MV.of (own := RX1) (L := [some (.ref (h 0)), none]) (by decide) rfl (by simp [Value.category]) (Nat.le_of_ble_eq_true rfl) rfl ?_
  intro p e s m below meth c A hC hr
  have q0 := hok.i0
  have loop : ∀ (n : Nat) (i : Int) (τ : XS), 0 ≤ i → i + (n : Int) = 80 → OKx B τ → flLoop n i τ = firstF σ → XW p l e rX1_firstLayer s m (Value.ref (h 0) :: []).toArray below meth c 0 0 (MQ below (va_Qv (fun u => firstF σ = u) (BW D vwCl [(cA, .int)] A (wX h cA)) A) (Value.ref (h 0) :: []).toArray s 0 0 A) D vwCl A (wX h cA) τ [some (.ref (h 0)), some (.int (iI (i)))] [] 2 := by
    intro n
    induction n with
    | zero =>
      intro i τ hi hn hk he
      refine x_iload_n (i := 1) hC dX1_firstLayer_2 rfl rfl ?_
      refine x_bipush hC dX1_firstLayer_3 bp_80 ?_
      refine x_icmp_ge hC 47 dX1_firstLayer_5 (by decide) (by omega) (by omega) (fun h5 => ?_) (fun h5 => by exfalso; omega)
      exact x_vret hC hr dX1_firstLayer_47 he.symm
    | succ n ih =>
      intro i τ hi hn hk he
      have q10 := hk.f10 i
      have qc := capF_rg hk hB.1 q10.1
      have ql := hk.i0
      refine x_iload_n (i := 1) hC dX1_firstLayer_2 rfl rfl ?_
      refine x_bipush hC dX1_firstLayer_3 bp_80 ?_
      refine x_icmp_ge hC 47 dX1_firstLayer_5 (by decide) (by omega) (by omega) (fun h5 => by exfalso; omega) (fun h5 => ?_)
      refine x_aload_n (i := 0) hC dX1_firstLayer_8 rfl rfl ?_
      refine x1_g13 hC dX1_firstLayer_9 ?_
      refine x_iload_n (i := 1) hC dX1_firstLayer_12 rfl rfl ?_
      refine x_aload_n (i := 0) hC dX1_firstLayer_13 rfl rfl ?_
      refine x_iload_n (i := 1) hC dX1_firstLayer_14 rfl rfl ?_
      refine x_callI hC (tX1_inTree l D cA h τ hB hk i (by omega)) gX1_X1_inTree hyX1_inTree ⟨rfl, rfl⟩ ⟨Nat.le_of_ble_eq_true rfl, Nat.le_of_ble_eq_true rfl⟩ ⟨Nat.zero_le _, Nat.zero_le _⟩ (ci := 0) (q0 := 0) rfl rfl rfl rfl (Nat.le_of_ble_eq_true rfl) rfl dX1_firstLayer_15 (fun z u hu => ?_)
      obtain ⟨⟨rfl, hc⟩ | ⟨rfl, hc⟩, rfl⟩ := hu
      · refine x_if_eq hC 34 dX1_firstLayer_18 (by decide) (by omega) (fun h18 => by exfalso; omega) (fun h18 => ?_)
        refine x_aload_n (i := 0) hC dX1_firstLayer_21 rfl rfl ?_
        refine x_aload_n (i := 0) hC dX1_firstLayer_22 rfl rfl ?_
        refine x1_g10 hC dX1_firstLayer_23 ?_
        refine x_iload_n (i := 1) hC dX1_firstLayer_26 rfl rfl ?_
        refine x1_l10 hC (by omega) dX1_firstLayer_27 ?_
        refine x_callI hC (tX1_capped l D cA h τ hB hk (τ.2 10 i) (by omega)) gX1_X1_capped hyX1_capped ⟨rfl, rfl⟩ ⟨Nat.le_of_ble_eq_true rfl, Nat.le_of_ble_eq_true rfl⟩ ⟨Nat.zero_le _, Nat.zero_le _⟩ (ci := 0) (q0 := 0) rfl rfl rfl rfl (Nat.le_of_ble_eq_true rfl) rfl dX1_firstLayer_28 (fun z u hu => ?_)
        obtain ⟨rfl, rfl⟩ := hu
        refine x_goto hC 40 dX1_firstLayer_31 (by decide) ?_
        refine x1_s13 hC (by omega) dX1_firstLayer_40 ?_
        refine x_iinc (L' := [_, _]) hC dX1_firstLayer_41 rfl rfl ?_
        refine x_goto hC 2 dX1_firstLayer_44 (by decide) ?_
        exact ih (i + 1) _ (by omega) (by omega) (hk.sA13 (by omega)) (by rw [← he]; exact congrArg (fun v => flLoop n (i + 1) (sA τ 13 i v)) (if_pos hc).symm)
      · refine x_if_eq hC 34 dX1_firstLayer_18 (by decide) (by omega) (fun h18 => ?_) (fun h18 => by exfalso; omega)
        refine x_aload_n (i := 0) hC dX1_firstLayer_34 rfl rfl ?_
        refine x1_g0 hC dX1_firstLayer_35 ?_
        refine x_iconst hC dX1_firstLayer_38 ?_
        refine x_iadd hC dX1_firstLayer_39 ?_
        refine x1_s13 hC (by omega) dX1_firstLayer_40 ?_
        refine x_iinc (L' := [_, _]) hC dX1_firstLayer_41 rfl rfl ?_
        refine x_goto hC 2 dX1_firstLayer_44 (by decide) ?_
        exact ih (i + 1) _ (by omega) (by omega) (hk.sA13 (by omega)) (by rw [← he]; exact congrArg (fun v => flLoop n (i + 1) (sA τ 13 i v)) (if_neg hc).symm)
  refine x_iconst hC dX1_firstLayer_0 ?_
  refine x_istore_n (i := 1) (L' := [_, _]) hC dX1_firstLayer_1 rfl (Nat.le_of_ble_eq_true rfl) rfl ?_
  exact loop 80 0 σ (by omega) (by omega) hok rfl
abbrev rX1_step : Room := ({ frames := 1, cells := 0, slots := 0, locals := 21 } : Room)
set_option maxHeartbeats 4000000 in
set_option maxRecDepth 100000 in
theorem tX1_step (l : Launch) (D : va_G) (cA : ClassId) (h : Nat → Nat) (σ : XS) {B : Int} (hB : 10 ≤ B ∧ B ≤ 100000) (hok : OKx B σ) (node fr to a : Int) (hn : 0 ≤ node ∧ node ≤ 79) (hf : 0 ≤ fr ∧ fr ≤ 400) (ht : 0 ≤ to ∧ to ≤ 480) (ha : 0 ≤ a ∧ a ≤ 3) : MI l yX1_step (ws_ yX1_step cX1_step 9 (some .int)) rX1_step (wX h cA) D vwCl [(cA, .int)] (h 0) [.int (iI node), .int (iI fr), .int (iI to), .int (iI a)] σ (fun z u => stepF σ node fr to a = z ∧ σ = u) := by
  refine MI.of (own := RX1) (L := [some (.ref (h 0)), some (.int (iI node)), some (.int (iI fr)), some (.int (iI to)), some (.int (iI a)), none, none, none, none]) (by decide) rfl (by simp [Value.category]) (Nat.le_of_ble_eq_true rfl) rfl ?_
  intro p e s m below meth c A hC hr
  have q8 := hok.f8 node
  have q9 := hok.f9 node
  have p1 := hok.f13 (fr + node)
  have p2 := hok.f13 (fr + σ.2 8 node)
  have p3 := hok.f13 (to + σ.2 8 node)
  refine x_aload_n (i := 0) hC dX1_step_0 rfl rfl ?_
  refine x1_g13 hC dX1_step_1 ?_
  refine x_iload_n (i := 2) hC dX1_step_4 rfl rfl ?_
  refine x_iload_n (i := 1) hC dX1_step_5 rfl rfl ?_
  refine x_iadd hC dX1_step_6 ?_
  refine x1_l13 hC (by omega) dX1_step_7 ?_
  refine x_iconst hC dX1_step_8 ?_
  refine x_iadd hC dX1_step_9 ?_
  refine x_istore (L' := [_, _, _, _, _, _, _, _, _]) hC dX1_step_10 (Nat.le_of_ble_eq_true rfl) rfl ?_
  refine x_iload_n (i := 1) hC dX1_step_12 rfl rfl ?_
  refine x_if_eq hC 97 dX1_step_13 (by decide) (by omega) (fun h13 => ?_) (fun h13 => ?_)
  · refine x_aload_n (i := 0) hC dX1_step_97 rfl rfl ?_
    refine x_iload hC dX1_step_98 rfl ?_
    refine x_callI hC (tX1_capped l D cA h σ hB hok _ (by omega)) gX1_X1_capped hyX1_capped ⟨rfl, rfl⟩ ⟨Nat.le_of_ble_eq_true rfl, Nat.le_of_ble_eq_true rfl⟩ ⟨Nat.zero_le _, Nat.zero_le _⟩ (ci := 0) (q0 := 0) rfl rfl rfl rfl (Nat.le_of_ble_eq_true rfl) rfl dX1_step_100 (fun z u hu => ?_)
    obtain ⟨hz, rfl⟩ := hu
    exact x_iret hC hr dX1_step_103 ⟨by unfold stepF; rw [if_pos h13]; assumption, rfl⟩
  · refine x_aload_n (i := 0) hC dX1_step_16 rfl rfl ?_
    refine x1_g8 hC dX1_step_17 ?_
    refine x_iload_n (i := 1) hC dX1_step_20 rfl rfl ?_
    refine x1_l8 hC (by omega) dX1_step_21 ?_
    refine x_istore (L' := [_, _, _, _, _, _, _, _, _]) hC dX1_step_22 (Nat.le_of_ble_eq_true rfl) rfl ?_
    refine x_aload_n (i := 0) hC dX1_step_24 rfl rfl ?_
    refine x1_g13 hC dX1_step_25 ?_
    refine x_iload_n (i := 2) hC dX1_step_28 rfl rfl ?_
    refine x_iload hC dX1_step_29 rfl ?_
    refine x_iadd hC dX1_step_31 ?_
    refine x1_l13 hC (by omega) dX1_step_32 ?_
    refine x_aload_n (i := 0) hC dX1_step_33 rfl rfl ?_
    refine x1_g9 hC dX1_step_34 ?_
    refine x_iload_n (i := 1) hC dX1_step_37 rfl rfl ?_
    refine x1_l9 hC (by omega) dX1_step_38 ?_
    refine x_iload hC dX1_step_39 rfl ?_
    refine x_icmp_ne hC 48 dX1_step_41 (by decide) (by omega) (by omega) (fun h41 => ?_) (fun h41 => ?_)
    · refine x_iconst hC dX1_step_48 ?_
      refine x_iadd hC dX1_step_49 ?_
      refine x_istore (L' := [_, _, _, _, _, _, _, _, _]) hC dX1_step_50 (Nat.le_of_ble_eq_true rfl) rfl ?_
      refine x_aload_n (i := 0) hC dX1_step_52 rfl rfl ?_
      refine x1_g13 hC dX1_step_53 ?_
      refine x_iload_n (i := 3) hC dX1_step_56 rfl rfl ?_
      refine x_iload hC dX1_step_57 rfl ?_
      refine x_iadd hC dX1_step_59 ?_
      refine x1_l13 hC (by omega) dX1_step_60 ?_
      refine x_iconst hC dX1_step_61 ?_
      refine x_iadd hC dX1_step_62 ?_
      refine x_istore (L' := [_, _, _, _, _, _, _, _, _]) hC dX1_step_63 (Nat.le_of_ble_eq_true rfl) rfl ?_
      refine x_iload hC dX1_step_65 rfl ?_
      refine x_iload hC dX1_step_67 rfl ?_
      refine x_icmp_ge hC 77 dX1_step_69 (by decide) (by omega) (by omega) (fun h69 => ?_) (fun h69 => ?_)
      · refine x_iload hC dX1_step_77 rfl ?_
        refine x_istore (L' := [_, _, _, _, _, _, _, _, _]) hC dX1_step_79 (Nat.le_of_ble_eq_true rfl) rfl ?_
        refine x_iload hC dX1_step_81 rfl ?_
        refine x_iload hC dX1_step_83 rfl ?_
        refine x_icmp_ge hC 93 dX1_step_85 (by decide) (by omega) (by omega) (fun h85 => ?_) (fun h85 => ?_)
        · refine x_iload hC dX1_step_93 rfl ?_
          refine x_istore (L' := [_, _, _, _, _, _, _, _, _]) hC dX1_step_95 (Nat.le_of_ble_eq_true rfl) rfl ?_
          refine x_aload_n (i := 0) hC dX1_step_97 rfl rfl ?_
          refine x_iload hC dX1_step_98 rfl ?_
          refine x_callI hC (tX1_capped l D cA h σ hB hok _ (by omega)) gX1_X1_capped hyX1_capped ⟨rfl, rfl⟩ ⟨Nat.le_of_ble_eq_true rfl, Nat.le_of_ble_eq_true rfl⟩ ⟨Nat.zero_le _, Nat.zero_le _⟩ (ci := 0) (q0 := 0) rfl rfl rfl rfl (Nat.le_of_ble_eq_true rfl) rfl dX1_step_100 (fun z u hu => ?_)
          obtain ⟨hz, rfl⟩ := hu
          exact x_iret hC hr dX1_step_103 ⟨by unfold stepF minF; rw [if_neg h13]; first | assumption | (subst_vars; congr 1; split <;> split <;> split <;> omega) | (simp only [*, if_true, if_false]; done), rfl⟩
        · refine x_iload hC dX1_step_88 rfl ?_
          refine x_goto hC 95 dX1_step_90 (by decide) ?_
          refine x_istore (L' := [_, _, _, _, _, _, _, _, _]) hC dX1_step_95 (Nat.le_of_ble_eq_true rfl) rfl ?_
          refine x_aload_n (i := 0) hC dX1_step_97 rfl rfl ?_
          refine x_iload hC dX1_step_98 rfl ?_
          refine x_callI hC (tX1_capped l D cA h σ hB hok _ (by omega)) gX1_X1_capped hyX1_capped ⟨rfl, rfl⟩ ⟨Nat.le_of_ble_eq_true rfl, Nat.le_of_ble_eq_true rfl⟩ ⟨Nat.zero_le _, Nat.zero_le _⟩ (ci := 0) (q0 := 0) rfl rfl rfl rfl (Nat.le_of_ble_eq_true rfl) rfl dX1_step_100 (fun z u hu => ?_)
          obtain ⟨hz, rfl⟩ := hu
          exact x_iret hC hr dX1_step_103 ⟨by unfold stepF minF; rw [if_neg h13]; first | assumption | (subst_vars; congr 1; split <;> split <;> split <;> omega) | (simp only [*, if_true, if_false]; done), rfl⟩
      · refine x_iload hC dX1_step_72 rfl ?_
        refine x_goto hC 79 dX1_step_74 (by decide) ?_
        refine x_istore (L' := [_, _, _, _, _, _, _, _, _]) hC dX1_step_79 (Nat.le_of_ble_eq_true rfl) rfl ?_
        refine x_iload hC dX1_step_81 rfl ?_
        refine x_iload hC dX1_step_83 rfl ?_
        refine x_icmp_ge hC 93 dX1_step_85 (by decide) (by omega) (by omega) (fun h85 => ?_) (fun h85 => ?_)
        · refine x_iload hC dX1_step_93 rfl ?_
          refine x_istore (L' := [_, _, _, _, _, _, _, _, _]) hC dX1_step_95 (Nat.le_of_ble_eq_true rfl) rfl ?_
          refine x_aload_n (i := 0) hC dX1_step_97 rfl rfl ?_
          refine x_iload hC dX1_step_98 rfl ?_
          refine x_callI hC (tX1_capped l D cA h σ hB hok _ (by omega)) gX1_X1_capped hyX1_capped ⟨rfl, rfl⟩ ⟨Nat.le_of_ble_eq_true rfl, Nat.le_of_ble_eq_true rfl⟩ ⟨Nat.zero_le _, Nat.zero_le _⟩ (ci := 0) (q0 := 0) rfl rfl rfl rfl (Nat.le_of_ble_eq_true rfl) rfl dX1_step_100 (fun z u hu => ?_)
          obtain ⟨hz, rfl⟩ := hu
          exact x_iret hC hr dX1_step_103 ⟨by unfold stepF minF; rw [if_neg h13]; first | assumption | (subst_vars; congr 1; split <;> split <;> split <;> omega) | (simp only [*, if_true, if_false]; done), rfl⟩
        · refine x_iload hC dX1_step_88 rfl ?_
          refine x_goto hC 95 dX1_step_90 (by decide) ?_
          refine x_istore (L' := [_, _, _, _, _, _, _, _, _]) hC dX1_step_95 (Nat.le_of_ble_eq_true rfl) rfl ?_
          refine x_aload_n (i := 0) hC dX1_step_97 rfl rfl ?_
          refine x_iload hC dX1_step_98 rfl ?_
          refine x_callI hC (tX1_capped l D cA h σ hB hok _ (by omega)) gX1_X1_capped hyX1_capped ⟨rfl, rfl⟩ ⟨Nat.le_of_ble_eq_true rfl, Nat.le_of_ble_eq_true rfl⟩ ⟨Nat.zero_le _, Nat.zero_le _⟩ (ci := 0) (q0 := 0) rfl rfl rfl rfl (Nat.le_of_ble_eq_true rfl) rfl dX1_step_100 (fun z u hu => ?_)
          obtain ⟨hz, rfl⟩ := hu
          exact x_iret hC hr dX1_step_103 ⟨by unfold stepF minF; rw [if_neg h13]; first | assumption | (subst_vars; congr 1; split <;> split <;> split <;> omega) | (simp only [*, if_true, if_false]; done), rfl⟩
    · refine x_iconst hC dX1_step_44 ?_
      refine x_goto hC 49 dX1_step_45 (by decide) ?_
      refine x_iadd hC dX1_step_49 ?_
      refine x_istore (L' := [_, _, _, _, _, _, _, _, _]) hC dX1_step_50 (Nat.le_of_ble_eq_true rfl) rfl ?_
      refine x_aload_n (i := 0) hC dX1_step_52 rfl rfl ?_
      refine x1_g13 hC dX1_step_53 ?_
      refine x_iload_n (i := 3) hC dX1_step_56 rfl rfl ?_
      refine x_iload hC dX1_step_57 rfl ?_
      refine x_iadd hC dX1_step_59 ?_
      refine x1_l13 hC (by omega) dX1_step_60 ?_
      refine x_iconst hC dX1_step_61 ?_
      refine x_iadd hC dX1_step_62 ?_
      refine x_istore (L' := [_, _, _, _, _, _, _, _, _]) hC dX1_step_63 (Nat.le_of_ble_eq_true rfl) rfl ?_
      refine x_iload hC dX1_step_65 rfl ?_
      refine x_iload hC dX1_step_67 rfl ?_
      refine x_icmp_ge hC 77 dX1_step_69 (by decide) (by omega) (by omega) (fun h69 => ?_) (fun h69 => ?_)
      · refine x_iload hC dX1_step_77 rfl ?_
        refine x_istore (L' := [_, _, _, _, _, _, _, _, _]) hC dX1_step_79 (Nat.le_of_ble_eq_true rfl) rfl ?_
        refine x_iload hC dX1_step_81 rfl ?_
        refine x_iload hC dX1_step_83 rfl ?_
        refine x_icmp_ge hC 93 dX1_step_85 (by decide) (by omega) (by omega) (fun h85 => ?_) (fun h85 => ?_)
        · refine x_iload hC dX1_step_93 rfl ?_
          refine x_istore (L' := [_, _, _, _, _, _, _, _, _]) hC dX1_step_95 (Nat.le_of_ble_eq_true rfl) rfl ?_
          refine x_aload_n (i := 0) hC dX1_step_97 rfl rfl ?_
          refine x_iload hC dX1_step_98 rfl ?_
          refine x_callI hC (tX1_capped l D cA h σ hB hok _ (by omega)) gX1_X1_capped hyX1_capped ⟨rfl, rfl⟩ ⟨Nat.le_of_ble_eq_true rfl, Nat.le_of_ble_eq_true rfl⟩ ⟨Nat.zero_le _, Nat.zero_le _⟩ (ci := 0) (q0 := 0) rfl rfl rfl rfl (Nat.le_of_ble_eq_true rfl) rfl dX1_step_100 (fun z u hu => ?_)
          obtain ⟨hz, rfl⟩ := hu
          exact x_iret hC hr dX1_step_103 ⟨by unfold stepF minF; rw [if_neg h13]; first | assumption | (subst_vars; congr 1; split <;> split <;> split <;> omega) | (simp only [*, if_true, if_false]; done), rfl⟩
        · refine x_iload hC dX1_step_88 rfl ?_
          refine x_goto hC 95 dX1_step_90 (by decide) ?_
          refine x_istore (L' := [_, _, _, _, _, _, _, _, _]) hC dX1_step_95 (Nat.le_of_ble_eq_true rfl) rfl ?_
          refine x_aload_n (i := 0) hC dX1_step_97 rfl rfl ?_
          refine x_iload hC dX1_step_98 rfl ?_
          refine x_callI hC (tX1_capped l D cA h σ hB hok _ (by omega)) gX1_X1_capped hyX1_capped ⟨rfl, rfl⟩ ⟨Nat.le_of_ble_eq_true rfl, Nat.le_of_ble_eq_true rfl⟩ ⟨Nat.zero_le _, Nat.zero_le _⟩ (ci := 0) (q0 := 0) rfl rfl rfl rfl (Nat.le_of_ble_eq_true rfl) rfl dX1_step_100 (fun z u hu => ?_)
          obtain ⟨hz, rfl⟩ := hu
          exact x_iret hC hr dX1_step_103 ⟨by unfold stepF minF; rw [if_neg h13]; first | assumption | (subst_vars; congr 1; split <;> split <;> split <;> omega) | (simp only [*, if_true, if_false]; done), rfl⟩
      · refine x_iload hC dX1_step_72 rfl ?_
        refine x_goto hC 79 dX1_step_74 (by decide) ?_
        refine x_istore (L' := [_, _, _, _, _, _, _, _, _]) hC dX1_step_79 (Nat.le_of_ble_eq_true rfl) rfl ?_
        refine x_iload hC dX1_step_81 rfl ?_
        refine x_iload hC dX1_step_83 rfl ?_
        refine x_icmp_ge hC 93 dX1_step_85 (by decide) (by omega) (by omega) (fun h85 => ?_) (fun h85 => ?_)
        · refine x_iload hC dX1_step_93 rfl ?_
          refine x_istore (L' := [_, _, _, _, _, _, _, _, _]) hC dX1_step_95 (Nat.le_of_ble_eq_true rfl) rfl ?_
          refine x_aload_n (i := 0) hC dX1_step_97 rfl rfl ?_
          refine x_iload hC dX1_step_98 rfl ?_
          refine x_callI hC (tX1_capped l D cA h σ hB hok _ (by omega)) gX1_X1_capped hyX1_capped ⟨rfl, rfl⟩ ⟨Nat.le_of_ble_eq_true rfl, Nat.le_of_ble_eq_true rfl⟩ ⟨Nat.zero_le _, Nat.zero_le _⟩ (ci := 0) (q0 := 0) rfl rfl rfl rfl (Nat.le_of_ble_eq_true rfl) rfl dX1_step_100 (fun z u hu => ?_)
          obtain ⟨hz, rfl⟩ := hu
          exact x_iret hC hr dX1_step_103 ⟨by unfold stepF minF; rw [if_neg h13]; first | assumption | (subst_vars; congr 1; split <;> split <;> split <;> omega) | (simp only [*, if_true, if_false]; done), rfl⟩
        · refine x_iload hC dX1_step_88 rfl ?_
          refine x_goto hC 95 dX1_step_90 (by decide) ?_
          refine x_istore (L' := [_, _, _, _, _, _, _, _, _]) hC dX1_step_95 (Nat.le_of_ble_eq_true rfl) rfl ?_
          refine x_aload_n (i := 0) hC dX1_step_97 rfl rfl ?_
          refine x_iload hC dX1_step_98 rfl ?_
          refine x_callI hC (tX1_capped l D cA h σ hB hok _ (by omega)) gX1_X1_capped hyX1_capped ⟨rfl, rfl⟩ ⟨Nat.le_of_ble_eq_true rfl, Nat.le_of_ble_eq_true rfl⟩ ⟨Nat.zero_le _, Nat.zero_le _⟩ (ci := 0) (q0 := 0) rfl rfl rfl rfl (Nat.le_of_ble_eq_true rfl) rfl dX1_step_100 (fun z u hu => ?_)
          obtain ⟨hz, rfl⟩ := hu
          exact x_iret hC hr dX1_step_103 ⟨by unfold stepF minF; rw [if_neg h13]; first | assumption | (subst_vars; congr 1; split <;> split <;> split <;> omega) | (simp only [*, if_true, if_false]; done), rfl⟩
abbrev rX1_nextLayer : Room := ({ frames := 2, cells := 0, slots := 0, locals := 49 } : Room)
set_option maxHeartbeats 4000000 in
set_option maxRecDepth 100000 in
theorem tX1_nextLayer (l : Launch) (D : va_G) (cA : ClassId) (h : Nat → Nat) (σ : XS) {B : Int} (hB : 10 ≤ B ∧ B ≤ 100000) (hok : OKx B σ) (n : Int) (hn : 0 ≤ n ∧ n ≤ 5) : MV l yX1_nextLayer (ws_ yX1_nextLayer cX1_nextLayer 6 none) rX1_nextLayer (wX h cA) D vwCl [(cA, .int)] (h 0) [.int (iI n)] σ (fun u => nextF σ n = u) := by
  refine MV.of (own := RX1) (L := [some (.ref (h 0)), some (.int (iI n)), none, none, none, none]) (by decide) rfl (by simp [Value.category]) (Nat.le_of_ble_eq_true rfl) rfl ?_
  intro p e s m below meth c A hC hr
  have inner : ∀ (d : Int), 0 ≤ d ∧ d ≤ 6 → ∀ (k : Nat) (i : Int) (τ : XS), 0 ≤ i → i + (k : Int) = 80 → OKx B τ → XW p l e rX1_nextLayer s m (Value.ref (h 0) :: [.int (iI n)]).toArray below meth c 0 0 (MQ below (va_Qv (fun u => nextF σ n = u) (BW D vwCl [(cA, .int)] A (wX h cA)) A) (Value.ref (h 0) :: [.int (iI n)]).toArray s 0 0 A) D vwCl A (wX h cA) (nlIn n d k i τ) [some (.ref (h 0)), some (.int (iI (n))), some (.int (iI (n * 80))), some (.int (iI (n * 80 + 80))), some (.int (iI (d))), none] [] 80 → XW p l e rX1_nextLayer s m (Value.ref (h 0) :: [.int (iI n)]).toArray below meth c 0 0 (MQ below (va_Qv (fun u => nextF σ n = u) (BW D vwCl [(cA, .int)] A (wX h cA)) A) (Value.ref (h 0) :: [.int (iI n)]).toArray s 0 0 A) D vwCl A (wX h cA) τ [some (.ref (h 0)), some (.int (iI (n))), some (.int (iI (n * 80))), some (.int (iI (n * 80 + 80))), some (.int (iI (d))), some (.int (iI (i)))] [] 23 := by
    intro d hd k
    induction k with
    | zero =>
      intro i τ hi hk ho K
      refine x_iload hC dX1_nextLayer_23 rfl ?_
      refine x_bipush hC dX1_nextLayer_25 bp_80 ?_
      refine x_icmp_ge hC 80 dX1_nextLayer_27 (by decide) (by omega) (by omega) (fun h27 => ?_) (fun h27 => by exfalso; omega)
      exact x_weak (by simp [lzle]) K
    | succ k ih =>
      intro i τ hi hk ho K
      have q10 := ho.f10 i
      have q4 := ho.f4 n
      have qs := stepF_rg ho hB.1 i (n * 80) (n * 80 + 80) (τ.2 4 n)
      refine x_iload hC dX1_nextLayer_23 rfl ?_
      refine x_bipush hC dX1_nextLayer_25 bp_80 ?_
      refine x_icmp_ge hC 80 dX1_nextLayer_27 (by decide) (by omega) (by omega) (fun h27 => by exfalso; omega) (fun h27 => ?_)
      refine x_aload_n (i := 0) hC dX1_nextLayer_30 rfl rfl ?_
      refine x_iload hC dX1_nextLayer_31 rfl ?_
      refine x_callI hC (tX1_inTree l D cA h τ hB ho i (by omega)) gX1_X1_inTree hyX1_inTree ⟨rfl, rfl⟩ ⟨Nat.le_of_ble_eq_true rfl, Nat.le_of_ble_eq_true rfl⟩ ⟨Nat.zero_le _, Nat.zero_le _⟩ (ci := 0) (q0 := 0) rfl rfl rfl rfl (Nat.le_of_ble_eq_true rfl) rfl dX1_nextLayer_33 (fun z u hu => ?_)
      obtain ⟨⟨rfl, hc⟩ | ⟨rfl, hc⟩, rfl⟩ := hu
      · refine x_if_eq hC 74 dX1_nextLayer_36 (by decide) (by omega) (fun h36 => by exfalso; omega) (fun h36 => ?_)
        refine x_aload_n (i := 0) hC dX1_nextLayer_39 rfl rfl ?_
        refine x1_g10 hC dX1_nextLayer_40 ?_
        refine x_iload hC dX1_nextLayer_43 rfl ?_
        refine x1_l10 hC (by omega) dX1_nextLayer_45 ?_
        refine x_iload hC dX1_nextLayer_46 rfl ?_
        refine x_icmp_ne hC 74 dX1_nextLayer_48 (by decide) (by omega) (by omega) (fun h48 => ?_) (fun h48 => ?_)
        · refine x_iinc (L' := [_, _, _, _, _, _]) hC dX1_nextLayer_74 rfl rfl ?_
          refine x_goto hC 23 dX1_nextLayer_77 (by decide) ?_
          exact ih (i + 1) _ (by omega) (by omega) ho (x_eq (congrArg (fun v => nlIn n d k (i + 1) v) (if_neg (fun z => h48 z.2)).symm) K)
        · refine x_aload_n (i := 0) hC dX1_nextLayer_51 rfl rfl ?_
          refine x1_g13 hC dX1_nextLayer_52 ?_
          refine x_iload_n (i := 3) hC dX1_nextLayer_55 rfl rfl ?_
          refine x_iload hC dX1_nextLayer_56 rfl ?_
          refine x_iadd hC dX1_nextLayer_58 ?_
          refine x_aload_n (i := 0) hC dX1_nextLayer_59 rfl rfl ?_
          refine x_iload hC dX1_nextLayer_60 rfl ?_
          refine x_iload_n (i := 2) hC dX1_nextLayer_62 rfl rfl ?_
          refine x_iload_n (i := 3) hC dX1_nextLayer_63 rfl rfl ?_
          refine x_aload_n (i := 0) hC dX1_nextLayer_64 rfl rfl ?_
          refine x1_g4 hC dX1_nextLayer_65 ?_
          refine x_iload_n (i := 1) hC dX1_nextLayer_68 rfl rfl ?_
          refine x1_l4 hC (by omega) dX1_nextLayer_69 ?_
          refine x_callI hC (tX1_step l D cA h τ hB ho i (n * 80) (n * 80 + 80) (τ.2 4 n) (by omega) (by omega) (by omega) q4) gX1_X1_step hyX1_step ⟨rfl, rfl⟩ ⟨Nat.le_of_ble_eq_true rfl, Nat.le_of_ble_eq_true rfl⟩ ⟨Nat.zero_le _, Nat.zero_le _⟩ (ci := 0) (q0 := 0) rfl rfl rfl rfl (Nat.le_of_ble_eq_true rfl) rfl dX1_nextLayer_70 (fun z u hu => ?_)
          obtain ⟨rfl, rfl⟩ := hu
          refine x1_s13 hC (by omega) dX1_nextLayer_73 ?_
          refine x_iinc (L' := [_, _, _, _, _, _]) hC dX1_nextLayer_74 rfl rfl ?_
          refine x_goto hC 23 dX1_nextLayer_77 (by decide) ?_
          exact ih (i + 1) _ (by omega) (by omega) (ho.sA13 qs) (x_eq (congrArg (fun v => nlIn n d k (i + 1) v) (if_pos ⟨hc, h48⟩).symm) K)
      · refine x_if_eq hC 74 dX1_nextLayer_36 (by decide) (by omega) (fun h36 => ?_) (fun h36 => by exfalso; omega)
        refine x_iinc (L' := [_, _, _, _, _, _]) hC dX1_nextLayer_74 rfl rfl ?_
        refine x_goto hC 23 dX1_nextLayer_77 (by decide) ?_
        exact ih (i + 1) _ (by omega) (by omega) ho (x_eq (congrArg (fun v => nlIn n d k (i + 1) v) (if_neg (fun z => hc z.1)).symm) K)
  have outer : ∀ (k : Nat) (d : Int) (τ : XS), 0 ≤ d → d + (k : Int) = 7 → OKx B τ → nlOut n k d τ = nextF σ n → XW p l e rX1_nextLayer s m (Value.ref (h 0) :: [.int (iI n)]).toArray below meth c 0 0 (MQ below (va_Qv (fun u => nextF σ n = u) (BW D vwCl [(cA, .int)] A (wX h cA)) A) (Value.ref (h 0) :: [.int (iI n)]).toArray s 0 0 A) D vwCl A (wX h cA) τ [some (.ref (h 0)), some (.int (iI (n))), some (.int (iI (n * 80))), some (.int (iI (n * 80 + 80))), some (.int (iI (d))), none] [] 13 := by
    intro k
    induction k with
    | zero =>
      intro d τ hd hk ho he
      refine x_iload hC dX1_nextLayer_13 rfl ?_
      refine x_bipush hC dX1_nextLayer_15 bp_6 ?_
      refine x_icmp_gt hC 86 dX1_nextLayer_17 (by decide) (by omega) (by omega) (fun h17 => ?_) (fun h17 => by exfalso; omega)
      exact x_vret hC hr dX1_nextLayer_86 he.symm
    | succ k ih =>
      intro d τ hd hk ho he
      refine x_iload hC dX1_nextLayer_13 rfl ?_
      refine x_bipush hC dX1_nextLayer_15 bp_6 ?_
      refine x_icmp_gt hC 86 dX1_nextLayer_17 (by decide) (by omega) (by omega) (fun h17 => by exfalso; omega) (fun h17 => ?_)
      refine x_iconst hC dX1_nextLayer_20 ?_
      refine x_istore (L' := [_, _, _, _, _, _]) hC dX1_nextLayer_21 (Nat.le_of_ble_eq_true rfl) rfl ?_
      refine inner d (by omega) 80 0 τ (by omega) (by omega) ho ?_
      refine x_iinc (L' := [_, _, _, _, _, _]) hC dX1_nextLayer_80 rfl rfl ?_
      refine x_goto hC 13 dX1_nextLayer_83 (by decide) ?_
      exact ih (d + 1) _ (by omega) (by omega) (OK_in hB.1 n d 80 0 τ ho) he
  refine x_iload_n (i := 1) hC dX1_nextLayer_0 rfl rfl ?_
  refine x_bipush hC dX1_nextLayer_1 bp_80 ?_
  refine x_imul hC dX1_nextLayer_3 ?_
  refine x_istore_n (i := 2) (L' := [_, _, _, _, _, _]) hC dX1_nextLayer_4 rfl (Nat.le_of_ble_eq_true rfl) rfl ?_
  refine x_iload_n (i := 2) hC dX1_nextLayer_5 rfl rfl ?_
  refine x_bipush hC dX1_nextLayer_6 bp_80 ?_
  refine x_iadd hC dX1_nextLayer_8 ?_
  refine x_istore_n (i := 3) (L' := [_, _, _, _, _, _]) hC dX1_nextLayer_9 rfl (Nat.le_of_ble_eq_true rfl) rfl ?_
  refine x_iconst hC dX1_nextLayer_10 ?_
  refine x_istore (L' := [_, _, _, _, _, _]) hC dX1_nextLayer_11 (Nat.le_of_ble_eq_true rfl) rfl ?_
  exact outer 7 0 σ (by omega) (by omega) hok rfl
end
section
/-! THE WALKS of FuzzyTypeahead: insert, rank, layOut, add, remove, the query, the questions -/
set_option maxRecDepth 100000
theorem insLoop_keep (node dist : Int) : ∀ (k : Nat) (a : Int) (σ : XS), (insLoop node dist k a σ).2.1 = σ.1 ∧ ∀ q : Nat, q ≠ 15 → q ≠ 16 → (insLoop node dist k a σ).2.2 q = σ.2 q := by
  intro k
  induction k with
  | zero => intro a σ; exact ⟨rfl, fun _ _ _ => rfl⟩
  | succ k ih =>
    intro a σ
    unfold insLoop
    split
    · obtain ⟨h1, h2⟩ := ih (k : Int) (sA (sA σ 15 ((k : Int) + 1) (σ.2 15 (k : Int))) 16 ((k : Int) + 1) (σ.2 16 (k : Int)))
      refine ⟨h1.trans rfl, fun q h15 h16 => (h2 q h15 h16).trans ?_⟩
      show (if q = 16 then _ else (if q = 15 then _ else σ.2 q)) = _
      rw [if_neg h16, if_neg h15]
    · exact ⟨rfl, fun _ _ _ => rfl⟩
theorem insF_keep (σ : XS) (node dist : Int) : (∀ k : Nat, k ≠ 14 → (insF σ node dist).1 k = σ.1 k) ∧ ∀ q : Nat, q ≠ 15 → q ≠ 16 → (insF σ node dist).2 q = σ.2 q := by
  obtain ⟨h1, h2⟩ := insLoop_keep node dist (σ.1 14).toNat (σ.1 14) σ
  refine ⟨fun k hk => ?_, fun q h15 h16 => ?_⟩
  · show (if k = 14 then _ else (insLoop node dist (σ.1 14).toNat (σ.1 14) σ).2.1 k) = _
    rw [if_neg hk, h1]
  · show (if q = 16 then _ else (if q = 15 then _ else (insLoop node dist (σ.1 14).toNat (σ.1 14) σ).2.2 q)) = _
    rw [if_neg h16, if_neg h15]
    exact h2 q h15 h16
def keepR (σ τ : XS) : Prop := (∀ k : Nat, k ≠ 14 → τ.1 k = σ.1 k) ∧ ∀ q : Nat, q ≠ 15 → q ≠ 16 → q ≠ 17 → q ≠ 18 → τ.2 q = σ.2 q
theorem keepR.rf {σ : XS} : keepR σ σ := ⟨fun _ _ => rfl, fun _ _ _ _ _ => rfl⟩
theorem keepR.tr {σ τ υ : XS} (h : keepR σ τ) (g : keepR τ υ) : keepR σ υ := ⟨fun k hk => (g.1 k hk).trans (h.1 k hk), fun q a b c d => (g.2 q a b c d).trans (h.2 q a b c d)⟩
theorem take_keep (σ : XS) (node : Int) : keepR σ (rkTake σ node) := by
  unfold rkTake
  split
  · obtain ⟨h1, h2⟩ := insF_keep σ node (σ.2 18 node)
    exact ⟨h1, fun q a b _ _ => h2 q a b⟩
  · exact keepR.rf
theorem push_keep (layer node c : Int) (q : XS × Int) : keepR q.1 (rkPush layer node c q).1 := by
  unfold rkPush
  split
  · exact keepR.rf
  · refine ⟨fun k _ => rfl, fun k _ _ h17 h18 => ?_⟩
    show (if k = 17 then _ else (if k = 18 then _ else q.1.2 k)) = _
    rw [if_neg h17, if_neg h18]
theorem pushes_keep (layer node : Int) : ∀ (k : Nat) (q : XS × Int), keepR q.1 (rkPushes layer node k q).1 := by
  intro k
  induction k with
  | zero => intro q; exact keepR.rf
  | succ k ih => intro q; exact (push_keep layer node (k : Int) q).tr (ih _)
theorem round_keep (layer : Int) (q : XS × Int) : keepR q.1 (rkRound layer q).1 := (take_keep q.1 _).tr (pushes_keep layer _ 4 (rkTake q.1 _, q.2 - 1))
theorem rkl_keep (layer : Int) : ∀ (n : Nat) (q : XS × Int), keepR q.1 (rkLoop layer n q).1 := by
  intro n
  induction n with
  | zero => intro q; exact keepR.rf
  | succ n ih =>
    intro q
    unfold rkLoop
    split
    · exact (round_keep layer q).tr (ih _)
    · exact keepR.rf
theorem start_keep (σ : XS) : keepR σ (rkStart σ) := by
  refine ⟨fun k hk => ?_, fun q _ _ h17 h18 => ?_⟩
  · show (if k = 14 then _ else σ.1 k) = _
    rw [if_neg hk]
  · show (if q = 18 then _ else (if q = 17 then _ else σ.2 q)) = _
    rw [if_neg h18, if_neg h17]
theorem rank_keep (σ : XS) : keepR σ (rankF σ) := (start_keep σ).tr (rkl_keep _ 80 _)
abbrev rX1_insert : Room := ({ frames := 1, cells := 0, slots := 0, locals := 23 } : Room)
set_option maxHeartbeats 4000000 in
set_option maxRecDepth 100000 in
theorem tX1_insert (l : Launch) (D : va_G) (cA : ClassId) (h : Nat → Nat) (σ : XS) {B : Int} (hB : 10 ≤ B ∧ B ≤ 100000) (hok : OKx B σ) (node dist : Int) (hn : 0 ≤ node ∧ node ≤ 79) (hd : -B ≤ dist ∧ dist ≤ B) (hc : σ.1 14 ≤ 11) : MV l yX1_insert (ws_ yX1_insert cX1_insert 6 none) rX1_insert (wX h cA) D vwCl [(cA, .int)] (h 0) [.int (iI node), .int (iI dist)] σ (fun u => insF σ node dist = u) := by
  refine MV.of (own := RX1) (L := [some (.ref (h 0)), some (.int (iI node)), some (.int (iI dist)), none, none, none]) (by decide) rfl (by simp [Value.category]) (Nat.le_of_ble_eq_true rfl) rfl ?_
  intro p e s m below meth c A hC hr
  have q14 := hok.i14
  have loop : ∀ (k : Nat) (a r : Int) (τ : XS), r = (k : Int) - 1 → k ≤ 11 → 0 ≤ a ∧ a ≤ 11 → OKx B τ → insFin (insLoop node dist k a τ) node dist = insF σ node dist → XW p l e rX1_insert s m (Value.ref (h 0) :: [.int (iI node), .int (iI dist)]).toArray below meth c 0 0 (MQ below (va_Qv (fun u => insF σ node dist = u) (BW D vwCl [(cA, .int)] A (wX h cA)) A) (Value.ref (h 0) :: [.int (iI node), .int (iI dist)]).toArray s 0 0 A) D vwCl A (wX h cA) τ [some (.ref (h 0)), some (.int (iI (node))), some (.int (iI (dist))), some (.int (iI (a))), some (.int (iI (1))), some (.int (iI (r)))] [] 16 := by
    intro k
    induction k with
    | zero =>
      intro a r τ er hk ha ho he
      refine x_iload hC dX1_insert_16 rfl ?_
      refine x_if_lt hC 87 dX1_insert_18 (by decide) (by omega) (fun h18 => ?_) (fun h18 => by exfalso; omega)
      refine x_aload_n (i := 0) hC dX1_insert_87 rfl rfl ?_
      refine x1_g15 hC dX1_insert_88 ?_
      refine x_iload_n (i := 3) hC dX1_insert_91 rfl rfl ?_
      refine x_iload_n (i := 1) hC dX1_insert_92 rfl rfl ?_
      refine x1_s15 hC (by omega) dX1_insert_93 ?_
      refine x_aload_n (i := 0) hC dX1_insert_94 rfl rfl ?_
      refine x1_g16 hC dX1_insert_95 ?_
      refine x_iload_n (i := 3) hC dX1_insert_98 rfl rfl ?_
      refine x_iload_n (i := 2) hC dX1_insert_99 rfl rfl ?_
      refine x1_s16 hC (by omega) dX1_insert_100 ?_
      refine x_aload_n (i := 0) hC dX1_insert_101 rfl rfl ?_
      refine x_dup hC dX1_insert_102 rfl ?_
      refine x1_g14 hC dX1_insert_103 ?_
      refine x_iconst hC dX1_insert_106 ?_
      refine x_iadd hC dX1_insert_107 ?_
      refine x1_p14 hC dX1_insert_108 ?_
      exact x_vret hC hr dX1_insert_111 he.symm
    | succ k ih =>
      intro a r τ er hk ha ho he
      obtain rfl : r = (k : Int) := by omega
      have q12 := ho.f12 node
      refine x_iload hC dX1_insert_16 rfl ?_
      refine x_if_lt hC 87 dX1_insert_18 (by decide) (by omega) (fun h18 => by exfalso; omega) (fun h18 => ?_)
      refine x_iload hC dX1_insert_21 rfl ?_
      refine x_if_eq hC 87 dX1_insert_23 (by decide) (by omega) (fun h23 => by exfalso; omega) (fun h23 => ?_)
      refine x_aload_n (i := 0) hC dX1_insert_26 rfl rfl ?_
      refine x_iload_n (i := 2) hC dX1_insert_27 rfl rfl ?_
      refine x_aload_n (i := 0) hC dX1_insert_28 rfl rfl ?_
      refine x1_g12 hC dX1_insert_29 ?_
      refine x_iload_n (i := 1) hC dX1_insert_32 rfl rfl ?_
      refine x1_l12 hC (by omega) dX1_insert_33 ?_
      refine x_iload hC dX1_insert_34 rfl ?_
      refine x_callI hC (tX1_before l D cA h τ hB ho dist (τ.2 12 node) (k : Int) (by omega) (by omega) (by omega)) gX1_X1_before hyX1_before ⟨rfl, rfl⟩ ⟨Nat.le_of_ble_eq_true rfl, Nat.le_of_ble_eq_true rfl⟩ ⟨Nat.zero_le _, Nat.zero_le _⟩ (ci := 0) (q0 := 0) rfl rfl rfl rfl (Nat.le_of_ble_eq_true rfl) rfl dX1_insert_36 (fun z u hu => ?_)
      obtain ⟨⟨rfl, hc⟩ | ⟨rfl, hc⟩, rfl⟩ := hu
      · refine x_istore (L' := [_, _, _, _, _, _]) hC dX1_insert_39 (Nat.le_of_ble_eq_true rfl) rfl ?_
        refine x_iload hC dX1_insert_41 rfl ?_
        refine x_if_eq hC 81 dX1_insert_43 (by decide) (by omega) (fun h43 => by exfalso; omega) (fun h43 => ?_)
        refine x_aload_n (i := 0) hC dX1_insert_46 rfl rfl ?_
        refine x1_g15 hC dX1_insert_47 ?_
        refine x_iload hC dX1_insert_50 rfl ?_
        refine x_iconst hC dX1_insert_52 ?_
        refine x_iadd hC dX1_insert_53 ?_
        refine x_aload_n (i := 0) hC dX1_insert_54 rfl rfl ?_
        refine x1_g15 hC dX1_insert_55 ?_
        refine x_iload hC dX1_insert_58 rfl ?_
        refine x1_l15 hC (by omega) dX1_insert_60 ?_
        refine x1_s15 hC (by omega) dX1_insert_61 ?_
        refine x_aload_n (i := 0) hC dX1_insert_62 rfl rfl ?_
        refine x1_g16 hC dX1_insert_63 ?_
        refine x_iload hC dX1_insert_66 rfl ?_
        refine x_iconst hC dX1_insert_68 ?_
        refine x_iadd hC dX1_insert_69 ?_
        refine x_aload_n (i := 0) hC dX1_insert_70 rfl rfl ?_
        refine x1_g16 hC dX1_insert_71 ?_
        refine x_iload hC dX1_insert_74 rfl ?_
        refine x1_l16 hC (by omega) dX1_insert_76 ?_
        refine x1_s16 hC (by omega) dX1_insert_77 ?_
        refine x_iload hC dX1_insert_78 rfl ?_
        refine x_istore_n (i := 3) (L' := [_, _, _, _, _, _]) hC dX1_insert_80 rfl (Nat.le_of_ble_eq_true rfl) rfl ?_
        refine x_iinc (L' := [_, _, _, _, _, _]) hC dX1_insert_81 rfl rfl ?_
        refine x_goto hC 16 dX1_insert_84 (by decide) ?_
        exact ih _ _ _ (by omega) (by omega) (by omega) ((ho.sA15 (ho.f15 _)).sA16 (ho.f16 _)) (by rw [← he]; exact (congrArg (fun q => insFin q node dist) (if_pos hc)).symm)
      · refine x_istore (L' := [_, _, _, _, _, _]) hC dX1_insert_39 (Nat.le_of_ble_eq_true rfl) rfl ?_
        refine x_iload hC dX1_insert_41 rfl ?_
        refine x_if_eq hC 81 dX1_insert_43 (by decide) (by omega) (fun h43 => ?_) (fun h43 => by exfalso; omega)
        refine x_iinc (L' := [_, _, _, _, _, _]) hC dX1_insert_81 rfl rfl ?_
        refine x_goto hC 16 dX1_insert_84 (by decide) ?_
        refine x_iload hC dX1_insert_16 rfl ?_
        refine x_if_lt hC 87 dX1_insert_18 (by decide) (by omega) (fun h18 => ?_) (fun h18 => ?_)
        · refine x_aload_n (i := 0) hC dX1_insert_87 rfl rfl ?_
          refine x1_g15 hC dX1_insert_88 ?_
          refine x_iload_n (i := 3) hC dX1_insert_91 rfl rfl ?_
          refine x_iload_n (i := 1) hC dX1_insert_92 rfl rfl ?_
          refine x1_s15 hC (by omega) dX1_insert_93 ?_
          refine x_aload_n (i := 0) hC dX1_insert_94 rfl rfl ?_
          refine x1_g16 hC dX1_insert_95 ?_
          refine x_iload_n (i := 3) hC dX1_insert_98 rfl rfl ?_
          refine x_iload_n (i := 2) hC dX1_insert_99 rfl rfl ?_
          refine x1_s16 hC (by omega) dX1_insert_100 ?_
          refine x_aload_n (i := 0) hC dX1_insert_101 rfl rfl ?_
          refine x_dup hC dX1_insert_102 rfl ?_
          refine x1_g14 hC dX1_insert_103 ?_
          refine x_iconst hC dX1_insert_106 ?_
          refine x_iadd hC dX1_insert_107 ?_
          refine x1_p14 hC dX1_insert_108 ?_
          exact x_vret hC hr dX1_insert_111 (by rw [← he]; exact congrArg (fun q => insFin q node dist) (if_neg hc))
        · refine x_iload hC dX1_insert_21 rfl ?_
          refine x_if_eq hC 87 dX1_insert_23 (by decide) (by omega) (fun h23 => ?_) (fun h23 => by exfalso; omega)
          refine x_aload_n (i := 0) hC dX1_insert_87 rfl rfl ?_
          refine x1_g15 hC dX1_insert_88 ?_
          refine x_iload_n (i := 3) hC dX1_insert_91 rfl rfl ?_
          refine x_iload_n (i := 1) hC dX1_insert_92 rfl rfl ?_
          refine x1_s15 hC (by omega) dX1_insert_93 ?_
          refine x_aload_n (i := 0) hC dX1_insert_94 rfl rfl ?_
          refine x1_g16 hC dX1_insert_95 ?_
          refine x_iload_n (i := 3) hC dX1_insert_98 rfl rfl ?_
          refine x_iload_n (i := 2) hC dX1_insert_99 rfl rfl ?_
          refine x1_s16 hC (by omega) dX1_insert_100 ?_
          refine x_aload_n (i := 0) hC dX1_insert_101 rfl rfl ?_
          refine x_dup hC dX1_insert_102 rfl ?_
          refine x1_g14 hC dX1_insert_103 ?_
          refine x_iconst hC dX1_insert_106 ?_
          refine x_iadd hC dX1_insert_107 ?_
          refine x1_p14 hC dX1_insert_108 ?_
          exact x_vret hC hr dX1_insert_111 (by rw [← he]; exact congrArg (fun q => insFin q node dist) (if_neg hc))
  refine x_aload_n (i := 0) hC dX1_insert_0 rfl rfl ?_
  refine x1_g14 hC dX1_insert_1 ?_
  refine x_istore_n (i := 3) (L' := [_, _, _, _, _, _]) hC dX1_insert_4 rfl (Nat.le_of_ble_eq_true rfl) rfl ?_
  refine x_iconst hC dX1_insert_5 ?_
  refine x_istore (L' := [_, _, _, _, _, _]) hC dX1_insert_6 (Nat.le_of_ble_eq_true rfl) rfl ?_
  refine x_aload_n (i := 0) hC dX1_insert_8 rfl rfl ?_
  refine x1_g14 hC dX1_insert_9 ?_
  refine x_iconst hC dX1_insert_12 ?_
  refine x_isub hC dX1_insert_13 ?_
  refine x_istore (L' := [_, _, _, _, _, _]) hC dX1_insert_14 (Nat.le_of_ble_eq_true rfl) rfl ?_
  exact loop _ _ _ σ (by omega) (by omega) (by omega) hok rfl
abbrev rX1_rank : Room := ({ frames := 2, cells := 0, slots := 0, locals := 48 } : Room)
set_option maxHeartbeats 4000000 in
set_option maxRecDepth 100000 in
theorem tX1_rank (l : Launch) (D : va_G) (cA : ClassId) (h : Nat → Nat) (σ : XS) {B : Int} (hB : 10 ≤ B ∧ B ≤ 100000) (hok : OKx B σ) (hs : rankOK σ) : MV l yX1_rank (ws_ yX1_rank cX1_rank 8 none) rX1_rank (wX h cA) D vwCl [(cA, .int)] (h 0) [] σ (fun u => rankF σ = u) := by
  refine MV.of (own := RX1) (L := [some (.ref (h 0)), none, none, none, none, none, none, none]) (by decide) rfl (by simp [Value.category]) (Nat.le_of_ble_eq_true rfl) rfl ?_
  intro p e s m below meth c A hC hr
  have q3 := hok.i3
  have inner : ∀ (lay nd rnd : Int), 0 ≤ lay ∧ lay ≤ 480 → 0 ≤ nd ∧ nd ≤ 79 → ∀ (k : Nat) (c1 g : Int) (τ : XS), c1 = (k : Int) - 1 → k ≤ 4 → 0 ≤ g → (rkPushes lay nd k (τ, g)).2 ≤ 80 → OKx B τ → XW p l e rX1_rank s m (Value.ref (h 0) :: []).toArray below meth c 0 0 (MQ below (va_Qv (fun u => rankF σ = u) (BW D vwCl [(cA, .int)] A (wX h cA)) A) (Value.ref (h 0) :: []).toArray s 0 0 A) D vwCl A (wX h cA) (rkPushes lay nd k (τ, g)).1 [some (.ref (h 0)), some (.int (iI (lay))), some (.int (iI ((rkPushes lay nd k (τ, g)).2))), some (.int (iI (rnd))), some (.int (iI (nd))), none, none, none] [] 185 → XW p l e rX1_rank s m (Value.ref (h 0) :: []).toArray below meth c 0 0 (MQ below (va_Qv (fun u => rankF σ = u) (BW D vwCl [(cA, .int)] A (wX h cA)) A) (Value.ref (h 0) :: []).toArray s 0 0 A) D vwCl A (wX h cA) τ [some (.ref (h 0)), some (.int (iI (lay))), some (.int (iI (g))), some (.int (iI (rnd))), some (.int (iI (nd))), some (.int (iI (c1))), none, none] [] 102 := by
    intro lay nd rnd hlay hnd k
    induction k with
    | zero =>
      intro c1 g τ ec hk hg hs ho K
      refine x_iload hC dX1_rank_102 rfl ?_
      refine x_if_lt hC 185 dX1_rank_104 (by decide) (by omega) (fun h104 => ?_) (fun h104 => by exfalso; omega)
      exact x_weak (by simp [lzle] <;> rfl) K
    | succ k ih =>
      intro c1 g τ ec hk hg hs ho K
      obtain rfl : c1 = (k : Int) := by omega
      have q7 := ho.f7 (nd * 4 + (k : Int))
      have p1 := ho.f13 (lay + τ.2 7 (nd * 4 + (k : Int)))
      have p2 := ho.f18 nd
      have pm := (pushes_ok (B := B) lay nd k (rkPush lay nd (k : Int) (τ, g)) (OK_push ho lay nd (k : Int))).2
      have hs2 : (rkPushes lay nd k (rkPush lay nd (k : Int) (τ, g))).2 ≤ 80 := hs
      refine x_iload hC dX1_rank_102 rfl ?_
      refine x_if_lt hC 185 dX1_rank_104 (by decide) (by omega) (fun h104 => by exfalso; omega) (fun h104 => ?_)
      refine x_aload_n (i := 0) hC dX1_rank_107 rfl rfl ?_
      refine x1_g7 hC dX1_rank_108 ?_
      refine x_iload hC dX1_rank_111 rfl ?_
      refine x_iconst hC dX1_rank_113 ?_
      refine x_imul hC dX1_rank_114 ?_
      refine x_iload hC dX1_rank_115 rfl ?_
      refine x_iadd hC dX1_rank_117 ?_
      refine x1_l7 hC (by omega) dX1_rank_118 ?_
      refine x_istore (L' := [_, _, _, _, _, _, _, _]) hC dX1_rank_119 (Nat.le_of_ble_eq_true rfl) rfl ?_
      refine x_iload hC dX1_rank_121 rfl ?_
      refine x_if_eq hC 179 dX1_rank_123 (by decide) (by omega) (fun h123 => ?_) (fun h123 => ?_)
      · refine x_iinc (L' := [_, _, _, _, _, _, _, _]) hC dX1_rank_179 rfl rfl ?_
        refine x_goto hC 102 dX1_rank_182 (by decide) ?_
        have e : rkPush lay nd (k : Int) (τ, g) = (τ, g) := if_pos h123
        exact x_weak (by simp [lzle] <;> rfl) (ih ((k : Int) + -1) g _ (by omega) (by omega) hg (by rw [← e]; exact hs2) ho (by rw [← e]; exact K))
      · refine x_aload_n (i := 0) hC dX1_rank_126 rfl rfl ?_
        refine x1_g13 hC dX1_rank_127 ?_
        refine x_iload_n (i := 1) hC dX1_rank_130 rfl rfl ?_
        refine x_iload hC dX1_rank_131 rfl ?_
        refine x_iadd hC dX1_rank_133 ?_
        refine x1_l13 hC (by omega) dX1_rank_134 ?_
        refine x_istore (L' := [_, _, _, _, _, _, _, _]) hC dX1_rank_135 (Nat.le_of_ble_eq_true rfl) rfl ?_
        refine x_aload_n (i := 0) hC dX1_rank_137 rfl rfl ?_
        refine x1_g18 hC dX1_rank_138 ?_
        refine x_iload hC dX1_rank_141 rfl ?_
        refine x_iload hC dX1_rank_143 rfl ?_
        refine x_aload_n (i := 0) hC dX1_rank_145 rfl rfl ?_
        refine x1_g18 hC dX1_rank_146 ?_
        refine x_iload hC dX1_rank_149 rfl ?_
        refine x1_l18 hC (by omega) dX1_rank_151 ?_
        refine x_icmp_ge hC 160 dX1_rank_152 (by decide) (by omega) (by omega) (fun h152 => ?_) (fun h152 => ?_)
        · refine x_aload_n (i := 0) hC dX1_rank_160 rfl rfl ?_
          refine x1_g18 hC dX1_rank_161 ?_
          refine x_iload hC dX1_rank_164 rfl ?_
          refine x1_l18 hC (by omega) dX1_rank_166 ?_
          refine x1_s18 hC (by omega) dX1_rank_167 ?_
          have e : rkPush lay nd (k : Int) (τ, g) = (sA (sA τ 18 (τ.2 7 (nd * 4 + (k : Int))) (τ.2 18 nd)) 17 g (τ.2 7 (nd * 4 + (k : Int))), g + 1) := by
            have e0 : minF (τ.2 13 (lay + τ.2 7 (nd * 4 + (k : Int)))) (τ.2 18 nd) = τ.2 18 nd := by unfold minF; split <;> omega
            exact (if_neg h123).trans (by dsimp only; rw [e0])
          have hg80 : g < 80 := by rw [e] at pm hs2; dsimp only at pm; omega
          refine x_aload_n (i := 0) hC dX1_rank_168 rfl rfl ?_
          refine x1_g17 hC dX1_rank_169 ?_
          refine x_iload_n (i := 2) hC dX1_rank_172 rfl rfl ?_
          refine x_iload hC dX1_rank_173 rfl ?_
          refine x1_s17 hC (by omega) dX1_rank_175 ?_
          refine x_iinc (L' := [_, _, _, _, _, _, _, _]) hC dX1_rank_176 rfl rfl ?_
          refine x_iinc (L' := [_, _, _, _, _, _, _, _]) hC dX1_rank_179 rfl rfl ?_
          refine x_goto hC 102 dX1_rank_182 (by decide) ?_
          exact x_weak (by simp [lzle] <;> rfl) (ih ((k : Int) + -1) (g + 1) _ (by omega) (by omega) (by omega) (by rw [← e]; exact hs2) ((ho.sA18 (by omega)).sA17 q7) (by rw [← e]; exact K))
        · refine x_iload hC dX1_rank_155 rfl ?_
          refine x_goto hC 167 dX1_rank_157 (by decide) ?_
          refine x1_s18 hC (by omega) dX1_rank_167 ?_
          have e : rkPush lay nd (k : Int) (τ, g) = (sA (sA τ 18 (τ.2 7 (nd * 4 + (k : Int))) (τ.2 13 (lay + τ.2 7 (nd * 4 + (k : Int))))) 17 g (τ.2 7 (nd * 4 + (k : Int))), g + 1) := by
            have e0 : minF (τ.2 13 (lay + τ.2 7 (nd * 4 + (k : Int)))) (τ.2 18 nd) = τ.2 13 (lay + τ.2 7 (nd * 4 + (k : Int))) := by unfold minF; split <;> omega
            exact (if_neg h123).trans (by dsimp only; rw [e0])
          have hg80 : g < 80 := by rw [e] at pm hs2; dsimp only at pm; omega
          refine x_aload_n (i := 0) hC dX1_rank_168 rfl rfl ?_
          refine x1_g17 hC dX1_rank_169 ?_
          refine x_iload_n (i := 2) hC dX1_rank_172 rfl rfl ?_
          refine x_iload hC dX1_rank_173 rfl ?_
          refine x1_s17 hC (by omega) dX1_rank_175 ?_
          refine x_iinc (L' := [_, _, _, _, _, _, _, _]) hC dX1_rank_176 rfl rfl ?_
          refine x_iinc (L' := [_, _, _, _, _, _, _, _]) hC dX1_rank_179 rfl rfl ?_
          refine x_goto hC 102 dX1_rank_182 (by decide) ?_
          exact x_weak (by simp [lzle] <;> rfl) (ih ((k : Int) + -1) (g + 1) _ (by omega) (by omega) (by omega) (by rw [← e]; exact hs2) ((ho.sA18 (by omega)).sA17 q7) (by rw [← e]; exact K))
  have outer : ∀ (lay : Int), 0 ≤ lay ∧ lay ≤ 480 → ∀ (n : Nat) (rnd g : Int) (τ : XS), 0 ≤ rnd → rnd + (n : Int) = 80 → 0 ≤ g ∧ g ≤ 80 → OKx B τ → rkSafe lay n (τ, g) → (rkLoop lay n (τ, g)).1 = rankF σ → XW p l e rX1_rank s m (Value.ref (h 0) :: []).toArray below meth c 0 0 (MQ below (va_Qv (fun u => rankF σ = u) (BW D vwCl [(cA, .int)] A (wX h cA)) A) (Value.ref (h 0) :: []).toArray s 0 0 A) D vwCl A (wX h cA) τ [some (.ref (h 0)), some (.int (iI (lay))), some (.int (iI (g))), some (.int (iI (rnd))), none, none, none, none] [] 36 := by
    intro lay hlay n
    induction n with
    | zero =>
      intro rnd g τ h0 hn hg ho hs he
      refine x_iload_n (i := 3) hC dX1_rank_36 rfl rfl ?_
      refine x_bipush hC dX1_rank_37 bp_80 ?_
      refine x_icmp_ge hC 191 dX1_rank_39 (by decide) (by omega) (by omega) (fun h39 => ?_) (fun h39 => by exfalso; omega)
      exact x_vret hC hr dX1_rank_191 he.symm
    | succ n ih =>
      intro rnd g τ h0 hn hg ho hs he
      have q17 := ho.f17 (g - 1)
      have eg : g + -1 = g - 1 := by omega
      refine x_iload_n (i := 3) hC dX1_rank_36 rfl rfl ?_
      refine x_bipush hC dX1_rank_37 bp_80 ?_
      refine x_icmp_ge hC 191 dX1_rank_39 (by decide) (by omega) (by omega) (fun h39 => by exfalso; omega) (fun h39 => ?_)
      refine x_iload_n (i := 2) hC dX1_rank_42 rfl rfl ?_
      refine x_if_le hC 191 dX1_rank_43 (by decide) (by omega) (fun h43 => ?_) (fun h43 => ?_)
      · exact x_vret hC hr dX1_rank_191 (by rw [← he]; exact congrArg Prod.fst (if_neg (show ¬ 0 < (τ, g).2 by dsimp only; omega)))
      · refine x_iinc (L' := [_, _, _, _, _, _, _, _]) hC dX1_rank_46 rfl rfl ?_
        obtain ⟨s1, s2, s3, s4⟩ := hs (by dsimp only; omega)
        have hr2 := round_keep lay (τ, g)
        have ho2 := OK_round (q := (τ, g)) ho lay s3
        have he2 : (rkLoop lay n (rkRound lay (τ, g))).1 = rankF σ := by rw [← he]; exact congrArg Prod.fst (if_pos (show 0 < (τ, g).2 by dsimp only; omega)).symm
        have hnn : 0 ≤ (rkRound lay (τ, g)).2 := by
          have z := (pushes_ok (B := B) lay (τ.2 17 (g - 1)) 4 (rkTake τ (τ.2 17 (g - 1)), g - 1) (OK_take ho q17 s3)).2
          have z2 : g - 1 ≤ (rkRound lay (τ, g)).2 := z
          omega
        have K99 : XW p l e rX1_rank s m (Value.ref (h 0) :: []).toArray below meth c 0 0 (MQ below (va_Qv (fun u => rankF σ = u) (BW D vwCl [(cA, .int)] A (wX h cA)) A) (Value.ref (h 0) :: []).toArray s 0 0 A) D vwCl A (wX h cA) (rkTake τ (τ.2 17 (g - 1))) [some (.ref (h 0)), some (.int (iI (lay))), some (.int (iI (g - 1))), some (.int (iI (rnd))), some (.int (iI (τ.2 17 (g - 1)))), none, none, none] [] 99 := by
          refine x_iconst hC dX1_rank_99 ?_
          refine x_istore (L' := [_, _, _, _, _, _, _, _]) hC dX1_rank_100 (Nat.le_of_ble_eq_true rfl) rfl ?_
          refine inner lay (τ.2 17 (g - 1)) rnd hlay q17 4 3 (g - 1) _ (by omega) (by omega) (by omega) s2 (OK_take ho q17 s3) ?_
          refine x_iinc (L' := [_, _, _, _, _, _, _, _]) hC dX1_rank_185 rfl rfl ?_
          refine x_goto hC 36 dX1_rank_188 (by decide) ?_
          exact x_weak (by simp [lzle] <;> rfl) (ih (rnd + 1) (rkRound lay (τ, g)).2 _ (by omega) (by omega) ⟨hnn, s2⟩ ho2 s4 he2)
        rw [eg]
        have q12 := ho.f12 (τ.2 17 (g - 1))
        have q18 := ho.f18 (τ.2 17 (g - 1))
        have q0 := ho.i0
        refine x_aload_n (i := 0) hC dX1_rank_49 rfl rfl ?_
        refine x1_g17 hC dX1_rank_50 ?_
        refine x_iload_n (i := 2) hC dX1_rank_53 rfl rfl ?_
        refine x1_l17 hC (by omega) dX1_rank_54 ?_
        refine x_istore (L' := [_, _, _, _, _, _, _, _]) hC dX1_rank_55 (Nat.le_of_ble_eq_true rfl) rfl ?_
        refine x_aload_n (i := 0) hC dX1_rank_57 rfl rfl ?_
        refine x1_g12 hC dX1_rank_58 ?_
        refine x_iload hC dX1_rank_61 rfl ?_
        refine x1_l12 hC (by omega) dX1_rank_63 ?_
        refine x_if_lt hC 99 dX1_rank_64 (by decide) (by omega) (fun h64 => ?_) (fun h64 => ?_)
        · exact x_eq (if_neg (fun z => absurd z.1 (by omega))).symm K99
        · refine x_iload hC dX1_rank_67 rfl ?_
          refine x_if_eq hC 99 dX1_rank_69 (by decide) (by omega) (fun h69 => ?_) (fun h69 => ?_)
          · exact x_eq (if_neg (fun z => z.2.1 h69)).symm K99
          · refine x_aload_n (i := 0) hC dX1_rank_72 rfl rfl ?_
            refine x1_g18 hC dX1_rank_73 ?_
            refine x_iload hC dX1_rank_76 rfl ?_
            refine x1_l18 hC (by omega) dX1_rank_78 ?_
            refine x_aload_n (i := 0) hC dX1_rank_79 rfl rfl ?_
            refine x1_g0 hC dX1_rank_80 ?_
            refine x_icmp_gt hC 99 dX1_rank_83 (by decide) (by omega) (by omega) (fun h83 => ?_) (fun h83 => ?_)
            · exact x_eq (if_neg (fun z => absurd z.2.2 (by omega))).symm K99
            · refine x_aload_n (i := 0) hC dX1_rank_86 rfl rfl ?_
              refine x_iload hC dX1_rank_87 rfl ?_
              refine x_aload_n (i := 0) hC dX1_rank_89 rfl rfl ?_
              refine x1_g18 hC dX1_rank_90 ?_
              refine x_iload hC dX1_rank_93 rfl ?_
              refine x1_l18 hC (by omega) dX1_rank_95 ?_
              refine x_callV hC (tX1_insert l D cA h τ hB ho (τ.2 17 (g - 1)) (τ.2 18 (τ.2 17 (g - 1))) q17 q18 (s3 ⟨by dsimp only; omega, h69, by dsimp only; omega⟩)) gX1_X1_insert hyX1_insert ⟨rfl, rfl⟩ ⟨Nat.le_of_ble_eq_true rfl, Nat.le_of_ble_eq_true rfl⟩ ⟨Nat.zero_le _, Nat.zero_le _⟩ (ci := 0) (q0 := 0) rfl rfl rfl rfl (Nat.le_of_ble_eq_true rfl) rfl dX1_rank_96 (fun u hu => ?_)
              exact x_eq ((hu.symm).trans (if_pos ⟨by omega, h69, by omega⟩).symm) K99
  refine x_aload_n (i := 0) hC dX1_rank_0 rfl rfl ?_
  refine x_iconst hC dX1_rank_1 ?_
  refine x1_p14 hC dX1_rank_2 ?_
  refine x_aload_n (i := 0) hC dX1_rank_5 rfl rfl ?_
  refine x1_g3 hC dX1_rank_6 ?_
  refine x_bipush hC dX1_rank_9 bp_80 ?_
  refine x_imul hC dX1_rank_11 ?_
  refine x_istore_n (i := 1) (L' := [_, _, _, _, _, _, _, _]) hC dX1_rank_12 rfl (Nat.le_of_ble_eq_true rfl) rfl ?_
  refine x_iconst hC dX1_rank_13 ?_
  refine x_istore_n (i := 2) (L' := [_, _, _, _, _, _, _, _]) hC dX1_rank_14 rfl (Nat.le_of_ble_eq_true rfl) rfl ?_
  refine x_aload_n (i := 0) hC dX1_rank_15 rfl rfl ?_
  refine x1_g17 hC dX1_rank_16 ?_
  refine x_iconst hC dX1_rank_19 ?_
  refine x_iconst hC dX1_rank_20 ?_
  refine x1_s17 hC (by omega) dX1_rank_21 ?_
  refine x_aload_n (i := 0) hC dX1_rank_22 rfl rfl ?_
  refine x1_g18 hC dX1_rank_23 ?_
  refine x_iconst hC dX1_rank_26 ?_
  refine x_aload_n (i := 0) hC dX1_rank_27 rfl rfl ?_
  refine x1_g13 hC dX1_rank_28 ?_
  refine x_iload_n (i := 1) hC dX1_rank_31 rfl rfl ?_
  refine x1_l13 hC (by show 0 ≤ σ.1 3 * 80 ∧ σ.1 3 * 80 < 560; omega) dX1_rank_32 ?_
  refine x1_s18 hC (by omega) dX1_rank_33 ?_
  refine x_iconst hC dX1_rank_34 ?_
  refine x_istore_n (i := 3) (L' := [_, _, _, _, _, _, _, _]) hC dX1_rank_35 rfl (Nat.le_of_ble_eq_true rfl) rfl ?_
  exact outer (σ.1 3 * 80) (by omega) 80 0 1 _ (by omega) (by omega) (by omega) (OK_start hok) hs rfl
abbrev rX1_layOut : Room := ({ frames := 3, cells := 0, slots := 0, locals := 75 } : Room)
set_option maxHeartbeats 4000000 in
set_option maxRecDepth 100000 in
theorem tX1_layOut (l : Launch) (D : va_G) (cA : ClassId) (h : Nat → Nat) (σ : XS) {B : Int} (hB : 10 ≤ B ∧ B ≤ 100000) (hok : OKx B σ) (hs : rankOK (layP σ)) : MV l yX1_layOut (ws_ yX1_layOut cX1_layOut 2 none) rX1_layOut (wX h cA) D vwCl [(cA, .int)] (h 0) [] σ (fun u => layF σ = u) := by
  refine MV.of (own := RX1) (L := [some (.ref (h 0)), none]) (by decide) rfl (by simp [Value.category]) (Nat.le_of_ble_eq_true rfl) rfl ?_
  intro p e s m below meth c A hC hr
  have q3 := hok.i3
  have loop : ∀ (n : Nat) (i : Int) (τ : XS), 0 ≤ i → i + (n : Int) = σ.1 3 → τ.1 3 = σ.1 3 → OKx B τ → loLoop n i τ = layP σ → XW p l e rX1_layOut s m (Value.ref (h 0) :: []).toArray below meth c 0 0 (MQ below (va_Qv (fun u => layF σ = u) (BW D vwCl [(cA, .int)] A (wX h cA)) A) (Value.ref (h 0) :: []).toArray s 0 0 A) D vwCl A (wX h cA) τ [some (.ref (h 0)), some (.int (iI (i)))] [] 6 := by
    intro n
    induction n with
    | zero =>
      intro i τ hi hn ht ho he
      have he : τ = layP σ := he
      refine x_iload_n (i := 1) hC dX1_layOut_6 rfl rfl ?_
      refine x_aload_n (i := 0) hC dX1_layOut_7 rfl rfl ?_
      refine x1_g3 hC dX1_layOut_8 ?_
      refine x_icmp_ge hC 25 dX1_layOut_11 (by decide) (by omega) (by omega) (fun h11 => ?_) (fun h11 => by exfalso; omega)
      refine x_aload_n (i := 0) hC dX1_layOut_25 rfl rfl ?_
      refine x_callV hC (tX1_rank l D cA h τ hB ho (by rw [he]; exact hs)) gX1_X1_rank hyX1_rank ⟨rfl, rfl⟩ ⟨Nat.le_of_ble_eq_true rfl, Nat.le_of_ble_eq_true rfl⟩ ⟨Nat.zero_le _, Nat.zero_le _⟩ (ci := 0) (q0 := 0) rfl rfl rfl rfl (Nat.le_of_ble_eq_true rfl) rfl dX1_layOut_26 (fun u hu => ?_)
      subst hu
      exact x_vret hC hr dX1_layOut_29 (by unfold layF; rw [he])
    | succ n ih =>
      intro i τ hi hn ht ho he
      refine x_iload_n (i := 1) hC dX1_layOut_6 rfl rfl ?_
      refine x_aload_n (i := 0) hC dX1_layOut_7 rfl rfl ?_
      refine x1_g3 hC dX1_layOut_8 ?_
      refine x_icmp_ge hC 25 dX1_layOut_11 (by decide) (by omega) (by omega) (fun h11 => by exfalso; omega) (fun h11 => ?_)
      refine x_aload_n (i := 0) hC dX1_layOut_14 rfl rfl ?_
      refine x_iload_n (i := 1) hC dX1_layOut_15 rfl rfl ?_
      refine x_callV hC (tX1_nextLayer l D cA h τ hB ho i (by omega)) gX1_X1_nextLayer hyX1_nextLayer ⟨rfl, rfl⟩ ⟨Nat.le_of_ble_eq_true rfl, Nat.le_of_ble_eq_true rfl⟩ ⟨Nat.zero_le _, Nat.zero_le _⟩ (ci := 0) (q0 := 0) rfl rfl rfl rfl (Nat.le_of_ble_eq_true rfl) rfl dX1_layOut_16 (fun u hu => ?_)
      subst hu
      refine x_iinc (L' := [_, _]) hC dX1_layOut_19 rfl rfl ?_
      refine x_goto hC 6 dX1_layOut_22 (by decide) ?_
      exact ih (i + 1) _ (by omega) (by omega) (by rw [← ht]; exact congrFun (out_keep i 7 0 τ).1 3) (OK_out hB.1 i 7 0 τ ho) he
  refine x_aload_n (i := 0) hC dX1_layOut_0 rfl rfl ?_
  refine x_callV hC (tX1_firstLayer l D cA h σ hB hok) gX1_X1_firstLayer hyX1_firstLayer ⟨rfl, rfl⟩ ⟨Nat.le_of_ble_eq_true rfl, Nat.le_of_ble_eq_true rfl⟩ ⟨Nat.zero_le _, Nat.zero_le _⟩ (ci := 0) (q0 := 0) rfl rfl rfl rfl (Nat.le_of_ble_eq_true rfl) rfl dX1_layOut_1 (fun u hu => ?_)
  subst hu
  refine x_iconst hC dX1_layOut_4 ?_
  refine x_istore_n (i := 1) (L' := [_, _]) hC dX1_layOut_5 rfl (Nat.le_of_ble_eq_true rfl) rfl ?_
  exact loop (σ.1 3).toNat 0 _ (by omega) (by omega) (congrFun (fl_keep 80 0 σ).1 3) (OK_fl hB.1 80 0 σ hok) rfl
abbrev rX1_add : Room := ({ frames := 4, cells := 0, slots := 0, locals := 96 } : Room)
set_option maxHeartbeats 4000000 in
set_option maxRecDepth 100000 in
theorem tX1_add (l : Launch) (D : va_G) (cA : ClassId) (h : Nat → Nat) (σ : XS) {B : Int} (hB : 10 ≤ B ∧ B ≤ 50000) (hok : OKx B σ) (a : Int) (ha : -2147483648 ≤ a ∧ a ≤ 2147483647) (hs1 : ¬ (a < 0 ∨ 99 < a ∨ σ.1 1 = 0) → (0 < adThere σ ∧ 0 ≤ σ.2 12 (adThere σ)) → rankOK (adRep σ a)) (hs2 : ¬ (a < 0 ∨ 99 < a ∨ σ.1 1 = 0) → ¬ (0 < adThere σ ∧ 0 ≤ σ.2 12 (adThere σ)) → ¬ σ.1 5 = 12 → rankOK (layP (adIns σ a))) : MI l yX1_add (ws_ yX1_add cX1_add 6 (some .int)) rX1_add (wX h cA) D vwCl [(cA, .int)] (h 0) [.int (iI a)] σ (fun z u => addF σ a = (z, u)) := by
  refine MI.of (own := RX1) (L := [some (.ref (h 0)), some (.int (iI a)), none, none, none, none]) (by decide) rfl (by simp [Value.category]) (Nat.le_of_ble_eq_true rfl) rfl ?_
  intro p e s m below meth c A hC hr
  have q1 := hok.i1
  have q5 := hok.i5
  have qt := dnode_rg hok (σ.2 2) (σ.1 1).toNat 0 0 (by omega)
  have q12 := hok.f12 (adThere σ)
  have hB1 : 10 ≤ B ∧ B ≤ 100000 := by omega
  have loop : ¬ (a < 0 ∨ 99 < a ∨ σ.1 1 = 0) → ¬ (0 < adThere σ ∧ 0 ≤ σ.2 12 (adThere σ)) → ¬ σ.1 5 = 12 → ∀ (n : Nat) (i nd : Int) (τ : XS) (C : Int), 0 ≤ i → i + (n : Int) = σ.1 1 → τ.1 = σ.1 → 10 ≤ C → C + 2 * (n : Int) ≤ 60000 → OKx C τ → 0 ≤ nd ∧ nd ≤ 79 → adLoop n i (nd, τ) = adLoop (σ.1 1).toNat 0 (0, sA σ 6 0 (σ.2 6 0 + 1)) → XW p l e rX1_add s m (Value.ref (h 0) :: [.int (iI a)]).toArray below meth c 0 0 (MQ below (va_Qi (PI (fun z u => addF σ a = (z, u))) (BW D vwCl [(cA, .int)] A (wX h cA)) A) (Value.ref (h 0) :: [.int (iI a)]).toArray s 0 0 A) D vwCl A (wX h cA) τ [some (.ref (h 0)), some (.int (iI (a))), none, some (.int (iI (nd))), some (.int (iI (i))), none] [] 86 := by
    intro c1 c2 c3 n
    induction n with
    | zero =>
      intro i nd τ C hi hn ht hC1 hC2 ho hnd he
      have e1 : τ.1 1 = σ.1 1 := congrFun ht 1
      have e5 : τ.1 5 = σ.1 5 := congrFun ht 5
      have r5 := ho.i5
      have ei : adIns σ a = sI (sI (sA τ 12 nd a) 5 (τ.1 5 + 1)) 1 0 := by unfold adIns; rw [← he]; rfl
      have ok2 : OKx (C + 1) (adIns σ a) := by rw [ei]; exact (((ho.mono (by omega)).sA12 (by omega)).sI5 (by omega)).sI1 (by omega)
      refine x_iload hC dX1_add_86 rfl ?_
      refine x_aload_n (i := 0) hC dX1_add_88 rfl rfl ?_
      refine x1_g1 hC dX1_add_89 ?_
      refine x_icmp_ge hC 155 dX1_add_92 (by decide) (by omega) (by omega) (fun h92 => ?_) (fun h92 => by exfalso; omega)
      refine x_aload_n (i := 0) hC dX1_add_155 rfl rfl ?_
      refine x1_g12 hC dX1_add_156 ?_
      refine x_iload_n (i := 3) hC dX1_add_159 rfl rfl ?_
      refine x_iload_n (i := 1) hC dX1_add_160 rfl rfl ?_
      refine x1_s12 hC (by omega) dX1_add_161 ?_
      refine x_aload_n (i := 0) hC dX1_add_162 rfl rfl ?_
      refine x_dup hC dX1_add_163 rfl ?_
      refine x1_g5 hC dX1_add_164 ?_
      refine x_iconst hC dX1_add_167 ?_
      refine x_iadd hC dX1_add_168 ?_
      refine x1_p5 hC dX1_add_169 ?_
      refine x_aload_n (i := 0) hC dX1_add_172 rfl rfl ?_
      refine x_iconst hC dX1_add_173 ?_
      refine x1_p1 hC dX1_add_174 ?_
      show XW p l e rX1_add s m (Value.ref (h 0) :: [.int (iI a)]).toArray below meth c 0 0 (MQ below (va_Qi (PI (fun z u => addF σ a = (z, u))) (BW D vwCl [(cA, .int)] A (wX h cA)) A) (Value.ref (h 0) :: [.int (iI a)]).toArray s 0 0 A) D vwCl A (wX h cA) (sI (sI (sA τ 12 nd a) 5 (τ.1 5 + 1)) 1 0) _ _ _
      refine x_aload_n (i := 0) hC dX1_add_177 rfl rfl ?_
      refine x_callV hC (tX1_layOut l D cA h _ (B := C + 1) (by omega) (by rw [← ei]; exact ok2) (by rw [← ei]; exact hs2 c1 c2 c3)) gX1_X1_layOut hyX1_layOut ⟨rfl, rfl⟩ ⟨Nat.le_of_ble_eq_true rfl, Nat.le_of_ble_eq_true rfl⟩ ⟨Nat.zero_le _, Nat.zero_le _⟩ (ci := 0) (q0 := 0) rfl rfl rfl rfl (Nat.le_of_ble_eq_true rfl) rfl dX1_add_178 (fun u hu => ?_)
      subst hu
      refine x_iconst hC dX1_add_181 ?_
      exact x_iret hC hr dX1_add_182 (by unfold addF; rw [if_neg c1, if_neg c2, if_neg c3, ei])
    | succ n ih =>
      intro i nd τ C hi hn ht hC1 hC2 ho hnd he
      have e1 : τ.1 1 = σ.1 1 := congrFun ht 1
      have q2 := ho.f2 i
      have q7 := ho.f7 (nd * 4 + τ.2 2 i)
      have qf := freeF_rg τ
      have ok2 := adStep_ok ho hnd q2
      refine x_iload hC dX1_add_86 rfl ?_
      refine x_aload_n (i := 0) hC dX1_add_88 rfl rfl ?_
      refine x1_g1 hC dX1_add_89 ?_
      refine x_icmp_ge hC 155 dX1_add_92 (by decide) (by omega) (by omega) (fun h92 => by exfalso; omega) (fun h92 => ?_)
      refine x_aload_n (i := 0) hC dX1_add_95 rfl rfl ?_
      refine x1_g7 hC dX1_add_96 ?_
      refine x_iload_n (i := 3) hC dX1_add_99 rfl rfl ?_
      refine x_iconst hC dX1_add_100 ?_
      refine x_imul hC dX1_add_101 ?_
      refine x_aload_n (i := 0) hC dX1_add_102 rfl rfl ?_
      refine x1_g2 hC dX1_add_103 ?_
      refine x_iload hC dX1_add_106 rfl ?_
      refine x1_l2 hC (by omega) dX1_add_108 ?_
      refine x_iadd hC dX1_add_109 ?_
      refine x1_l7 hC (by omega) dX1_add_110 ?_
      refine x_istore (L' := [_, _, _, _, _, _]) hC dX1_add_111 (Nat.le_of_ble_eq_true rfl) rfl ?_
      refine x_iload hC dX1_add_113 rfl ?_
      refine x_if_ne hC 132 dX1_add_115 (by decide) (by omega) (fun h115 => ?_) (fun h115 => ?_)
      · refine x_iload hC dX1_add_132 rfl ?_
        refine x_istore_n (i := 3) (L' := [_, _, _, _, _, _]) hC dX1_add_134 rfl (Nat.le_of_ble_eq_true rfl) rfl ?_
        refine x_aload_n (i := 0) hC dX1_add_135 rfl rfl ?_
        refine x1_g6 hC dX1_add_136 ?_
        refine x_iload_n (i := 3) hC dX1_add_139 rfl rfl ?_
        refine x_aload_n (i := 0) hC dX1_add_140 rfl rfl ?_
        refine x1_g6 hC dX1_add_141 ?_
        refine x_iload_n (i := 3) hC dX1_add_144 rfl rfl ?_
        refine x1_l6 hC (by omega) dX1_add_145 ?_
        refine x_iconst hC dX1_add_146 ?_
        refine x_iadd hC dX1_add_147 ?_
        refine x1_s6 hC (by omega) dX1_add_148 ?_
        refine x_iinc (L' := [_, _, _, _, _, _]) hC dX1_add_149 rfl rfl ?_
        refine x_goto hC 86 dX1_add_152 (by decide) ?_
        have es : adStep τ nd (τ.2 2 i) = (τ.2 7 (nd * 4 + τ.2 2 i), τ) := if_neg h115
        exact x_weak (by simp [lzle] <;> rfl) (ih (i + 1) (τ.2 7 (nd * 4 + τ.2 2 i)) _ (C + 2) (by omega) (by omega) ht (by omega) (by omega) (by have z := adBump_ok ok2.1; rw [es] at z; exact z.mono (by omega)) (by omega) (by rw [← he]; exact congrArg (fun q => adLoop n (i + 1) (adBump q)) es.symm))
      · refine x_aload_n (i := 0) hC dX1_add_118 rfl rfl ?_
        refine x_iload_n (i := 3) hC dX1_add_119 rfl rfl ?_
        refine x_aload_n (i := 0) hC dX1_add_120 rfl rfl ?_
        refine x1_g2 hC dX1_add_121 ?_
        refine x_iload hC dX1_add_124 rfl ?_
        refine x1_l2 hC (by omega) dX1_add_126 ?_
        refine x_callI hC (tX1_makeChild l D cA h τ (B := C) (by omega) ho nd (τ.2 2 i) hnd q2) gX1_X1_makeChild hyX1_makeChild ⟨rfl, rfl⟩ ⟨Nat.le_of_ble_eq_true rfl, Nat.le_of_ble_eq_true rfl⟩ ⟨Nat.zero_le _, Nat.zero_le _⟩ (ci := 0) (q0 := 0) rfl rfl rfl rfl (Nat.le_of_ble_eq_true rfl) rfl dX1_add_127 (fun z u hu => ?_)
        obtain ⟨rfl, rfl⟩ := hu
        refine x_istore (L' := [_, _, _, _, _, _]) hC dX1_add_130 (Nat.le_of_ble_eq_true rfl) rfl ?_
        refine x_iload hC dX1_add_132 rfl ?_
        refine x_istore_n (i := 3) (L' := [_, _, _, _, _, _]) hC dX1_add_134 rfl (Nat.le_of_ble_eq_true rfl) rfl ?_
        refine x_aload_n (i := 0) hC dX1_add_135 rfl rfl ?_
        refine x1_g6 hC dX1_add_136 ?_
        refine x_iload_n (i := 3) hC dX1_add_139 rfl rfl ?_
        refine x_aload_n (i := 0) hC dX1_add_140 rfl rfl ?_
        refine x1_g6 hC dX1_add_141 ?_
        refine x_iload_n (i := 3) hC dX1_add_144 rfl rfl ?_
        refine x1_l6 hC (by omega) dX1_add_145 ?_
        refine x_iconst hC dX1_add_146 ?_
        refine x_iadd hC dX1_add_147 ?_
        refine x1_s6 hC (by omega) dX1_add_148 ?_
        refine x_iinc (L' := [_, _, _, _, _, _]) hC dX1_add_149 rfl rfl ?_
        refine x_goto hC 86 dX1_add_152 (by decide) ?_
        have es : adStep τ nd (τ.2 2 i) = (freeF τ, mkF τ nd (τ.2 2 i)) := if_pos h115
        exact x_weak (by simp [lzle] <;> rfl) (ih (i + 1) (freeF τ) _ (C + 2) (by omega) (by omega) ht (by omega) (by omega) (by have z := adBump_ok ok2.1; rw [es] at z; exact z.mono (by omega)) (by omega) (by rw [← he]; exact congrArg (fun q => adLoop n (i + 1) (adBump q)) es.symm))
  refine x_iload_n (i := 1) hC dX1_add_0 rfl rfl ?_
  refine x_if_lt hC 17 dX1_add_1 (by decide) (by omega) (fun h1 => ?_) (fun h1 => ?_)
  · refine x_iconst hC dX1_add_17 ?_
    exact x_iret hC hr dX1_add_18 (by unfold addF; rw [if_pos (by omega)])
  · refine x_iload_n (i := 1) hC dX1_add_4 rfl rfl ?_
    refine x_bipush hC dX1_add_5 bp_99 ?_
    refine x_icmp_gt hC 17 dX1_add_7 (by decide) (by omega) (by omega) (fun h7 => ?_) (fun h7 => ?_)
    · refine x_iconst hC dX1_add_17 ?_
      exact x_iret hC hr dX1_add_18 (by unfold addF; rw [if_pos (by omega)])
    · refine x_aload_n (i := 0) hC dX1_add_10 rfl rfl ?_
      refine x1_g1 hC dX1_add_11 ?_
      refine x_if_ne hC 19 dX1_add_14 (by decide) (by omega) (fun h14 => ?_) (fun h14 => ?_)
      · refine x_aload_n (i := 0) hC dX1_add_19 rfl rfl ?_
        refine x_callI hC (tX1_draftNode l D cA h σ hB1 hok) gX1_X1_draftNode hyX1_draftNode ⟨rfl, rfl⟩ ⟨Nat.le_of_ble_eq_true rfl, Nat.le_of_ble_eq_true rfl⟩ ⟨Nat.zero_le _, Nat.zero_le _⟩ (ci := 0) (q0 := 0) rfl rfl rfl rfl (Nat.le_of_ble_eq_true rfl) rfl dX1_add_20 (fun z u hu => ?_)
        obtain ⟨hz, rfl⟩ := hu
        obtain rfl : adThere σ = z := hz
        have qt : -1 ≤ adThere σ ∧ adThere σ ≤ 79 := qt
        refine x_istore_n (i := 2) (L' := [_, _, _, _, _, _]) hC dX1_add_23 rfl (Nat.le_of_ble_eq_true rfl) rfl ?_
        refine x_iload_n (i := 2) hC dX1_add_24 rfl rfl ?_
        refine x_if_le hC 55 dX1_add_25 (by decide) (by omega) (fun h25 => ?_) (fun h25 => ?_)
        · refine x_aload_n (i := 0) hC dX1_add_55 rfl rfl ?_
          refine x1_g5 hC dX1_add_56 ?_
          refine x_bipush hC dX1_add_59 bp_12 ?_
          refine x_icmp_ne hC 67 dX1_add_61 (by decide) (by omega) (by omega) (fun h61 => ?_) (fun h61 => ?_)
          · refine x_iconst hC dX1_add_67 ?_
            refine x_istore_n (i := 3) (L' := [_, _, _, _, _, _]) hC dX1_add_68 rfl (Nat.le_of_ble_eq_true rfl) rfl ?_
            refine x_aload_n (i := 0) hC dX1_add_69 rfl rfl ?_
            refine x1_g6 hC dX1_add_70 ?_
            refine x_iconst hC dX1_add_73 ?_
            refine x_aload_n (i := 0) hC dX1_add_74 rfl rfl ?_
            refine x1_g6 hC dX1_add_75 ?_
            refine x_iconst hC dX1_add_78 ?_
            refine x1_l6 hC (by omega) dX1_add_79 ?_
            refine x_iconst hC dX1_add_80 ?_
            refine x_iadd hC dX1_add_81 ?_
            refine x1_s6 hC (by omega) dX1_add_82 ?_
            refine x_iconst hC dX1_add_83 ?_
            refine x_istore (L' := [_, _, _, _, _, _]) hC dX1_add_84 (Nat.le_of_ble_eq_true rfl) rfl ?_
            exact x_weak (by simp [lzle] <;> rfl) (loop (by omega) (by omega) (by omega) (σ.1 1).toNat 0 0 _ (B + 1) (by omega) (by omega) rfl (by omega) (by omega) ((hok.mono (by omega)).sA6 (by have q6 := hok.f6 0; omega)) (by omega) rfl)
          · refine x_bipush hC dX1_add_64 bp_m2 ?_
            exact x_iret hC hr dX1_add_66 (by unfold addF; rw [if_neg (by omega), if_neg (by omega), if_pos (by omega)])
        · refine x_aload_n (i := 0) hC dX1_add_28 rfl rfl ?_
          refine x1_g12 hC dX1_add_29 ?_
          refine x_iload_n (i := 2) hC dX1_add_32 rfl rfl ?_
          refine x1_l12 hC (by omega) dX1_add_33 ?_
          refine x_if_lt hC 55 dX1_add_34 (by decide) (by omega) (fun h34 => ?_) (fun h34 => ?_)
          · refine x_aload_n (i := 0) hC dX1_add_55 rfl rfl ?_
            refine x1_g5 hC dX1_add_56 ?_
            refine x_bipush hC dX1_add_59 bp_12 ?_
            refine x_icmp_ne hC 67 dX1_add_61 (by decide) (by omega) (by omega) (fun h61 => ?_) (fun h61 => ?_)
            · refine x_iconst hC dX1_add_67 ?_
              refine x_istore_n (i := 3) (L' := [_, _, _, _, _, _]) hC dX1_add_68 rfl (Nat.le_of_ble_eq_true rfl) rfl ?_
              refine x_aload_n (i := 0) hC dX1_add_69 rfl rfl ?_
              refine x1_g6 hC dX1_add_70 ?_
              refine x_iconst hC dX1_add_73 ?_
              refine x_aload_n (i := 0) hC dX1_add_74 rfl rfl ?_
              refine x1_g6 hC dX1_add_75 ?_
              refine x_iconst hC dX1_add_78 ?_
              refine x1_l6 hC (by omega) dX1_add_79 ?_
              refine x_iconst hC dX1_add_80 ?_
              refine x_iadd hC dX1_add_81 ?_
              refine x1_s6 hC (by omega) dX1_add_82 ?_
              refine x_iconst hC dX1_add_83 ?_
              refine x_istore (L' := [_, _, _, _, _, _]) hC dX1_add_84 (Nat.le_of_ble_eq_true rfl) rfl ?_
              exact x_weak (by simp [lzle] <;> rfl) (loop (by omega) (by omega) (by omega) (σ.1 1).toNat 0 0 _ (B + 1) (by omega) (by omega) rfl (by omega) (by omega) ((hok.mono (by omega)).sA6 (by have q6 := hok.f6 0; omega)) (by omega) rfl)
            · refine x_bipush hC dX1_add_64 bp_m2 ?_
              exact x_iret hC hr dX1_add_66 (by unfold addF; rw [if_neg (by omega), if_neg (by omega), if_pos (by omega)])
          · refine x_aload_n (i := 0) hC dX1_add_37 rfl rfl ?_
            refine x1_g12 hC dX1_add_38 ?_
            refine x_iload_n (i := 2) hC dX1_add_41 rfl rfl ?_
            refine x_iload_n (i := 1) hC dX1_add_42 rfl rfl ?_
            refine x1_s12 hC (by omega) dX1_add_43 ?_
            refine x_aload_n (i := 0) hC dX1_add_44 rfl rfl ?_
            refine x_iconst hC dX1_add_45 ?_
            refine x1_p1 hC dX1_add_46 ?_
            show XW p l e rX1_add s m (Value.ref (h 0) :: [.int (iI a)]).toArray below meth c 0 0 (MQ below (va_Qi (PI (fun z u => addF σ a = (z, u))) (BW D vwCl [(cA, .int)] A (wX h cA)) A) (Value.ref (h 0) :: [.int (iI a)]).toArray s 0 0 A) D vwCl A (wX h cA) (adRep σ a) _ _ _
            refine x_aload_n (i := 0) hC dX1_add_49 rfl rfl ?_
            refine x_callV hC (tX1_rank l D cA h (adRep σ a) hB1 ((hok.sA12 (by omega)).sI1 (by omega)) (hs1 (by omega) ⟨by omega, by omega⟩)) gX1_X1_rank hyX1_rank ⟨rfl, rfl⟩ ⟨Nat.le_of_ble_eq_true rfl, Nat.le_of_ble_eq_true rfl⟩ ⟨Nat.zero_le _, Nat.zero_le _⟩ (ci := 0) (q0 := 0) rfl rfl rfl rfl (Nat.le_of_ble_eq_true rfl) rfl dX1_add_50 (fun u hu => ?_)
            subst hu
            refine x_iconst hC dX1_add_53 ?_
            exact x_iret hC hr dX1_add_54 (by unfold addF; rw [if_neg (by omega), if_pos (by omega)])
      · refine x_iconst hC dX1_add_17 ?_
        exact x_iret hC hr dX1_add_18 (by unfold addF; rw [if_pos (by omega)])
abbrev rX1_remove : Room := ({ frames := 4, cells := 0, slots := 0, locals := 96 } : Room)
set_option maxHeartbeats 4000000 in
set_option maxRecDepth 100000 in
theorem tX1_remove (l : Launch) (D : va_G) (cA : ClassId) (h : Nat → Nat) (σ : XS) {B : Int} (hB : 10 ≤ B ∧ B ≤ 50000) (hok : OKx B σ) (hs2 : ¬ σ.1 1 = 0 → ¬ (adThere σ < 0 ∨ σ.2 12 (adThere σ) < 0) → rankOK (layP (rmDel σ (adThere σ)))) : MI l yX1_remove (ws_ yX1_remove cX1_remove 4 (some .int)) rX1_remove (wX h cA) D vwCl [(cA, .int)] (h 0) [] σ (fun z u => removeF σ = (z, u)) := by
  refine MI.of (own := RX1) (L := [some (.ref (h 0)), none, none, none]) (by decide) rfl (by simp [Value.category]) (Nat.le_of_ble_eq_true rfl) rfl ?_
  intro p e s m below meth c A hC hr
  have q1 := hok.i1
  have q5 := hok.i5
  have qt : -1 ≤ adThere σ ∧ adThere σ ≤ 79 := dnode_rg hok (σ.2 2) (σ.1 1).toNat 0 0 (by omega)
  have q12 := hok.f12 (adThere σ)
  have hB1 : 10 ≤ B ∧ B ≤ 100000 := by omega
  have loop : ¬ σ.1 1 = 0 → ¬ (adThere σ < 0 ∨ σ.2 12 (adThere σ) < 0) → ∀ (n : Nat) (i nd : Int) (τ : XS) (C : Int), 0 ≤ i → i + (n : Int) = 6 → 10 ≤ C → C + (n : Int) ≤ 60000 → OKx C τ → 0 ≤ nd ∧ nd ≤ 79 → sI (rmLoop n nd τ) 1 0 = rmDel σ (adThere σ) → XW p l e rX1_remove s m (Value.ref (h 0) :: []).toArray below meth c 0 0 (MQ below (va_Qi (PI (fun z u => removeF σ = (z, u))) (BW D vwCl [(cA, .int)] A (wX h cA)) A) (Value.ref (h 0) :: []).toArray s 0 0 A) D vwCl A (wX h cA) τ [some (.ref (h 0)), some (.int (iI (nd))), some (.int (iI (σ.2 12 (adThere σ)))), some (.int (iI (i)))] [] 71 := by
    intro c1 c2 n
    have fin : ∀ (τ : XS) (C : Int) (x y : Option Value), 10 ≤ C → C ≤ 60000 → OKx C τ → sI τ 1 0 = rmDel σ (adThere σ) → XW p l e rX1_remove s m (Value.ref (h 0) :: []).toArray below meth c 0 0 (MQ below (va_Qi (PI (fun z u => removeF σ = (z, u))) (BW D vwCl [(cA, .int)] A (wX h cA)) A) (Value.ref (h 0) :: []).toArray s 0 0 A) D vwCl A (wX h cA) τ [some (.ref (h 0)), x, some (.int (iI (σ.2 12 (adThere σ)))), y] [] 138 := by
      intro τ C x y hC1 hC2 ho he
      have ok2 : OKx C (rmDel σ (adThere σ)) := by rw [← he]; exact ho.sI1 (by omega)
      refine x_aload_n (i := 0) hC dX1_remove_138 rfl rfl ?_
      refine x_iconst hC dX1_remove_139 ?_
      refine x1_p1 hC dX1_remove_140 ?_
      refine x_aload_n (i := 0) hC dX1_remove_143 rfl rfl ?_
      refine x_callV hC (tX1_layOut l D cA h _ (B := C) (by omega) (by rw [he]; exact ok2) (by rw [he]; exact hs2 c1 c2)) gX1_X1_layOut hyX1_layOut ⟨rfl, rfl⟩ ⟨Nat.le_of_ble_eq_true rfl, Nat.le_of_ble_eq_true rfl⟩ ⟨Nat.zero_le _, Nat.zero_le _⟩ (ci := 0) (q0 := 0) rfl rfl rfl rfl (Nat.le_of_ble_eq_true rfl) rfl dX1_remove_144 (fun u hu => ?_)
      subst hu
      refine x_iload_n (i := 2) hC dX1_remove_147 rfl rfl ?_
      exact x_iret hC hr dX1_remove_148 (by unfold removeF; rw [if_neg c1, if_neg c2, he])
    induction n with
    | zero =>
      intro i nd τ C hi hn hC1 hC2 ho hnd he
      refine x_iload_n (i := 3) hC dX1_remove_71 rfl rfl ?_
      refine x_bipush hC dX1_remove_72 bp_6 ?_
      refine x_icmp_ge hC 138 dX1_remove_74 (by decide) (by omega) (by omega) (fun h74 => ?_) (fun h74 => by exfalso; omega)
      exact fin τ C _ _ hC1 (by omega) ho he
    | succ n ih =>
      intro i nd τ C hi hn hC1 hC2 ho hnd he
      have q6 := ho.f6 nd
      have q8 := ho.f8 nd
      have q9 := ho.f9 nd
      have ok2 := rmStep_ok ho nd
      have ef : fU (τ.2 6) nd (τ.2 6 nd - 1) nd = τ.2 6 nd - 1 := if_pos rfl
      have e6 : (sA τ 6 nd (τ.2 6 nd - 1)).2 6 nd = τ.2 6 nd - 1 := ef
      refine x_iload_n (i := 3) hC dX1_remove_71 rfl rfl ?_
      refine x_bipush hC dX1_remove_72 bp_6 ?_
      refine x_icmp_ge hC 138 dX1_remove_74 (by decide) (by omega) (by omega) (fun h74 => by exfalso; omega) (fun h74 => ?_)
      refine x_iload_n (i := 1) hC dX1_remove_77 rfl rfl ?_
      refine x_if_eq hC 138 dX1_remove_78 (by decide) (by omega) (fun h78 => ?_) (fun h78 => ?_)
      · refine fin τ C _ _ hC1 (by omega) ho ?_
        rw [← he]
        exact congrArg (fun q => sI q 1 0) (if_pos h78).symm
      · refine x_aload_n (i := 0) hC dX1_remove_81 rfl rfl ?_
        refine x1_g6 hC dX1_remove_82 ?_
        refine x_iload_n (i := 1) hC dX1_remove_85 rfl rfl ?_
        refine x_aload_n (i := 0) hC dX1_remove_86 rfl rfl ?_
        refine x1_g6 hC dX1_remove_87 ?_
        refine x_iload_n (i := 1) hC dX1_remove_90 rfl rfl ?_
        refine x1_l6 hC (by omega) dX1_remove_91 ?_
        refine x_iconst hC dX1_remove_92 ?_
        refine x_isub hC dX1_remove_93 ?_
        refine x1_s6 hC (by omega) dX1_remove_94 ?_
        refine x_aload_n (i := 0) hC dX1_remove_95 rfl rfl ?_
        refine x1_g6 hC dX1_remove_96 ?_
        refine x_iload_n (i := 1) hC dX1_remove_99 rfl rfl ?_
        refine x1_l6 hC (by omega) dX1_remove_100 ?_
        rw [e6]
        refine x_if_ne hC 125 dX1_remove_101 (by decide) (by omega) (fun h101 => ?_) (fun h101 => ?_)
        · refine x_aload_n (i := 0) hC dX1_remove_125 rfl rfl ?_
          refine x1_g8 hC dX1_remove_126 ?_
          refine x_iload_n (i := 1) hC dX1_remove_129 rfl rfl ?_
          refine x1_l8 hC (by omega) dX1_remove_130 ?_
          refine x_istore_n (i := 1) (L' := [_, _, _, _]) hC dX1_remove_131 rfl (Nat.le_of_ble_eq_true rfl) rfl ?_
          refine x_iinc (L' := [_, _, _, _]) hC dX1_remove_132 rfl rfl ?_
          refine x_goto hC 71 dX1_remove_135 (by decide) ?_
          have es : rmStep τ nd = sA τ 6 nd (τ.2 6 nd - 1) := if_neg h101
          refine x_eq es.symm ?_
          exact ih (i + 1) (τ.2 8 nd) (rmStep τ nd) (C + 1) (by omega) (by omega) (by omega) (by omega) ok2 q8 (by rw [← he]; exact congrArg (fun q => sI q 1 0) (if_neg h78).symm)
        · refine x_aload_n (i := 0) hC dX1_remove_104 rfl rfl ?_
          refine x1_g7 hC dX1_remove_105 ?_
          refine x_aload_n (i := 0) hC dX1_remove_108 rfl rfl ?_
          refine x1_g8 hC dX1_remove_109 ?_
          refine x_iload_n (i := 1) hC dX1_remove_112 rfl rfl ?_
          refine x1_l8 hC (by omega) dX1_remove_113 ?_
          refine x_iconst hC dX1_remove_114 ?_
          refine x_imul hC dX1_remove_115 ?_
          refine x_aload_n (i := 0) hC dX1_remove_116 rfl rfl ?_
          refine x1_g9 hC dX1_remove_117 ?_
          refine x_iload_n (i := 1) hC dX1_remove_120 rfl rfl ?_
          refine x1_l9 hC (by omega) dX1_remove_121 ?_
          refine x_iadd hC dX1_remove_122 ?_
          refine x_iconst hC dX1_remove_123 ?_
          refine x1_s7 hC (by show 0 ≤ τ.2 8 nd * 4 + τ.2 9 nd ∧ τ.2 8 nd * 4 + τ.2 9 nd < 320; omega) dX1_remove_124 ?_
          refine x_aload_n (i := 0) hC dX1_remove_125 rfl rfl ?_
          refine x1_g8 hC dX1_remove_126 ?_
          refine x_iload_n (i := 1) hC dX1_remove_129 rfl rfl ?_
          refine x1_l8 hC (by omega) dX1_remove_130 ?_
          refine x_istore_n (i := 1) (L' := [_, _, _, _]) hC dX1_remove_131 rfl (Nat.le_of_ble_eq_true rfl) rfl ?_
          refine x_iinc (L' := [_, _, _, _]) hC dX1_remove_132 rfl rfl ?_
          refine x_goto hC 71 dX1_remove_135 (by decide) ?_
          have es : rmStep τ nd = sA (sA τ 6 nd (τ.2 6 nd - 1)) 7 (τ.2 8 nd * 4 + τ.2 9 nd) 0 := if_pos h101
          refine x_eq es.symm ?_
          exact ih (i + 1) (τ.2 8 nd) (rmStep τ nd) (C + 1) (by omega) (by omega) (by omega) (by omega) ok2 q8 (by rw [← he]; exact congrArg (fun q => sI q 1 0) (if_neg h78).symm)
  refine x_aload_n (i := 0) hC dX1_remove_0 rfl rfl ?_
  refine x1_g1 hC dX1_remove_1 ?_
  refine x_if_ne hC 9 dX1_remove_4 (by decide) (by omega) (fun h4 => ?_) (fun h4 => ?_)
  · refine x_aload_n (i := 0) hC dX1_remove_9 rfl rfl ?_
    refine x_callI hC (tX1_draftNode l D cA h σ hB1 hok) gX1_X1_draftNode hyX1_draftNode ⟨rfl, rfl⟩ ⟨Nat.le_of_ble_eq_true rfl, Nat.le_of_ble_eq_true rfl⟩ ⟨Nat.zero_le _, Nat.zero_le _⟩ (ci := 0) (q0 := 0) rfl rfl rfl rfl (Nat.le_of_ble_eq_true rfl) rfl dX1_remove_10 (fun z u hu => ?_)
    obtain ⟨hz, rfl⟩ := hu
    obtain rfl : adThere σ = z := hz
    refine x_istore_n (i := 1) (L' := [_, _, _, _]) hC dX1_remove_13 rfl (Nat.le_of_ble_eq_true rfl) rfl ?_
    refine x_iload_n (i := 1) hC dX1_remove_14 rfl rfl ?_
    refine x_if_lt hC 27 dX1_remove_15 (by decide) (by omega) (fun h15 => ?_) (fun h15 => ?_)
    · refine x_bipush hC dX1_remove_27 bp_m4 ?_
      exact x_iret hC hr dX1_remove_29 (by unfold removeF; rw [if_neg (by omega), if_pos (by omega)])
    · refine x_aload_n (i := 0) hC dX1_remove_18 rfl rfl ?_
      refine x1_g12 hC dX1_remove_19 ?_
      refine x_iload_n (i := 1) hC dX1_remove_22 rfl rfl ?_
      refine x1_l12 hC (by omega) dX1_remove_23 ?_
      refine x_if_ge hC 30 dX1_remove_24 (by decide) (by omega) (fun h24 => ?_) (fun h24 => ?_)
      · refine x_aload_n (i := 0) hC dX1_remove_30 rfl rfl ?_
        refine x1_g12 hC dX1_remove_31 ?_
        refine x_iload_n (i := 1) hC dX1_remove_34 rfl rfl ?_
        refine x1_l12 hC (by omega) dX1_remove_35 ?_
        refine x_istore_n (i := 2) (L' := [_, _, _, _]) hC dX1_remove_36 rfl (Nat.le_of_ble_eq_true rfl) rfl ?_
        refine x_aload_n (i := 0) hC dX1_remove_37 rfl rfl ?_
        refine x1_g12 hC dX1_remove_38 ?_
        refine x_iload_n (i := 1) hC dX1_remove_41 rfl rfl ?_
        refine x_bipush hC dX1_remove_42 bp_m4 ?_
        refine x1_s12 hC (by omega) dX1_remove_44 ?_
        refine x_aload_n (i := 0) hC dX1_remove_45 rfl rfl ?_
        refine x_dup hC dX1_remove_46 rfl ?_
        refine x1_g5 hC dX1_remove_47 ?_
        refine x_iconst hC dX1_remove_50 ?_
        refine x_isub hC dX1_remove_51 ?_
        refine x1_p5 hC dX1_remove_52 ?_
        refine x_aload_n (i := 0) hC dX1_remove_55 rfl rfl ?_
        refine x1_g6 hC dX1_remove_56 ?_
        refine x_iconst hC dX1_remove_59 ?_
        refine x_aload_n (i := 0) hC dX1_remove_60 rfl rfl ?_
        refine x1_g6 hC dX1_remove_61 ?_
        refine x_iconst hC dX1_remove_64 ?_
        refine x1_l6 hC (by omega) dX1_remove_65 ?_
        refine x_iconst hC dX1_remove_66 ?_
        refine x_isub hC dX1_remove_67 ?_
        refine x1_s6 hC (by omega) dX1_remove_68 ?_
        refine x_iconst hC dX1_remove_69 ?_
        refine x_istore_n (i := 3) (L' := [_, _, _, _]) hC dX1_remove_70 rfl (Nat.le_of_ble_eq_true rfl) rfl ?_
        exact loop (by omega) (by omega) 6 0 (adThere σ) _ (B + 1) (by omega) (by omega) (by omega) (by omega) ((((hok.mono (by omega)).sA12 (by omega)).sI5 (by show -(B+1) ≤ σ.1 5 - 1 ∧ σ.1 5 - 1 ≤ B + 1; omega)).sA6 (by have q6 := hok.f6 0; show -(B+1) ≤ σ.2 6 0 - 1 ∧ σ.2 6 0 - 1 ≤ B + 1; omega)) (by omega) rfl
      · refine x_bipush hC dX1_remove_27 bp_m4 ?_
        exact x_iret hC hr dX1_remove_29 (by unfold removeF; rw [if_neg (by omega), if_pos (by omega)])
  · refine x_iconst hC dX1_remove_7 ?_
    exact x_iret hC hr dX1_remove_8 (by unfold removeF; rw [if_pos (by omega)])
abbrev rX1_weight : Room := ({ frames := 1, cells := 0, slots := 0, locals := 22 } : Room)
set_option maxHeartbeats 4000000 in
set_option maxRecDepth 100000 in
theorem tX1_weight (l : Launch) (D : va_G) (cA : ClassId) (h : Nat → Nat) (σ : XS) {B : Int} (hB : 10 ≤ B ∧ B ≤ 100000) (hok : OKx B σ) : MI l yX1_weight (ws_ yX1_weight cX1_weight 2 (some .int)) rX1_weight (wX h cA) D vwCl [(cA, .int)] (h 0) [] σ (fun z u => (if adThere σ ≤ 0 then -4 else σ.2 12 (adThere σ)) = z ∧ σ = u) := by
  refine MI.of (own := RX1) (L := [some (.ref (h 0)), none]) (by decide) rfl (by simp [Value.category]) (Nat.le_of_ble_eq_true rfl) rfl ?_
  intro p e s m below meth c A hC hr
  have q1 := hok.i1
  have qt : -1 ≤ adThere σ ∧ adThere σ ≤ 79 := dnode_rg hok (σ.2 2) (σ.1 1).toNat 0 0 (by omega)
  refine x_aload_n (i := 0) hC dX1_weight_0 rfl rfl ?_
  refine x_callI hC (tX1_draftNode l D cA h σ hB hok) gX1_X1_draftNode hyX1_draftNode ⟨rfl, rfl⟩ ⟨Nat.le_of_ble_eq_true rfl, Nat.le_of_ble_eq_true rfl⟩ ⟨Nat.zero_le _, Nat.zero_le _⟩ (ci := 0) (q0 := 0) rfl rfl rfl rfl (Nat.le_of_ble_eq_true rfl) rfl dX1_weight_1 (fun z u hu => ?_)
  obtain ⟨hz, rfl⟩ := hu
  obtain rfl : adThere σ = z := hz
  refine x_istore_n (i := 1) (L' := [_, _]) hC dX1_weight_4 rfl (Nat.le_of_ble_eq_true rfl) rfl ?_
  refine x_iload_n (i := 1) hC dX1_weight_5 rfl rfl ?_
  refine x_if_gt hC 12 dX1_weight_6 (by decide) (by omega) (fun h6 => ?_) (fun h6 => ?_)
  · refine x_aload_n (i := 0) hC dX1_weight_12 rfl rfl ?_
    refine x1_g12 hC dX1_weight_13 ?_
    refine x_iload_n (i := 1) hC dX1_weight_16 rfl rfl ?_
    refine x1_l12 hC (by omega) dX1_weight_17 ?_
    exact x_iret hC hr dX1_weight_18 ⟨if_neg (by omega), rfl⟩
  · refine x_bipush hC dX1_weight_9 bp_m4 ?_
    exact x_iret hC hr dX1_weight_11 ⟨if_pos (by omega), rfl⟩
def typP (σ : XS) (a : Int) : XS := sI (nextF (sA σ 4 (σ.1 3) a) (σ.1 3)) 3 (σ.1 3 + 1)
abbrev rX1_type : Room := ({ frames := 3, cells := 0, slots := 0, locals := 75 } : Room)
set_option maxHeartbeats 4000000 in
set_option maxRecDepth 100000 in
theorem tX1_type (l : Launch) (D : va_G) (cA : ClassId) (h : Nat → Nat) (σ : XS) {B : Int} (hB : 10 ≤ B ∧ B ≤ 100000) (hok : OKx B σ) (a : Int) (ha : -2147483648 ≤ a ∧ a ≤ 2147483647) (h1 : ¬ (a < 0 ∨ 3 < a) → ¬ σ.1 3 = 6 → rankOK (typP σ a)) : MI l yX1_type (ws_ yX1_type cX1_type 2 (some .int)) rX1_type (wX h cA) D vwCl [(cA, .int)] (h 0) [.int (iI a)] σ (fun z u => (if a < 0 ∨ 3 < a then ((-1, σ) : Int × XS) else if σ.1 3 = 6 then (-2, σ) else (σ.1 3 + 1, rankF (typP σ a))) = (z, u)) := by
  refine MI.of (own := RX1) (L := [some (.ref (h 0)), some (.int (iI a))]) (by decide) rfl (by simp [Value.category]) (Nat.le_of_ble_eq_true rfl) rfl ?_
  intro p e s m below meth c A hC hr
  have q3 := hok.i3
  refine x_aload_n (i := 0) hC dX1_type_0 rfl rfl ?_
  refine x_iload_n (i := 1) hC dX1_type_1 rfl rfl ?_
  refine x_callI hC (tX1_badLetter l D cA h σ a ha) gX1_X1_badLetter hyX1_badLetter ⟨rfl, rfl⟩ ⟨Nat.le_of_ble_eq_true rfl, Nat.le_of_ble_eq_true rfl⟩ ⟨Nat.zero_le _, Nat.zero_le _⟩ (ci := 0) (q0 := 0) rfl rfl rfl rfl (Nat.le_of_ble_eq_true rfl) rfl dX1_type_2 (fun z u hu => ?_)
  obtain ⟨⟨rfl, hc⟩ | ⟨rfl, hc⟩, rfl⟩ := hu
  · refine x_if_eq hC 10 dX1_type_5 (by decide) (by omega) (fun h5 => by exfalso; omega) (fun h5 => ?_)
    refine x_iconst hC dX1_type_8 ?_
    exact x_iret hC hr dX1_type_9 (by rw [if_pos hc])
  · refine x_if_eq hC 10 dX1_type_5 (by decide) (by omega) (fun h5 => ?_) (fun h5 => by exfalso; omega)
    refine x_aload_n (i := 0) hC dX1_type_10 rfl rfl ?_
    refine x1_g3 hC dX1_type_11 ?_
    refine x_bipush hC dX1_type_14 bp_6 ?_
    refine x_icmp_ne hC 22 dX1_type_16 (by decide) (by omega) (by omega) (fun h16 => ?_) (fun h16 => ?_)
    · refine x_aload_n (i := 0) hC dX1_type_22 rfl rfl ?_
      refine x1_g4 hC dX1_type_23 ?_
      refine x_aload_n (i := 0) hC dX1_type_26 rfl rfl ?_
      refine x1_g3 hC dX1_type_27 ?_
      refine x_iload_n (i := 1) hC dX1_type_30 rfl rfl ?_
      refine x1_s4 hC (by omega) dX1_type_31 ?_
      refine x_aload_n (i := 0) hC dX1_type_32 rfl rfl ?_
      refine x_aload_n (i := 0) hC dX1_type_33 rfl rfl ?_
      refine x1_g3 hC dX1_type_34 ?_
      refine x_callV hC (tX1_nextLayer l D cA h (sA σ 4 (σ.1 3) a) hB (hok.sA4 (by omega)) (σ.1 3) (by omega)) gX1_X1_nextLayer hyX1_nextLayer ⟨rfl, rfl⟩ ⟨Nat.le_of_ble_eq_true rfl, Nat.le_of_ble_eq_true rfl⟩ ⟨Nat.zero_le _, Nat.zero_le _⟩ (ci := 0) (q0 := 0) rfl rfl rfl rfl (Nat.le_of_ble_eq_true rfl) rfl dX1_type_37 (fun u hu => ?_)
      subst hu
      refine x_aload_n (i := 0) hC dX1_type_40 rfl rfl ?_
      refine x_dup hC dX1_type_41 rfl ?_
      refine x1_g3 hC dX1_type_42 ?_
      refine x_iconst hC dX1_type_45 ?_
      refine x_iadd hC dX1_type_46 ?_
      refine x1_p3 hC dX1_type_47 ?_
      have ek : (nextF (sA σ 4 (σ.1 3) a) (σ.1 3)).1 3 = σ.1 3 := congrFun (out_keep (σ.1 3) 7 0 (sA σ 4 (σ.1 3) a)).1 3
      rw [ek]
      show XW p l e rX1_type s m (Value.ref (h 0) :: [.int (iI a)]).toArray below meth c 0 0 (MQ below (va_Qi (PI (fun z u => (if a < 0 ∨ 3 < a then ((-1, σ) : Int × XS) else if σ.1 3 = 6 then (-2, σ) else (σ.1 3 + 1, rankF (typP σ a))) = (z, u))) (BW D vwCl [(cA, .int)] A (wX h cA)) A) (Value.ref (h 0) :: [.int (iI a)]).toArray s 0 0 A) D vwCl A (wX h cA) (typP σ a) _ _ _
      refine x_aload_n (i := 0) hC dX1_type_50 rfl rfl ?_
      refine x_callV hC (tX1_rank l D cA h (typP σ a) hB ((OK_out hB.1 _ 7 0 _ (hok.sA4 (by omega))).sI3 (by omega)) (h1 hc h16)) gX1_X1_rank hyX1_rank ⟨rfl, rfl⟩ ⟨Nat.le_of_ble_eq_true rfl, Nat.le_of_ble_eq_true rfl⟩ ⟨Nat.zero_le _, Nat.zero_le _⟩ (ci := 0) (q0 := 0) rfl rfl rfl rfl (Nat.le_of_ble_eq_true rfl) rfl dX1_type_51 (fun u hu => ?_)
      subst hu
      refine x_aload_n (i := 0) hC dX1_type_54 rfl rfl ?_
      refine x1_g3 hC dX1_type_55 ?_
      have er : (rankF (typP σ a)).1 3 = σ.1 3 + 1 := (rank_keep (typP σ a)).1 3 (by decide)
      rw [er]
      exact x_iret hC hr dX1_type_58 (by rw [if_neg hc, if_neg (by omega)])
    · refine x_bipush hC dX1_type_19 bp_m2 ?_
      exact x_iret hC hr dX1_type_21 (by rw [if_neg hc, if_pos (by omega)])
abbrev rX1_backspace : Room := ({ frames := 3, cells := 0, slots := 0, locals := 75 } : Room)
set_option maxHeartbeats 4000000 in
set_option maxRecDepth 100000 in
theorem tX1_backspace (l : Launch) (D : va_G) (cA : ClassId) (h : Nat → Nat) (σ : XS) {B : Int} (hB : 10 ≤ B ∧ B ≤ 100000) (hok : OKx B σ) (h1 : ¬ σ.1 3 = 0 → rankOK (sI σ 3 (σ.1 3 - 1))) : MI l yX1_backspace (ws_ yX1_backspace cX1_backspace 1 (some .int)) rX1_backspace (wX h cA) D vwCl [(cA, .int)] (h 0) [] σ (fun z u => (if σ.1 3 = 0 then ((-4, σ) : Int × XS) else (σ.2 4 (σ.1 3 - 1), rankF (sI σ 3 (σ.1 3 - 1)))) = (z, u)) := by
  refine MI.of (own := RX1) (L := [some (.ref (h 0))]) (by decide) rfl (by simp [Value.category]) (Nat.le_of_ble_eq_true rfl) rfl ?_
  intro p e s m below meth c A hC hr
  have q3 := hok.i3
  refine x_aload_n (i := 0) hC dX1_backspace_0 rfl rfl ?_
  refine x1_g3 hC dX1_backspace_1 ?_
  refine x_if_ne hC 10 dX1_backspace_4 (by decide) (by omega) (fun h4 => ?_) (fun h4 => ?_)
  · refine x_aload_n (i := 0) hC dX1_backspace_10 rfl rfl ?_
    refine x_dup hC dX1_backspace_11 rfl ?_
    refine x1_g3 hC dX1_backspace_12 ?_
    refine x_iconst hC dX1_backspace_15 ?_
    refine x_isub hC dX1_backspace_16 ?_
    refine x1_p3 hC dX1_backspace_17 ?_
    refine x_aload_n (i := 0) hC dX1_backspace_20 rfl rfl ?_
    refine x_callV hC (tX1_rank l D cA h (sI σ 3 (σ.1 3 - 1)) hB (hok.sI3 (by omega)) (h1 h4)) gX1_X1_rank hyX1_rank ⟨rfl, rfl⟩ ⟨Nat.le_of_ble_eq_true rfl, Nat.le_of_ble_eq_true rfl⟩ ⟨Nat.zero_le _, Nat.zero_le _⟩ (ci := 0) (q0 := 0) rfl rfl rfl rfl (Nat.le_of_ble_eq_true rfl) rfl dX1_backspace_21 (fun u hu => ?_)
    subst hu
    refine x_aload_n (i := 0) hC dX1_backspace_24 rfl rfl ?_
    refine x1_g4 hC dX1_backspace_25 ?_
    refine x_aload_n (i := 0) hC dX1_backspace_28 rfl rfl ?_
    refine x1_g3 hC dX1_backspace_29 ?_
    have er : (rankF (sI σ 3 (σ.1 3 - 1))).1 3 = σ.1 3 - 1 := (rank_keep (sI σ 3 (σ.1 3 - 1))).1 3 (by decide)
    rw [er]
    refine x1_l4 hC (by omega) dX1_backspace_32 ?_
    have e4 : (rankF (sI σ 3 (σ.1 3 - 1))).2 4 = σ.2 4 := (rank_keep (sI σ 3 (σ.1 3 - 1))).2 4 (by decide) (by decide) (by decide) (by decide)
    rw [e4]
    exact x_iret hC hr dX1_backspace_33 (if_neg h4)
  · refine x_bipush hC dX1_backspace_7 bp_m4 ?_
    exact x_iret hC hr dX1_backspace_9 (if_pos h4)
abbrev rX1_reset : Room := ({ frames := 3, cells := 0, slots := 0, locals := 75 } : Room)
set_option maxHeartbeats 4000000 in
set_option maxRecDepth 100000 in
theorem tX1_reset (l : Launch) (D : va_G) (cA : ClassId) (h : Nat → Nat) (σ : XS) {B : Int} (hB : 10 ≤ B ∧ B ≤ 100000) (hok : OKx B σ) (h1 : rankOK (sI σ 3 0)) : MV l yX1_reset (ws_ yX1_reset cX1_reset 1 none) rX1_reset (wX h cA) D vwCl [(cA, .int)] (h 0) [] σ (fun u => rankF (sI σ 3 0) = u) := by
  refine MV.of (own := RX1) (L := [some (.ref (h 0))]) (by decide) rfl (by simp [Value.category]) (Nat.le_of_ble_eq_true rfl) rfl ?_
  intro p e s m below meth c A hC hr
  refine x_aload_n (i := 0) hC dX1_reset_0 rfl rfl ?_
  refine x_iconst hC dX1_reset_1 ?_
  refine x1_p3 hC dX1_reset_2 ?_
  refine x_aload_n (i := 0) hC dX1_reset_5 rfl rfl ?_
  refine x_callV hC (tX1_rank l D cA h (sI σ 3 0) hB (hok.sI3 (by omega)) h1) gX1_X1_rank hyX1_rank ⟨rfl, rfl⟩ ⟨Nat.le_of_ble_eq_true rfl, Nat.le_of_ble_eq_true rfl⟩ ⟨Nat.zero_le _, Nat.zero_le _⟩ (ci := 0) (q0 := 0) rfl rfl rfl rfl (Nat.le_of_ble_eq_true rfl) rfl dX1_reset_6 (fun u hu => ?_)
  subst hu
  exact x_vret hC hr dX1_reset_9 rfl
abbrev rX1_offer : Room := ({ frames := 1, cells := 0, slots := 0, locals := 21 } : Room)
set_option maxHeartbeats 4000000 in
set_option maxRecDepth 100000 in
theorem tX1_offer (l : Launch) (D : va_G) (cA : ClassId) (h : Nat → Nat) (σ : XS) {B : Int} (hB : 10 ≤ B ∧ B ≤ 100000) (hok : OKx B σ) (a : Int) (ha : -2147483648 ≤ a ∧ a ≤ 2147483647) : MI l yX1_offer (ws_ yX1_offer cX1_offer 2 (some .int)) rX1_offer (wX h cA) D vwCl [(cA, .int)] (h 0) [.int (iI a)] σ (fun z u => (if a < 0 ∨ σ.1 14 ≤ a then -4 else σ.2 11 (σ.2 15 a)) = z ∧ σ = u) := by
  refine MI.of (own := RX1) (L := [some (.ref (h 0)), some (.int (iI a))]) (by decide) rfl (by simp [Value.category]) (Nat.le_of_ble_eq_true rfl) rfl ?_
  intro p e s m below meth c A hC hr
  have q14 := hok.i14
  have q15 := hok.f15 a
  refine x_aload_n (i := 0) hC dX1_offer_0 rfl rfl ?_
  refine x_iload_n (i := 1) hC dX1_offer_1 rfl rfl ?_
  refine x_callI hC (tX1_badRank l D cA h σ hB hok a ha) gX1_X1_badRank hyX1_badRank ⟨rfl, rfl⟩ ⟨Nat.le_of_ble_eq_true rfl, Nat.le_of_ble_eq_true rfl⟩ ⟨Nat.zero_le _, Nat.zero_le _⟩ (ci := 0) (q0 := 0) rfl rfl rfl rfl (Nat.le_of_ble_eq_true rfl) rfl dX1_offer_2 (fun z u hu => ?_)
  obtain ⟨⟨rfl, hc⟩ | ⟨rfl, hc⟩, rfl⟩ := hu
  · refine x_if_eq hC 13 dX1_offer_5 (by decide) (by omega) (fun h5 => by exfalso; omega) (fun h5 => ?_)
    refine x_bipush hC dX1_offer_8 bp_m4 ?_
    refine x_goto hC 24 dX1_offer_10 (by decide) ?_
    exact x_iret hC hr dX1_offer_24 ⟨if_pos hc, rfl⟩
  · refine x_if_eq hC 13 dX1_offer_5 (by decide) (by omega) (fun h5 => ?_) (fun h5 => by exfalso; omega)
    refine x_aload_n (i := 0) hC dX1_offer_13 rfl rfl ?_
    refine x1_g11 hC dX1_offer_14 ?_
    refine x_aload_n (i := 0) hC dX1_offer_17 rfl rfl ?_
    refine x1_g15 hC dX1_offer_18 ?_
    refine x_iload_n (i := 1) hC dX1_offer_21 rfl rfl ?_
    refine x1_l15 hC (by omega) dX1_offer_22 ?_
    refine x1_l11 hC (by omega) dX1_offer_23 ?_
    exact x_iret hC hr dX1_offer_24 ⟨if_neg hc, rfl⟩
abbrev rX1_distance : Room := ({ frames := 1, cells := 0, slots := 0, locals := 21 } : Room)
set_option maxHeartbeats 4000000 in
set_option maxRecDepth 100000 in
theorem tX1_distance (l : Launch) (D : va_G) (cA : ClassId) (h : Nat → Nat) (σ : XS) {B : Int} (hB : 10 ≤ B ∧ B ≤ 100000) (hok : OKx B σ) (a : Int) (ha : -2147483648 ≤ a ∧ a ≤ 2147483647) : MI l yX1_distance (ws_ yX1_distance cX1_distance 2 (some .int)) rX1_distance (wX h cA) D vwCl [(cA, .int)] (h 0) [.int (iI a)] σ (fun z u => (if a < 0 ∨ σ.1 14 ≤ a then -4 else σ.2 16 a) = z ∧ σ = u) := by
  refine MI.of (own := RX1) (L := [some (.ref (h 0)), some (.int (iI a))]) (by decide) rfl (by simp [Value.category]) (Nat.le_of_ble_eq_true rfl) rfl ?_
  intro p e s m below meth c A hC hr
  have q14 := hok.i14
  have q15 := hok.f15 a
  refine x_aload_n (i := 0) hC dX1_distance_0 rfl rfl ?_
  refine x_iload_n (i := 1) hC dX1_distance_1 rfl rfl ?_
  refine x_callI hC (tX1_badRank l D cA h σ hB hok a ha) gX1_X1_badRank hyX1_badRank ⟨rfl, rfl⟩ ⟨Nat.le_of_ble_eq_true rfl, Nat.le_of_ble_eq_true rfl⟩ ⟨Nat.zero_le _, Nat.zero_le _⟩ (ci := 0) (q0 := 0) rfl rfl rfl rfl (Nat.le_of_ble_eq_true rfl) rfl dX1_distance_2 (fun z u hu => ?_)
  obtain ⟨⟨rfl, hc⟩ | ⟨rfl, hc⟩, rfl⟩ := hu
  · refine x_if_eq hC 13 dX1_distance_5 (by decide) (by omega) (fun h5 => by exfalso; omega) (fun h5 => ?_)
    refine x_bipush hC dX1_distance_8 bp_m4 ?_
    refine x_goto hC 19 dX1_distance_10 (by decide) ?_
    exact x_iret hC hr dX1_distance_19 ⟨if_pos hc, rfl⟩
  · refine x_if_eq hC 13 dX1_distance_5 (by decide) (by omega) (fun h5 => ?_) (fun h5 => by exfalso; omega)
    refine x_aload_n (i := 0) hC dX1_distance_13 rfl rfl ?_
    refine x1_g16 hC dX1_distance_14 ?_
    refine x_iload_n (i := 1) hC dX1_distance_17 rfl rfl ?_
    refine x1_l16 hC (by omega) dX1_distance_18 ?_
    exact x_iret hC hr dX1_distance_19 ⟨if_neg hc, rfl⟩
abbrev rX1_weightAt : Room := ({ frames := 1, cells := 0, slots := 0, locals := 21 } : Room)
set_option maxHeartbeats 4000000 in
set_option maxRecDepth 100000 in
theorem tX1_weightAt (l : Launch) (D : va_G) (cA : ClassId) (h : Nat → Nat) (σ : XS) {B : Int} (hB : 10 ≤ B ∧ B ≤ 100000) (hok : OKx B σ) (a : Int) (ha : -2147483648 ≤ a ∧ a ≤ 2147483647) : MI l yX1_weightAt (ws_ yX1_weightAt cX1_weightAt 2 (some .int)) rX1_weightAt (wX h cA) D vwCl [(cA, .int)] (h 0) [.int (iI a)] σ (fun z u => (if a < 0 ∨ σ.1 14 ≤ a then -4 else σ.2 12 (σ.2 15 a)) = z ∧ σ = u) := by
  refine MI.of (own := RX1) (L := [some (.ref (h 0)), some (.int (iI a))]) (by decide) rfl (by simp [Value.category]) (Nat.le_of_ble_eq_true rfl) rfl ?_
  intro p e s m below meth c A hC hr
  have q14 := hok.i14
  have q15 := hok.f15 a
  refine x_aload_n (i := 0) hC dX1_weightAt_0 rfl rfl ?_
  refine x_iload_n (i := 1) hC dX1_weightAt_1 rfl rfl ?_
  refine x_callI hC (tX1_badRank l D cA h σ hB hok a ha) gX1_X1_badRank hyX1_badRank ⟨rfl, rfl⟩ ⟨Nat.le_of_ble_eq_true rfl, Nat.le_of_ble_eq_true rfl⟩ ⟨Nat.zero_le _, Nat.zero_le _⟩ (ci := 0) (q0 := 0) rfl rfl rfl rfl (Nat.le_of_ble_eq_true rfl) rfl dX1_weightAt_2 (fun z u hu => ?_)
  obtain ⟨⟨rfl, hc⟩ | ⟨rfl, hc⟩, rfl⟩ := hu
  · refine x_if_eq hC 13 dX1_weightAt_5 (by decide) (by omega) (fun h5 => by exfalso; omega) (fun h5 => ?_)
    refine x_bipush hC dX1_weightAt_8 bp_m4 ?_
    refine x_goto hC 24 dX1_weightAt_10 (by decide) ?_
    exact x_iret hC hr dX1_weightAt_24 ⟨if_pos hc, rfl⟩
  · refine x_if_eq hC 13 dX1_weightAt_5 (by decide) (by omega) (fun h5 => ?_) (fun h5 => by exfalso; omega)
    refine x_aload_n (i := 0) hC dX1_weightAt_13 rfl rfl ?_
    refine x1_g12 hC dX1_weightAt_14 ?_
    refine x_aload_n (i := 0) hC dX1_weightAt_17 rfl rfl ?_
    refine x1_g15 hC dX1_weightAt_18 ?_
    refine x_iload_n (i := 1) hC dX1_weightAt_21 rfl rfl ?_
    refine x1_l15 hC (by omega) dX1_weightAt_22 ?_
    refine x1_l12 hC (by omega) dX1_weightAt_23 ?_
    exact x_iret hC hr dX1_weightAt_24 ⟨if_neg hc, rfl⟩
abbrev rX1_nearest : Room := ({ frames := 0, cells := 0, slots := 0, locals := 0 } : Room)
set_option maxHeartbeats 4000000 in
set_option maxRecDepth 100000 in
theorem tX1_nearest (l : Launch) (D : va_G) (cA : ClassId) (h : Nat → Nat) (σ : XS) {B : Int} (hB : 10 ≤ B ∧ B ≤ 100000) (hok : OKx B σ) : MI l yX1_nearest (ws_ yX1_nearest cX1_nearest 3 (some .int)) rX1_nearest (wX h cA) D vwCl [(cA, .int)] (h 0) [] σ (fun z u => nrF σ = z ∧ σ = u) := by
  refine MI.of (own := RX1) (L := [some (.ref (h 0)), none, none]) (by decide) rfl (by simp [Value.category]) (Nat.le_of_ble_eq_true rfl) rfl ?_
  intro p e s m below meth c A hC hr
  have q0 := hok.i0
  have q3 := hok.i3
  have loop : ∀ (k : Nat) (n b : Int), 1 ≤ n → n + (k : Int) = 80 → -B ≤ b ∧ b ≤ B → nrLoop σ k n b = nrLoop σ 79 1 (σ.1 0 + 1) → XW p l e rX1_nearest s m (Value.ref (h 0) :: []).toArray below meth c 0 0 (MQ below (va_Qi (PI (fun z u => nrF σ = z ∧ σ = u)) (BW D vwCl [(cA, .int)] A (wX h cA)) A) (Value.ref (h 0) :: []).toArray s 0 0 A) D vwCl A (wX h cA) σ [some (.ref (h 0)), some (.int (iI (b))), some (.int (iI (n)))] [] 9 := by
    intro k
    induction k with
    | zero =>
      intro n b hn hk hb he
      have he : b = nrLoop σ 79 1 (σ.1 0 + 1) := he
      refine x_iload_n (i := 2) hC dX1_nearest_9 rfl rfl ?_
      refine x_bipush hC dX1_nearest_10 bp_80 ?_
      refine x_icmp_ge hC 72 dX1_nearest_12 (by decide) (by omega) (by omega) (fun h12 => ?_) (fun h12 => by exfalso; omega)
      refine x_iload_n (i := 1) hC dX1_nearest_72 rfl rfl ?_
      refine x_aload_n (i := 0) hC dX1_nearest_73 rfl rfl ?_
      refine x1_g0 hC dX1_nearest_74 ?_
      refine x_icmp_le hC 85 dX1_nearest_77 (by decide) (by omega) (by omega) (fun h77 => ?_) (fun h77 => ?_)
      · refine x_iload_n (i := 1) hC dX1_nearest_85 rfl rfl ?_
        exact x_iret hC hr dX1_nearest_86 ⟨by unfold nrF; rw [← he]; exact if_neg (by omega), rfl⟩
      · refine x_bipush hC dX1_nearest_80 bp_m4 ?_
        refine x_goto hC 86 dX1_nearest_82 (by decide) ?_
        exact x_iret hC hr dX1_nearest_86 ⟨by unfold nrF; rw [← he]; exact if_pos (by omega), rfl⟩
    | succ k ih =>
      intro n b hn hk hb he
      have q6 := hok.f6 n
      have q12 := hok.f12 n
      have q13 := hok.f13 (σ.1 3 * 80 + n)
      refine x_iload_n (i := 2) hC dX1_nearest_9 rfl rfl ?_
      refine x_bipush hC dX1_nearest_10 bp_80 ?_
      refine x_icmp_ge hC 72 dX1_nearest_12 (by decide) (by omega) (by omega) (fun h12 => by exfalso; omega) (fun h12 => ?_)
      refine x_aload_n (i := 0) hC dX1_nearest_15 rfl rfl ?_
      refine x1_g6 hC dX1_nearest_16 ?_
      refine x_iload_n (i := 2) hC dX1_nearest_19 rfl rfl ?_
      refine x1_l6 hC (by omega) dX1_nearest_20 ?_
      refine x_if_le hC 66 dX1_nearest_21 (by decide) (by omega) (fun h21 => ?_) (fun h21 => ?_)
      · refine x_iinc (L' := [_, _, _]) hC dX1_nearest_66 rfl rfl ?_
        refine x_goto hC 9 dX1_nearest_69 (by decide) ?_
        exact ih (n + 1) _ (by omega) (by omega) (by omega) (by rw [← he]; exact congrArg (nrLoop σ k (n + 1)) (if_neg (fun z => absurd z.1 (by omega))).symm)
      · refine x_aload_n (i := 0) hC dX1_nearest_24 rfl rfl ?_
        refine x1_g12 hC dX1_nearest_25 ?_
        refine x_iload_n (i := 2) hC dX1_nearest_28 rfl rfl ?_
        refine x1_l12 hC (by omega) dX1_nearest_29 ?_
        refine x_if_lt hC 66 dX1_nearest_30 (by decide) (by omega) (fun h30 => ?_) (fun h30 => ?_)
        · refine x_iinc (L' := [_, _, _]) hC dX1_nearest_66 rfl rfl ?_
          refine x_goto hC 9 dX1_nearest_69 (by decide) ?_
          exact ih (n + 1) _ (by omega) (by omega) (by omega) (by rw [← he]; exact congrArg (nrLoop σ k (n + 1)) (if_neg (fun z => absurd z.2.1 (by omega))).symm)
        · refine x_aload_n (i := 0) hC dX1_nearest_33 rfl rfl ?_
          refine x1_g13 hC dX1_nearest_34 ?_
          refine x_aload_n (i := 0) hC dX1_nearest_37 rfl rfl ?_
          refine x1_g3 hC dX1_nearest_38 ?_
          refine x_bipush hC dX1_nearest_41 bp_80 ?_
          refine x_imul hC dX1_nearest_43 ?_
          refine x_iload_n (i := 2) hC dX1_nearest_44 rfl rfl ?_
          refine x_iadd hC dX1_nearest_45 ?_
          refine x1_l13 hC (by omega) dX1_nearest_46 ?_
          refine x_iload_n (i := 1) hC dX1_nearest_47 rfl rfl ?_
          refine x_icmp_ge hC 66 dX1_nearest_48 (by decide) (by omega) (by omega) (fun h48 => ?_) (fun h48 => ?_)
          · refine x_iinc (L' := [_, _, _]) hC dX1_nearest_66 rfl rfl ?_
            refine x_goto hC 9 dX1_nearest_69 (by decide) ?_
            exact ih (n + 1) _ (by omega) (by omega) (by omega) (by rw [← he]; exact congrArg (nrLoop σ k (n + 1)) (if_neg (fun z => absurd z.2.2 (by omega))).symm)
          · refine x_aload_n (i := 0) hC dX1_nearest_51 rfl rfl ?_
            refine x1_g13 hC dX1_nearest_52 ?_
            refine x_aload_n (i := 0) hC dX1_nearest_55 rfl rfl ?_
            refine x1_g3 hC dX1_nearest_56 ?_
            refine x_bipush hC dX1_nearest_59 bp_80 ?_
            refine x_imul hC dX1_nearest_61 ?_
            refine x_iload_n (i := 2) hC dX1_nearest_62 rfl rfl ?_
            refine x_iadd hC dX1_nearest_63 ?_
            refine x1_l13 hC (by omega) dX1_nearest_64 ?_
            refine x_istore_n (i := 1) (L' := [_, _, _]) hC dX1_nearest_65 rfl (Nat.le_of_ble_eq_true rfl) rfl ?_
            refine x_iinc (L' := [_, _, _]) hC dX1_nearest_66 rfl rfl ?_
            refine x_goto hC 9 dX1_nearest_69 (by decide) ?_
            exact ih (n + 1) _ (by omega) (by omega) (by omega) (by rw [← he]; exact congrArg (nrLoop σ k (n + 1)) (if_pos ⟨by omega, by omega, by omega⟩).symm)
  refine x_aload_n (i := 0) hC dX1_nearest_0 rfl rfl ?_
  refine x1_g0 hC dX1_nearest_1 ?_
  refine x_iconst hC dX1_nearest_4 ?_
  refine x_iadd hC dX1_nearest_5 ?_
  refine x_istore_n (i := 1) (L' := [_, _, _]) hC dX1_nearest_6 rfl (Nat.le_of_ble_eq_true rfl) rfl ?_
  refine x_iconst hC dX1_nearest_7 ?_
  refine x_istore_n (i := 2) (L' := [_, _, _]) hC dX1_nearest_8 rfl (Nat.le_of_ble_eq_true rfl) rfl ?_
  exact loop 79 1 _ (by omega) (by omega) (by omega) rfl
abbrev rX1_exact : Room := ({ frames := 1, cells := 0, slots := 0, locals := 22 } : Room)
set_option maxHeartbeats 4000000 in
set_option maxRecDepth 100000 in
theorem tX1_exact (l : Launch) (D : va_G) (cA : ClassId) (h : Nat → Nat) (σ : XS) {B : Int} (hB : 10 ≤ B ∧ B ≤ 100000) (hok : OKx B σ) : MI l yX1_exact (ws_ yX1_exact cX1_exact 2 (some .int)) rX1_exact (wX h cA) D vwCl [(cA, .int)] (h 0) [] σ (fun z u => (if qyNode σ < 0 then 0 else σ.2 6 (qyNode σ)) = z ∧ σ = u) := by
  refine MI.of (own := RX1) (L := [some (.ref (h 0)), none]) (by decide) rfl (by simp [Value.category]) (Nat.le_of_ble_eq_true rfl) rfl ?_
  intro p e s m below meth c A hC hr
  have q3 := hok.i3
  have qt : -1 ≤ qyNode σ ∧ qyNode σ ≤ 79 := dnode_rg hok (σ.2 4) (σ.1 3).toNat 0 0 (by omega)
  refine x_aload_n (i := 0) hC dX1_exact_0 rfl rfl ?_
  refine x_callI hC (tX1_queryNode l D cA h σ hB hok) gX1_X1_queryNode hyX1_queryNode ⟨rfl, rfl⟩ ⟨Nat.le_of_ble_eq_true rfl, Nat.le_of_ble_eq_true rfl⟩ ⟨Nat.zero_le _, Nat.zero_le _⟩ (ci := 0) (q0 := 0) rfl rfl rfl rfl (Nat.le_of_ble_eq_true rfl) rfl dX1_exact_1 (fun z u hu => ?_)
  obtain ⟨hz, rfl⟩ := hu
  obtain rfl : qyNode σ = z := hz
  refine x_istore_n (i := 1) (L' := [_, _]) hC dX1_exact_4 rfl (Nat.le_of_ble_eq_true rfl) rfl ?_
  refine x_iload_n (i := 1) hC dX1_exact_5 rfl rfl ?_
  refine x_if_ge hC 13 dX1_exact_6 (by decide) (by omega) (fun h6 => ?_) (fun h6 => ?_)
  · refine x_aload_n (i := 0) hC dX1_exact_13 rfl rfl ?_
    refine x1_g6 hC dX1_exact_14 ?_
    refine x_iload_n (i := 1) hC dX1_exact_17 rfl rfl ?_
    refine x1_l6 hC (by omega) dX1_exact_18 ?_
    exact x_iret hC hr dX1_exact_19 ⟨if_neg (by omega), rfl⟩
  · refine x_iconst hC dX1_exact_9 ?_
    refine x_goto hC 19 dX1_exact_10 (by decide) ?_
    exact x_iret hC hr dX1_exact_19 ⟨if_pos (by omega), rfl⟩
abbrev rX1_continues : Room := ({ frames := 1, cells := 0, slots := 0, locals := 22 } : Room)
set_option maxHeartbeats 4000000 in
set_option maxRecDepth 100000 in
theorem tX1_continues (l : Launch) (D : va_G) (cA : ClassId) (h : Nat → Nat) (σ : XS) {B : Int} (hB : 10 ≤ B ∧ B ≤ 100000) (hok : OKx B σ) : MI l yX1_continues (ws_ yX1_continues cX1_continues 4 (some .int)) rX1_continues (wX h cA) D vwCl [(cA, .int)] (h 0) [] σ (fun z u => coLoop σ (qyNode σ) 4 0 0 = z ∧ σ = u) := by
  refine MI.of (own := RX1) (L := [some (.ref (h 0)), none, none, none]) (by decide) rfl (by simp [Value.category]) (Nat.le_of_ble_eq_true rfl) rfl ?_
  intro p e s m below meth c A hC hr
  have q3 := hok.i3
  have qt : -1 ≤ qyNode σ ∧ qyNode σ ≤ 79 := dnode_rg hok (σ.2 4) (σ.1 3).toNat 0 0 (by omega)
  have loop : ∀ (k : Nat) (c1 b : Int), 0 ≤ c1 → c1 + (k : Int) = 4 → 0 ≤ b ∧ b < 16 → coLoop σ (qyNode σ) k c1 b = coLoop σ (qyNode σ) 4 0 0 → XW p l e rX1_continues s m (Value.ref (h 0) :: []).toArray below meth c 0 0 (MQ below (va_Qi (PI (fun z u => coLoop σ (qyNode σ) 4 0 0 = z ∧ σ = u)) (BW D vwCl [(cA, .int)] A (wX h cA)) A) (Value.ref (h 0) :: []).toArray s 0 0 A) D vwCl A (wX h cA) σ [some (.ref (h 0)), some (.int (iI (qyNode σ))), some (.int (iI (b))), some (.int (iI (c1)))] [] 9 := by
    intro k
    induction k with
    | zero =>
      intro c1 b hn hk hb he
      refine x_iload_n (i := 3) hC dX1_continues_9 rfl rfl ?_
      refine x_iconst hC dX1_continues_10 ?_
      refine x_icmp_ge hC 43 dX1_continues_11 (by decide) (by omega) (by omega) (fun h11 => ?_) (fun h11 => by exfalso; omega)
      refine x_iload_n (i := 2) hC dX1_continues_43 rfl rfl ?_
      exact x_iret hC hr dX1_continues_44 ⟨he.symm, rfl⟩
    | succ k ih =>
      intro c1 b hn hk hb he
      have q7 := hok.f7 (qyNode σ * 4 + c1)
      have qo := orb_rg hb (show 0 ≤ c1 ∧ c1 < 4 by omega)
      refine x_iload_n (i := 3) hC dX1_continues_9 rfl rfl ?_
      refine x_iconst hC dX1_continues_10 ?_
      refine x_icmp_ge hC 43 dX1_continues_11 (by decide) (by omega) (by omega) (fun h11 => by exfalso; omega) (fun h11 => ?_)
      refine x_iload_n (i := 1) hC dX1_continues_14 rfl rfl ?_
      refine x_if_lt hC 37 dX1_continues_15 (by decide) (by omega) (fun h15 => ?_) (fun h15 => ?_)
      · refine x_iinc (L' := [_, _, _, _]) hC dX1_continues_37 rfl rfl ?_
        refine x_goto hC 9 dX1_continues_40 (by decide) ?_
        exact ih (c1 + 1) _ (by omega) (by omega) hb (by rw [← he]; exact congrArg (coLoop σ (qyNode σ) k (c1 + 1)) (if_neg (fun z => absurd z.1 (by omega))).symm)
      · refine x_aload_n (i := 0) hC dX1_continues_18 rfl rfl ?_
        refine x1_g7 hC dX1_continues_19 ?_
        refine x_iload_n (i := 1) hC dX1_continues_22 rfl rfl ?_
        refine x_iconst hC dX1_continues_23 ?_
        refine x_imul hC dX1_continues_24 ?_
        refine x_iload_n (i := 3) hC dX1_continues_25 rfl rfl ?_
        refine x_iadd hC dX1_continues_26 ?_
        refine x1_l7 hC (by omega) dX1_continues_27 ?_
        refine x_if_eq hC 37 dX1_continues_28 (by decide) (by omega) (fun h28 => ?_) (fun h28 => ?_)
        · refine x_iinc (L' := [_, _, _, _]) hC dX1_continues_37 rfl rfl ?_
          refine x_goto hC 9 dX1_continues_40 (by decide) ?_
          exact ih (c1 + 1) _ (by omega) (by omega) hb (by rw [← he]; exact congrArg (coLoop σ (qyNode σ) k (c1 + 1)) (if_neg (fun z => z.2 h28)).symm)
        · refine x_iload_n (i := 2) hC dX1_continues_31 rfl rfl ?_
          refine x_iconst hC dX1_continues_32 ?_
          refine x_iload_n (i := 3) hC dX1_continues_33 rfl rfl ?_
          refine x_ishl (v := ((2 ^ c1.toNat : Nat) : Int)) hC dX1_continues_34 (shl_or (by omega)) ?_
          refine x_ior (v := orb b c1) hC dX1_continues_35 (orb_or2 hb (by omega)) ?_
          refine x_istore_n (i := 2) (L' := [_, _, _, _]) hC dX1_continues_36 rfl (Nat.le_of_ble_eq_true rfl) rfl ?_
          refine x_iinc (L' := [_, _, _, _]) hC dX1_continues_37 rfl rfl ?_
          refine x_goto hC 9 dX1_continues_40 (by decide) ?_
          exact ih (c1 + 1) _ (by omega) (by omega) qo (by rw [← he]; exact congrArg (coLoop σ (qyNode σ) k (c1 + 1)) (if_pos ⟨by omega, h28⟩).symm)
  refine x_aload_n (i := 0) hC dX1_continues_0 rfl rfl ?_
  refine x_callI hC (tX1_queryNode l D cA h σ hB hok) gX1_X1_queryNode hyX1_queryNode ⟨rfl, rfl⟩ ⟨Nat.le_of_ble_eq_true rfl, Nat.le_of_ble_eq_true rfl⟩ ⟨Nat.zero_le _, Nat.zero_le _⟩ (ci := 0) (q0 := 0) rfl rfl rfl rfl (Nat.le_of_ble_eq_true rfl) rfl dX1_continues_1 (fun z u hu => ?_)
  obtain ⟨hz, rfl⟩ := hu
  obtain rfl : qyNode σ = z := hz
  refine x_istore_n (i := 1) (L' := [_, _, _, _]) hC dX1_continues_4 rfl (Nat.le_of_ble_eq_true rfl) rfl ?_
  refine x_iconst hC dX1_continues_5 ?_
  refine x_istore_n (i := 2) (L' := [_, _, _, _]) hC dX1_continues_6 rfl (Nat.le_of_ble_eq_true rfl) rfl ?_
  refine x_iconst hC dX1_continues_7 ?_
  refine x_istore_n (i := 3) (L' := [_, _, _, _]) hC dX1_continues_8 rfl (Nat.le_of_ble_eq_true rfl) rfl ?_
  exact loop 4 0 0 (by omega) (by omega) (by omega) rfl
end
section
/-! WHAT FuzzyTypeaheadModel COMPUTES. Fields: ints 0 limit, 4 count; arrays 1 letters, 2 lengths, 3 weights, 5 table (scratch) -/
set_option maxRecDepth 100000
def edRow (lt : Int → Int) (w : Int) (i : Nat) (prev : Nat → Int) : Nat → Int
  | 0 => (i : Int) + 1
  | j + 1 => minF (prev j + (if lt (78 + (i : Int)) = lt (6 * w + (j : Int)) then 0 else 1)) (minF (prev (j + 1)) (edRow lt w i prev j) + 1)
/-- the edit distance of the query's first i letters and the first j of word w -/
def edV (lt : Int → Int) (w : Int) : Nat → Nat → Int
  | 0 => fun j => (j : Int)
  | i + 1 => edRow lt w i (edV lt w i)
def rcLoop (f : Nat → Int) : Nat → Nat → Int → Int
  | 0, _, b => b
  | k + 1, j, b => rcLoop f k (j + 1) (minF b (f j))
def rchV (τ : XS) (w : Int) : Int := rcLoop (edV (τ.2 1) w (τ.2 2 13).toNat) ((τ.2 2 w).toNat + 1) 0 9
def cntL (P : Int → Bool) : Nat → Int → Int → Int
  | 0, _, s => s
  | k + 1, v, s => cntL P k (v + 1) (if P v = true then s + 1 else s)
def fstL (P : Int → Bool) : Nat → Int → Int
  | 0, _ => -4
  | k + 1, w => if P w = true then w else fstL P k (w + 1)
def bgL (lt : Int → Int) (a b : Int) : Nat → Int → Bool
  | 0, _ => true
  | k + 1, i => if lt (6 * a + i) = lt (6 * b + i) then bgL lt a b k (i + 1) else false
def bgV (τ : XS) (a b : Int) : Bool := if τ.2 2 b < τ.2 2 a then false else bgL (τ.2 1) a b (τ.2 2 a).toNat 0
def dfP (τ : XS) (w : Int) : Bool := decide (τ.2 2 w = τ.2 2 12) && bgV τ w 12
def dfV (τ : XS) : Int := fstL (dfP τ) (τ.1 4).toNat 0
def cpL (fr to : Int) : Nat → Int → XS → XS
  | 0, _, τ => τ
  | k + 1, i, τ => cpL fr to k (i + 1) (sA τ 1 (6 * to + i) (τ.2 1 (6 * fr + i)))
def cpFin (to fr : Int) (u : XS) : XS := sA u 2 to (u.2 2 fr)
def cpF (τ : XS) (fr to : Int) : XS := cpFin to fr (cpL fr to (τ.2 2 fr).toNat 0 τ)
def adNew (u : XS) (wt : Int) : XS := sA (sI (sA u 3 (u.1 4) wt) 4 (u.1 4 + 1)) 2 12 0
def adOld (τ : XS) (w wt : Int) : XS := sA (sA τ 3 w wt) 2 12 0
def addM (τ : XS) (wt : Int) : Int × XS :=
  if wt < 0 ∨ 99 < wt ∨ τ.2 2 12 = 0 then (-1, τ)
  else if dfV τ = -4 then (if τ.1 4 = 12 then (-2, τ) else (1, adNew (cpF τ 12 (τ.1 4)) wt))
  else (0, adOld τ (dfV τ) wt)
def rmFin (u : XS) (w : Int) : XS := sA (sA u 3 w (u.2 3 (u.1 4))) 2 12 0
def rmM (τ : XS) (w : Int) : XS := rmFin (cpF (sI τ 4 (τ.1 4 - 1)) (τ.1 4 - 1) w) w
def removeM (τ : XS) : Int × XS :=
  if τ.2 2 12 = 0 then (-1, τ)
  else if dfV τ = -4 then (-4, τ)
  else (τ.2 3 (dfV τ), rmM τ (dfV τ))
def bfL (lt : Int → Int) (la lb a b : Int) : Nat → Int → Bool
  | 0, _ => decide (la < lb)
  | k + 1, i => if i < la ∧ i < lb then (if lt (6 * a + i) = lt (6 * b + i) then bfL lt la lb a b k (i + 1) else decide (lt (6 * a + i) < lt (6 * b + i))) else decide (la < lb)
def bfV (τ : XS) (a b : Int) : Bool := bfL (τ.2 1) (τ.2 2 a) (τ.2 2 b) a b 6 0
def rbV (τ : XS) (a b : Int) : Bool := if rchV τ a = rchV τ b then (if τ.2 3 a = τ.2 3 b then bfV τ a b else decide (τ.2 3 b < τ.2 3 a)) else decide (rchV τ a < rchV τ b)
def offP (τ : XS) (w : Int) : Bool := decide (rchV τ w ≤ τ.1 0)
def ofV (τ : XS) : Int := cntL (offP τ) (τ.1 4).toNat 0 0
def rkP (τ : XS) (w v : Int) : Bool := offP τ v && rbV τ v w
def rkV (τ : XS) (w : Int) : Int := cntL (rkP τ w) (τ.1 4).toNat 0 0
def waP (τ : XS) (r w : Int) : Bool := offP τ w && decide (rkV τ w = r)
def waV (τ : XS) (r : Int) : Int := fstL (waP τ r) (τ.1 4).toNat 0
def cdL (lt : Int → Int) (w : Int) : Nat → Int → Int → Int
  | 0, _, c => c
  | k + 1, i, c => cdL lt w k (i + 1) (c * 5 + lt (6 * w + i) + 1)
def nmL (τ : XS) : Nat → Int → Int → Int
  | 0, _, b => b
  | k + 1, w, b => nmL τ k (w + 1) (minF b (edV (τ.2 1) w (τ.2 2 13).toNat (τ.2 2 w).toNat))
def nmV (τ : XS) : Int := if nmL τ (τ.1 4).toNat 0 9 ≤ τ.1 0 then nmL τ (τ.1 4).toNat 0 9 else -4
def exV (τ : XS) : Int := cntL (fun w => bgV τ 13 w) (τ.1 4).toNat 0 0
def ctL (τ : XS) : Nat → Int → Int → Int
  | 0, _, b => b
  | k + 1, w, b => ctL τ k (w + 1) (if bgV τ 13 w = true ∧ τ.2 2 13 < τ.2 2 w then orb b (τ.2 1 (6 * w + τ.2 2 13)) else b)
def apM (τ : XS) (l a : Int) : XS := sA (sA τ 1 (6 * l + τ.2 2 l) a) 2 l (τ.2 2 l + 1)
/-- the same but for the table -/
def sameM (τ u : XS) : Prop := u.1 = τ.1 ∧ u.2 1 = τ.2 1 ∧ u.2 2 = τ.2 2 ∧ u.2 3 = τ.2 3
theorem sameM.rf {τ : XS} : sameM τ τ := ⟨rfl, rfl, rfl, rfl⟩
theorem sameM.tr {τ u v : XS} (h : sameM τ u) (g : sameM u v) : sameM τ v := ⟨g.1.trans h.1, g.2.1.trans h.2.1, g.2.2.1.trans h.2.2.1, g.2.2.2.trans h.2.2.2⟩
theorem sameM.sA5 {τ u : XS} {i v : Int} (h : sameM τ u) : sameM τ (sA u 5 i v) := ⟨h.1, h.2.1, h.2.2.1, h.2.2.2⟩
theorem rch_same {τ u : XS} (h : sameM τ u) (w : Int) : rchV u w = rchV τ w := by unfold rchV; rw [h.2.1, h.2.2.1]
theorem bg_same {τ u : XS} (h : sameM τ u) (a b : Int) : bgV u a b = bgV τ a b := by unfold bgV; rw [h.2.1, h.2.2.1]
theorem bf_same {τ u : XS} (h : sameM τ u) (a b : Int) : bfV u a b = bfV τ a b := by unfold bfV; rw [h.2.1, h.2.2.1]
theorem rb_same {τ u : XS} (h : sameM τ u) (a b : Int) : rbV u a b = rbV τ a b := by unfold rbV; rw [rch_same h, rch_same h, bf_same h, h.2.2.2]
theorem off_same {τ u : XS} (h : sameM τ u) (w : Int) : offP u w = offP τ w := by unfold offP; rw [rch_same h, h.1]
theorem rkP_same {τ u : XS} (h : sameM τ u) (w : Int) : rkP u w = rkP τ w := by funext v; unfold rkP; rw [off_same h, rb_same h]
theorem rkV_same {τ u : XS} (h : sameM τ u) (w : Int) : rkV u w = rkV τ w := by unfold rkV; rw [rkP_same h, h.1]
theorem minF_0 {a b : Int} (ha : 0 ≤ a) (hb : 0 ≤ b) : 0 ≤ minF a b := by unfold minF; split <;> omega
theorem minF_le (a b : Int) : minF a b ≤ a ∧ minF a b ≤ b := by unfold minF; split <;> omega
theorem edRow_0 (lt : Int → Int) (w : Int) (i : Nat) (prev : Nat → Int) (hp : ∀ j, 0 ≤ prev j) : ∀ j, 0 ≤ edRow lt w i prev j := by
  intro j
  induction j with
  | zero => unfold edRow; omega
  | succ j ih =>
    have h1 := hp j
    have h2 := minF_0 (hp (j + 1)) ih
    unfold edRow
    exact minF_0 (by split <;> omega) (by omega)
theorem edV_0 (lt : Int → Int) (w : Int) : ∀ i j, 0 ≤ edV lt w i j := by
  intro i
  induction i with
  | zero => intro j; show (0 : Int) ≤ (j : Int); omega
  | succ i ih => exact edRow_0 lt w i _ ih
theorem edRow_le (lt : Int → Int) (w : Int) (i : Nat) (prev : Nat → Int) (hp : ∀ j : Nat, prev j ≤ (i : Int) + (j : Int)) : ∀ j : Nat, edRow lt w i prev j ≤ (i : Int) + 1 + (j : Int) := by
  intro j
  induction j with
  | zero => unfold edRow; omega
  | succ j ih =>
    have h1 := hp j
    have h2 := hp (j + 1)
    have h3 := (minF_le (prev (j + 1)) (edRow lt w i prev j)).1
    unfold edRow
    have h4 := (minF_le (prev j + (if lt (78 + (i : Int)) = lt (6 * w + (j : Int)) then 0 else 1)) (minF (prev (j + 1)) (edRow lt w i prev j) + 1)).2
    omega
theorem edV_le (lt : Int → Int) (w : Int) : ∀ i j : Nat, edV lt w i j ≤ (i : Int) + (j : Int) := by
  intro i
  induction i with
  | zero => intro j; show (j : Int) ≤ _; omega
  | succ i ih =>
    intro j
    have h := edRow_le lt w i _ ih j
    show edRow lt w i (edV lt w i) j ≤ _
    omega
theorem rcL_rg (f : Nat → Int) (hf : ∀ j, 0 ≤ f j) : ∀ (k j : Nat) (b : Int), 0 ≤ b → 0 ≤ rcLoop f k j b ∧ rcLoop f k j b ≤ b := by
  intro k
  induction k with
  | zero => intro j b hb; exact ⟨hb, Int.le_refl _⟩
  | succ k ih =>
    intro j b hb
    have h := ih (j + 1) (minF b (f j)) (minF_0 hb (hf j))
    have h2 := (minF_le b (f j)).1
    unfold rcLoop
    omega
theorem rch_rg (τ : XS) (w : Int) : 0 ≤ rchV τ w ∧ rchV τ w ≤ 9 := rcL_rg _ (edV_0 _ _ _) _ _ 9 (by omega)
theorem cntL_rg (P : Int → Bool) : ∀ (k : Nat) (v s : Int), s ≤ cntL P k v s ∧ cntL P k v s ≤ s + (k : Int) := by
  intro k
  induction k with
  | zero => intro v s; unfold cntL; omega
  | succ k ih =>
    intro v s
    unfold cntL
    have h := ih (v + 1) (if P v = true then s + 1 else s)
    split at h <;> rename_i c
    · rw [if_pos c]; omega
    · rw [if_neg c]; omega
theorem fstL_rg (P : Int → Bool) : ∀ (k : Nat) (v : Int), fstL P k v = -4 ∨ (v ≤ fstL P k v ∧ fstL P k v < v + (k : Int)) := by
  intro k
  induction k with
  | zero => intro v; exact Or.inl rfl
  | succ k ih =>
    intro v
    unfold fstL
    split
    · exact Or.inr (by omega)
    · rcases ih (v + 1) with h | h
      · exact Or.inl h
      · exact Or.inr (by omega)

/-- the ranges -/
def OKm (σ : XS) : Prop := (0 ≤ σ.1 0 ∧ σ.1 0 ≤ 3) ∧ (∀ j : Int, 0 ≤ σ.2 1 j ∧ σ.2 1 j ≤ 3) ∧ (∀ j : Int, 0 ≤ σ.2 2 j ∧ σ.2 2 j ≤ 6) ∧ (∀ j : Int, 0 ≤ σ.2 3 j ∧ σ.2 3 j ≤ 99) ∧ (0 ≤ σ.1 4 ∧ σ.1 4 ≤ 12)
theorem OKm.i0 {σ : XS} (h : OKm σ) : 0 ≤ σ.1 0 ∧ σ.1 0 ≤ 3 := h.1
theorem OKm.sI0 {v : Int} {σ : XS} (h : OKm σ) (hv : 0 ≤ v ∧ v ≤ 3) : OKm (sI σ 0 v) := ⟨hv, h.2.1, h.2.2.1, h.2.2.2.1, h.2.2.2.2⟩
theorem OKm.f1 {σ : XS} (h : OKm σ) (j : Int) : 0 ≤ σ.2 1 j ∧ σ.2 1 j ≤ 3 := h.2.1 j
theorem OKm.sA1 {i v : Int} {σ : XS} (h : OKm σ) (hv : 0 ≤ v ∧ v ≤ 3) : OKm (sA σ 1 i v) := ⟨h.1, fun j => fU_rg h.2.1 hv j, h.2.2.1, h.2.2.2.1, h.2.2.2.2⟩
theorem OKm.f2 {σ : XS} (h : OKm σ) (j : Int) : 0 ≤ σ.2 2 j ∧ σ.2 2 j ≤ 6 := h.2.2.1 j
theorem OKm.sA2 {i v : Int} {σ : XS} (h : OKm σ) (hv : 0 ≤ v ∧ v ≤ 6) : OKm (sA σ 2 i v) := ⟨h.1, h.2.1, fun j => fU_rg h.2.2.1 hv j, h.2.2.2.1, h.2.2.2.2⟩
theorem OKm.f3 {σ : XS} (h : OKm σ) (j : Int) : 0 ≤ σ.2 3 j ∧ σ.2 3 j ≤ 99 := h.2.2.2.1 j
theorem OKm.sA3 {i v : Int} {σ : XS} (h : OKm σ) (hv : 0 ≤ v ∧ v ≤ 99) : OKm (sA σ 3 i v) := ⟨h.1, h.2.1, h.2.2.1, fun j => fU_rg h.2.2.2.1 hv j, h.2.2.2.2⟩
theorem OKm.i4 {σ : XS} (h : OKm σ) : 0 ≤ σ.1 4 ∧ σ.1 4 ≤ 12 := h.2.2.2.2
theorem OKm.sI4 {v : Int} {σ : XS} (h : OKm σ) (hv : 0 ≤ v ∧ v ≤ 12) : OKm (sI σ 4 v) := ⟨h.1, h.2.1, h.2.2.1, h.2.2.2.1, hv⟩
theorem OKm.same {τ u : XS} (h : OKm τ) (g : sameM τ u) : OKm u := by
  unfold OKm
  rw [g.1, g.2.1, g.2.2.1, g.2.2.2]
  exact h
theorem OK_cpL (fr to : Int) : ∀ (k : Nat) (i : Int) (τ : XS), OKm τ → OKm (cpL fr to k i τ) ∧ (cpL fr to k i τ).1 = τ.1 ∧ (cpL fr to k i τ).2 2 = τ.2 2 ∧ (cpL fr to k i τ).2 3 = τ.2 3 := by
  intro k
  induction k with
  | zero => intro i τ h; exact ⟨h, rfl, rfl, rfl⟩
  | succ k ih => intro i τ h; exact ih (i + 1) _ (h.sA1 (h.f1 _))
theorem OK_cpF {τ : XS} (h : OKm τ) (fr to : Int) : OKm (cpF τ fr to) ∧ (cpF τ fr to).1 = τ.1 ∧ (cpF τ fr to).2 3 = τ.2 3 := by
  obtain ⟨h1, h2, h3, h4⟩ := OK_cpL fr to (τ.2 2 fr).toNat 0 τ h
  exact ⟨h1.sA2 (h1.f2 _), h2, h4⟩
end
section
/-! THE WALKS of FuzzyTypeaheadModel -/
set_option maxRecDepth 100000
theorem sA_at (σ : XS) (k : Nat) (i v : Int) : (sA σ k i v).2 k i = v := by simp [sA, sF, fU]
abbrev rX2_least : Room := ({ frames := 0, cells := 0, slots := 0, locals := 0 } : Room)
set_option maxHeartbeats 4000000 in
set_option maxRecDepth 100000 in
theorem tX2_least (l : Launch) (D : va_G) (cA : ClassId) (h : Nat → Nat) (σ : XS) (a b : Int) (ha : -2147483648 ≤ a ∧ a ≤ 2147483647) (hb : -2147483648 ≤ b ∧ b ≤ 2147483647) : MI l yX2_least (ws_ yX2_least cX2_least 3 (some .int)) rX2_least (wM h cA) D vwCl [(cA, .int)] (h 0) [.int (iI a), .int (iI b)] σ (fun z u => minF a b = z ∧ σ = u) := by
  refine MI.of (own := RX2) (L := [some (.ref (h 0)), some (.int (iI a)), some (.int (iI b))]) (by decide) rfl (by simp [Value.category]) (Nat.le_of_ble_eq_true rfl) rfl ?_
  intro p e s m below meth c A hC hr
  refine x_iload_n (i := 1) hC dX2_least_0 rfl rfl ?_
  refine x_iload_n (i := 2) hC dX2_least_1 rfl rfl ?_
  refine x_icmp_ge hC 9 dX2_least_2 (by decide) (by omega) (by omega) (fun h2 => ?_) (fun h2 => ?_)
  · refine x_iload_n (i := 2) hC dX2_least_9 rfl rfl ?_
    exact x_iret hC hr dX2_least_10 ⟨by unfold minF; split <;> omega, rfl⟩
  · refine x_iload_n (i := 1) hC dX2_least_5 rfl rfl ?_
    refine x_goto hC 10 dX2_least_6 (by decide) ?_
    exact x_iret hC hr dX2_least_10 ⟨by unfold minF; split <;> omega, rfl⟩
abbrev rX2_append : Room := ({ frames := 0, cells := 0, slots := 0, locals := 0 } : Room)
set_option maxHeartbeats 4000000 in
set_option maxRecDepth 100000 in
theorem tX2_append (l : Launch) (D : va_G) (cA : ClassId) (h : Nat → Nat) (σ : XS) (hok : OKm σ) (li a : Int) (hl : 0 ≤ li ∧ li ≤ 13) (ha : -2147483648 ≤ a ∧ a ≤ 2147483647) : MI l yX2_append (ws_ yX2_append cX2_append 3 (some .int)) rX2_append (wM h cA) D vwCl [(cA, .int)] (h 0) [.int (iI li), .int (iI a)] σ (fun z u => (if a < 0 ∨ 3 < a then ((-1, σ) : Int × XS) else if σ.2 2 li = 6 then (-2, σ) else (σ.2 2 li + 1, apM σ li a)) = (z, u)) := by
  refine MI.of (own := RX2) (L := [some (.ref (h 0)), some (.int (iI li)), some (.int (iI a))]) (by decide) rfl (by simp [Value.category]) (Nat.le_of_ble_eq_true rfl) rfl ?_
  intro p e s m below meth c A hC hr
  have q2 := hok.f2 li
  refine x_iload_n (i := 2) hC dX2_append_0 rfl rfl ?_
  refine x_if_lt hC 9 dX2_append_1 (by decide) (by omega) (fun h1 => ?_) (fun h1 => ?_)
  · refine x_iconst hC dX2_append_9 ?_
    exact x_iret hC hr dX2_append_10 (by rw [if_pos (by omega)])
  · refine x_iload_n (i := 2) hC dX2_append_4 rfl rfl ?_
    refine x_iconst hC dX2_append_5 ?_
    refine x_icmp_le hC 11 dX2_append_6 (by decide) (by omega) (by omega) (fun h6 => ?_) (fun h6 => ?_)
    · refine x_aload_n (i := 0) hC dX2_append_11 rfl rfl ?_
      refine x2_g2 hC dX2_append_12 ?_
      refine x_iload_n (i := 1) hC dX2_append_15 rfl rfl ?_
      refine x2_l2 hC (by omega) dX2_append_16 ?_
      refine x_bipush hC dX2_append_17 bp_6 ?_
      refine x_icmp_ne hC 25 dX2_append_19 (by decide) (by omega) (by omega) (fun h19 => ?_) (fun h19 => ?_)
      · refine x_aload_n (i := 0) hC dX2_append_25 rfl rfl ?_
        refine x2_g1 hC dX2_append_26 ?_
        refine x_bipush hC dX2_append_29 bp_6 ?_
        refine x_iload_n (i := 1) hC dX2_append_31 rfl rfl ?_
        refine x_imul hC dX2_append_32 ?_
        refine x_aload_n (i := 0) hC dX2_append_33 rfl rfl ?_
        refine x2_g2 hC dX2_append_34 ?_
        refine x_iload_n (i := 1) hC dX2_append_37 rfl rfl ?_
        refine x2_l2 hC (by omega) dX2_append_38 ?_
        refine x_iadd hC dX2_append_39 ?_
        refine x_iload_n (i := 2) hC dX2_append_40 rfl rfl ?_
        refine x2_s1 hC (by omega) dX2_append_41 ?_
        refine x_aload_n (i := 0) hC dX2_append_42 rfl rfl ?_
        refine x2_g2 hC dX2_append_43 ?_
        refine x_iload_n (i := 1) hC dX2_append_46 rfl rfl ?_
        refine x_dup2 hC dX2_append_47 rfl rfl ?_
        refine x2_l2 hC (by omega) dX2_append_48 ?_
        refine x_iconst hC dX2_append_49 ?_
        refine x_iadd hC dX2_append_50 ?_
        refine x2_s2 hC (by omega) dX2_append_51 ?_
        refine x_aload_n (i := 0) hC dX2_append_52 rfl rfl ?_
        refine x2_g2 hC dX2_append_53 ?_
        refine x_iload_n (i := 1) hC dX2_append_56 rfl rfl ?_
        refine x2_l2 hC (by omega) dX2_append_57 ?_
        have e2 : (sA (sA σ 1 (6 * li + σ.2 2 li) a) 2 li (σ.2 2 li + 1)).2 2 li = σ.2 2 li + 1 := sA_at _ _ _ _
        show XW p l e rX2_append s m (Value.ref (h 0) :: [.int (iI li), .int (iI a)]).toArray below meth c 0 0 (MQ below (va_Qi (PI (fun z u => (if a < 0 ∨ 3 < a then ((-1, σ) : Int × XS) else if σ.2 2 li = 6 then (-2, σ) else (σ.2 2 li + 1, apM σ li a)) = (z, u))) (BW D vwCl [(cA, .int)] A (wM h cA)) A) (Value.ref (h 0) :: [.int (iI li), .int (iI a)]).toArray s 0 0 A) D vwCl A (wM h cA) _ _ [.int (iI ((sA (sA σ 1 (6 * li + σ.2 2 li) a) 2 li (σ.2 2 li + 1)).2 2 li))] _
        rw [e2]
        exact x_iret hC hr dX2_append_58 (by rw [if_neg (by omega), if_neg (by omega)]; rfl)
      · refine x_bipush hC dX2_append_22 bp_m2 ?_
        exact x_iret hC hr dX2_append_24 (by rw [if_neg (by omega), if_pos (by omega)])
    · refine x_iconst hC dX2_append_9 ?_
      exact x_iret hC hr dX2_append_10 (by rw [if_pos (by omega)])
abbrev rX2_draft : Room := ({ frames := 1, cells := 0, slots := 0, locals := 22 } : Room)
set_option maxHeartbeats 4000000 in
set_option maxRecDepth 100000 in
theorem tX2_draft (l : Launch) (D : va_G) (cA : ClassId) (h : Nat → Nat) (σ : XS) (hok : OKm σ) (a : Int) (ha : -2147483648 ≤ a ∧ a ≤ 2147483647) : MI l yX2_draft (ws_ yX2_draft cX2_draft 2 (some .int)) rX2_draft (wM h cA) D vwCl [(cA, .int)] (h 0) [.int (iI a)] σ (fun z u => (if a < 0 ∨ 3 < a then ((-1, σ) : Int × XS) else if σ.2 2 12 = 6 then (-2, σ) else (σ.2 2 12 + 1, apM σ 12 a)) = (z, u)) := by
  refine MI.of (own := RX2) (L := [some (.ref (h 0)), some (.int (iI a))]) (by decide) rfl (by simp [Value.category]) (Nat.le_of_ble_eq_true rfl) rfl ?_
  intro p e s m below meth c A hC hr
  refine x_aload_n (i := 0) hC dX2_draft_0 rfl rfl ?_
  refine x_bipush hC dX2_draft_1 bp_12 ?_
  refine x_iload_n (i := 1) hC dX2_draft_3 rfl rfl ?_
  refine x_callI hC (tX2_append l D cA h σ hok 12 a (by omega) ha) gX2_X2_append hyX2_append ⟨rfl, rfl⟩ ⟨Nat.le_of_ble_eq_true rfl, Nat.le_of_ble_eq_true rfl⟩ ⟨Nat.zero_le _, Nat.zero_le _⟩ (ci := 1) (q0 := 0) rfl rfl rfl rfl (Nat.le_of_ble_eq_true rfl) rfl dX2_draft_4 (fun z u hu => ?_)
  exact x_iret hC hr dX2_draft_7 hu
abbrev rX2_type : Room := ({ frames := 1, cells := 0, slots := 0, locals := 22 } : Room)
set_option maxHeartbeats 4000000 in
set_option maxRecDepth 100000 in
theorem tX2_type (l : Launch) (D : va_G) (cA : ClassId) (h : Nat → Nat) (σ : XS) (hok : OKm σ) (a : Int) (ha : -2147483648 ≤ a ∧ a ≤ 2147483647) : MI l yX2_type (ws_ yX2_type cX2_type 2 (some .int)) rX2_type (wM h cA) D vwCl [(cA, .int)] (h 0) [.int (iI a)] σ (fun z u => (if a < 0 ∨ 3 < a then ((-1, σ) : Int × XS) else if σ.2 2 13 = 6 then (-2, σ) else (σ.2 2 13 + 1, apM σ 13 a)) = (z, u)) := by
  refine MI.of (own := RX2) (L := [some (.ref (h 0)), some (.int (iI a))]) (by decide) rfl (by simp [Value.category]) (Nat.le_of_ble_eq_true rfl) rfl ?_
  intro p e s m below meth c A hC hr
  refine x_aload_n (i := 0) hC dX2_type_0 rfl rfl ?_
  refine x_bipush hC dX2_type_1 bp_13 ?_
  refine x_iload_n (i := 1) hC dX2_type_3 rfl rfl ?_
  refine x_callI hC (tX2_append l D cA h σ hok 13 a (by omega) ha) gX2_X2_append hyX2_append ⟨rfl, rfl⟩ ⟨Nat.le_of_ble_eq_true rfl, Nat.le_of_ble_eq_true rfl⟩ ⟨Nat.zero_le _, Nat.zero_le _⟩ (ci := 1) (q0 := 0) rfl rfl rfl rfl (Nat.le_of_ble_eq_true rfl) rfl dX2_type_4 (fun z u hu => ?_)
  exact x_iret hC hr dX2_type_7 hu
abbrev rX2_scrap : Room := ({ frames := 0, cells := 0, slots := 0, locals := 0 } : Room)
set_option maxHeartbeats 4000000 in
set_option maxRecDepth 100000 in
theorem tX2_scrap (l : Launch) (D : va_G) (cA : ClassId) (h : Nat → Nat) (σ : XS)  : MV l yX2_scrap (ws_ yX2_scrap cX2_scrap 1 none) rX2_scrap (wM h cA) D vwCl [(cA, .int)] (h 0) [] σ (fun u => sA σ 2 12 0 = u) := by
  refine MV.of (own := RX2) (L := [some (.ref (h 0))]) (by decide) rfl (by simp [Value.category]) (Nat.le_of_ble_eq_true rfl) rfl ?_
  intro p e s m below meth c A hC hr
  refine x_aload_n (i := 0) hC dX2_scrap_0 rfl rfl ?_
  refine x2_g2 hC dX2_scrap_1 ?_
  refine x_bipush hC dX2_scrap_4 bp_12 ?_
  refine x_iconst hC dX2_scrap_6 ?_
  refine x2_s2 hC (by omega) dX2_scrap_7 ?_
  exact x_vret hC hr dX2_scrap_8 rfl
abbrev rX2_reset : Room := ({ frames := 0, cells := 0, slots := 0, locals := 0 } : Room)
set_option maxHeartbeats 4000000 in
set_option maxRecDepth 100000 in
theorem tX2_reset (l : Launch) (D : va_G) (cA : ClassId) (h : Nat → Nat) (σ : XS)  : MV l yX2_reset (ws_ yX2_reset cX2_reset 1 none) rX2_reset (wM h cA) D vwCl [(cA, .int)] (h 0) [] σ (fun u => sA σ 2 13 0 = u) := by
  refine MV.of (own := RX2) (L := [some (.ref (h 0))]) (by decide) rfl (by simp [Value.category]) (Nat.le_of_ble_eq_true rfl) rfl ?_
  intro p e s m below meth c A hC hr
  refine x_aload_n (i := 0) hC dX2_reset_0 rfl rfl ?_
  refine x2_g2 hC dX2_reset_1 ?_
  refine x_bipush hC dX2_reset_4 bp_13 ?_
  refine x_iconst hC dX2_reset_6 ?_
  refine x2_s2 hC (by omega) dX2_reset_7 ?_
  exact x_vret hC hr dX2_reset_8 rfl
abbrev rX2_length : Room := ({ frames := 0, cells := 0, slots := 0, locals := 0 } : Room)
set_option maxHeartbeats 4000000 in
set_option maxRecDepth 100000 in
theorem tX2_length (l : Launch) (D : va_G) (cA : ClassId) (h : Nat → Nat) (σ : XS)  : MI l yX2_length (ws_ yX2_length cX2_length 1 (some .int)) rX2_length (wM h cA) D vwCl [(cA, .int)] (h 0) [] σ (fun z u => σ.2 2 13 = z ∧ σ = u) := by
  refine MI.of (own := RX2) (L := [some (.ref (h 0))]) (by decide) rfl (by simp [Value.category]) (Nat.le_of_ble_eq_true rfl) rfl ?_
  intro p e s m below meth c A hC hr
  refine x_aload_n (i := 0) hC dX2_length_0 rfl rfl ?_
  refine x2_g2 hC dX2_length_1 ?_
  refine x_bipush hC dX2_length_4 bp_13 ?_
  refine x2_l2 hC (by omega) dX2_length_6 ?_
  exact x_iret hC hr dX2_length_7 ⟨rfl, rfl⟩
abbrev rX2_words : Room := ({ frames := 0, cells := 0, slots := 0, locals := 0 } : Room)
set_option maxHeartbeats 4000000 in
set_option maxRecDepth 100000 in
theorem tX2_words (l : Launch) (D : va_G) (cA : ClassId) (h : Nat → Nat) (σ : XS)  : MI l yX2_words (ws_ yX2_words cX2_words 1 (some .int)) rX2_words (wM h cA) D vwCl [(cA, .int)] (h 0) [] σ (fun z u => σ.1 4 = z ∧ σ = u) := by
  refine MI.of (own := RX2) (L := [some (.ref (h 0))]) (by decide) rfl (by simp [Value.category]) (Nat.le_of_ble_eq_true rfl) rfl ?_
  intro p e s m below meth c A hC hr
  refine x_aload_n (i := 0) hC dX2_words_0 rfl rfl ?_
  refine x2_g4 hC dX2_words_1 ?_
  exact x_iret hC hr dX2_words_4 ⟨rfl, rfl⟩
abbrev rX2_backspace : Room := ({ frames := 0, cells := 0, slots := 0, locals := 0 } : Room)
set_option maxHeartbeats 4000000 in
set_option maxRecDepth 100000 in
theorem tX2_backspace (l : Launch) (D : va_G) (cA : ClassId) (h : Nat → Nat) (σ : XS) (hok : OKm σ) : MI l yX2_backspace (ws_ yX2_backspace cX2_backspace 1 (some .int)) rX2_backspace (wM h cA) D vwCl [(cA, .int)] (h 0) [] σ (fun z u => (if σ.2 2 13 = 0 then ((-4, σ) : Int × XS) else (σ.2 1 (78 + (σ.2 2 13 - 1)), sA σ 2 13 (σ.2 2 13 - 1))) = (z, u)) := by
  refine MI.of (own := RX2) (L := [some (.ref (h 0))]) (by decide) rfl (by simp [Value.category]) (Nat.le_of_ble_eq_true rfl) rfl ?_
  intro p e s m below meth c A hC hr
  have q2 := hok.f2 13
  have e2 : (sA σ 2 13 (σ.2 2 13 - 1)).2 2 13 = σ.2 2 13 - 1 := sA_at _ _ _ _
  refine x_aload_n (i := 0) hC dX2_backspace_0 rfl rfl ?_
  refine x2_g2 hC dX2_backspace_1 ?_
  refine x_bipush hC dX2_backspace_4 bp_13 ?_
  refine x2_l2 hC (by omega) dX2_backspace_6 ?_
  refine x_if_ne hC 13 dX2_backspace_7 (by decide) (by omega) (fun h7 => ?_) (fun h7 => ?_)
  · refine x_aload_n (i := 0) hC dX2_backspace_13 rfl rfl ?_
    refine x2_g2 hC dX2_backspace_14 ?_
    refine x_bipush hC dX2_backspace_17 bp_13 ?_
    refine x_dup2 hC dX2_backspace_19 rfl rfl ?_
    refine x2_l2 hC (by omega) dX2_backspace_20 ?_
    refine x_iconst hC dX2_backspace_21 ?_
    refine x_isub hC dX2_backspace_22 ?_
    refine x2_s2 hC (by omega) dX2_backspace_23 ?_
    refine x_aload_n (i := 0) hC dX2_backspace_24 rfl rfl ?_
    refine x2_g1 hC dX2_backspace_25 ?_
    refine x_bipush hC dX2_backspace_28 bp_78 ?_
    refine x_aload_n (i := 0) hC dX2_backspace_30 rfl rfl ?_
    refine x2_g2 hC dX2_backspace_31 ?_
    refine x_bipush hC dX2_backspace_34 bp_13 ?_
    refine x2_l2 hC (by omega) dX2_backspace_36 ?_
    rw [e2]
    refine x_iadd hC dX2_backspace_37 ?_
    refine x2_l1 hC (by omega) dX2_backspace_38 ?_
    exact x_iret hC hr dX2_backspace_39 (if_neg h7)
  · refine x_bipush hC dX2_backspace_10 bp_m4 ?_
    exact x_iret hC hr dX2_backspace_12 (if_pos h7)
abbrev rX2_begins : Room := ({ frames := 0, cells := 0, slots := 0, locals := 0 } : Room)
set_option maxHeartbeats 4000000 in
set_option maxRecDepth 100000 in
theorem tX2_begins (l : Launch) (D : va_G) (cA : ClassId) (h : Nat → Nat) (σ : XS) (hok : OKm σ) (a b : Int) (ha : 0 ≤ a ∧ a ≤ 13) (hb : 0 ≤ b ∧ b ≤ 13) : MI l yX2_begins (ws_ yX2_begins cX2_begins 4 (some .boolean)) rX2_begins (wM h cA) D vwCl [(cA, .int)] (h 0) [.int (iI a), .int (iI b)] σ (fun z u => (z = 1 ∧ (bgV σ a b = true) ∨ z = 0 ∧ ¬ (bgV σ a b = true)) ∧ σ = u) := by
  refine MI.of (own := RX2) (L := [some (.ref (h 0)), some (.int (iI a)), some (.int (iI b)), none]) (by decide) rfl (by simp [Value.category]) (Nat.le_of_ble_eq_true rfl) rfl ?_
  intro p e s m below meth c A hC hr
  have qa := hok.f2 a
  have qb := hok.f2 b
  have loop : ¬ σ.2 2 b < σ.2 2 a → ∀ (n : Nat) (i : Int), 0 ≤ i → i + (n : Int) = σ.2 2 a → bgL (σ.2 1) a b n i = bgV σ a b → XW p l e rX2_begins s m (Value.ref (h 0) :: [.int (iI a), .int (iI b)]).toArray below meth c 0 0 (MQ below (va_Qi (PI (fun z u => (z = 1 ∧ (bgV σ a b = true) ∨ z = 0 ∧ ¬ (bgV σ a b = true)) ∧ σ = u)) (BW D vwCl [(cA, .int)] A (wM h cA)) A) (Value.ref (h 0) :: [.int (iI a), .int (iI b)]).toArray s 0 0 A) D vwCl A (wM h cA) σ [some (.ref (h 0)), some (.int (iI (a))), some (.int (iI (b))), some (.int (iI (i)))] [] 19 := by
    intro c1 n
    induction n with
    | zero =>
      intro i hi hn he
      refine x_iload_n (i := 3) hC dX2_begins_19 rfl rfl ?_
      refine x_aload_n (i := 0) hC dX2_begins_20 rfl rfl ?_
      refine x2_g2 hC dX2_begins_21 ?_
      refine x_iload_n (i := 1) hC dX2_begins_24 rfl rfl ?_
      refine x2_l2 hC (by omega) dX2_begins_25 ?_
      refine x_icmp_ge hC 62 dX2_begins_26 (by decide) (by omega) (by omega) (fun h26 => ?_) (fun h26 => by exfalso; omega)
      refine x_iconst hC dX2_begins_62 ?_
      exact x_zret hC hr dX2_begins_63 (by first | exact Or.inl rfl | exact Or.inr rfl) ⟨Or.inl ⟨rfl, he.symm⟩, rfl⟩
    | succ n ih =>
      intro i hi hn he
      have p1 := hok.f1 (6 * a + i)
      have p2 := hok.f1 (6 * b + i)
      refine x_iload_n (i := 3) hC dX2_begins_19 rfl rfl ?_
      refine x_aload_n (i := 0) hC dX2_begins_20 rfl rfl ?_
      refine x2_g2 hC dX2_begins_21 ?_
      refine x_iload_n (i := 1) hC dX2_begins_24 rfl rfl ?_
      refine x2_l2 hC (by omega) dX2_begins_25 ?_
      refine x_icmp_ge hC 62 dX2_begins_26 (by decide) (by omega) (by omega) (fun h26 => by exfalso; omega) (fun h26 => ?_)
      refine x_aload_n (i := 0) hC dX2_begins_29 rfl rfl ?_
      refine x2_g1 hC dX2_begins_30 ?_
      refine x_bipush hC dX2_begins_33 bp_6 ?_
      refine x_iload_n (i := 1) hC dX2_begins_35 rfl rfl ?_
      refine x_imul hC dX2_begins_36 ?_
      refine x_iload_n (i := 3) hC dX2_begins_37 rfl rfl ?_
      refine x_iadd hC dX2_begins_38 ?_
      refine x2_l1 hC (by omega) dX2_begins_39 ?_
      refine x_aload_n (i := 0) hC dX2_begins_40 rfl rfl ?_
      refine x2_g1 hC dX2_begins_41 ?_
      refine x_bipush hC dX2_begins_44 bp_6 ?_
      refine x_iload_n (i := 2) hC dX2_begins_46 rfl rfl ?_
      refine x_imul hC dX2_begins_47 ?_
      refine x_iload_n (i := 3) hC dX2_begins_48 rfl rfl ?_
      refine x_iadd hC dX2_begins_49 ?_
      refine x2_l1 hC (by omega) dX2_begins_50 ?_
      refine x_icmp_eq hC 56 dX2_begins_51 (by decide) (by omega) (by omega) (fun h51 => ?_) (fun h51 => ?_)
      · refine x_iinc (L' := [_, _, _, _]) hC dX2_begins_56 rfl rfl ?_
        refine x_goto hC 19 dX2_begins_59 (by decide) ?_
        exact ih (i + 1) (by omega) (by omega) (by rw [← he]; exact (if_pos h51).symm)
      · refine x_iconst hC dX2_begins_54 ?_
        exact x_zret hC hr dX2_begins_55 (by first | exact Or.inl rfl | exact Or.inr rfl) ⟨Or.inr ⟨rfl, by rw [← he]; unfold bgL; rw [if_neg h51]; simp⟩, rfl⟩
  refine x_aload_n (i := 0) hC dX2_begins_0 rfl rfl ?_
  refine x2_g2 hC dX2_begins_1 ?_
  refine x_iload_n (i := 1) hC dX2_begins_4 rfl rfl ?_
  refine x2_l2 hC (by omega) dX2_begins_5 ?_
  refine x_aload_n (i := 0) hC dX2_begins_6 rfl rfl ?_
  refine x2_g2 hC dX2_begins_7 ?_
  refine x_iload_n (i := 2) hC dX2_begins_10 rfl rfl ?_
  refine x2_l2 hC (by omega) dX2_begins_11 ?_
  refine x_icmp_le hC 17 dX2_begins_12 (by decide) (by omega) (by omega) (fun h12 => ?_) (fun h12 => ?_)
  · refine x_iconst hC dX2_begins_17 ?_
    refine x_istore_n (i := 3) (L' := [_, _, _, _]) hC dX2_begins_18 rfl (Nat.le_of_ble_eq_true rfl) rfl ?_
    exact loop (by omega) (σ.2 2 a).toNat 0 (by omega) (by omega) (by unfold bgV; rw [if_neg (by omega)])
  · refine x_iconst hC dX2_begins_15 ?_
    exact x_zret hC hr dX2_begins_16 (by first | exact Or.inl rfl | exact Or.inr rfl) ⟨Or.inr ⟨rfl, by unfold bgV; rw [if_pos (by omega)]; simp⟩, rfl⟩
abbrev rX2_drafted : Room := ({ frames := 1, cells := 0, slots := 0, locals := 23 } : Room)
set_option maxHeartbeats 4000000 in
set_option maxRecDepth 100000 in
theorem tX2_drafted (l : Launch) (D : va_G) (cA : ClassId) (h : Nat → Nat) (σ : XS) (hok : OKm σ) : MI l yX2_drafted (ws_ yX2_drafted cX2_drafted 2 (some .int)) rX2_drafted (wM h cA) D vwCl [(cA, .int)] (h 0) [] σ (fun z u => dfV σ = z ∧ σ = u) := by
  refine MI.of (own := RX2) (L := [some (.ref (h 0)), none]) (by decide) rfl (by simp [Value.category]) (Nat.le_of_ble_eq_true rfl) rfl ?_
  intro p e s m below meth c A hC hr
  have q4 := hok.i4
  have q12 := hok.f2 12
  have loop : ∀ (n : Nat) (w1 : Int), 0 ≤ w1 → w1 + (n : Int) = σ.1 4 → fstL (dfP σ) n w1 = dfV σ → XW p l e rX2_drafted s m (Value.ref (h 0) :: []).toArray below meth c 0 0 (MQ below (va_Qi (PI (fun z u => dfV σ = z ∧ σ = u)) (BW D vwCl [(cA, .int)] A (wM h cA)) A) (Value.ref (h 0) :: []).toArray s 0 0 A) D vwCl A (wM h cA) σ [some (.ref (h 0)), some (.int (iI (w1)))] [] 2 := by
    intro n
    induction n with
    | zero =>
      intro w1 hi hn he
      refine x_iload_n (i := 1) hC dX2_drafted_2 rfl rfl ?_
      refine x_aload_n (i := 0) hC dX2_drafted_3 rfl rfl ?_
      refine x2_g4 hC dX2_drafted_4 ?_
      refine x_icmp_ge hC 44 dX2_drafted_7 (by decide) (by omega) (by omega) (fun h7 => ?_) (fun h7 => by exfalso; omega)
      refine x_bipush hC dX2_drafted_44 bp_m4 ?_
      exact x_iret hC hr dX2_drafted_46 ⟨he.symm, rfl⟩
    | succ n ih =>
      intro w1 hi hn he
      have qw := hok.f2 w1
      refine x_iload_n (i := 1) hC dX2_drafted_2 rfl rfl ?_
      refine x_aload_n (i := 0) hC dX2_drafted_3 rfl rfl ?_
      refine x2_g4 hC dX2_drafted_4 ?_
      refine x_icmp_ge hC 44 dX2_drafted_7 (by decide) (by omega) (by omega) (fun h7 => by exfalso; omega) (fun h7 => ?_)
      refine x_aload_n (i := 0) hC dX2_drafted_10 rfl rfl ?_
      refine x2_g2 hC dX2_drafted_11 ?_
      refine x_iload_n (i := 1) hC dX2_drafted_14 rfl rfl ?_
      refine x2_l2 hC (by omega) dX2_drafted_15 ?_
      refine x_aload_n (i := 0) hC dX2_drafted_16 rfl rfl ?_
      refine x2_g2 hC dX2_drafted_17 ?_
      refine x_bipush hC dX2_drafted_20 bp_12 ?_
      refine x2_l2 hC (by omega) dX2_drafted_22 ?_
      refine x_icmp_ne hC 38 dX2_drafted_23 (by decide) (by omega) (by omega) (fun h23 => ?_) (fun h23 => ?_)
      · refine x_iinc (L' := [_, _]) hC dX2_drafted_38 rfl rfl ?_
        refine x_goto hC 2 dX2_drafted_41 (by decide) ?_
        have hp : ¬ dfP σ w1 = true := by unfold dfP; simp [h23]
        exact ih (w1 + 1) (by omega) (by omega) (by rw [← he]; exact (if_neg hp).symm)
      · refine x_aload_n (i := 0) hC dX2_drafted_26 rfl rfl ?_
        refine x_iload_n (i := 1) hC dX2_drafted_27 rfl rfl ?_
        refine x_bipush hC dX2_drafted_28 bp_12 ?_
        refine x_callI hC (tX2_begins l D cA h σ hok w1 12 (by omega) (by omega)) gX2_X2_begins hyX2_begins ⟨rfl, rfl⟩ ⟨Nat.le_of_ble_eq_true rfl, Nat.le_of_ble_eq_true rfl⟩ ⟨Nat.zero_le _, Nat.zero_le _⟩ (ci := 1) (q0 := 0) rfl rfl rfl rfl (Nat.le_of_ble_eq_true rfl) rfl dX2_drafted_30 (fun z u hu => ?_)
        obtain ⟨⟨rfl, hc⟩ | ⟨rfl, hc⟩, rfl⟩ := hu
        · refine x_if_eq hC 38 dX2_drafted_33 (by decide) (by omega) (fun h33 => by exfalso; omega) (fun h33 => ?_)
          have hp : dfP σ w1 = true := by unfold dfP; simp [h23, hc]
          refine x_iload_n (i := 1) hC dX2_drafted_36 rfl rfl ?_
          exact x_iret hC hr dX2_drafted_37 ⟨by rw [← he]; exact if_pos hp, rfl⟩
        · refine x_if_eq hC 38 dX2_drafted_33 (by decide) (by omega) (fun h33 => ?_) (fun h33 => by exfalso; omega)
          refine x_iinc (L' := [_, _]) hC dX2_drafted_38 rfl rfl ?_
          refine x_goto hC 2 dX2_drafted_41 (by decide) ?_
          have hp : ¬ dfP σ w1 = true := by unfold dfP; simp [hc]
          exact ih (w1 + 1) (by omega) (by omega) (by rw [← he]; exact (if_neg hp).symm)
  refine x_iconst hC dX2_drafted_0 ?_
  refine x_istore_n (i := 1) (L' := [_, _]) hC dX2_drafted_1 rfl (Nat.le_of_ble_eq_true rfl) rfl ?_
  exact loop (σ.1 4).toNat 0 (by omega) (by omega) rfl
abbrev rX2_copy : Room := ({ frames := 0, cells := 0, slots := 0, locals := 0 } : Room)
set_option maxHeartbeats 4000000 in
set_option maxRecDepth 100000 in
theorem tX2_copy (l : Launch) (D : va_G) (cA : ClassId) (h : Nat → Nat) (σ : XS) (hok : OKm σ) (fr to : Int) (hf : 0 ≤ fr ∧ fr ≤ 13) (ht : 0 ≤ to ∧ to ≤ 13) : MV l yX2_copy (ws_ yX2_copy cX2_copy 4 none) rX2_copy (wM h cA) D vwCl [(cA, .int)] (h 0) [.int (iI fr), .int (iI to)] σ (fun u => cpF σ fr to = u) := by
  refine MV.of (own := RX2) (L := [some (.ref (h 0)), some (.int (iI fr)), some (.int (iI to)), none]) (by decide) rfl (by simp [Value.category]) (Nat.le_of_ble_eq_true rfl) rfl ?_
  intro p e s m below meth c A hC hr
  have qf := hok.f2 fr
  have loop : ∀ (n : Nat) (i : Int) (τ : XS), 0 ≤ i → i + (n : Int) = σ.2 2 fr → τ.2 2 = σ.2 2 → cpL fr to n i τ = cpL fr to (σ.2 2 fr).toNat 0 σ → XW p l e rX2_copy s m (Value.ref (h 0) :: [.int (iI fr), .int (iI to)]).toArray below meth c 0 0 (MQ below (va_Qv (fun u => cpF σ fr to = u) (BW D vwCl [(cA, .int)] A (wM h cA)) A) (Value.ref (h 0) :: [.int (iI fr), .int (iI to)]).toArray s 0 0 A) D vwCl A (wM h cA) τ [some (.ref (h 0)), some (.int (iI (fr))), some (.int (iI (to))), some (.int (iI (i)))] [] 2 := by
    intro n
    induction n with
    | zero =>
      intro i τ hi hn e2 he
      have ef : τ.2 2 fr = σ.2 2 fr := by rw [e2]
      have he : τ = cpL fr to (σ.2 2 fr).toNat 0 σ := he
      refine x_iload_n (i := 3) hC dX2_copy_2 rfl rfl ?_
      refine x_aload_n (i := 0) hC dX2_copy_3 rfl rfl ?_
      refine x2_g2 hC dX2_copy_4 ?_
      refine x_iload_n (i := 1) hC dX2_copy_7 rfl rfl ?_
      refine x2_l2 hC (by omega) dX2_copy_8 ?_
      refine x_icmp_ge hC 40 dX2_copy_9 (by decide) (by omega) (by omega) (fun h9 => ?_) (fun h9 => by exfalso; omega)
      refine x_aload_n (i := 0) hC dX2_copy_40 rfl rfl ?_
      refine x2_g2 hC dX2_copy_41 ?_
      refine x_iload_n (i := 2) hC dX2_copy_44 rfl rfl ?_
      refine x_aload_n (i := 0) hC dX2_copy_45 rfl rfl ?_
      refine x2_g2 hC dX2_copy_46 ?_
      refine x_iload_n (i := 1) hC dX2_copy_49 rfl rfl ?_
      refine x2_l2 hC (by omega) dX2_copy_50 ?_
      refine x2_s2 hC (by omega) dX2_copy_51 ?_
      exact x_vret hC hr dX2_copy_52 (by unfold cpF; rw [← he]; rfl)
    | succ n ih =>
      intro i τ hi hn e2 he
      have ef : τ.2 2 fr = σ.2 2 fr := by rw [e2]
      refine x_iload_n (i := 3) hC dX2_copy_2 rfl rfl ?_
      refine x_aload_n (i := 0) hC dX2_copy_3 rfl rfl ?_
      refine x2_g2 hC dX2_copy_4 ?_
      refine x_iload_n (i := 1) hC dX2_copy_7 rfl rfl ?_
      refine x2_l2 hC (by omega) dX2_copy_8 ?_
      refine x_icmp_ge hC 40 dX2_copy_9 (by decide) (by omega) (by omega) (fun h9 => by exfalso; omega) (fun h9 => ?_)
      refine x_aload_n (i := 0) hC dX2_copy_12 rfl rfl ?_
      refine x2_g1 hC dX2_copy_13 ?_
      refine x_bipush hC dX2_copy_16 bp_6 ?_
      refine x_iload_n (i := 2) hC dX2_copy_18 rfl rfl ?_
      refine x_imul hC dX2_copy_19 ?_
      refine x_iload_n (i := 3) hC dX2_copy_20 rfl rfl ?_
      refine x_iadd hC dX2_copy_21 ?_
      refine x_aload_n (i := 0) hC dX2_copy_22 rfl rfl ?_
      refine x2_g1 hC dX2_copy_23 ?_
      refine x_bipush hC dX2_copy_26 bp_6 ?_
      refine x_iload_n (i := 1) hC dX2_copy_28 rfl rfl ?_
      refine x_imul hC dX2_copy_29 ?_
      refine x_iload_n (i := 3) hC dX2_copy_30 rfl rfl ?_
      refine x_iadd hC dX2_copy_31 ?_
      refine x2_l1 hC (by omega) dX2_copy_32 ?_
      refine x2_s1 hC (by omega) dX2_copy_33 ?_
      refine x_iinc (L' := [_, _, _, _]) hC dX2_copy_34 rfl rfl ?_
      refine x_goto hC 2 dX2_copy_37 (by decide) ?_
      exact ih (i + 1) _ (by omega) (by omega) e2 he
  refine x_iconst hC dX2_copy_0 ?_
  refine x_istore_n (i := 3) (L' := [_, _, _, _]) hC dX2_copy_1 rfl (Nat.le_of_ble_eq_true rfl) rfl ?_
  exact loop (σ.2 2 fr).toNat 0 σ (by omega) (by omega) rfl rfl
abbrev rX2_weight : Room := ({ frames := 2, cells := 0, slots := 0, locals := 44 } : Room)
set_option maxHeartbeats 4000000 in
set_option maxRecDepth 100000 in
theorem tX2_weight (l : Launch) (D : va_G) (cA : ClassId) (h : Nat → Nat) (σ : XS) (hok : OKm σ) : MI l yX2_weight (ws_ yX2_weight cX2_weight 2 (some .int)) rX2_weight (wM h cA) D vwCl [(cA, .int)] (h 0) [] σ (fun z u => (if dfV σ = -4 then -4 else σ.2 3 (dfV σ)) = z ∧ σ = u) := by
  refine MI.of (own := RX2) (L := [some (.ref (h 0)), none]) (by decide) rfl (by simp [Value.category]) (Nat.le_of_ble_eq_true rfl) rfl ?_
  intro p e s m below meth c A hC hr
  have q4 := hok.i4
  have qd := fstL_rg (dfP σ) (σ.1 4).toNat 0
  have qd : dfV σ = -4 ∨ (0 ≤ dfV σ ∧ dfV σ < σ.1 4) := by
    rcases qd with z | z
    · exact Or.inl z
    · exact Or.inr ⟨z.1, by have z2 := z.2; show fstL (dfP σ) (σ.1 4).toNat 0 < _; omega⟩
  refine x_aload_n (i := 0) hC dX2_weight_0 rfl rfl ?_
  refine x_callI hC (tX2_drafted l D cA h σ hok) gX2_X2_drafted hyX2_drafted ⟨rfl, rfl⟩ ⟨Nat.le_of_ble_eq_true rfl, Nat.le_of_ble_eq_true rfl⟩ ⟨Nat.zero_le _, Nat.zero_le _⟩ (ci := 1) (q0 := 0) rfl rfl rfl rfl (Nat.le_of_ble_eq_true rfl) rfl dX2_weight_1 (fun z u hu => ?_)
  obtain ⟨rfl, rfl⟩ := hu
  refine x_istore_n (i := 1) (L' := [_, _]) hC dX2_weight_4 rfl (Nat.le_of_ble_eq_true rfl) rfl ?_
  refine x_iload_n (i := 1) hC dX2_weight_5 rfl rfl ?_
  refine x_bipush hC dX2_weight_6 bp_m4 ?_
  refine x_icmp_ne hC 16 dX2_weight_8 (by decide) (by omega) (by omega) (fun h8 => ?_) (fun h8 => ?_)
  · refine x_aload_n (i := 0) hC dX2_weight_16 rfl rfl ?_
    refine x2_g3 hC dX2_weight_17 ?_
    refine x_iload_n (i := 1) hC dX2_weight_20 rfl rfl ?_
    refine x2_l3 hC (by omega) dX2_weight_21 ?_
    exact x_iret hC hr dX2_weight_22 ⟨if_neg h8, rfl⟩
  · refine x_bipush hC dX2_weight_11 bp_m4 ?_
    refine x_goto hC 22 dX2_weight_13 (by decide) ?_
    exact x_iret hC hr dX2_weight_22 ⟨if_pos h8, rfl⟩
abbrev rX2_add : Room := ({ frames := 2, cells := 0, slots := 0, locals := 44 } : Room)
set_option maxHeartbeats 4000000 in
set_option maxRecDepth 100000 in
theorem tX2_add (l : Launch) (D : va_G) (cA : ClassId) (h : Nat → Nat) (σ : XS) (hok : OKm σ) (a : Int) (ha : -2147483648 ≤ a ∧ a ≤ 2147483647) : MI l yX2_add (ws_ yX2_add cX2_add 3 (some .int)) rX2_add (wM h cA) D vwCl [(cA, .int)] (h 0) [.int (iI a)] σ (fun z u => addM σ a = (z, u)) := by
  refine MI.of (own := RX2) (L := [some (.ref (h 0)), some (.int (iI a)), none]) (by decide) rfl (by simp [Value.category]) (Nat.le_of_ble_eq_true rfl) rfl ?_
  intro p e s m below meth c A hC hr
  have q4 := hok.i4
  have qd := fstL_rg (dfP σ) (σ.1 4).toNat 0
  have qd : dfV σ = -4 ∨ (0 ≤ dfV σ ∧ dfV σ < σ.1 4) := by
    rcases qd with z | z
    · exact Or.inl z
    · exact Or.inr ⟨z.1, by have z2 := z.2; show fstL (dfP σ) (σ.1 4).toNat 0 < _; omega⟩
  have q12 := hok.f2 12
  refine x_iload_n (i := 1) hC dX2_add_0 rfl rfl ?_
  refine x_if_lt hC 20 dX2_add_1 (by decide) (by omega) (fun h1 => ?_) (fun h1 => ?_)
  · refine x_iconst hC dX2_add_20 ?_
    exact x_iret hC hr dX2_add_21 (by unfold addM; rw [if_pos (by omega)])
  · refine x_iload_n (i := 1) hC dX2_add_4 rfl rfl ?_
    refine x_bipush hC dX2_add_5 bp_99 ?_
    refine x_icmp_gt hC 20 dX2_add_7 (by decide) (by omega) (by omega) (fun h7 => ?_) (fun h7 => ?_)
    · refine x_iconst hC dX2_add_20 ?_
      exact x_iret hC hr dX2_add_21 (by unfold addM; rw [if_pos (by omega)])
    · refine x_aload_n (i := 0) hC dX2_add_10 rfl rfl ?_
      refine x2_g2 hC dX2_add_11 ?_
      refine x_bipush hC dX2_add_14 bp_12 ?_
      refine x2_l2 hC (by omega) dX2_add_16 ?_
      refine x_if_ne hC 22 dX2_add_17 (by decide) (by omega) (fun h17 => ?_) (fun h17 => ?_)
      · refine x_aload_n (i := 0) hC dX2_add_22 rfl rfl ?_
        refine x_callI hC (tX2_drafted l D cA h σ hok) gX2_X2_drafted hyX2_drafted ⟨rfl, rfl⟩ ⟨Nat.le_of_ble_eq_true rfl, Nat.le_of_ble_eq_true rfl⟩ ⟨Nat.zero_le _, Nat.zero_le _⟩ (ci := 1) (q0 := 0) rfl rfl rfl rfl (Nat.le_of_ble_eq_true rfl) rfl dX2_add_23 (fun z u hu => ?_)
        obtain ⟨rfl, rfl⟩ := hu
        refine x_istore_n (i := 2) (L' := [_, _, _]) hC dX2_add_26 rfl (Nat.le_of_ble_eq_true rfl) rfl ?_
        refine x_iload_n (i := 2) hC dX2_add_27 rfl rfl ?_
        refine x_bipush hC dX2_add_28 bp_m4 ?_
        refine x_icmp_ne hC 45 dX2_add_30 (by decide) (by omega) (by omega) (fun h30 => ?_) (fun h30 => ?_)
        · refine x_iload_n (i := 2) hC dX2_add_45 rfl rfl ?_
          refine x_bipush hC dX2_add_46 bp_m4 ?_
          refine x_icmp_ne hC 84 dX2_add_48 (by decide) (by omega) (by omega) (fun h48 => ?_) (fun h48 => by exfalso; omega)
          refine x_aload_n (i := 0) hC dX2_add_84 rfl rfl ?_
          refine x2_g3 hC dX2_add_85 ?_
          refine x_iload_n (i := 2) hC dX2_add_88 rfl rfl ?_
          refine x_iload_n (i := 1) hC dX2_add_89 rfl rfl ?_
          refine x2_s3 hC (by omega) dX2_add_90 ?_
          refine x_aload_n (i := 0) hC dX2_add_91 rfl rfl ?_
          refine x2_g2 hC dX2_add_92 ?_
          refine x_bipush hC dX2_add_95 bp_12 ?_
          refine x_iconst hC dX2_add_97 ?_
          refine x2_s2 hC (by omega) dX2_add_98 ?_
          refine x_iload_n (i := 2) hC dX2_add_99 rfl rfl ?_
          refine x_bipush hC dX2_add_100 bp_m4 ?_
          refine x_icmp_ne hC 109 dX2_add_102 (by decide) (by omega) (by omega) (fun h102 => ?_) (fun h102 => by exfalso; omega)
          refine x_iconst hC dX2_add_109 ?_
          exact x_iret hC hr dX2_add_110 (by unfold addM; rw [if_neg (by omega), if_neg h30]; rfl)
        · refine x_aload_n (i := 0) hC dX2_add_33 rfl rfl ?_
          refine x2_g4 hC dX2_add_34 ?_
          refine x_bipush hC dX2_add_37 bp_12 ?_
          refine x_icmp_ne hC 45 dX2_add_39 (by decide) (by omega) (by omega) (fun h39 => ?_) (fun h39 => ?_)
          · refine x_iload_n (i := 2) hC dX2_add_45 rfl rfl ?_
            refine x_bipush hC dX2_add_46 bp_m4 ?_
            refine x_icmp_ne hC 84 dX2_add_48 (by decide) (by omega) (by omega) (fun h48 => by exfalso; omega) (fun h48 => ?_)
            refine x_aload_n (i := 0) hC dX2_add_51 rfl rfl ?_
            refine x_bipush hC dX2_add_52 bp_12 ?_
            refine x_aload_n (i := 0) hC dX2_add_54 rfl rfl ?_
            refine x2_g4 hC dX2_add_55 ?_
            refine x_callV hC (tX2_copy l D cA h σ hok 12 (σ.1 4) (by omega) (by omega)) gX2_X2_copy hyX2_copy ⟨rfl, rfl⟩ ⟨Nat.le_of_ble_eq_true rfl, Nat.le_of_ble_eq_true rfl⟩ ⟨Nat.zero_le _, Nat.zero_le _⟩ (ci := 1) (q0 := 0) rfl rfl rfl rfl (Nat.le_of_ble_eq_true rfl) rfl dX2_add_58 (fun u hu => ?_)
            subst hu
            have ec : (cpF σ 12 (σ.1 4)).1 4 = σ.1 4 := congrFun (OK_cpF hok 12 (σ.1 4)).2.1 4
            refine x_aload_n (i := 0) hC dX2_add_61 rfl rfl ?_
            refine x2_g3 hC dX2_add_62 ?_
            refine x_aload_n (i := 0) hC dX2_add_65 rfl rfl ?_
            refine x2_g4 hC dX2_add_66 ?_
            refine x_iload_n (i := 1) hC dX2_add_69 rfl rfl ?_
            refine x2_s3 hC (by rw [ec]; omega) dX2_add_70 ?_
            refine x_aload_n (i := 0) hC dX2_add_71 rfl rfl ?_
            refine x_dup hC dX2_add_72 rfl ?_
            refine x2_g4 hC dX2_add_73 ?_
            refine x_iconst hC dX2_add_76 ?_
            refine x_iadd hC dX2_add_77 ?_
            refine x2_p4 hC dX2_add_78 ?_
            refine x_goto hC 91 dX2_add_81 (by decide) ?_
            refine x_aload_n (i := 0) hC dX2_add_91 rfl rfl ?_
            refine x2_g2 hC dX2_add_92 ?_
            refine x_bipush hC dX2_add_95 bp_12 ?_
            refine x_iconst hC dX2_add_97 ?_
            refine x2_s2 hC (by omega) dX2_add_98 ?_
            refine x_iload_n (i := 2) hC dX2_add_99 rfl rfl ?_
            refine x_bipush hC dX2_add_100 bp_m4 ?_
            refine x_icmp_ne hC 109 dX2_add_102 (by decide) (by omega) (by omega) (fun h102 => by exfalso; omega) (fun h102 => ?_)
            refine x_iconst hC dX2_add_105 ?_
            refine x_goto hC 110 dX2_add_106 (by decide) ?_
            exact x_iret hC hr dX2_add_110 (by unfold addM; rw [if_neg (by omega), if_pos h30, if_neg (by omega)]; rfl)
          · refine x_bipush hC dX2_add_42 bp_m2 ?_
            exact x_iret hC hr dX2_add_44 (by unfold addM; rw [if_neg (by omega), if_pos h30, if_pos (by omega)])
      · refine x_iconst hC dX2_add_20 ?_
        exact x_iret hC hr dX2_add_21 (by unfold addM; rw [if_pos (by omega)])
abbrev rX2_remove : Room := ({ frames := 2, cells := 0, slots := 0, locals := 44 } : Room)
set_option maxHeartbeats 4000000 in
set_option maxRecDepth 100000 in
theorem tX2_remove (l : Launch) (D : va_G) (cA : ClassId) (h : Nat → Nat) (σ : XS) (hok : OKm σ) : MI l yX2_remove (ws_ yX2_remove cX2_remove 3 (some .int)) rX2_remove (wM h cA) D vwCl [(cA, .int)] (h 0) [] σ (fun z u => removeM σ = (z, u)) := by
  refine MI.of (own := RX2) (L := [some (.ref (h 0)), none, none]) (by decide) rfl (by simp [Value.category]) (Nat.le_of_ble_eq_true rfl) rfl ?_
  intro p e s m below meth c A hC hr
  have q4 := hok.i4
  have qd := fstL_rg (dfP σ) (σ.1 4).toNat 0
  have qd : dfV σ = -4 ∨ (0 ≤ dfV σ ∧ dfV σ < σ.1 4) := by
    rcases qd with z | z
    · exact Or.inl z
    · exact Or.inr ⟨z.1, by have z2 := z.2; show fstL (dfP σ) (σ.1 4).toNat 0 < _; omega⟩
  have q12 := hok.f2 12
  refine x_aload_n (i := 0) hC dX2_remove_0 rfl rfl ?_
  refine x2_g2 hC dX2_remove_1 ?_
  refine x_bipush hC dX2_remove_4 bp_12 ?_
  refine x2_l2 hC (by omega) dX2_remove_6 ?_
  refine x_if_ne hC 12 dX2_remove_7 (by decide) (by omega) (fun h7 => ?_) (fun h7 => ?_)
  · refine x_aload_n (i := 0) hC dX2_remove_12 rfl rfl ?_
    refine x_callI hC (tX2_drafted l D cA h σ hok) gX2_X2_drafted hyX2_drafted ⟨rfl, rfl⟩ ⟨Nat.le_of_ble_eq_true rfl, Nat.le_of_ble_eq_true rfl⟩ ⟨Nat.zero_le _, Nat.zero_le _⟩ (ci := 1) (q0 := 0) rfl rfl rfl rfl (Nat.le_of_ble_eq_true rfl) rfl dX2_remove_13 (fun z u hu => ?_)
    obtain ⟨rfl, rfl⟩ := hu
    refine x_istore_n (i := 1) (L' := [_, _, _]) hC dX2_remove_16 rfl (Nat.le_of_ble_eq_true rfl) rfl ?_
    refine x_iload_n (i := 1) hC dX2_remove_17 rfl rfl ?_
    refine x_bipush hC dX2_remove_18 bp_m4 ?_
    refine x_icmp_ne hC 26 dX2_remove_20 (by decide) (by omega) (by omega) (fun h20 => ?_) (fun h20 => ?_)
    · refine x_aload_n (i := 0) hC dX2_remove_26 rfl rfl ?_
      refine x2_g3 hC dX2_remove_27 ?_
      refine x_iload_n (i := 1) hC dX2_remove_30 rfl rfl ?_
      refine x2_l3 hC (by omega) dX2_remove_31 ?_
      refine x_istore_n (i := 2) (L' := [_, _, _]) hC dX2_remove_32 rfl (Nat.le_of_ble_eq_true rfl) rfl ?_
      refine x_aload_n (i := 0) hC dX2_remove_33 rfl rfl ?_
      refine x_dup hC dX2_remove_34 rfl ?_
      refine x2_g4 hC dX2_remove_35 ?_
      refine x_iconst hC dX2_remove_38 ?_
      refine x_isub hC dX2_remove_39 ?_
      refine x2_p4 hC dX2_remove_40 ?_
      refine x_aload_n (i := 0) hC dX2_remove_43 rfl rfl ?_
      refine x_aload_n (i := 0) hC dX2_remove_44 rfl rfl ?_
      refine x2_g4 hC dX2_remove_45 ?_
      refine x_iload_n (i := 1) hC dX2_remove_48 rfl rfl ?_
      refine x_callV hC (tX2_copy l D cA h (sI σ 4 (σ.1 4 - 1)) (hok.sI4 (by omega)) (σ.1 4 - 1) (dfV σ) (by omega) (by omega)) gX2_X2_copy hyX2_copy ⟨rfl, rfl⟩ ⟨Nat.le_of_ble_eq_true rfl, Nat.le_of_ble_eq_true rfl⟩ ⟨Nat.zero_le _, Nat.zero_le _⟩ (ci := 1) (q0 := 0) rfl rfl rfl rfl (Nat.le_of_ble_eq_true rfl) rfl dX2_remove_49 (fun u hu => ?_)
      subst hu
      have ec : (cpF (sI σ 4 (σ.1 4 - 1)) (σ.1 4 - 1) (dfV σ)).1 4 = σ.1 4 - 1 := congrFun (OK_cpF (hok.sI4 (by omega)) (σ.1 4 - 1) (dfV σ)).2.1 4
      refine x_aload_n (i := 0) hC dX2_remove_52 rfl rfl ?_
      refine x2_g3 hC dX2_remove_53 ?_
      refine x_iload_n (i := 1) hC dX2_remove_56 rfl rfl ?_
      refine x_aload_n (i := 0) hC dX2_remove_57 rfl rfl ?_
      refine x2_g3 hC dX2_remove_58 ?_
      refine x_aload_n (i := 0) hC dX2_remove_61 rfl rfl ?_
      refine x2_g4 hC dX2_remove_62 ?_
      refine x2_l3 hC (by rw [ec]; omega) dX2_remove_65 ?_
      refine x2_s3 hC (by omega) dX2_remove_66 ?_
      refine x_aload_n (i := 0) hC dX2_remove_67 rfl rfl ?_
      refine x2_g2 hC dX2_remove_68 ?_
      refine x_bipush hC dX2_remove_71 bp_12 ?_
      refine x_iconst hC dX2_remove_73 ?_
      refine x2_s2 hC (by omega) dX2_remove_74 ?_
      refine x_iload_n (i := 2) hC dX2_remove_75 rfl rfl ?_
      exact x_iret hC hr dX2_remove_76 (by unfold removeM; rw [if_neg (by omega), if_neg h20]; rfl)
    · refine x_bipush hC dX2_remove_23 bp_m4 ?_
      exact x_iret hC hr dX2_remove_25 (by unfold removeM; rw [if_neg (by omega), if_pos h20])
  · refine x_iconst hC dX2_remove_10 ?_
    exact x_iret hC hr dX2_remove_11 (by unfold removeM; rw [if_pos (by omega)])
/-- the table holds the distances ahead of the place i, j -/
def TB (lt : Int → Int) (w : Int) (lw : Nat) (u : XS) (i j : Nat) : Prop := ∀ i' j' : Nat, j' ≤ lw → (i' < i ∨ i' = i ∧ j' < j) → u.2 5 ((i' : Int) * 7 + (j' : Int)) = edV lt w i' j'
theorem TB.set {lt : Int → Int} {w v : Int} {lw : Nat} {u : XS} {i j : Nat} (h : TB lt w lw u i j) (hj : j ≤ lw) (hl : lw ≤ 6) (hv : v = edV lt w i j) : TB lt w lw (sA u 5 ((i : Int) * 7 + (j : Int)) v) i (j + 1) := by
  intro i' j' h1 h2
  show fU (u.2 5) ((i : Int) * 7 + (j : Int)) v ((i' : Int) * 7 + (j' : Int)) = _
  unfold fU
  by_cases e : (i' : Int) * 7 + (j' : Int) = (i : Int) * 7 + (j : Int)
  · rw [if_pos e]
    obtain rfl : i' = i := by omega
    obtain rfl : j' = j := by omega
    exact hv
  · rw [if_neg e]
    refine h i' j' h1 ?_
    rcases h2 with h2 | ⟨h2, h3⟩
    · exact Or.inl h2
    · refine Or.inr ⟨h2, ?_⟩
      rcases Nat.lt_or_ge j' j with q | q
      · exact q
      · exfalso
        apply e
        obtain rfl : j' = j := by omega
        rw [h2]
theorem TB.row {lt : Int → Int} {w : Int} {lw : Nat} {u : XS} {i : Nat} (h : TB lt w lw u i (lw + 1)) : TB lt w lw u (i + 1) 0 := by
  intro i' j' h1 h2
  refine h i' j' h1 ?_
  rcases h2 with h2 | ⟨-, h3⟩
  · rcases Nat.lt_or_ge i' i with q | q
    · exact Or.inl q
    · exact Or.inr ⟨by omega, by omega⟩
  · omega
abbrev rX2_fill : Room := ({ frames := 1, cells := 0, slots := 0, locals := 22 } : Room)
set_option maxHeartbeats 4000000 in
set_option maxRecDepth 100000 in
theorem tX2_fill (l : Launch) (D : va_G) (cA : ClassId) (h : Nat → Nat) (σ : XS) (hok : OKm σ) (w1 : Int) (hw : 0 ≤ w1 ∧ w1 ≤ 11) : MV l yX2_fill (ws_ yX2_fill cX2_fill 8 none) rX2_fill (wM h cA) D vwCl [(cA, .int)] (h 0) [.int (iI w1)] σ (fun u => sameM σ u ∧ TB (σ.2 1) w1 (σ.2 2 w1).toNat u ((σ.2 2 13).toNat + 1) 0) := by
  refine MV.of (own := RX2) (L := [some (.ref (h 0)), some (.int (iI w1)), none, none, none, none, none, none]) (by decide) rfl (by simp [Value.category]) (Nat.le_of_ble_eq_true rfl) rfl ?_
  intro p e s m below meth c A hC hr
  have q2 := hok.f2 w1
  have q13 := hok.f2 13
  obtain ⟨lw, hlw⟩ : ∃ lw : Nat, (lw : Int) = σ.2 2 w1 := ⟨(σ.2 2 w1).toNat, by omega⟩
  obtain ⟨lq, hlq⟩ : ∃ lq : Nat, (lq : Int) = σ.2 2 13 := ⟨(σ.2 2 13).toNat, by omega⟩
  have elw : (σ.2 2 w1).toNat = lw := by omega
  have elq : (σ.2 2 13).toNat = lq := by omega
  have inner : ∀ (i : Nat) (I1 : Int), I1 = (i : Int) → i ≤ lq → ∀ (n j : Nat) (J : Int) (u : XS), J = (j : Int) → j + n = lw + 1 → sameM σ u → TB (σ.2 1) w1 lw u i j → (∀ u' : XS, sameM σ u' → TB (σ.2 1) w1 lw u' (i + 1) 0 → XW p l e rX2_fill s m (Value.ref (h 0) :: [.int (iI w1)]).toArray below meth c 0 0 (MQ below (va_Qv (fun u => sameM σ u ∧ TB (σ.2 1) w1 (σ.2 2 w1).toNat u ((σ.2 2 13).toNat + 1) 0) (BW D vwCl [(cA, .int)] A (wM h cA)) A) (Value.ref (h 0) :: [.int (iI w1)]).toArray s 0 0 A) D vwCl A (wM h cA) u' [some (.ref (h 0)), some (.int (iI (w1))), some (.int (iI (I1))), none, none, none, none, none] [] 170) → XW p l e rX2_fill s m (Value.ref (h 0) :: [.int (iI w1)]).toArray below meth c 0 0 (MQ below (va_Qv (fun u => sameM σ u ∧ TB (σ.2 1) w1 (σ.2 2 w1).toNat u ((σ.2 2 13).toNat + 1) 0) (BW D vwCl [(cA, .int)] A (wM h cA)) A) (Value.ref (h 0) :: [.int (iI w1)]).toArray s 0 0 A) D vwCl A (wM h cA) u [some (.ref (h 0)), some (.int (iI (w1))), some (.int (iI (I1))), some (.int (iI (J))), none, none, none, none] [] 15 := by
    intro i I1 eI hi n
    induction n with
    | zero =>
      intro j J u eJ hj hs hT K
      have ew : u.2 2 w1 = (lw : Int) := by rw [hs.2.2.1]; omega
      obtain rfl : j = lw + 1 := by omega
      refine x_iload_n (i := 3) hC dX2_fill_15 rfl rfl ?_
      refine x_aload_n (i := 0) hC dX2_fill_16 rfl rfl ?_
      refine x2_g2 hC dX2_fill_17 ?_
      refine x_iload_n (i := 1) hC dX2_fill_20 rfl rfl ?_
      refine x2_l2 hC (by omega) dX2_fill_21 ?_
      refine x_icmp_gt hC 170 dX2_fill_22 (by decide) (by omega) (by omega) (fun h22 => ?_) (fun h22 => by exfalso; omega)
      exact x_weak (by simp [lzle] <;> rfl) (K u hs hT.row)
    | succ n ih =>
      intro j J u eJ hj hs hT K
      have ew : u.2 2 w1 = (lw : Int) := by rw [hs.2.2.1]; omega
      have ok2 := hok.same hs
      refine x_iload_n (i := 3) hC dX2_fill_15 rfl rfl ?_
      refine x_aload_n (i := 0) hC dX2_fill_16 rfl rfl ?_
      refine x2_g2 hC dX2_fill_17 ?_
      refine x_iload_n (i := 1) hC dX2_fill_20 rfl rfl ?_
      refine x2_l2 hC (by omega) dX2_fill_21 ?_
      refine x_icmp_gt hC 170 dX2_fill_22 (by decide) (by omega) (by omega) (fun h22 => by exfalso; omega) (fun h22 => ?_)
      refine x_iload_n (i := 2) hC dX2_fill_25 rfl rfl ?_
      refine x_if_ne hC 33 dX2_fill_26 (by decide) (by omega) (fun h26 => ?_) (fun h26 => ?_)
      · refine x_iload_n (i := 3) hC dX2_fill_33 rfl rfl ?_
        refine x_if_ne hC 41 dX2_fill_34 (by decide) (by omega) (fun h34 => ?_) (fun h34 => ?_)
        · refine x_bipush hC dX2_fill_41 bp_9 ?_
          refine x_istore (L' := [_, _, _, _, _, _, _, _]) hC dX2_fill_43 (Nat.le_of_ble_eq_true rfl) rfl ?_
          refine x_iload_n (i := 2) hC dX2_fill_45 rfl rfl ?_
          refine x_if_le hC 151 dX2_fill_46 (by decide) (by omega) (fun h46 => by exfalso; omega) (fun h46 => ?_)
          refine x_iload_n (i := 3) hC dX2_fill_49 rfl rfl ?_
          refine x_if_le hC 151 dX2_fill_50 (by decide) (by omega) (fun h50 => by exfalso; omega) (fun h50 => ?_)
          obtain ⟨a, rfl⟩ : ∃ a, i = a + 1 := ⟨i - 1, by omega⟩
          obtain ⟨b, rfl⟩ : ∃ b, j = b + 1 := ⟨j - 1, by omega⟩
          have k1 : 78 + I1 - 1 = 78 + (a : Int) := by omega
          have k2 : 6 * w1 + J - 1 = 6 * w1 + (b : Int) := by omega
          have k3 : (I1 - 1) * 7 + J - 1 = (a : Int) * 7 + (b : Int) := by omega
          have k4 : (I1 - 1) * 7 + J = (a : Int) * 7 + ((b + 1 : Nat) : Int) := by omega
          have k5 : I1 * 7 + J - 1 = ((a + 1 : Nat) : Int) * 7 + (b : Int) := by omega
          have t1 := hT a b (by omega) (Or.inl (by omega))
          have t2 := hT a (b + 1) (by omega) (Or.inl (by omega))
          have t3 := hT (a + 1) b (by omega) (Or.inr ⟨rfl, by omega⟩)
          have l1 := edV_le (σ.2 1) w1 a b
          have l2 := edV_le (σ.2 1) w1 a (b + 1)
          have l3 := edV_le (σ.2 1) w1 (a + 1) b
          have g1 := edV_0 (σ.2 1) w1 a b
          have g2 := edV_0 (σ.2 1) w1 a (b + 1)
          have g3 := edV_0 (σ.2 1) w1 (a + 1) b
          have m1 := minF_le (edV (σ.2 1) w1 a (b + 1)) (edV (σ.2 1) w1 (a + 1) b)
          have m2 := minF_0 g2 g3
          have p1 := ok2.f1 (78 + (a : Int))
          have p2 := ok2.f1 (6 * w1 + (b : Int))
          refine x_aload_n (i := 0) hC dX2_fill_53 rfl rfl ?_
          refine x2_g1 hC dX2_fill_54 ?_
          refine x_bipush hC dX2_fill_57 bp_78 ?_
          refine x_iload_n (i := 2) hC dX2_fill_59 rfl rfl ?_
          refine x_iadd hC dX2_fill_60 ?_
          refine x_iconst hC dX2_fill_61 ?_
          refine x_isub hC dX2_fill_62 ?_
          rw [k1]
          refine x2_l1 hC (by omega) dX2_fill_63 ?_
          refine x_aload_n (i := 0) hC dX2_fill_64 rfl rfl ?_
          refine x2_g1 hC dX2_fill_65 ?_
          refine x_bipush hC dX2_fill_68 bp_6 ?_
          refine x_iload_n (i := 1) hC dX2_fill_70 rfl rfl ?_
          refine x_imul hC dX2_fill_71 ?_
          refine x_iload_n (i := 3) hC dX2_fill_72 rfl rfl ?_
          refine x_iadd hC dX2_fill_73 ?_
          refine x_iconst hC dX2_fill_74 ?_
          refine x_isub hC dX2_fill_75 ?_
          rw [k2]
          refine x2_l1 hC (by omega) dX2_fill_76 ?_
          refine x_icmp_ne hC 84 dX2_fill_77 (by decide) (by omega) (by omega) (fun h77 => ?_) (fun h77 => ?_)
          · refine x_iconst hC dX2_fill_84 ?_
            refine x_istore (L' := [_, _, _, _, _, _, _, _]) hC dX2_fill_85 (Nat.le_of_ble_eq_true rfl) rfl ?_
            refine x_aload_n (i := 0) hC dX2_fill_87 rfl rfl ?_
            refine x2_g5 hC dX2_fill_88 ?_
            refine x_iload_n (i := 2) hC dX2_fill_91 rfl rfl ?_
            refine x_iconst hC dX2_fill_92 ?_
            refine x_isub hC dX2_fill_93 ?_
            refine x_bipush hC dX2_fill_94 bp_7 ?_
            refine x_imul hC dX2_fill_96 ?_
            refine x_iload_n (i := 3) hC dX2_fill_97 rfl rfl ?_
            refine x_iadd hC dX2_fill_98 ?_
            refine x_iconst hC dX2_fill_99 ?_
            refine x_isub hC dX2_fill_100 ?_
            rw [k3]
            refine x2_l5 hC (by omega) dX2_fill_101 ?_
            rw [t1]
            refine x_iload hC dX2_fill_102 rfl ?_
            refine x_iadd hC dX2_fill_104 ?_
            refine x_istore (L' := [_, _, _, _, _, _, _, _]) hC dX2_fill_105 (Nat.le_of_ble_eq_true rfl) rfl ?_
            refine x_aload_n (i := 0) hC dX2_fill_107 rfl rfl ?_
            refine x_aload_n (i := 0) hC dX2_fill_108 rfl rfl ?_
            refine x2_g5 hC dX2_fill_109 ?_
            refine x_iload_n (i := 2) hC dX2_fill_112 rfl rfl ?_
            refine x_iconst hC dX2_fill_113 ?_
            refine x_isub hC dX2_fill_114 ?_
            refine x_bipush hC dX2_fill_115 bp_7 ?_
            refine x_imul hC dX2_fill_117 ?_
            refine x_iload_n (i := 3) hC dX2_fill_118 rfl rfl ?_
            refine x_iadd hC dX2_fill_119 ?_
            rw [k4]
            refine x2_l5 hC (by omega) dX2_fill_120 ?_
            rw [t2]
            refine x_aload_n (i := 0) hC dX2_fill_121 rfl rfl ?_
            refine x2_g5 hC dX2_fill_122 ?_
            refine x_iload_n (i := 2) hC dX2_fill_125 rfl rfl ?_
            refine x_bipush hC dX2_fill_126 bp_7 ?_
            refine x_imul hC dX2_fill_128 ?_
            refine x_iload_n (i := 3) hC dX2_fill_129 rfl rfl ?_
            refine x_iadd hC dX2_fill_130 ?_
            refine x_iconst hC dX2_fill_131 ?_
            refine x_isub hC dX2_fill_132 ?_
            rw [k5]
            refine x2_l5 hC (by omega) dX2_fill_133 ?_
            rw [t3]
            refine x_callI hC (tX2_least l D cA h u _ _ (by omega) (by omega)) gX2_X2_least hyX2_least ⟨rfl, rfl⟩ ⟨Nat.le_of_ble_eq_true rfl, Nat.le_of_ble_eq_true rfl⟩ ⟨Nat.zero_le _, Nat.zero_le _⟩ (ci := 1) (q0 := 0) rfl rfl rfl rfl (Nat.le_of_ble_eq_true rfl) rfl dX2_fill_134 (fun z u hu => ?_)
            obtain ⟨rfl, rfl⟩ := hu
            refine x_iconst hC dX2_fill_137 ?_
            refine x_iadd hC dX2_fill_138 ?_
            refine x_istore (L' := [_, _, _, _, _, _, _, _]) hC dX2_fill_139 (Nat.le_of_ble_eq_true rfl) rfl ?_
            refine x_aload_n (i := 0) hC dX2_fill_141 rfl rfl ?_
            refine x_iload hC dX2_fill_142 rfl ?_
            refine x_iload hC dX2_fill_144 rfl ?_
            refine x_callI hC (tX2_least l D cA h u _ _ (by omega) (by omega)) gX2_X2_least hyX2_least ⟨rfl, rfl⟩ ⟨Nat.le_of_ble_eq_true rfl, Nat.le_of_ble_eq_true rfl⟩ ⟨Nat.zero_le _, Nat.zero_le _⟩ (ci := 1) (q0 := 0) rfl rfl rfl rfl (Nat.le_of_ble_eq_true rfl) rfl dX2_fill_146 (fun z u hu => ?_)
            obtain ⟨rfl, rfl⟩ := hu
            refine x_istore (L' := [_, _, _, _, _, _, _, _]) hC dX2_fill_149 (Nat.le_of_ble_eq_true rfl) rfl ?_
            have ev : minF (edV (σ.2 1) w1 a b + 1) (minF (edV (σ.2 1) w1 a (b + 1)) (edV (σ.2 1) w1 (a + 1) b) + 1) = edV (σ.2 1) w1 (a + 1) (b + 1) := by
              rw [hs.2.1] at h77
              show _ = minF (_ + (if _ then _ else _)) _
              rw [if_neg h77]
              rfl
            refine x_aload_n (i := 0) hC dX2_fill_151 rfl rfl ?_
            refine x2_g5 hC dX2_fill_152 ?_
            refine x_iload_n (i := 2) hC dX2_fill_155 rfl rfl ?_
            refine x_bipush hC dX2_fill_156 bp_7 ?_
            refine x_imul hC dX2_fill_158 ?_
            refine x_iload_n (i := 3) hC dX2_fill_159 rfl rfl ?_
            refine x_iadd hC dX2_fill_160 ?_
            refine x_iload hC dX2_fill_161 rfl ?_
            refine x2_s5 hC (by omega) dX2_fill_163 ?_
            refine x_iinc (L' := [_, _, _, _, _, _, _, _]) hC dX2_fill_164 rfl rfl ?_
            refine x_goto hC 15 dX2_fill_167 (by decide) ?_
            rw [show I1 * 7 + J = ((a + 1 : Nat) : Int) * 7 + ((b + 1 : Nat) : Int) from by omega]
            exact x_weak (by simp [lzle] <;> rfl) (ih (b + 1 + 1) (J + 1) _ (by omega) (by omega) hs.sA5 (hT.set (by omega) (by omega) ev) K)
          · refine x_iconst hC dX2_fill_80 ?_
            refine x_goto hC 85 dX2_fill_81 (by decide) ?_
            refine x_istore (L' := [_, _, _, _, _, _, _, _]) hC dX2_fill_85 (Nat.le_of_ble_eq_true rfl) rfl ?_
            refine x_aload_n (i := 0) hC dX2_fill_87 rfl rfl ?_
            refine x2_g5 hC dX2_fill_88 ?_
            refine x_iload_n (i := 2) hC dX2_fill_91 rfl rfl ?_
            refine x_iconst hC dX2_fill_92 ?_
            refine x_isub hC dX2_fill_93 ?_
            refine x_bipush hC dX2_fill_94 bp_7 ?_
            refine x_imul hC dX2_fill_96 ?_
            refine x_iload_n (i := 3) hC dX2_fill_97 rfl rfl ?_
            refine x_iadd hC dX2_fill_98 ?_
            refine x_iconst hC dX2_fill_99 ?_
            refine x_isub hC dX2_fill_100 ?_
            rw [k3]
            refine x2_l5 hC (by omega) dX2_fill_101 ?_
            rw [t1]
            refine x_iload hC dX2_fill_102 rfl ?_
            refine x_iadd hC dX2_fill_104 ?_
            refine x_istore (L' := [_, _, _, _, _, _, _, _]) hC dX2_fill_105 (Nat.le_of_ble_eq_true rfl) rfl ?_
            refine x_aload_n (i := 0) hC dX2_fill_107 rfl rfl ?_
            refine x_aload_n (i := 0) hC dX2_fill_108 rfl rfl ?_
            refine x2_g5 hC dX2_fill_109 ?_
            refine x_iload_n (i := 2) hC dX2_fill_112 rfl rfl ?_
            refine x_iconst hC dX2_fill_113 ?_
            refine x_isub hC dX2_fill_114 ?_
            refine x_bipush hC dX2_fill_115 bp_7 ?_
            refine x_imul hC dX2_fill_117 ?_
            refine x_iload_n (i := 3) hC dX2_fill_118 rfl rfl ?_
            refine x_iadd hC dX2_fill_119 ?_
            rw [k4]
            refine x2_l5 hC (by omega) dX2_fill_120 ?_
            rw [t2]
            refine x_aload_n (i := 0) hC dX2_fill_121 rfl rfl ?_
            refine x2_g5 hC dX2_fill_122 ?_
            refine x_iload_n (i := 2) hC dX2_fill_125 rfl rfl ?_
            refine x_bipush hC dX2_fill_126 bp_7 ?_
            refine x_imul hC dX2_fill_128 ?_
            refine x_iload_n (i := 3) hC dX2_fill_129 rfl rfl ?_
            refine x_iadd hC dX2_fill_130 ?_
            refine x_iconst hC dX2_fill_131 ?_
            refine x_isub hC dX2_fill_132 ?_
            rw [k5]
            refine x2_l5 hC (by omega) dX2_fill_133 ?_
            rw [t3]
            refine x_callI hC (tX2_least l D cA h u _ _ (by omega) (by omega)) gX2_X2_least hyX2_least ⟨rfl, rfl⟩ ⟨Nat.le_of_ble_eq_true rfl, Nat.le_of_ble_eq_true rfl⟩ ⟨Nat.zero_le _, Nat.zero_le _⟩ (ci := 1) (q0 := 0) rfl rfl rfl rfl (Nat.le_of_ble_eq_true rfl) rfl dX2_fill_134 (fun z u hu => ?_)
            obtain ⟨rfl, rfl⟩ := hu
            refine x_iconst hC dX2_fill_137 ?_
            refine x_iadd hC dX2_fill_138 ?_
            refine x_istore (L' := [_, _, _, _, _, _, _, _]) hC dX2_fill_139 (Nat.le_of_ble_eq_true rfl) rfl ?_
            refine x_aload_n (i := 0) hC dX2_fill_141 rfl rfl ?_
            refine x_iload hC dX2_fill_142 rfl ?_
            refine x_iload hC dX2_fill_144 rfl ?_
            refine x_callI hC (tX2_least l D cA h u _ _ (by omega) (by omega)) gX2_X2_least hyX2_least ⟨rfl, rfl⟩ ⟨Nat.le_of_ble_eq_true rfl, Nat.le_of_ble_eq_true rfl⟩ ⟨Nat.zero_le _, Nat.zero_le _⟩ (ci := 1) (q0 := 0) rfl rfl rfl rfl (Nat.le_of_ble_eq_true rfl) rfl dX2_fill_146 (fun z u hu => ?_)
            obtain ⟨rfl, rfl⟩ := hu
            refine x_istore (L' := [_, _, _, _, _, _, _, _]) hC dX2_fill_149 (Nat.le_of_ble_eq_true rfl) rfl ?_
            have ev : minF (edV (σ.2 1) w1 a b + 0) (minF (edV (σ.2 1) w1 a (b + 1)) (edV (σ.2 1) w1 (a + 1) b) + 1) = edV (σ.2 1) w1 (a + 1) (b + 1) := by
              rw [hs.2.1] at h77
              show _ = minF (_ + (if _ then _ else _)) _
              rw [if_pos h77]
              rfl
            refine x_aload_n (i := 0) hC dX2_fill_151 rfl rfl ?_
            refine x2_g5 hC dX2_fill_152 ?_
            refine x_iload_n (i := 2) hC dX2_fill_155 rfl rfl ?_
            refine x_bipush hC dX2_fill_156 bp_7 ?_
            refine x_imul hC dX2_fill_158 ?_
            refine x_iload_n (i := 3) hC dX2_fill_159 rfl rfl ?_
            refine x_iadd hC dX2_fill_160 ?_
            refine x_iload hC dX2_fill_161 rfl ?_
            refine x2_s5 hC (by omega) dX2_fill_163 ?_
            refine x_iinc (L' := [_, _, _, _, _, _, _, _]) hC dX2_fill_164 rfl rfl ?_
            refine x_goto hC 15 dX2_fill_167 (by decide) ?_
            rw [show I1 * 7 + J = ((a + 1 : Nat) : Int) * 7 + ((b + 1 : Nat) : Int) from by omega]
            exact x_weak (by simp [lzle] <;> rfl) (ih (b + 1 + 1) (J + 1) _ (by omega) (by omega) hs.sA5 (hT.set (by omega) (by omega) ev) K)
        · refine x_iload_n (i := 2) hC dX2_fill_37 rfl rfl ?_
          refine x_goto hC 43 dX2_fill_38 (by decide) ?_
          refine x_istore (L' := [_, _, _, _, _, _, _, _]) hC dX2_fill_43 (Nat.le_of_ble_eq_true rfl) rfl ?_
          refine x_iload_n (i := 2) hC dX2_fill_45 rfl rfl ?_
          refine x_if_le hC 151 dX2_fill_46 (by decide) (by omega) (fun h46 => by exfalso; omega) (fun h46 => ?_)
          refine x_iload_n (i := 3) hC dX2_fill_49 rfl rfl ?_
          refine x_if_le hC 151 dX2_fill_50 (by decide) (by omega) (fun h50 => ?_) (fun h50 => by exfalso; omega)
          refine x_aload_n (i := 0) hC dX2_fill_151 rfl rfl ?_
          refine x2_g5 hC dX2_fill_152 ?_
          refine x_iload_n (i := 2) hC dX2_fill_155 rfl rfl ?_
          refine x_bipush hC dX2_fill_156 bp_7 ?_
          refine x_imul hC dX2_fill_158 ?_
          refine x_iload_n (i := 3) hC dX2_fill_159 rfl rfl ?_
          refine x_iadd hC dX2_fill_160 ?_
          refine x_iload hC dX2_fill_161 rfl ?_
          refine x2_s5 hC (by omega) dX2_fill_163 ?_
          refine x_iinc (L' := [_, _, _, _, _, _, _, _]) hC dX2_fill_164 rfl rfl ?_
          refine x_goto hC 15 dX2_fill_167 (by decide) ?_
          rw [show I1 * 7 + J = (i : Int) * 7 + (j : Int) from by omega]
          exact x_weak (by simp [lzle] <;> rfl) (ih (j + 1) (J + 1) _ (by omega) (by omega) hs.sA5 (hT.set (by omega) (by omega) (by obtain ⟨a, rfl⟩ : ∃ a, i = a + 1 := ⟨i - 1, by omega⟩; obtain rfl : j = 0 := (by omega); show I1 = (a : Int) + 1; omega)) K)
      · refine x_iload_n (i := 3) hC dX2_fill_29 rfl rfl ?_
        refine x_goto hC 43 dX2_fill_30 (by decide) ?_
        refine x_istore (L' := [_, _, _, _, _, _, _, _]) hC dX2_fill_43 (Nat.le_of_ble_eq_true rfl) rfl ?_
        refine x_iload_n (i := 2) hC dX2_fill_45 rfl rfl ?_
        refine x_if_le hC 151 dX2_fill_46 (by decide) (by omega) (fun h46 => ?_) (fun h46 => by exfalso; omega)
        refine x_aload_n (i := 0) hC dX2_fill_151 rfl rfl ?_
        refine x2_g5 hC dX2_fill_152 ?_
        refine x_iload_n (i := 2) hC dX2_fill_155 rfl rfl ?_
        refine x_bipush hC dX2_fill_156 bp_7 ?_
        refine x_imul hC dX2_fill_158 ?_
        refine x_iload_n (i := 3) hC dX2_fill_159 rfl rfl ?_
        refine x_iadd hC dX2_fill_160 ?_
        refine x_iload hC dX2_fill_161 rfl ?_
        refine x2_s5 hC (by omega) dX2_fill_163 ?_
        refine x_iinc (L' := [_, _, _, _, _, _, _, _]) hC dX2_fill_164 rfl rfl ?_
        refine x_goto hC 15 dX2_fill_167 (by decide) ?_
        rw [show I1 * 7 + J = (i : Int) * 7 + (j : Int) from by omega]
        exact x_weak (by simp [lzle] <;> rfl) (ih (j + 1) (J + 1) _ (by omega) (by omega) hs.sA5 (hT.set (by omega) (by omega) (by obtain rfl : i = 0 := (by omega); rw [eJ]; rfl)) K)
  have outer : ∀ (n i : Nat) (I1 : Int) (u : XS), I1 = (i : Int) → i + n = lq + 1 → sameM σ u → TB (σ.2 1) w1 lw u i 0 → XW p l e rX2_fill s m (Value.ref (h 0) :: [.int (iI w1)]).toArray below meth c 0 0 (MQ below (va_Qv (fun u => sameM σ u ∧ TB (σ.2 1) w1 (σ.2 2 w1).toNat u ((σ.2 2 13).toNat + 1) 0) (BW D vwCl [(cA, .int)] A (wM h cA)) A) (Value.ref (h 0) :: [.int (iI w1)]).toArray s 0 0 A) D vwCl A (wM h cA) u [some (.ref (h 0)), some (.int (iI (w1))), some (.int (iI (I1))), none, none, none, none, none] [] 2 := by
    intro n
    induction n with
    | zero =>
      intro i I1 u eI hi hs hT
      have e13 : u.2 2 13 = (lq : Int) := by rw [hs.2.2.1]; omega
      obtain rfl : i = lq + 1 := by omega
      refine x_iload_n (i := 2) hC dX2_fill_2 rfl rfl ?_
      refine x_aload_n (i := 0) hC dX2_fill_3 rfl rfl ?_
      refine x2_g2 hC dX2_fill_4 ?_
      refine x_bipush hC dX2_fill_7 bp_13 ?_
      refine x2_l2 hC (by omega) dX2_fill_9 ?_
      refine x_icmp_gt hC 176 dX2_fill_10 (by decide) (by omega) (by omega) (fun h10 => ?_) (fun h10 => by exfalso; omega)
      exact x_vret hC hr dX2_fill_176 ⟨hs, by rw [elw, elq]; exact hT⟩
    | succ n ih =>
      intro i I1 u eI hi hs hT
      have e13 : u.2 2 13 = (lq : Int) := by rw [hs.2.2.1]; omega
      refine x_iload_n (i := 2) hC dX2_fill_2 rfl rfl ?_
      refine x_aload_n (i := 0) hC dX2_fill_3 rfl rfl ?_
      refine x2_g2 hC dX2_fill_4 ?_
      refine x_bipush hC dX2_fill_7 bp_13 ?_
      refine x2_l2 hC (by omega) dX2_fill_9 ?_
      refine x_icmp_gt hC 176 dX2_fill_10 (by decide) (by omega) (by omega) (fun h10 => by exfalso; omega) (fun h10 => ?_)
      refine x_iconst hC dX2_fill_13 ?_
      refine x_istore_n (i := 3) (L' := [_, _, _, _, _, _, _, _]) hC dX2_fill_14 rfl (Nat.le_of_ble_eq_true rfl) rfl ?_
      refine inner i I1 eI (by omega) (lw + 1) 0 0 u rfl (by omega) hs hT (fun u' hs' hT' => ?_)
      refine x_iinc (L' := [_, _, _, _, _, _, _, _]) hC dX2_fill_170 rfl rfl ?_
      refine x_goto hC 2 dX2_fill_173 (by decide) ?_
      exact ih (i + 1) (I1 + 1) u' (by omega) (by omega) hs' hT'
  refine x_iconst hC dX2_fill_0 ?_
  refine x_istore_n (i := 2) (L' := [_, _, _, _, _, _, _, _]) hC dX2_fill_1 rfl (Nat.le_of_ble_eq_true rfl) rfl ?_
  exact outer (lq + 1) 0 0 σ rfl (by omega) sameM.rf (fun i' j' _ z => absurd z (by omega))
abbrev rX2_reach : Room := ({ frames := 2, cells := 0, slots := 0, locals := 49 } : Room)
set_option maxHeartbeats 4000000 in
set_option maxRecDepth 100000 in
theorem tX2_reach (l : Launch) (D : va_G) (cA : ClassId) (h : Nat → Nat) (σ : XS) (hok : OKm σ) (w1 : Int) (hw : 0 ≤ w1 ∧ w1 ≤ 11) : MI l yX2_reach (ws_ yX2_reach cX2_reach 4 (some .int)) rX2_reach (wM h cA) D vwCl [(cA, .int)] (h 0) [.int (iI w1)] σ (fun z u => rchV σ w1 = z ∧ sameM σ u) := by
  refine MI.of (own := RX2) (L := [some (.ref (h 0)), some (.int (iI w1)), none, none]) (by decide) rfl (by simp [Value.category]) (Nat.le_of_ble_eq_true rfl) rfl ?_
  intro p e s m below meth c A hC hr
  have q2 := hok.f2 w1
  have q13 := hok.f2 13
  obtain ⟨lw, hlw⟩ : ∃ lw : Nat, (lw : Int) = σ.2 2 w1 := ⟨(σ.2 2 w1).toNat, by omega⟩
  obtain ⟨lq, hlq⟩ : ∃ lq : Nat, (lq : Int) = σ.2 2 13 := ⟨(σ.2 2 13).toNat, by omega⟩
  have elw : (σ.2 2 w1).toNat = lw := by omega
  have elq : (σ.2 2 13).toNat = lq := by omega
  have loop : ∀ (u : XS), sameM σ u → TB (σ.2 1) w1 lw u (lq + 1) 0 → ∀ (n j : Nat) (J b : Int), J = (j : Int) → j + n = lw + 1 → 0 ≤ b ∧ b ≤ 9 → rcLoop (edV (σ.2 1) w1 lq) n j b = rchV σ w1 → XW p l e rX2_reach s m (Value.ref (h 0) :: [.int (iI w1)]).toArray below meth c 0 0 (MQ below (va_Qi (PI (fun z u => rchV σ w1 = z ∧ sameM σ u)) (BW D vwCl [(cA, .int)] A (wM h cA)) A) (Value.ref (h 0) :: [.int (iI w1)]).toArray s 0 0 A) D vwCl A (wM h cA) u [some (.ref (h 0)), some (.int (iI (w1))), some (.int (iI (b))), some (.int (iI (J)))] [] 10 := by
    intro u hs hT n
    have ew : u.2 2 w1 = (lw : Int) := by rw [hs.2.2.1]; omega
    have e13 : u.2 2 13 = (lq : Int) := by rw [hs.2.2.1]; omega
    induction n with
    | zero =>
      intro j J b eJ hj hb he
      refine x_iload_n (i := 3) hC dX2_reach_10 rfl rfl ?_
      refine x_aload_n (i := 0) hC dX2_reach_11 rfl rfl ?_
      refine x2_g2 hC dX2_reach_12 ?_
      refine x_iload_n (i := 1) hC dX2_reach_15 rfl rfl ?_
      refine x2_l2 hC (by omega) dX2_reach_16 ?_
      refine x_icmp_gt hC 49 dX2_reach_17 (by decide) (by omega) (by omega) (fun h17 => ?_) (fun h17 => by exfalso; omega)
      refine x_iload_n (i := 2) hC dX2_reach_49 rfl rfl ?_
      exact x_iret hC hr dX2_reach_50 ⟨he.symm, hs⟩
    | succ n ih =>
      intro j J b eJ hj hb he
      have t1 := hT lq j (by omega) (Or.inl (by omega))
      have l1 := edV_le (σ.2 1) w1 lq j
      have g1 := edV_0 (σ.2 1) w1 lq j
      have m1 := minF_le b (edV (σ.2 1) w1 lq j)
      have m2 := minF_0 hb.1 g1
      refine x_iload_n (i := 3) hC dX2_reach_10 rfl rfl ?_
      refine x_aload_n (i := 0) hC dX2_reach_11 rfl rfl ?_
      refine x2_g2 hC dX2_reach_12 ?_
      refine x_iload_n (i := 1) hC dX2_reach_15 rfl rfl ?_
      refine x2_l2 hC (by omega) dX2_reach_16 ?_
      refine x_icmp_gt hC 49 dX2_reach_17 (by decide) (by omega) (by omega) (fun h17 => by exfalso; omega) (fun h17 => ?_)
      refine x_aload_n (i := 0) hC dX2_reach_20 rfl rfl ?_
      refine x_iload_n (i := 2) hC dX2_reach_21 rfl rfl ?_
      refine x_aload_n (i := 0) hC dX2_reach_22 rfl rfl ?_
      refine x2_g5 hC dX2_reach_23 ?_
      refine x_aload_n (i := 0) hC dX2_reach_26 rfl rfl ?_
      refine x2_g2 hC dX2_reach_27 ?_
      refine x_bipush hC dX2_reach_30 bp_13 ?_
      refine x2_l2 hC (by omega) dX2_reach_32 ?_
      rw [e13]
      refine x_bipush hC dX2_reach_33 bp_7 ?_
      refine x_imul hC dX2_reach_35 ?_
      refine x_iload_n (i := 3) hC dX2_reach_36 rfl rfl ?_
      refine x_iadd hC dX2_reach_37 ?_
      rw [show (lq : Int) * 7 + J = (lq : Int) * 7 + (j : Int) from by omega]
      refine x2_l5 hC (by omega) dX2_reach_38 ?_
      rw [t1]
      refine x_callI hC (tX2_least l D cA h u b (edV (σ.2 1) w1 lq j) (by omega) (by omega)) gX2_X2_least hyX2_least ⟨rfl, rfl⟩ ⟨Nat.le_of_ble_eq_true rfl, Nat.le_of_ble_eq_true rfl⟩ ⟨Nat.zero_le _, Nat.zero_le _⟩ (ci := 1) (q0 := 0) rfl rfl rfl rfl (Nat.le_of_ble_eq_true rfl) rfl dX2_reach_39 (fun z u hu => ?_)
      obtain ⟨rfl, rfl⟩ := hu
      refine x_istore_n (i := 2) (L' := [_, _, _, _]) hC dX2_reach_42 rfl (Nat.le_of_ble_eq_true rfl) rfl ?_
      refine x_iinc (L' := [_, _, _, _]) hC dX2_reach_43 rfl rfl ?_
      refine x_goto hC 10 dX2_reach_46 (by decide) ?_
      exact ih (j + 1) (J + 1) _ (by omega) (by omega) (by omega) he
  refine x_aload_n (i := 0) hC dX2_reach_0 rfl rfl ?_
  refine x_iload_n (i := 1) hC dX2_reach_1 rfl rfl ?_
  refine x_callV hC (tX2_fill l D cA h σ hok w1 hw) gX2_X2_fill hyX2_fill ⟨rfl, rfl⟩ ⟨Nat.le_of_ble_eq_true rfl, Nat.le_of_ble_eq_true rfl⟩ ⟨Nat.zero_le _, Nat.zero_le _⟩ (ci := 1) (q0 := 0) rfl rfl rfl rfl (Nat.le_of_ble_eq_true rfl) rfl dX2_reach_2 (fun u hu => ?_)
  obtain ⟨hs, hT⟩ := hu
  rw [elw, elq] at hT
  refine x_bipush hC dX2_reach_5 bp_9 ?_
  refine x_istore_n (i := 2) (L' := [_, _, _, _]) hC dX2_reach_7 rfl (Nat.le_of_ble_eq_true rfl) rfl ?_
  refine x_iconst hC dX2_reach_8 ?_
  refine x_istore_n (i := 3) (L' := [_, _, _, _]) hC dX2_reach_9 rfl (Nat.le_of_ble_eq_true rfl) rfl ?_
  exact loop u hs hT (lw + 1) 0 0 9 rfl (by omega) (by omega) (by unfold rchV; rw [elw, elq])
abbrev rX2_isOffered : Room := ({ frames := 3, cells := 0, slots := 0, locals := 72 } : Room)
set_option maxHeartbeats 4000000 in
set_option maxRecDepth 100000 in
theorem tX2_isOffered (l : Launch) (D : va_G) (cA : ClassId) (h : Nat → Nat) (σ : XS) (hok : OKm σ) (w1 : Int) (hw : 0 ≤ w1 ∧ w1 ≤ 11) : MI l yX2_isOffered (ws_ yX2_isOffered cX2_isOffered 2 (some .boolean)) rX2_isOffered (wM h cA) D vwCl [(cA, .int)] (h 0) [.int (iI w1)] σ (fun z u => (z = 1 ∧ (offP σ w1 = true) ∨ z = 0 ∧ ¬ (offP σ w1 = true)) ∧ sameM σ u) := by
  refine MI.of (own := RX2) (L := [some (.ref (h 0)), some (.int (iI w1))]) (by decide) rfl (by simp [Value.category]) (Nat.le_of_ble_eq_true rfl) rfl ?_
  intro p e s m below meth c A hC hr
  have q0 := hok.i0
  have qr := rch_rg σ w1
  refine x_aload_n (i := 0) hC dX2_isOffered_0 rfl rfl ?_
  refine x_iload_n (i := 1) hC dX2_isOffered_1 rfl rfl ?_
  refine x_callI hC (tX2_reach l D cA h σ hok w1 hw) gX2_X2_reach hyX2_reach ⟨rfl, rfl⟩ ⟨Nat.le_of_ble_eq_true rfl, Nat.le_of_ble_eq_true rfl⟩ ⟨Nat.zero_le _, Nat.zero_le _⟩ (ci := 1) (q0 := 0) rfl rfl rfl rfl (Nat.le_of_ble_eq_true rfl) rfl dX2_isOffered_2 (fun z u hu => ?_)
  obtain ⟨rfl, hs⟩ := hu
  have e0 : u.1 0 = σ.1 0 := congrFun hs.1 0
  refine x_aload_n (i := 0) hC dX2_isOffered_5 rfl rfl ?_
  refine x2_g0 hC dX2_isOffered_6 ?_
  refine x_icmp_gt hC 16 dX2_isOffered_9 (by decide) (by omega) (by omega) (fun h9 => ?_) (fun h9 => ?_)
  · refine x_iconst hC dX2_isOffered_16 ?_
    exact x_zret hC hr dX2_isOffered_17 (by first | exact Or.inl rfl | exact Or.inr rfl) ⟨Or.inr ⟨rfl, by unfold offP; simp; omega⟩, hs⟩
  · refine x_iconst hC dX2_isOffered_12 ?_
    refine x_goto hC 17 dX2_isOffered_13 (by decide) ?_
    exact x_zret hC hr dX2_isOffered_17 (by first | exact Or.inl rfl | exact Or.inr rfl) ⟨Or.inl ⟨rfl, by unfold offP; simp; omega⟩, hs⟩
abbrev rX2_before : Room := ({ frames := 0, cells := 0, slots := 0, locals := 0 } : Room)
set_option maxHeartbeats 4000000 in
set_option maxRecDepth 100000 in
theorem tX2_before (l : Launch) (D : va_G) (cA : ClassId) (h : Nat → Nat) (σ : XS) (hok : OKm σ) (a b : Int) (ha : 0 ≤ a ∧ a ≤ 11) (hb : 0 ≤ b ∧ b ≤ 11) : MI l yX2_before (ws_ yX2_before cX2_before 4 (some .boolean)) rX2_before (wM h cA) D vwCl [(cA, .int)] (h 0) [.int (iI a), .int (iI b)] σ (fun z u => (z = 1 ∧ (bfV σ a b = true) ∨ z = 0 ∧ ¬ (bfV σ a b = true)) ∧ σ = u) := by
  refine MI.of (own := RX2) (L := [some (.ref (h 0)), some (.int (iI a)), some (.int (iI b)), none]) (by decide) rfl (by simp [Value.category]) (Nat.le_of_ble_eq_true rfl) rfl ?_
  intro p e s m below meth c A hC hr
  have qa := hok.f2 a
  have qb := hok.f2 b
  have loop : ∀ (n : Nat) (i : Int), 0 ≤ i → i + (n : Int) = 6 → bfL (σ.2 1) (σ.2 2 a) (σ.2 2 b) a b n i = bfV σ a b → XW p l e rX2_before s m (Value.ref (h 0) :: [.int (iI a), .int (iI b)]).toArray below meth c 0 0 (MQ below (va_Qi (PI (fun z u => (z = 1 ∧ (bfV σ a b = true) ∨ z = 0 ∧ ¬ (bfV σ a b = true)) ∧ σ = u)) (BW D vwCl [(cA, .int)] A (wM h cA)) A) (Value.ref (h 0) :: [.int (iI a), .int (iI b)]).toArray s 0 0 A) D vwCl A (wM h cA) σ [some (.ref (h 0)), some (.int (iI (a))), some (.int (iI (b))), some (.int (iI (i)))] [] 2 := by
    intro n
    induction n with
    | zero =>
      intro i hi hn he
      refine x_iload_n (i := 3) hC dX2_before_2 rfl rfl ?_
      refine x_aload_n (i := 0) hC dX2_before_3 rfl rfl ?_
      refine x2_g2 hC dX2_before_4 ?_
      refine x_iload_n (i := 1) hC dX2_before_7 rfl rfl ?_
      refine x2_l2 hC (by omega) dX2_before_8 ?_
      refine x_icmp_ge hC 84 dX2_before_9 (by decide) (by omega) (by omega) (fun h9 => ?_) (fun h9 => by exfalso; omega)
      refine x_aload_n (i := 0) hC dX2_before_84 rfl rfl ?_
      refine x2_g2 hC dX2_before_85 ?_
      refine x_iload_n (i := 1) hC dX2_before_88 rfl rfl ?_
      refine x2_l2 hC (by omega) dX2_before_89 ?_
      refine x_aload_n (i := 0) hC dX2_before_90 rfl rfl ?_
      refine x2_g2 hC dX2_before_91 ?_
      refine x_iload_n (i := 2) hC dX2_before_94 rfl rfl ?_
      refine x2_l2 hC (by omega) dX2_before_95 ?_
      refine x_icmp_ge hC 103 dX2_before_96 (by decide) (by omega) (by omega) (fun h96 => ?_) (fun h96 => ?_)
      · refine x_iconst hC dX2_before_103 ?_
        exact x_zret hC hr dX2_before_104 (by first | exact Or.inl rfl | exact Or.inr rfl) ⟨Or.inr ⟨rfl, by rw [← he]; unfold bfL; simp; omega⟩, rfl⟩
      · refine x_iconst hC dX2_before_99 ?_
        refine x_goto hC 104 dX2_before_100 (by decide) ?_
        exact x_zret hC hr dX2_before_104 (by first | exact Or.inl rfl | exact Or.inr rfl) ⟨Or.inl ⟨rfl, by rw [← he]; unfold bfL; simp; omega⟩, rfl⟩
    | succ n ih =>
      intro i hi hn he
      have p1 := hok.f1 (6 * a + i)
      have p2 := hok.f1 (6 * b + i)
      refine x_iload_n (i := 3) hC dX2_before_2 rfl rfl ?_
      refine x_aload_n (i := 0) hC dX2_before_3 rfl rfl ?_
      refine x2_g2 hC dX2_before_4 ?_
      refine x_iload_n (i := 1) hC dX2_before_7 rfl rfl ?_
      refine x2_l2 hC (by omega) dX2_before_8 ?_
      refine x_icmp_ge hC 84 dX2_before_9 (by decide) (by omega) (by omega) (fun h9 => ?_) (fun h9 => ?_)
      · refine x_aload_n (i := 0) hC dX2_before_84 rfl rfl ?_
        refine x2_g2 hC dX2_before_85 ?_
        refine x_iload_n (i := 1) hC dX2_before_88 rfl rfl ?_
        refine x2_l2 hC (by omega) dX2_before_89 ?_
        refine x_aload_n (i := 0) hC dX2_before_90 rfl rfl ?_
        refine x2_g2 hC dX2_before_91 ?_
        refine x_iload_n (i := 2) hC dX2_before_94 rfl rfl ?_
        refine x2_l2 hC (by omega) dX2_before_95 ?_
        refine x_icmp_ge hC 103 dX2_before_96 (by decide) (by omega) (by omega) (fun h96 => ?_) (fun h96 => ?_)
        · refine x_iconst hC dX2_before_103 ?_
          exact x_zret hC hr dX2_before_104 (by first | exact Or.inl rfl | exact Or.inr rfl) ⟨Or.inr ⟨rfl, by rw [← he]; unfold bfL; rw [if_neg (by omega)]; simp; omega⟩, rfl⟩
        · refine x_iconst hC dX2_before_99 ?_
          refine x_goto hC 104 dX2_before_100 (by decide) ?_
          exact x_zret hC hr dX2_before_104 (by first | exact Or.inl rfl | exact Or.inr rfl) ⟨Or.inl ⟨rfl, by rw [← he]; unfold bfL; rw [if_neg (by omega)]; simp; omega⟩, rfl⟩
      · refine x_iload_n (i := 3) hC dX2_before_12 rfl rfl ?_
        refine x_aload_n (i := 0) hC dX2_before_13 rfl rfl ?_
        refine x2_g2 hC dX2_before_14 ?_
        refine x_iload_n (i := 2) hC dX2_before_17 rfl rfl ?_
        refine x2_l2 hC (by omega) dX2_before_18 ?_
        refine x_icmp_ge hC 84 dX2_before_19 (by decide) (by omega) (by omega) (fun h19 => ?_) (fun h19 => ?_)
        · refine x_aload_n (i := 0) hC dX2_before_84 rfl rfl ?_
          refine x2_g2 hC dX2_before_85 ?_
          refine x_iload_n (i := 1) hC dX2_before_88 rfl rfl ?_
          refine x2_l2 hC (by omega) dX2_before_89 ?_
          refine x_aload_n (i := 0) hC dX2_before_90 rfl rfl ?_
          refine x2_g2 hC dX2_before_91 ?_
          refine x_iload_n (i := 2) hC dX2_before_94 rfl rfl ?_
          refine x2_l2 hC (by omega) dX2_before_95 ?_
          refine x_icmp_ge hC 103 dX2_before_96 (by decide) (by omega) (by omega) (fun h96 => ?_) (fun h96 => ?_)
          · refine x_iconst hC dX2_before_103 ?_
            exact x_zret hC hr dX2_before_104 (by first | exact Or.inl rfl | exact Or.inr rfl) ⟨Or.inr ⟨rfl, by rw [← he]; unfold bfL; rw [if_neg (by omega)]; simp; omega⟩, rfl⟩
          · refine x_iconst hC dX2_before_99 ?_
            refine x_goto hC 104 dX2_before_100 (by decide) ?_
            exact x_zret hC hr dX2_before_104 (by first | exact Or.inl rfl | exact Or.inr rfl) ⟨Or.inl ⟨rfl, by rw [← he]; unfold bfL; rw [if_neg (by omega)]; simp; omega⟩, rfl⟩
        · refine x_aload_n (i := 0) hC dX2_before_22 rfl rfl ?_
          refine x2_g1 hC dX2_before_23 ?_
          refine x_bipush hC dX2_before_26 bp_6 ?_
          refine x_iload_n (i := 1) hC dX2_before_28 rfl rfl ?_
          refine x_imul hC dX2_before_29 ?_
          refine x_iload_n (i := 3) hC dX2_before_30 rfl rfl ?_
          refine x_iadd hC dX2_before_31 ?_
          refine x2_l1 hC (by omega) dX2_before_32 ?_
          refine x_aload_n (i := 0) hC dX2_before_33 rfl rfl ?_
          refine x2_g1 hC dX2_before_34 ?_
          refine x_bipush hC dX2_before_37 bp_6 ?_
          refine x_iload_n (i := 2) hC dX2_before_39 rfl rfl ?_
          refine x_imul hC dX2_before_40 ?_
          refine x_iload_n (i := 3) hC dX2_before_41 rfl rfl ?_
          refine x_iadd hC dX2_before_42 ?_
          refine x2_l1 hC (by omega) dX2_before_43 ?_
          refine x_icmp_eq hC 78 dX2_before_44 (by decide) (by omega) (by omega) (fun h44 => ?_) (fun h44 => ?_)
          · refine x_iinc (L' := [_, _, _, _]) hC dX2_before_78 rfl rfl ?_
            refine x_goto hC 2 dX2_before_81 (by decide) ?_
            exact ih (i + 1) (by omega) (by omega) (by rw [← he]; exact ((if_pos (by omega)).trans (if_pos h44)).symm)
          · refine x_aload_n (i := 0) hC dX2_before_47 rfl rfl ?_
            refine x2_g1 hC dX2_before_48 ?_
            refine x_bipush hC dX2_before_51 bp_6 ?_
            refine x_iload_n (i := 1) hC dX2_before_53 rfl rfl ?_
            refine x_imul hC dX2_before_54 ?_
            refine x_iload_n (i := 3) hC dX2_before_55 rfl rfl ?_
            refine x_iadd hC dX2_before_56 ?_
            refine x2_l1 hC (by omega) dX2_before_57 ?_
            refine x_aload_n (i := 0) hC dX2_before_58 rfl rfl ?_
            refine x2_g1 hC dX2_before_59 ?_
            refine x_bipush hC dX2_before_62 bp_6 ?_
            refine x_iload_n (i := 2) hC dX2_before_64 rfl rfl ?_
            refine x_imul hC dX2_before_65 ?_
            refine x_iload_n (i := 3) hC dX2_before_66 rfl rfl ?_
            refine x_iadd hC dX2_before_67 ?_
            refine x2_l1 hC (by omega) dX2_before_68 ?_
            refine x_icmp_ge hC 76 dX2_before_69 (by decide) (by omega) (by omega) (fun h69 => ?_) (fun h69 => ?_)
            · refine x_iconst hC dX2_before_76 ?_
              exact x_zret hC hr dX2_before_77 (by first | exact Or.inl rfl | exact Or.inr rfl) ⟨Or.inr ⟨rfl, by rw [← he]; unfold bfL; rw [if_pos (by omega), if_neg h44]; simp; omega⟩, rfl⟩
            · refine x_iconst hC dX2_before_72 ?_
              refine x_goto hC 77 dX2_before_73 (by decide) ?_
              exact x_zret hC hr dX2_before_77 (by first | exact Or.inl rfl | exact Or.inr rfl) ⟨Or.inl ⟨rfl, by rw [← he]; unfold bfL; rw [if_pos (by omega), if_neg h44]; simp; omega⟩, rfl⟩
  refine x_iconst hC dX2_before_0 ?_
  refine x_istore_n (i := 3) (L' := [_, _, _, _]) hC dX2_before_1 rfl (Nat.le_of_ble_eq_true rfl) rfl ?_
  exact loop 6 0 (by omega) (by omega) rfl
abbrev rX2_ranksBefore : Room := ({ frames := 3, cells := 0, slots := 0, locals := 72 } : Room)
set_option maxHeartbeats 4000000 in
set_option maxRecDepth 100000 in
theorem tX2_ranksBefore (l : Launch) (D : va_G) (cA : ClassId) (h : Nat → Nat) (σ : XS) (hok : OKm σ) (a b : Int) (ha : 0 ≤ a ∧ a ≤ 11) (hb : 0 ≤ b ∧ b ≤ 11) : MI l yX2_ranksBefore (ws_ yX2_ranksBefore cX2_ranksBefore 5 (some .boolean)) rX2_ranksBefore (wM h cA) D vwCl [(cA, .int)] (h 0) [.int (iI a), .int (iI b)] σ (fun z u => (z = 1 ∧ (rbV σ a b = true) ∨ z = 0 ∧ ¬ (rbV σ a b = true)) ∧ sameM σ u) := by
  refine MI.of (own := RX2) (L := [some (.ref (h 0)), some (.int (iI a)), some (.int (iI b)), none, none]) (by decide) rfl (by simp [Value.category]) (Nat.le_of_ble_eq_true rfl) rfl ?_
  intro p e s m below meth c A hC hr
  have qa := rch_rg σ a
  have qb := rch_rg σ b
  have pa := hok.f3 a
  have pb := hok.f3 b
  refine x_aload_n (i := 0) hC dX2_ranksBefore_0 rfl rfl ?_
  refine x_iload_n (i := 1) hC dX2_ranksBefore_1 rfl rfl ?_
  refine x_callI hC (tX2_reach l D cA h σ hok a ha) gX2_X2_reach hyX2_reach ⟨rfl, rfl⟩ ⟨Nat.le_of_ble_eq_true rfl, Nat.le_of_ble_eq_true rfl⟩ ⟨Nat.zero_le _, Nat.zero_le _⟩ (ci := 1) (q0 := 0) rfl rfl rfl rfl (Nat.le_of_ble_eq_true rfl) rfl dX2_ranksBefore_2 (fun z u1 hu => ?_)
  obtain ⟨rfl, hs⟩ := hu
  refine x_istore_n (i := 3) (L' := [_, _, _, _, _]) hC dX2_ranksBefore_5 rfl (Nat.le_of_ble_eq_true rfl) rfl ?_
  refine x_aload_n (i := 0) hC dX2_ranksBefore_6 rfl rfl ?_
  refine x_iload_n (i := 2) hC dX2_ranksBefore_7 rfl rfl ?_
  refine x_callI hC (tX2_reach l D cA h u1 (hok.same hs) b hb) gX2_X2_reach hyX2_reach ⟨rfl, rfl⟩ ⟨Nat.le_of_ble_eq_true rfl, Nat.le_of_ble_eq_true rfl⟩ ⟨Nat.zero_le _, Nat.zero_le _⟩ (ci := 1) (q0 := 0) rfl rfl rfl rfl (Nat.le_of_ble_eq_true rfl) rfl dX2_ranksBefore_8 (fun z u2 hu => ?_)
  obtain ⟨rfl, hs2⟩ := hu
  have hs2 := hs.tr hs2
  rw [rch_same hs]
  have ea : u2.2 3 a = σ.2 3 a := by rw [hs2.2.2.2]
  have eb : u2.2 3 b = σ.2 3 b := by rw [hs2.2.2.2]
  refine x_istore (L' := [_, _, _, _, _]) hC dX2_ranksBefore_11 (Nat.le_of_ble_eq_true rfl) rfl ?_
  refine x_iload_n (i := 3) hC dX2_ranksBefore_13 rfl rfl ?_
  refine x_iload hC dX2_ranksBefore_14 rfl ?_
  refine x_icmp_eq hC 31 dX2_ranksBefore_16 (by decide) (by omega) (by omega) (fun h16 => ?_) (fun h16 => ?_)
  · refine x_aload_n (i := 0) hC dX2_ranksBefore_31 rfl rfl ?_
    refine x2_g3 hC dX2_ranksBefore_32 ?_
    refine x_iload_n (i := 1) hC dX2_ranksBefore_35 rfl rfl ?_
    refine x2_l3 hC (by omega) dX2_ranksBefore_36 ?_
    refine x_aload_n (i := 0) hC dX2_ranksBefore_37 rfl rfl ?_
    refine x2_g3 hC dX2_ranksBefore_38 ?_
    refine x_iload_n (i := 2) hC dX2_ranksBefore_41 rfl rfl ?_
    refine x2_l3 hC (by omega) dX2_ranksBefore_42 ?_
    rw [ea, eb]
    refine x_icmp_eq hC 69 dX2_ranksBefore_43 (by decide) (by omega) (by omega) (fun h43 => ?_) (fun h43 => ?_)
    · refine x_aload_n (i := 0) hC dX2_ranksBefore_69 rfl rfl ?_
      refine x_iload_n (i := 1) hC dX2_ranksBefore_70 rfl rfl ?_
      refine x_iload_n (i := 2) hC dX2_ranksBefore_71 rfl rfl ?_
      refine x_callI hC (tX2_before l D cA h u2 (hok.same hs2) a b ha hb) gX2_X2_before hyX2_before ⟨rfl, rfl⟩ ⟨Nat.le_of_ble_eq_true rfl, Nat.le_of_ble_eq_true rfl⟩ ⟨Nat.zero_le _, Nat.zero_le _⟩ (ci := 1) (q0 := 0) rfl rfl rfl rfl (Nat.le_of_ble_eq_true rfl) rfl dX2_ranksBefore_72 (fun z u hu => ?_)
      exact x_zret hC hr dX2_ranksBefore_75 (by obtain ⟨hu | hu, -⟩ := hu; exact Or.inr hu.1; exact Or.inl hu.1) (by obtain ⟨hu, rfl⟩ := hu; refine ⟨?_, hs2⟩; have e : rbV σ a b = bfV σ a b := (by unfold rbV; rw [if_pos h16, if_pos h43]); rw [e, ← bf_same hs2]; exact hu)
    · refine x_aload_n (i := 0) hC dX2_ranksBefore_46 rfl rfl ?_
      refine x2_g3 hC dX2_ranksBefore_47 ?_
      refine x_iload_n (i := 1) hC dX2_ranksBefore_50 rfl rfl ?_
      refine x2_l3 hC (by omega) dX2_ranksBefore_51 ?_
      refine x_aload_n (i := 0) hC dX2_ranksBefore_52 rfl rfl ?_
      refine x2_g3 hC dX2_ranksBefore_53 ?_
      refine x_iload_n (i := 2) hC dX2_ranksBefore_56 rfl rfl ?_
      refine x2_l3 hC (by omega) dX2_ranksBefore_57 ?_
      rw [ea, eb]
      refine x_icmp_le hC 65 dX2_ranksBefore_58 (by decide) (by omega) (by omega) (fun h58 => ?_) (fun h58 => ?_)
      · refine x_iconst hC dX2_ranksBefore_65 ?_
        refine x_goto hC 75 dX2_ranksBefore_66 (by decide) ?_
        exact x_zret hC hr dX2_ranksBefore_75 (by first | exact Or.inl rfl | exact Or.inr rfl) ⟨Or.inr ⟨rfl, by unfold rbV; rw [if_pos h16, if_neg h43]; simp; omega⟩, hs2⟩
      · refine x_iconst hC dX2_ranksBefore_61 ?_
        refine x_goto hC 75 dX2_ranksBefore_62 (by decide) ?_
        exact x_zret hC hr dX2_ranksBefore_75 (by first | exact Or.inl rfl | exact Or.inr rfl) ⟨Or.inl ⟨rfl, by unfold rbV; rw [if_pos h16, if_neg h43]; simp; omega⟩, hs2⟩
  · refine x_iload_n (i := 3) hC dX2_ranksBefore_19 rfl rfl ?_
    refine x_iload hC dX2_ranksBefore_20 rfl ?_
    refine x_icmp_ge hC 29 dX2_ranksBefore_22 (by decide) (by omega) (by omega) (fun h22 => ?_) (fun h22 => ?_)
    · refine x_iconst hC dX2_ranksBefore_29 ?_
      exact x_zret hC hr dX2_ranksBefore_30 (by first | exact Or.inl rfl | exact Or.inr rfl) ⟨Or.inr ⟨rfl, by unfold rbV; rw [if_neg h16]; simp; omega⟩, hs2⟩
    · refine x_iconst hC dX2_ranksBefore_25 ?_
      refine x_goto hC 30 dX2_ranksBefore_26 (by decide) ?_
      exact x_zret hC hr dX2_ranksBefore_30 (by first | exact Or.inl rfl | exact Or.inr rfl) ⟨Or.inl ⟨rfl, by unfold rbV; rw [if_neg h16]; simp; omega⟩, hs2⟩
abbrev rX2_offered : Room := ({ frames := 4, cells := 0, slots := 0, locals := 93 } : Room)
set_option maxHeartbeats 4000000 in
set_option maxRecDepth 100000 in
theorem tX2_offered (l : Launch) (D : va_G) (cA : ClassId) (h : Nat → Nat) (σ : XS) (hok : OKm σ) : MI l yX2_offered (ws_ yX2_offered cX2_offered 3 (some .int)) rX2_offered (wM h cA) D vwCl [(cA, .int)] (h 0) [] σ (fun z u => ofV σ = z ∧ sameM σ u) := by
  refine MI.of (own := RX2) (L := [some (.ref (h 0)), none, none]) (by decide) rfl (by simp [Value.category]) (Nat.le_of_ble_eq_true rfl) rfl ?_
  intro p e s m below meth c A hC hr
  have q4 := hok.i4
  have loop : ∀ (n : Nat) (w1 s1 : Int) (u : XS), 0 ≤ w1 → w1 + (n : Int) = σ.1 4 → sameM σ u → cntL (offP σ) n w1 s1 = ofV σ → XW p l e rX2_offered s m (Value.ref (h 0) :: []).toArray below meth c 0 0 (MQ below (va_Qi (PI (fun z u => ofV σ = z ∧ sameM σ u)) (BW D vwCl [(cA, .int)] A (wM h cA)) A) (Value.ref (h 0) :: []).toArray s 0 0 A) D vwCl A (wM h cA) u [some (.ref (h 0)), some (.int (iI (s1))), some (.int (iI (w1)))] [] 4 := by
    intro n
    induction n with
    | zero =>
      intro w1 s1 u hi hn hs he
      have e4 : u.1 4 = σ.1 4 := congrFun hs.1 4
      refine x_iload_n (i := 2) hC dX2_offered_4 rfl rfl ?_
      refine x_aload_n (i := 0) hC dX2_offered_5 rfl rfl ?_
      refine x2_g4 hC dX2_offered_6 ?_
      refine x_icmp_ge hC 29 dX2_offered_9 (by decide) (by omega) (by omega) (fun h9 => ?_) (fun h9 => by exfalso; omega)
      refine x_iload_n (i := 1) hC dX2_offered_29 rfl rfl ?_
      exact x_iret hC hr dX2_offered_30 ⟨he.symm, hs⟩
    | succ n ih =>
      intro w1 s1 u hi hn hs he
      have e4 : u.1 4 = σ.1 4 := congrFun hs.1 4
      refine x_iload_n (i := 2) hC dX2_offered_4 rfl rfl ?_
      refine x_aload_n (i := 0) hC dX2_offered_5 rfl rfl ?_
      refine x2_g4 hC dX2_offered_6 ?_
      refine x_icmp_ge hC 29 dX2_offered_9 (by decide) (by omega) (by omega) (fun h9 => by exfalso; omega) (fun h9 => ?_)
      refine x_aload_n (i := 0) hC dX2_offered_12 rfl rfl ?_
      refine x_iload_n (i := 2) hC dX2_offered_13 rfl rfl ?_
      refine x_callI hC (tX2_isOffered l D cA h u (hok.same hs) w1 (by omega)) gX2_X2_isOffered hyX2_isOffered ⟨rfl, rfl⟩ ⟨Nat.le_of_ble_eq_true rfl, Nat.le_of_ble_eq_true rfl⟩ ⟨Nat.zero_le _, Nat.zero_le _⟩ (ci := 1) (q0 := 0) rfl rfl rfl rfl (Nat.le_of_ble_eq_true rfl) rfl dX2_offered_14 (fun z v hu => ?_)
      rw [off_same hs] at hu
      obtain ⟨⟨rfl, hc⟩ | ⟨rfl, hc⟩, hs2⟩ := hu
      · refine x_if_eq hC 23 dX2_offered_17 (by decide) (by omega) (fun h17 => by exfalso; omega) (fun h17 => ?_)
        refine x_iinc (L' := [_, _, _]) hC dX2_offered_20 rfl rfl ?_
        refine x_iinc (L' := [_, _, _]) hC dX2_offered_23 rfl rfl ?_
        refine x_goto hC 4 dX2_offered_26 (by decide) ?_
        exact ih (w1 + 1) _ _ (by omega) (by omega) (hs.tr hs2) (by rw [← he]; exact congrArg (cntL (offP σ) n (w1 + 1)) (if_pos hc).symm)
      · refine x_if_eq hC 23 dX2_offered_17 (by decide) (by omega) (fun h17 => ?_) (fun h17 => by exfalso; omega)
        refine x_iinc (L' := [_, _, _]) hC dX2_offered_23 rfl rfl ?_
        refine x_goto hC 4 dX2_offered_26 (by decide) ?_
        exact ih (w1 + 1) _ _ (by omega) (by omega) (hs.tr hs2) (by rw [← he]; exact congrArg (cntL (offP σ) n (w1 + 1)) (if_neg hc).symm)
  refine x_iconst hC dX2_offered_0 ?_
  refine x_istore_n (i := 1) (L' := [_, _, _]) hC dX2_offered_1 rfl (Nat.le_of_ble_eq_true rfl) rfl ?_
  refine x_iconst hC dX2_offered_2 ?_
  refine x_istore_n (i := 2) (L' := [_, _, _]) hC dX2_offered_3 rfl (Nat.le_of_ble_eq_true rfl) rfl ?_
  exact loop (σ.1 4).toNat 0 0 σ (by omega) (by omega) sameM.rf rfl
abbrev rX2_rankOf : Room := ({ frames := 4, cells := 0, slots := 0, locals := 96 } : Room)
set_option maxHeartbeats 4000000 in
set_option maxRecDepth 100000 in
theorem tX2_rankOf (l : Launch) (D : va_G) (cA : ClassId) (h : Nat → Nat) (σ : XS) (hok : OKm σ) (w1 : Int) (hw : 0 ≤ w1 ∧ w1 ≤ 11) : MI l yX2_rankOf (ws_ yX2_rankOf cX2_rankOf 4 (some .int)) rX2_rankOf (wM h cA) D vwCl [(cA, .int)] (h 0) [.int (iI w1)] σ (fun z u => rkV σ w1 = z ∧ sameM σ u) := by
  refine MI.of (own := RX2) (L := [some (.ref (h 0)), some (.int (iI w1)), none, none]) (by decide) rfl (by simp [Value.category]) (Nat.le_of_ble_eq_true rfl) rfl ?_
  intro p e s m below meth c A hC hr
  have q4 := hok.i4
  have loop : ∀ (n : Nat) (v1 s1 : Int) (u : XS), 0 ≤ v1 → v1 + (n : Int) = σ.1 4 → sameM σ u → cntL (rkP σ w1) n v1 s1 = rkV σ w1 → XW p l e rX2_rankOf s m (Value.ref (h 0) :: [.int (iI w1)]).toArray below meth c 0 0 (MQ below (va_Qi (PI (fun z u => rkV σ w1 = z ∧ sameM σ u)) (BW D vwCl [(cA, .int)] A (wM h cA)) A) (Value.ref (h 0) :: [.int (iI w1)]).toArray s 0 0 A) D vwCl A (wM h cA) u [some (.ref (h 0)), some (.int (iI (w1))), some (.int (iI (s1))), some (.int (iI (v1)))] [] 4 := by
    intro n
    induction n with
    | zero =>
      intro v1 s1 u hi hn hs he
      have e4 : u.1 4 = σ.1 4 := congrFun hs.1 4
      refine x_iload_n (i := 3) hC dX2_rankOf_4 rfl rfl ?_
      refine x_aload_n (i := 0) hC dX2_rankOf_5 rfl rfl ?_
      refine x2_g4 hC dX2_rankOf_6 ?_
      refine x_icmp_ge hC 38 dX2_rankOf_9 (by decide) (by omega) (by omega) (fun h9 => ?_) (fun h9 => by exfalso; omega)
      refine x_iload_n (i := 2) hC dX2_rankOf_38 rfl rfl ?_
      exact x_iret hC hr dX2_rankOf_39 ⟨he.symm, hs⟩
    | succ n ih =>
      intro v1 s1 u hi hn hs he
      have e4 : u.1 4 = σ.1 4 := congrFun hs.1 4
      refine x_iload_n (i := 3) hC dX2_rankOf_4 rfl rfl ?_
      refine x_aload_n (i := 0) hC dX2_rankOf_5 rfl rfl ?_
      refine x2_g4 hC dX2_rankOf_6 ?_
      refine x_icmp_ge hC 38 dX2_rankOf_9 (by decide) (by omega) (by omega) (fun h9 => by exfalso; omega) (fun h9 => ?_)
      refine x_aload_n (i := 0) hC dX2_rankOf_12 rfl rfl ?_
      refine x_iload_n (i := 3) hC dX2_rankOf_13 rfl rfl ?_
      refine x_callI hC (tX2_isOffered l D cA h u (hok.same hs) v1 (by omega)) gX2_X2_isOffered hyX2_isOffered ⟨rfl, rfl⟩ ⟨Nat.le_of_ble_eq_true rfl, Nat.le_of_ble_eq_true rfl⟩ ⟨Nat.zero_le _, Nat.zero_le _⟩ (ci := 1) (q0 := 0) rfl rfl rfl rfl (Nat.le_of_ble_eq_true rfl) rfl dX2_rankOf_14 (fun z v hu => ?_)
      rw [off_same hs] at hu
      obtain ⟨⟨rfl, hc⟩ | ⟨rfl, hc⟩, hs2⟩ := hu
      · refine x_if_eq hC 32 dX2_rankOf_17 (by decide) (by omega) (fun h17 => by exfalso; omega) (fun h17 => ?_)
        refine x_aload_n (i := 0) hC dX2_rankOf_20 rfl rfl ?_
        refine x_iload_n (i := 3) hC dX2_rankOf_21 rfl rfl ?_
        refine x_iload_n (i := 1) hC dX2_rankOf_22 rfl rfl ?_
        refine x_callI hC (tX2_ranksBefore l D cA h v (hok.same (hs.tr hs2)) v1 w1 (by omega) hw) gX2_X2_ranksBefore hyX2_ranksBefore ⟨rfl, rfl⟩ ⟨Nat.le_of_ble_eq_true rfl, Nat.le_of_ble_eq_true rfl⟩ ⟨Nat.zero_le _, Nat.zero_le _⟩ (ci := 1) (q0 := 0) rfl rfl rfl rfl (Nat.le_of_ble_eq_true rfl) rfl dX2_rankOf_23 (fun z y hu => ?_)
        rw [rb_same (hs.tr hs2)] at hu
        obtain ⟨⟨rfl, hc2⟩ | ⟨rfl, hc2⟩, hs3⟩ := hu
        · refine x_if_eq hC 32 dX2_rankOf_26 (by decide) (by omega) (fun h26 => by exfalso; omega) (fun h26 => ?_)
          refine x_iinc (L' := [_, _, _, _]) hC dX2_rankOf_29 rfl rfl ?_
          refine x_iinc (L' := [_, _, _, _]) hC dX2_rankOf_32 rfl rfl ?_
          refine x_goto hC 4 dX2_rankOf_35 (by decide) ?_
          have hp : rkP σ w1 v1 = true := by unfold rkP; simp [hc, hc2]
          exact ih (v1 + 1) _ _ (by omega) (by omega) ((hs.tr hs2).tr hs3) (by rw [← he]; exact congrArg (cntL (rkP σ w1) n (v1 + 1)) (if_pos hp).symm)
        · refine x_if_eq hC 32 dX2_rankOf_26 (by decide) (by omega) (fun h26 => ?_) (fun h26 => by exfalso; omega)
          refine x_iinc (L' := [_, _, _, _]) hC dX2_rankOf_32 rfl rfl ?_
          refine x_goto hC 4 dX2_rankOf_35 (by decide) ?_
          have hp : ¬ rkP σ w1 v1 = true := by unfold rkP; simp [hc2]
          exact ih (v1 + 1) _ _ (by omega) (by omega) ((hs.tr hs2).tr hs3) (by rw [← he]; exact congrArg (cntL (rkP σ w1) n (v1 + 1)) (if_neg hp).symm)
      · refine x_if_eq hC 32 dX2_rankOf_17 (by decide) (by omega) (fun h17 => ?_) (fun h17 => by exfalso; omega)
        refine x_iinc (L' := [_, _, _, _]) hC dX2_rankOf_32 rfl rfl ?_
        refine x_goto hC 4 dX2_rankOf_35 (by decide) ?_
        have hp : ¬ rkP σ w1 v1 = true := by unfold rkP; simp [hc]
        exact ih (v1 + 1) _ _ (by omega) (by omega) (hs.tr hs2) (by rw [← he]; exact congrArg (cntL (rkP σ w1) n (v1 + 1)) (if_neg hp).symm)
  refine x_iconst hC dX2_rankOf_0 ?_
  refine x_istore_n (i := 2) (L' := [_, _, _, _]) hC dX2_rankOf_1 rfl (Nat.le_of_ble_eq_true rfl) rfl ?_
  refine x_iconst hC dX2_rankOf_2 ?_
  refine x_istore_n (i := 3) (L' := [_, _, _, _]) hC dX2_rankOf_3 rfl (Nat.le_of_ble_eq_true rfl) rfl ?_
  exact loop (σ.1 4).toNat 0 0 σ (by omega) (by omega) sameM.rf rfl
abbrev rX2_wordAt : Room := ({ frames := 5, cells := 0, slots := 0, locals := 119 } : Room)
set_option maxHeartbeats 4000000 in
set_option maxRecDepth 100000 in
theorem tX2_wordAt (l : Launch) (D : va_G) (cA : ClassId) (h : Nat → Nat) (σ : XS) (hok : OKm σ) (r : Int) (hr0 : -2147483648 ≤ r ∧ r ≤ 2147483647) : MI l yX2_wordAt (ws_ yX2_wordAt cX2_wordAt 3 (some .int)) rX2_wordAt (wM h cA) D vwCl [(cA, .int)] (h 0) [.int (iI r)] σ (fun z u => waV σ r = z ∧ sameM σ u) := by
  refine MI.of (own := RX2) (L := [some (.ref (h 0)), some (.int (iI r)), none]) (by decide) rfl (by simp [Value.category]) (Nat.le_of_ble_eq_true rfl) rfl ?_
  intro p e s m below meth c A hC hr
  have q4 := hok.i4
  have loop : ∀ (n : Nat) (w1 : Int) (u : XS), 0 ≤ w1 → w1 + (n : Int) = σ.1 4 → sameM σ u → fstL (waP σ r) n w1 = waV σ r → XW p l e rX2_wordAt s m (Value.ref (h 0) :: [.int (iI r)]).toArray below meth c 0 0 (MQ below (va_Qi (PI (fun z u => waV σ r = z ∧ sameM σ u)) (BW D vwCl [(cA, .int)] A (wM h cA)) A) (Value.ref (h 0) :: [.int (iI r)]).toArray s 0 0 A) D vwCl A (wM h cA) u [some (.ref (h 0)), some (.int (iI (r))), some (.int (iI (w1)))] [] 2 := by
    intro n
    induction n with
    | zero =>
      intro w1 u hi hn hs he
      have e4 : u.1 4 = σ.1 4 := congrFun hs.1 4
      refine x_iload_n (i := 2) hC dX2_wordAt_2 rfl rfl ?_
      refine x_aload_n (i := 0) hC dX2_wordAt_3 rfl rfl ?_
      refine x2_g4 hC dX2_wordAt_4 ?_
      refine x_icmp_ge hC 35 dX2_wordAt_7 (by decide) (by omega) (by omega) (fun h7 => ?_) (fun h7 => by exfalso; omega)
      refine x_bipush hC dX2_wordAt_35 bp_m4 ?_
      exact x_iret hC hr dX2_wordAt_37 ⟨he.symm, hs⟩
    | succ n ih =>
      intro w1 u hi hn hs he
      have e4 : u.1 4 = σ.1 4 := congrFun hs.1 4
      have qk := cntL_rg (rkP σ w1) (σ.1 4).toNat 0 0
      have qk : 0 ≤ rkV σ w1 ∧ rkV σ w1 ≤ 12 := by
        have z1 : 0 ≤ rkV σ w1 := qk.1
        have z2 : rkV σ w1 ≤ 0 + (((σ.1 4).toNat : Nat) : Int) := qk.2
        omega
      refine x_iload_n (i := 2) hC dX2_wordAt_2 rfl rfl ?_
      refine x_aload_n (i := 0) hC dX2_wordAt_3 rfl rfl ?_
      refine x2_g4 hC dX2_wordAt_4 ?_
      refine x_icmp_ge hC 35 dX2_wordAt_7 (by decide) (by omega) (by omega) (fun h7 => by exfalso; omega) (fun h7 => ?_)
      refine x_aload_n (i := 0) hC dX2_wordAt_10 rfl rfl ?_
      refine x_iload_n (i := 2) hC dX2_wordAt_11 rfl rfl ?_
      refine x_callI hC (tX2_isOffered l D cA h u (hok.same hs) w1 (by omega)) gX2_X2_isOffered hyX2_isOffered ⟨rfl, rfl⟩ ⟨Nat.le_of_ble_eq_true rfl, Nat.le_of_ble_eq_true rfl⟩ ⟨Nat.zero_le _, Nat.zero_le _⟩ (ci := 1) (q0 := 0) rfl rfl rfl rfl (Nat.le_of_ble_eq_true rfl) rfl dX2_wordAt_12 (fun z v hu => ?_)
      rw [off_same hs] at hu
      obtain ⟨⟨rfl, hc⟩ | ⟨rfl, hc⟩, hs2⟩ := hu
      · refine x_if_eq hC 29 dX2_wordAt_15 (by decide) (by omega) (fun h15 => by exfalso; omega) (fun h15 => ?_)
        refine x_aload_n (i := 0) hC dX2_wordAt_18 rfl rfl ?_
        refine x_iload_n (i := 2) hC dX2_wordAt_19 rfl rfl ?_
        refine x_callI hC (tX2_rankOf l D cA h v (hok.same (hs.tr hs2)) w1 (by omega)) gX2_X2_rankOf hyX2_rankOf ⟨rfl, rfl⟩ ⟨Nat.le_of_ble_eq_true rfl, Nat.le_of_ble_eq_true rfl⟩ ⟨Nat.zero_le _, Nat.zero_le _⟩ (ci := 1) (q0 := 0) rfl rfl rfl rfl (Nat.le_of_ble_eq_true rfl) rfl dX2_wordAt_20 (fun z y hu => ?_)
        rw [rkV_same (hs.tr hs2)] at hu
        obtain ⟨rfl, hs3⟩ := hu
        refine x_iload_n (i := 1) hC dX2_wordAt_23 rfl rfl ?_
        refine x_icmp_ne hC 29 dX2_wordAt_24 (by decide) (by omega) (by omega) (fun h24 => ?_) (fun h24 => ?_)
        · refine x_iinc (L' := [_, _, _]) hC dX2_wordAt_29 rfl rfl ?_
          refine x_goto hC 2 dX2_wordAt_32 (by decide) ?_
          have hp : ¬ waP σ r w1 = true := by unfold waP; simp [h24]
          exact ih (w1 + 1) _ (by omega) (by omega) ((hs.tr hs2).tr hs3) (by rw [← he]; exact (if_neg hp).symm)
        · have hp : waP σ r w1 = true := by unfold waP; simp [hc, h24]
          refine x_iload_n (i := 2) hC dX2_wordAt_27 rfl rfl ?_
          exact x_iret hC hr dX2_wordAt_28 ⟨by rw [← he]; exact if_pos hp, (hs.tr hs2).tr hs3⟩
      · refine x_if_eq hC 29 dX2_wordAt_15 (by decide) (by omega) (fun h15 => ?_) (fun h15 => by exfalso; omega)
        refine x_iinc (L' := [_, _, _]) hC dX2_wordAt_29 rfl rfl ?_
        refine x_goto hC 2 dX2_wordAt_32 (by decide) ?_
        have hp : ¬ waP σ r w1 = true := by unfold waP; simp [hc]
        exact ih (w1 + 1) _ (by omega) (by omega) (hs.tr hs2) (by rw [← he]; exact (if_neg hp).symm)
  refine x_iconst hC dX2_wordAt_0 ?_
  refine x_istore_n (i := 2) (L' := [_, _, _]) hC dX2_wordAt_1 rfl (Nat.le_of_ble_eq_true rfl) rfl ?_
  exact loop (σ.1 4).toNat 0 σ (by omega) (by omega) sameM.rf rfl
abbrev rX2_offer : Room := ({ frames := 6, cells := 0, slots := 0, locals := 141 } : Room)
set_option maxHeartbeats 4000000 in
set_option maxRecDepth 100000 in
theorem tX2_offer (l : Launch) (D : va_G) (cA : ClassId) (h : Nat → Nat) (σ : XS) (hok : OKm σ) (a : Int) (ha : -2147483648 ≤ a ∧ a ≤ 2147483647) : MI l yX2_offer (ws_ yX2_offer cX2_offer 5 (some .int)) rX2_offer (wM h cA) D vwCl [(cA, .int)] (h 0) [.int (iI a)] σ (fun z u => (if waV σ a = -4 then -4 else cdL (σ.2 1) (waV σ a) (σ.2 2 (waV σ a)).toNat 0 0) = z ∧ sameM σ u) := by
  refine MI.of (own := RX2) (L := [some (.ref (h 0)), some (.int (iI a)), none, none, none]) (by decide) rfl (by simp [Value.category]) (Nat.le_of_ble_eq_true rfl) rfl ?_
  intro p e s m below meth c A hC hr
  have q4 := hok.i4
  have qd := fstL_rg (waP σ a) (σ.1 4).toNat 0
  have qd : waV σ a = -4 ∨ (0 ≤ waV σ a ∧ waV σ a < σ.1 4) := by
    rcases qd with z | z
    · exact Or.inl z
    · exact Or.inr ⟨z.1, by have z2 := z.2; show fstL (waP σ a) (σ.1 4).toNat 0 < _; omega⟩
  have loop : ¬ waV σ a = -4 → ∀ (u : XS), sameM σ u → ∀ (n : Nat) (i c1 : Int), 0 ≤ i → i + (n : Int) = σ.2 2 (waV σ a) → cdL (σ.2 1) (waV σ a) n i c1 = cdL (σ.2 1) (waV σ a) (σ.2 2 (waV σ a)).toNat 0 0 → XW p l e rX2_offer s m (Value.ref (h 0) :: [.int (iI a)]).toArray below meth c 0 0 (MQ below (va_Qi (PI (fun z u => (if waV σ a = -4 then -4 else cdL (σ.2 1) (waV σ a) (σ.2 2 (waV σ a)).toNat 0 0) = z ∧ sameM σ u)) (BW D vwCl [(cA, .int)] A (wM h cA)) A) (Value.ref (h 0) :: [.int (iI a)]).toArray s 0 0 A) D vwCl A (wM h cA) u [some (.ref (h 0)), some (.int (iI (a))), some (.int (iI (waV σ a))), some (.int (iI (c1))), some (.int (iI (i)))] [] 20 := by
    intro hne u hs n
    have qw := hok.f2 (waV σ a)
    have ew : u.2 2 (waV σ a) = σ.2 2 (waV σ a) := by rw [hs.2.2.1]
    induction n with
    | zero =>
      intro i c1 hi hn he
      refine x_iload hC dX2_offer_20 rfl ?_
      refine x_aload_n (i := 0) hC dX2_offer_22 rfl rfl ?_
      refine x2_g2 hC dX2_offer_23 ?_
      refine x_iload_n (i := 2) hC dX2_offer_26 rfl rfl ?_
      refine x2_l2 hC (by omega) dX2_offer_27 ?_
      refine x_icmp_ge hC 56 dX2_offer_28 (by decide) (by omega) (by omega) (fun h28 => ?_) (fun h28 => by exfalso; omega)
      refine x_iload_n (i := 3) hC dX2_offer_56 rfl rfl ?_
      exact x_iret hC hr dX2_offer_57 ⟨(if_neg hne).trans he.symm, hs⟩
    | succ n ih =>
      intro i c1 hi hn he
      refine x_iload hC dX2_offer_20 rfl ?_
      refine x_aload_n (i := 0) hC dX2_offer_22 rfl rfl ?_
      refine x2_g2 hC dX2_offer_23 ?_
      refine x_iload_n (i := 2) hC dX2_offer_26 rfl rfl ?_
      refine x2_l2 hC (by omega) dX2_offer_27 ?_
      refine x_icmp_ge hC 56 dX2_offer_28 (by decide) (by omega) (by omega) (fun h28 => by exfalso; omega) (fun h28 => ?_)
      refine x_iload_n (i := 3) hC dX2_offer_31 rfl rfl ?_
      refine x_iconst hC dX2_offer_32 ?_
      refine x_imul hC dX2_offer_33 ?_
      refine x_aload_n (i := 0) hC dX2_offer_34 rfl rfl ?_
      refine x2_g1 hC dX2_offer_35 ?_
      refine x_bipush hC dX2_offer_38 bp_6 ?_
      refine x_iload_n (i := 2) hC dX2_offer_40 rfl rfl ?_
      refine x_imul hC dX2_offer_41 ?_
      refine x_iload hC dX2_offer_42 rfl ?_
      refine x_iadd hC dX2_offer_44 ?_
      refine x2_l1 hC (by omega) dX2_offer_45 ?_
      rw [hs.2.1]
      refine x_iadd hC dX2_offer_46 ?_
      refine x_iconst hC dX2_offer_47 ?_
      refine x_iadd hC dX2_offer_48 ?_
      refine x_istore_n (i := 3) (L' := [_, _, _, _, _]) hC dX2_offer_49 rfl (Nat.le_of_ble_eq_true rfl) rfl ?_
      refine x_iinc (L' := [_, _, _, _, _]) hC dX2_offer_50 rfl rfl ?_
      refine x_goto hC 20 dX2_offer_53 (by decide) ?_
      exact ih (i + 1) _ (by omega) (by omega) he
  refine x_aload_n (i := 0) hC dX2_offer_0 rfl rfl ?_
  refine x_iload_n (i := 1) hC dX2_offer_1 rfl rfl ?_
  refine x_callI hC (tX2_wordAt l D cA h σ hok a ha) gX2_X2_wordAt hyX2_wordAt ⟨rfl, rfl⟩ ⟨Nat.le_of_ble_eq_true rfl, Nat.le_of_ble_eq_true rfl⟩ ⟨Nat.zero_le _, Nat.zero_le _⟩ (ci := 1) (q0 := 0) rfl rfl rfl rfl (Nat.le_of_ble_eq_true rfl) rfl dX2_offer_2 (fun z u hu => ?_)
  obtain ⟨rfl, hs⟩ := hu
  refine x_istore_n (i := 2) (L' := [_, _, _, _, _]) hC dX2_offer_5 rfl (Nat.le_of_ble_eq_true rfl) rfl ?_
  refine x_iload_n (i := 2) hC dX2_offer_6 rfl rfl ?_
  refine x_bipush hC dX2_offer_7 bp_m4 ?_
  refine x_icmp_ne hC 15 dX2_offer_9 (by decide) (by omega) (by omega) (fun h9 => ?_) (fun h9 => ?_)
  · refine x_iconst hC dX2_offer_15 ?_
    refine x_istore_n (i := 3) (L' := [_, _, _, _, _]) hC dX2_offer_16 rfl (Nat.le_of_ble_eq_true rfl) rfl ?_
    refine x_iconst hC dX2_offer_17 ?_
    refine x_istore (L' := [_, _, _, _, _]) hC dX2_offer_18 (Nat.le_of_ble_eq_true rfl) rfl ?_
    exact loop h9 u hs _ 0 0 (by omega) (by have qw := hok.f2 (waV σ a); omega) rfl
  · refine x_bipush hC dX2_offer_12 bp_m4 ?_
    exact x_iret hC hr dX2_offer_14 ⟨if_pos h9, hs⟩
abbrev rX2_distance : Room := ({ frames := 6, cells := 0, slots := 0, locals := 141 } : Room)
set_option maxHeartbeats 4000000 in
set_option maxRecDepth 100000 in
theorem tX2_distance (l : Launch) (D : va_G) (cA : ClassId) (h : Nat → Nat) (σ : XS) (hok : OKm σ) (a : Int) (ha : -2147483648 ≤ a ∧ a ≤ 2147483647) : MI l yX2_distance (ws_ yX2_distance cX2_distance 3 (some .int)) rX2_distance (wM h cA) D vwCl [(cA, .int)] (h 0) [.int (iI a)] σ (fun z u => (if waV σ a = -4 then -4 else rchV σ (waV σ a)) = z ∧ sameM σ u) := by
  refine MI.of (own := RX2) (L := [some (.ref (h 0)), some (.int (iI a)), none]) (by decide) rfl (by simp [Value.category]) (Nat.le_of_ble_eq_true rfl) rfl ?_
  intro p e s m below meth c A hC hr
  have q4 := hok.i4
  have qd := fstL_rg (waP σ a) (σ.1 4).toNat 0
  have qd : waV σ a = -4 ∨ (0 ≤ waV σ a ∧ waV σ a < σ.1 4) := by
    rcases qd with z | z
    · exact Or.inl z
    · exact Or.inr ⟨z.1, by have z2 := z.2; show fstL (waP σ a) (σ.1 4).toNat 0 < _; omega⟩
  refine x_aload_n (i := 0) hC dX2_distance_0 rfl rfl ?_
  refine x_iload_n (i := 1) hC dX2_distance_1 rfl rfl ?_
  refine x_callI hC (tX2_wordAt l D cA h σ hok a ha) gX2_X2_wordAt hyX2_wordAt ⟨rfl, rfl⟩ ⟨Nat.le_of_ble_eq_true rfl, Nat.le_of_ble_eq_true rfl⟩ ⟨Nat.zero_le _, Nat.zero_le _⟩ (ci := 1) (q0 := 0) rfl rfl rfl rfl (Nat.le_of_ble_eq_true rfl) rfl dX2_distance_2 (fun z u hu => ?_)
  obtain ⟨rfl, hs⟩ := hu
  refine x_istore_n (i := 2) (L' := [_, _, _]) hC dX2_distance_5 rfl (Nat.le_of_ble_eq_true rfl) rfl ?_
  refine x_iload_n (i := 2) hC dX2_distance_6 rfl rfl ?_
  refine x_bipush hC dX2_distance_7 bp_m4 ?_
  refine x_icmp_ne hC 17 dX2_distance_9 (by decide) (by omega) (by omega) (fun h9 => ?_) (fun h9 => ?_)
  · refine x_aload_n (i := 0) hC dX2_distance_17 rfl rfl ?_
    refine x_iload_n (i := 2) hC dX2_distance_18 rfl rfl ?_
    refine x_callI hC (tX2_reach l D cA h u (hok.same hs) (waV σ a) (by omega)) gX2_X2_reach hyX2_reach ⟨rfl, rfl⟩ ⟨Nat.le_of_ble_eq_true rfl, Nat.le_of_ble_eq_true rfl⟩ ⟨Nat.zero_le _, Nat.zero_le _⟩ (ci := 1) (q0 := 0) rfl rfl rfl rfl (Nat.le_of_ble_eq_true rfl) rfl dX2_distance_19 (fun z u2 hu => ?_)
    obtain ⟨rfl, hs2⟩ := hu
    rw [rch_same hs]
    exact x_iret hC hr dX2_distance_22 ⟨if_neg h9, hs.tr hs2⟩
  · refine x_bipush hC dX2_distance_12 bp_m4 ?_
    refine x_goto hC 22 dX2_distance_14 (by decide) ?_
    exact x_iret hC hr dX2_distance_22 ⟨if_pos h9, hs⟩
abbrev rX2_weightAt : Room := ({ frames := 6, cells := 0, slots := 0, locals := 141 } : Room)
set_option maxHeartbeats 4000000 in
set_option maxRecDepth 100000 in
theorem tX2_weightAt (l : Launch) (D : va_G) (cA : ClassId) (h : Nat → Nat) (σ : XS) (hok : OKm σ) (a : Int) (ha : -2147483648 ≤ a ∧ a ≤ 2147483647) : MI l yX2_weightAt (ws_ yX2_weightAt cX2_weightAt 3 (some .int)) rX2_weightAt (wM h cA) D vwCl [(cA, .int)] (h 0) [.int (iI a)] σ (fun z u => (if waV σ a = -4 then -4 else σ.2 3 (waV σ a)) = z ∧ sameM σ u) := by
  refine MI.of (own := RX2) (L := [some (.ref (h 0)), some (.int (iI a)), none]) (by decide) rfl (by simp [Value.category]) (Nat.le_of_ble_eq_true rfl) rfl ?_
  intro p e s m below meth c A hC hr
  have q4 := hok.i4
  have qd := fstL_rg (waP σ a) (σ.1 4).toNat 0
  have qd : waV σ a = -4 ∨ (0 ≤ waV σ a ∧ waV σ a < σ.1 4) := by
    rcases qd with z | z
    · exact Or.inl z
    · exact Or.inr ⟨z.1, by have z2 := z.2; show fstL (waP σ a) (σ.1 4).toNat 0 < _; omega⟩
  refine x_aload_n (i := 0) hC dX2_weightAt_0 rfl rfl ?_
  refine x_iload_n (i := 1) hC dX2_weightAt_1 rfl rfl ?_
  refine x_callI hC (tX2_wordAt l D cA h σ hok a ha) gX2_X2_wordAt hyX2_wordAt ⟨rfl, rfl⟩ ⟨Nat.le_of_ble_eq_true rfl, Nat.le_of_ble_eq_true rfl⟩ ⟨Nat.zero_le _, Nat.zero_le _⟩ (ci := 1) (q0 := 0) rfl rfl rfl rfl (Nat.le_of_ble_eq_true rfl) rfl dX2_weightAt_2 (fun z u hu => ?_)
  obtain ⟨rfl, hs⟩ := hu
  refine x_istore_n (i := 2) (L' := [_, _, _]) hC dX2_weightAt_5 rfl (Nat.le_of_ble_eq_true rfl) rfl ?_
  refine x_iload_n (i := 2) hC dX2_weightAt_6 rfl rfl ?_
  refine x_bipush hC dX2_weightAt_7 bp_m4 ?_
  refine x_icmp_ne hC 17 dX2_weightAt_9 (by decide) (by omega) (by omega) (fun h9 => ?_) (fun h9 => ?_)
  · refine x_aload_n (i := 0) hC dX2_weightAt_17 rfl rfl ?_
    refine x2_g3 hC dX2_weightAt_18 ?_
    refine x_iload_n (i := 2) hC dX2_weightAt_21 rfl rfl ?_
    refine x2_l3 hC (by omega) dX2_weightAt_22 ?_
    rw [hs.2.2.2]
    exact x_iret hC hr dX2_weightAt_23 ⟨if_neg h9, hs⟩
  · refine x_bipush hC dX2_weightAt_12 bp_m4 ?_
    refine x_goto hC 23 dX2_weightAt_14 (by decide) ?_
    exact x_iret hC hr dX2_weightAt_23 ⟨if_pos h9, hs⟩
abbrev rX2_nearest : Room := ({ frames := 2, cells := 0, slots := 0, locals := 49 } : Room)
set_option maxHeartbeats 4000000 in
set_option maxRecDepth 100000 in
theorem tX2_nearest (l : Launch) (D : va_G) (cA : ClassId) (h : Nat → Nat) (σ : XS) (hok : OKm σ) : MI l yX2_nearest (ws_ yX2_nearest cX2_nearest 3 (some .int)) rX2_nearest (wM h cA) D vwCl [(cA, .int)] (h 0) [] σ (fun z u => nmV σ = z ∧ sameM σ u) := by
  refine MI.of (own := RX2) (L := [some (.ref (h 0)), none, none]) (by decide) rfl (by simp [Value.category]) (Nat.le_of_ble_eq_true rfl) rfl ?_
  intro p e s m below meth c A hC hr
  have q4 := hok.i4
  have q0 := hok.i0
  have q13 := hok.f2 13
  have loop : ∀ (n : Nat) (w1 b : Int) (u : XS), 0 ≤ w1 → w1 + (n : Int) = σ.1 4 → 0 ≤ b ∧ b ≤ 9 → sameM σ u → nmL σ n w1 b = nmL σ (σ.1 4).toNat 0 9 → XW p l e rX2_nearest s m (Value.ref (h 0) :: []).toArray below meth c 0 0 (MQ below (va_Qi (PI (fun z u => nmV σ = z ∧ sameM σ u)) (BW D vwCl [(cA, .int)] A (wM h cA)) A) (Value.ref (h 0) :: []).toArray s 0 0 A) D vwCl A (wM h cA) u [some (.ref (h 0)), some (.int (iI (b))), some (.int (iI (w1)))] [] 5 := by
    intro n
    induction n with
    | zero =>
      intro w1 b u hi hn hb hs he
      have e4 : u.1 4 = σ.1 4 := congrFun hs.1 4
      have e0 : u.1 0 = σ.1 0 := congrFun hs.1 0
      have he : b = nmL σ (σ.1 4).toNat 0 9 := he
      refine x_iload_n (i := 2) hC dX2_nearest_5 rfl rfl ?_
      refine x_aload_n (i := 0) hC dX2_nearest_6 rfl rfl ?_
      refine x2_g4 hC dX2_nearest_7 ?_
      refine x_icmp_ge hC 52 dX2_nearest_10 (by decide) (by omega) (by omega) (fun h10 => ?_) (fun h10 => by exfalso; omega)
      refine x_iload_n (i := 1) hC dX2_nearest_52 rfl rfl ?_
      refine x_aload_n (i := 0) hC dX2_nearest_53 rfl rfl ?_
      refine x2_g0 hC dX2_nearest_54 ?_
      refine x_icmp_gt hC 64 dX2_nearest_57 (by decide) (by omega) (by omega) (fun h57 => ?_) (fun h57 => ?_)
      · refine x_bipush hC dX2_nearest_64 bp_m4 ?_
        exact x_iret hC hr dX2_nearest_66 ⟨by unfold nmV; rw [← he]; exact if_neg (by omega), hs⟩
      · refine x_iload_n (i := 1) hC dX2_nearest_60 rfl rfl ?_
        refine x_goto hC 66 dX2_nearest_61 (by decide) ?_
        exact x_iret hC hr dX2_nearest_66 ⟨by unfold nmV; rw [← he]; exact if_pos (by omega), hs⟩
    | succ n ih =>
      intro w1 b u hi hn hb hs he
      have e4 : u.1 4 = σ.1 4 := congrFun hs.1 4
      have qw := hok.f2 w1
      have l1 := edV_le (σ.2 1) w1 (σ.2 2 13).toNat (σ.2 2 w1).toNat
      have g1 := edV_0 (σ.2 1) w1 (σ.2 2 13).toNat (σ.2 2 w1).toNat
      have m1 := minF_le b (edV (σ.2 1) w1 (σ.2 2 13).toNat (σ.2 2 w1).toNat)
      have m2 := minF_0 hb.1 g1
      refine x_iload_n (i := 2) hC dX2_nearest_5 rfl rfl ?_
      refine x_aload_n (i := 0) hC dX2_nearest_6 rfl rfl ?_
      refine x2_g4 hC dX2_nearest_7 ?_
      refine x_icmp_ge hC 52 dX2_nearest_10 (by decide) (by omega) (by omega) (fun h10 => by exfalso; omega) (fun h10 => ?_)
      refine x_aload_n (i := 0) hC dX2_nearest_13 rfl rfl ?_
      refine x_iload_n (i := 2) hC dX2_nearest_14 rfl rfl ?_
      refine x_callV hC (tX2_fill l D cA h u (hok.same hs) w1 (by omega)) gX2_X2_fill hyX2_fill ⟨rfl, rfl⟩ ⟨Nat.le_of_ble_eq_true rfl, Nat.le_of_ble_eq_true rfl⟩ ⟨Nat.zero_le _, Nat.zero_le _⟩ (ci := 1) (q0 := 0) rfl rfl rfl rfl (Nat.le_of_ble_eq_true rfl) rfl dX2_nearest_15 (fun v hu => ?_)
      obtain ⟨hs2, hT⟩ := hu
      rw [hs.2.1, hs.2.2.1] at hT
      have hs3 := hs.tr hs2
      have t1 := hT (σ.2 2 13).toNat (σ.2 2 w1).toNat (by omega) (Or.inl (by omega))
      have ew : v.2 2 w1 = (((σ.2 2 w1).toNat : Nat) : Int) := by rw [hs3.2.2.1]; omega
      have e13 : v.2 2 13 = (((σ.2 2 13).toNat : Nat) : Int) := by rw [hs3.2.2.1]; omega
      refine x_aload_n (i := 0) hC dX2_nearest_18 rfl rfl ?_
      refine x_iload_n (i := 1) hC dX2_nearest_19 rfl rfl ?_
      refine x_aload_n (i := 0) hC dX2_nearest_20 rfl rfl ?_
      refine x2_g5 hC dX2_nearest_21 ?_
      refine x_aload_n (i := 0) hC dX2_nearest_24 rfl rfl ?_
      refine x2_g2 hC dX2_nearest_25 ?_
      refine x_bipush hC dX2_nearest_28 bp_13 ?_
      refine x2_l2 hC (by omega) dX2_nearest_30 ?_
      rw [e13]
      refine x_bipush hC dX2_nearest_31 bp_7 ?_
      refine x_imul hC dX2_nearest_33 ?_
      refine x_aload_n (i := 0) hC dX2_nearest_34 rfl rfl ?_
      refine x2_g2 hC dX2_nearest_35 ?_
      refine x_iload_n (i := 2) hC dX2_nearest_38 rfl rfl ?_
      refine x2_l2 hC (by omega) dX2_nearest_39 ?_
      rw [ew]
      refine x_iadd hC dX2_nearest_40 ?_
      refine x2_l5 hC (by omega) dX2_nearest_41 ?_
      rw [t1]
      refine x_callI hC (tX2_least l D cA h v b _ (by omega) (by omega)) gX2_X2_least hyX2_least ⟨rfl, rfl⟩ ⟨Nat.le_of_ble_eq_true rfl, Nat.le_of_ble_eq_true rfl⟩ ⟨Nat.zero_le _, Nat.zero_le _⟩ (ci := 1) (q0 := 0) rfl rfl rfl rfl (Nat.le_of_ble_eq_true rfl) rfl dX2_nearest_42 (fun z y hu => ?_)
      obtain ⟨rfl, rfl⟩ := hu
      refine x_istore_n (i := 1) (L' := [_, _, _]) hC dX2_nearest_45 rfl (Nat.le_of_ble_eq_true rfl) rfl ?_
      refine x_iinc (L' := [_, _, _]) hC dX2_nearest_46 rfl rfl ?_
      refine x_goto hC 5 dX2_nearest_49 (by decide) ?_
      exact ih (w1 + 1) _ _ (by omega) (by omega) (by omega) hs3 he
  refine x_bipush hC dX2_nearest_0 bp_9 ?_
  refine x_istore_n (i := 1) (L' := [_, _, _]) hC dX2_nearest_2 rfl (Nat.le_of_ble_eq_true rfl) rfl ?_
  refine x_iconst hC dX2_nearest_3 ?_
  refine x_istore_n (i := 2) (L' := [_, _, _]) hC dX2_nearest_4 rfl (Nat.le_of_ble_eq_true rfl) rfl ?_
  exact loop (σ.1 4).toNat 0 9 σ (by omega) (by omega) (by omega) sameM.rf rfl
abbrev rX2_exact : Room := ({ frames := 1, cells := 0, slots := 0, locals := 23 } : Room)
set_option maxHeartbeats 4000000 in
set_option maxRecDepth 100000 in
theorem tX2_exact (l : Launch) (D : va_G) (cA : ClassId) (h : Nat → Nat) (σ : XS) (hok : OKm σ) : MI l yX2_exact (ws_ yX2_exact cX2_exact 3 (some .int)) rX2_exact (wM h cA) D vwCl [(cA, .int)] (h 0) [] σ (fun z u => exV σ = z ∧ σ = u) := by
  refine MI.of (own := RX2) (L := [some (.ref (h 0)), none, none]) (by decide) rfl (by simp [Value.category]) (Nat.le_of_ble_eq_true rfl) rfl ?_
  intro p e s m below meth c A hC hr
  have q4 := hok.i4
  have loop : ∀ (n : Nat) (w1 s1 : Int), 0 ≤ w1 → w1 + (n : Int) = σ.1 4 → cntL (fun w => bgV σ 13 w) n w1 s1 = exV σ → XW p l e rX2_exact s m (Value.ref (h 0) :: []).toArray below meth c 0 0 (MQ below (va_Qi (PI (fun z u => exV σ = z ∧ σ = u)) (BW D vwCl [(cA, .int)] A (wM h cA)) A) (Value.ref (h 0) :: []).toArray s 0 0 A) D vwCl A (wM h cA) σ [some (.ref (h 0)), some (.int (iI (s1))), some (.int (iI (w1)))] [] 4 := by
    intro n
    induction n with
    | zero =>
      intro w1 s1 hi hn he
      refine x_iload_n (i := 2) hC dX2_exact_4 rfl rfl ?_
      refine x_aload_n (i := 0) hC dX2_exact_5 rfl rfl ?_
      refine x2_g4 hC dX2_exact_6 ?_
      refine x_icmp_ge hC 31 dX2_exact_9 (by decide) (by omega) (by omega) (fun h9 => ?_) (fun h9 => by exfalso; omega)
      refine x_iload_n (i := 1) hC dX2_exact_31 rfl rfl ?_
      exact x_iret hC hr dX2_exact_32 ⟨he.symm, rfl⟩
    | succ n ih =>
      intro w1 s1 hi hn he
      refine x_iload_n (i := 2) hC dX2_exact_4 rfl rfl ?_
      refine x_aload_n (i := 0) hC dX2_exact_5 rfl rfl ?_
      refine x2_g4 hC dX2_exact_6 ?_
      refine x_icmp_ge hC 31 dX2_exact_9 (by decide) (by omega) (by omega) (fun h9 => by exfalso; omega) (fun h9 => ?_)
      refine x_aload_n (i := 0) hC dX2_exact_12 rfl rfl ?_
      refine x_bipush hC dX2_exact_13 bp_13 ?_
      refine x_iload_n (i := 2) hC dX2_exact_15 rfl rfl ?_
      refine x_callI hC (tX2_begins l D cA h σ hok 13 w1 (by omega) (by omega)) gX2_X2_begins hyX2_begins ⟨rfl, rfl⟩ ⟨Nat.le_of_ble_eq_true rfl, Nat.le_of_ble_eq_true rfl⟩ ⟨Nat.zero_le _, Nat.zero_le _⟩ (ci := 1) (q0 := 0) rfl rfl rfl rfl (Nat.le_of_ble_eq_true rfl) rfl dX2_exact_16 (fun z u hu => ?_)
      obtain ⟨⟨rfl, hc⟩ | ⟨rfl, hc⟩, rfl⟩ := hu
      · refine x_if_eq hC 25 dX2_exact_19 (by decide) (by omega) (fun h19 => by exfalso; omega) (fun h19 => ?_)
        refine x_iinc (L' := [_, _, _]) hC dX2_exact_22 rfl rfl ?_
        refine x_iinc (L' := [_, _, _]) hC dX2_exact_25 rfl rfl ?_
        refine x_goto hC 4 dX2_exact_28 (by decide) ?_
        exact ih (w1 + 1) _ (by omega) (by omega) (by rw [← he]; exact congrArg (cntL (fun w => bgV σ 13 w) n (w1 + 1)) (if_pos hc).symm)
      · refine x_if_eq hC 25 dX2_exact_19 (by decide) (by omega) (fun h19 => ?_) (fun h19 => by exfalso; omega)
        refine x_iinc (L' := [_, _, _]) hC dX2_exact_25 rfl rfl ?_
        refine x_goto hC 4 dX2_exact_28 (by decide) ?_
        exact ih (w1 + 1) _ (by omega) (by omega) (by rw [← he]; exact congrArg (cntL (fun w => bgV σ 13 w) n (w1 + 1)) (if_neg hc).symm)
  refine x_iconst hC dX2_exact_0 ?_
  refine x_istore_n (i := 1) (L' := [_, _, _]) hC dX2_exact_1 rfl (Nat.le_of_ble_eq_true rfl) rfl ?_
  refine x_iconst hC dX2_exact_2 ?_
  refine x_istore_n (i := 2) (L' := [_, _, _]) hC dX2_exact_3 rfl (Nat.le_of_ble_eq_true rfl) rfl ?_
  exact loop (σ.1 4).toNat 0 0 (by omega) (by omega) rfl
abbrev rX2_continues : Room := ({ frames := 1, cells := 0, slots := 0, locals := 23 } : Room)
set_option maxHeartbeats 4000000 in
set_option maxRecDepth 100000 in
theorem tX2_continues (l : Launch) (D : va_G) (cA : ClassId) (h : Nat → Nat) (σ : XS) (hok : OKm σ) : MI l yX2_continues (ws_ yX2_continues cX2_continues 3 (some .int)) rX2_continues (wM h cA) D vwCl [(cA, .int)] (h 0) [] σ (fun z u => ctL σ (σ.1 4).toNat 0 0 = z ∧ σ = u) := by
  refine MI.of (own := RX2) (L := [some (.ref (h 0)), none, none]) (by decide) rfl (by simp [Value.category]) (Nat.le_of_ble_eq_true rfl) rfl ?_
  intro p e s m below meth c A hC hr
  have q4 := hok.i4
  have q13 := hok.f2 13
  have loop : ∀ (n : Nat) (w1 b : Int), 0 ≤ w1 → w1 + (n : Int) = σ.1 4 → 0 ≤ b ∧ b < 16 → ctL σ n w1 b = ctL σ (σ.1 4).toNat 0 0 → XW p l e rX2_continues s m (Value.ref (h 0) :: []).toArray below meth c 0 0 (MQ below (va_Qi (PI (fun z u => ctL σ (σ.1 4).toNat 0 0 = z ∧ σ = u)) (BW D vwCl [(cA, .int)] A (wM h cA)) A) (Value.ref (h 0) :: []).toArray s 0 0 A) D vwCl A (wM h cA) σ [some (.ref (h 0)), some (.int (iI (b))), some (.int (iI (w1)))] [] 4 := by
    intro n
    induction n with
    | zero =>
      intro w1 b hi hn hb he
      refine x_iload_n (i := 2) hC dX2_continues_4 rfl rfl ?_
      refine x_aload_n (i := 0) hC dX2_continues_5 rfl rfl ?_
      refine x2_g4 hC dX2_continues_6 ?_
      refine x_icmp_ge hC 66 dX2_continues_9 (by decide) (by omega) (by omega) (fun h9 => ?_) (fun h9 => by exfalso; omega)
      refine x_iload_n (i := 1) hC dX2_continues_66 rfl rfl ?_
      exact x_iret hC hr dX2_continues_67 ⟨he.symm, rfl⟩
    | succ n ih =>
      intro w1 b hi hn hb he
      have qw := hok.f2 w1
      have ql := hok.f1 (6 * w1 + σ.2 2 13)
      have qo := orb_rg hb (show 0 ≤ σ.2 1 (6 * w1 + σ.2 2 13) ∧ σ.2 1 (6 * w1 + σ.2 2 13) < 4 by omega)
      refine x_iload_n (i := 2) hC dX2_continues_4 rfl rfl ?_
      refine x_aload_n (i := 0) hC dX2_continues_5 rfl rfl ?_
      refine x2_g4 hC dX2_continues_6 ?_
      refine x_icmp_ge hC 66 dX2_continues_9 (by decide) (by omega) (by omega) (fun h9 => by exfalso; omega) (fun h9 => ?_)
      refine x_aload_n (i := 0) hC dX2_continues_12 rfl rfl ?_
      refine x_bipush hC dX2_continues_13 bp_13 ?_
      refine x_iload_n (i := 2) hC dX2_continues_15 rfl rfl ?_
      refine x_callI hC (tX2_begins l D cA h σ hok 13 w1 (by omega) (by omega)) gX2_X2_begins hyX2_begins ⟨rfl, rfl⟩ ⟨Nat.le_of_ble_eq_true rfl, Nat.le_of_ble_eq_true rfl⟩ ⟨Nat.zero_le _, Nat.zero_le _⟩ (ci := 1) (q0 := 0) rfl rfl rfl rfl (Nat.le_of_ble_eq_true rfl) rfl dX2_continues_16 (fun z u hu => ?_)
      obtain ⟨⟨rfl, hc⟩ | ⟨rfl, hc⟩, rfl⟩ := hu
      · refine x_if_eq hC 60 dX2_continues_19 (by decide) (by omega) (fun h19 => by exfalso; omega) (fun h19 => ?_)
        refine x_aload_n (i := 0) hC dX2_continues_22 rfl rfl ?_
        refine x2_g2 hC dX2_continues_23 ?_
        refine x_iload_n (i := 2) hC dX2_continues_26 rfl rfl ?_
        refine x2_l2 hC (by omega) dX2_continues_27 ?_
        refine x_aload_n (i := 0) hC dX2_continues_28 rfl rfl ?_
        refine x2_g2 hC dX2_continues_29 ?_
        refine x_bipush hC dX2_continues_32 bp_13 ?_
        refine x2_l2 hC (by omega) dX2_continues_34 ?_
        refine x_icmp_le hC 60 dX2_continues_35 (by decide) (by omega) (by omega) (fun h35 => ?_) (fun h35 => ?_)
        · refine x_iinc (L' := [_, _, _]) hC dX2_continues_60 rfl rfl ?_
          refine x_goto hC 4 dX2_continues_63 (by decide) ?_
          exact ih (w1 + 1) _ (by omega) (by omega) hb (by rw [← he]; exact congrArg (ctL σ n (w1 + 1)) (if_neg (fun z => absurd z.2 (by omega))).symm)
        · refine x_iload_n (i := 1) hC dX2_continues_38 rfl rfl ?_
          refine x_iconst hC dX2_continues_39 ?_
          refine x_aload_n (i := 0) hC dX2_continues_40 rfl rfl ?_
          refine x2_g1 hC dX2_continues_41 ?_
          refine x_bipush hC dX2_continues_44 bp_6 ?_
          refine x_iload_n (i := 2) hC dX2_continues_46 rfl rfl ?_
          refine x_imul hC dX2_continues_47 ?_
          refine x_aload_n (i := 0) hC dX2_continues_48 rfl rfl ?_
          refine x2_g2 hC dX2_continues_49 ?_
          refine x_bipush hC dX2_continues_52 bp_13 ?_
          refine x2_l2 hC (by omega) dX2_continues_54 ?_
          refine x_iadd hC dX2_continues_55 ?_
          refine x2_l1 hC (by omega) dX2_continues_56 ?_
          refine x_ishl (v := ((2 ^ (σ.2 1 (6 * w1 + σ.2 2 13)).toNat : Nat) : Int)) hC dX2_continues_57 (shl_or (by omega)) ?_
          refine x_ior (v := orb b (σ.2 1 (6 * w1 + σ.2 2 13))) hC dX2_continues_58 (orb_or2 hb (by omega)) ?_
          refine x_istore_n (i := 1) (L' := [_, _, _]) hC dX2_continues_59 rfl (Nat.le_of_ble_eq_true rfl) rfl ?_
          refine x_iinc (L' := [_, _, _]) hC dX2_continues_60 rfl rfl ?_
          refine x_goto hC 4 dX2_continues_63 (by decide) ?_
          exact ih (w1 + 1) _ (by omega) (by omega) qo (by rw [← he]; exact congrArg (ctL σ n (w1 + 1)) (if_pos ⟨hc, by omega⟩).symm)
      · refine x_if_eq hC 60 dX2_continues_19 (by decide) (by omega) (fun h19 => ?_) (fun h19 => by exfalso; omega)
        refine x_iinc (L' := [_, _, _]) hC dX2_continues_60 rfl rfl ?_
        refine x_goto hC 4 dX2_continues_63 (by decide) ?_
        exact ih (w1 + 1) _ (by omega) (by omega) hb (by rw [← he]; exact congrArg (ctL σ n (w1 + 1)) (if_neg (fun z => hc z.1)).symm)
  refine x_iconst hC dX2_continues_0 ?_
  refine x_istore_n (i := 1) (L' := [_, _, _]) hC dX2_continues_1 rfl (Nat.le_of_ble_eq_true rfl) rfl ?_
  refine x_iconst hC dX2_continues_2 ?_
  refine x_istore_n (i := 2) (L' := [_, _, _]) hC dX2_continues_3 rfl (Nat.le_of_ble_eq_true rfl) rfl ?_
  exact loop (σ.1 4).toNat 0 0 (by omega) (by omega) (by omega) rfl
end
section
/-! WORDS as lists of letters: dictionary order, code, edit distance, reach -/
set_option maxRecDepth 100000
def codeOf (p : List Int) : Int := p.foldl (fun c x => c * 5 + x + 1) 0
theorem codeOf_snoc (p : List Int) (c : Int) : codeOf (p ++ [c]) = codeOf p * 5 + c + 1 := by simp [codeOf, List.foldl_append]
/-- the order of a dictionary -/
def dlt : List Int → List Int → Prop
  | [], [] => False
  | [], _ :: _ => True
  | _ :: _, [] => False
  | a :: x, b :: y => a < b ∨ (a = b ∧ dlt x y)
theorem dlt_irr : ∀ x : List Int, ¬ dlt x x
  | [], h => h
  | a :: x, h => by
    rcases h with h | ⟨-, h⟩
    · omega
    · exact dlt_irr x h
theorem dlt_tr : ∀ x y z : List Int, dlt x y → dlt y z → dlt x z
  | [], [], _, h, _ => absurd h id
  | [], _ :: _, [], _, h => absurd h id
  | [], _ :: _, _ :: _, _, _ => trivial
  | _ :: _, [], _, h, _ => absurd h id
  | _ :: _, _ :: _, [], _, h => absurd h id
  | a :: x, b :: y, c :: z, h1, h2 => by
    rcases h1 with h1 | ⟨h1, g1⟩ <;> rcases h2 with h2 | ⟨h2, g2⟩
    · exact Or.inl (by omega)
    · exact Or.inl (by omega)
    · exact Or.inl (by omega)
    · exact Or.inr ⟨by omega, dlt_tr x y z g1 g2⟩
theorem dlt_tot : ∀ x y : List Int, dlt x y ∨ x = y ∨ dlt y x
  | [], [] => Or.inr (Or.inl rfl)
  | [], _ :: _ => Or.inl trivial
  | _ :: _, [] => Or.inr (Or.inr trivial)
  | a :: x, b :: y => by
    rcases Int.lt_trichotomy a b with h | h | h
    · exact Or.inl (Or.inl h)
    · rcases dlt_tot x y with g | g | g
      · exact Or.inl (Or.inr ⟨h, g⟩)
      · exact Or.inr (Or.inl (by rw [h, g]))
      · exact Or.inr (Or.inr (Or.inr ⟨h.symm, g⟩))
    · exact Or.inr (Or.inr (Or.inl h))
theorem dlt_ext : ∀ (p : List Int) (c : Int) (r : List Int), dlt p (p ++ c :: r)
  | [], _, _ => trivial
  | _ :: p, c, r => Or.inr ⟨rfl, dlt_ext p c r⟩
theorem dlt_fork : ∀ (p : List Int) (a b : Int) (x y : List Int), a < b → dlt (p ++ a :: x) (p ++ b :: y)
  | [], _, _, _, _, h => Or.inl h
  | _ :: p, a, b, x, y, h => Or.inr ⟨rfl, dlt_fork p a b x y h⟩
/-- edit distance of the first i letters of q and the first j of w -/
def edStep (c : Int) (w : Nat → Int) (i : Nat) (prev : Nat → Int) : Nat → Int
  | 0 => (i : Int) + 1
  | j + 1 => minF (prev j + (if c = w j then 0 else 1)) (minF (prev (j + 1)) (edStep c w i prev j) + 1)
def edG (q w : Nat → Int) : Nat → Nat → Int
  | 0 => fun j => (j : Int)
  | i + 1 => edStep (q i) w i (edG q w i)
theorem edStep_congr {c : Int} {w w' : Nat → Int} {i : Nat} {p p' : Nat → Int} : ∀ j : Nat, (∀ t, t < j → w t = w' t) → (∀ t, t ≤ j → p t = p' t) → edStep c w i p j = edStep c w' i p' j
  | 0, _, _ => rfl
  | j + 1, h, g => by
    unfold edStep
    rw [edStep_congr j (fun t ht => h t (by omega)) (fun t ht => g t (by omega)), h j (by omega), g j (by omega), g (j + 1) (by omega)]
theorem edG_congr {q q' w w' : Nat → Int} : ∀ (i j : Nat), (∀ t, t < i → q t = q' t) → (∀ t, t < j → w t = w' t) → edG q w i j = edG q' w' i j
  | 0, _, _, _ => rfl
  | i + 1, j, h, g => by
    show edStep (q i) w i (edG q w i) j = edStep (q' i) w' i (edG q' w' i) j
    rw [h i (by omega)]
    exact edStep_congr j g (fun t ht => edG_congr i t (fun s hs => h s (by omega)) (fun s hs => g s (by omega)))
theorem edV_G (lt : Int → Int) (w : Int) : ∀ i j : Nat, edV lt w i j = edG (fun t => lt (78 + (t : Int))) (fun t => lt (6 * w + (t : Int))) i j := by
  have row : ∀ (i : Nat) (p : Nat → Int) (j : Nat), edRow lt w i p j = edStep (lt (78 + (i : Int))) (fun t => lt (6 * w + (t : Int))) i p j := by
    intro i p j
    induction j with
    | zero => rfl
    | succ j ih => unfold edRow edStep; rw [ih]
  intro i
  induction i with
  | zero => intro j; rfl
  | succ i ih =>
    intro j
    show edRow lt w i (edV lt w i) j = edStep _ _ i _ j
    rw [row, show edV lt w i = edG (fun t => lt (78 + (t : Int))) (fun t => lt (6 * w + (t : Int))) i from funext ih]
def gf (p : List Int) : Nat → Int := fun t => p.getD t 0
/-- the distance of the first l letters of Q and the whole of P -/
def dist (Q : List Int) (l : Nat) (P : List Int) : Int := edG (gf Q) (gf P) l P.length
theorem gf_app_lt {p r : List Int} {t : Nat} (h : t < p.length) : gf (p ++ r) t = gf p t := by
  unfold gf
  rw [List.getD_eq_getElem?_getD, List.getD_eq_getElem?_getD, List.getElem?_append_left h]
theorem gf_snoc (p : List Int) (c : Int) : gf (p ++ [c]) p.length = c := by
  unfold gf
  rw [List.getD_eq_getElem?_getD, List.getElem?_append_right (Nat.le_refl _)]
  simp
theorem dist_0 (Q P : List Int) : dist Q 0 P = (P.length : Int) := rfl
theorem dist_nil (Q : List Int) (l : Nat) : dist Q (l + 1) [] = (l : Int) + 1 := rfl
theorem dist_congr {Q Q' P : List Int} {l : Nat} (h : ∀ t, t < l → gf Q t = gf Q' t) : dist Q l P = dist Q' l P := edG_congr l _ h (fun _ _ => rfl)
theorem dist_take {Q P : List Int} {l j : Nat} (hj : j ≤ P.length) : dist Q l (P.take j) = edG (gf Q) (gf P) l j := by
  unfold dist
  rw [List.length_take, Nat.min_eq_left hj]
  refine edG_congr l j (fun _ _ => rfl) (fun t ht => ?_)
  unfold gf
  rw [List.getD_eq_getElem?_getD, List.getD_eq_getElem?_getD, List.getElem?_take_of_lt ht]
theorem dist_snoc (Q P : List Int) (l : Nat) (c : Int) : dist Q (l + 1) (P ++ [c]) = minF (dist Q l P + (if gf Q l = c then 0 else 1)) (minF (dist Q l (P ++ [c])) (dist Q (l + 1) P) + 1) := by
  have e : ∀ i, edG (gf Q) (gf (P ++ [c])) i P.length = edG (gf Q) (gf P) i P.length := fun i => edG_congr i _ (fun _ _ => rfl) (fun t ht => gf_app_lt ht)
  unfold dist
  rw [List.length_append, List.length_singleton]
  show minF (edG (gf Q) (gf (P ++ [c])) l P.length + (if gf Q l = gf (P ++ [c]) P.length then 0 else 1)) (minF (edG (gf Q) (gf (P ++ [c])) l (P.length + 1)) (edG (gf Q) (gf (P ++ [c])) (l + 1) P.length) + 1) = _
  rw [e l, e (l + 1), gf_snoc]
theorem edG_0 (q w : Nat → Int) (i : Nat) : edG q w i 0 = (i : Int) := by cases i <;> rfl
def capk (k d : Int) : Int := if k < d then k + 1 else d
theorem capk_min (k a b : Int) : capk k (minF a b) = minF (capk k a) (capk k b) := by
  unfold capk minF
  repeat' split
  all_goals omega
theorem capk_step (k a b c x : Int) (hx : 0 ≤ x) : capk k (minF (capk k a + 1) (minF (capk k b + x) (capk k c + 1))) = capk k (minF (b + x) (minF c a + 1)) := by
  unfold capk minF
  repeat' split
  all_goals omega
theorem capk_1 (k a : Int) : capk k (capk k a + 1) = capk k (a + 1) := by
  unfold capk
  repeat' split
  all_goals omega
theorem capk_le {k v : Int} : capk k v ≤ k ↔ v ≤ k := by unfold capk; split <;> omega
theorem capk_eq {k v : Int} (h : v ≤ k) : capk k v = v := by unfold capk; split <;> omega
/-- the least of f 0 .. f j -/
def rcN (f : Nat → Int) : Nat → Int
  | 0 => f 0
  | j + 1 => minF (f (j + 1)) (rcN f j)
theorem rcN_congr {f g : Nat → Int} : ∀ n : Nat, (∀ t, t ≤ n → f t = g t) → rcN f n = rcN g n
  | 0, h => h 0 (by omega)
  | n + 1, h => by
    unfold rcN
    rw [h (n + 1) (by omega), rcN_congr n (fun t ht => h t (by omega))]
theorem rcN_spec (f : Nat → Int) : ∀ n : Nat, (∀ j, j ≤ n → rcN f n ≤ f j) ∧ ∃ j, j ≤ n ∧ rcN f n = f j
  | 0 => ⟨fun j hj => by obtain rfl : j = 0 := (by omega); exact Int.le_refl _, 0, by omega, rfl⟩
  | n + 1 => by
    obtain ⟨h1, j, h2, h3⟩ := rcN_spec f n
    unfold rcN minF
    split
    · refine ⟨fun i hi => ?_, n + 1, by omega, rfl⟩
      rcases Nat.lt_or_ge i (n + 1) with q | q
      · have := h1 i (by omega); omega
      · obtain rfl : i = n + 1 := by omega
        exact Int.le_refl _
    · refine ⟨fun i hi => ?_, j, by omega, h3⟩
      rcases Nat.lt_or_ge i (n + 1) with q | q
      · exact h1 i (by omega)
      · obtain rfl : i = n + 1 := by omega
        omega
theorem rcLoop_spec (f : Nat → Int) : ∀ (k j : Nat) (b : Int), (rcLoop f k j b ≤ b ∧ ∀ t, j ≤ t → t < j + k → rcLoop f k j b ≤ f t) ∧ (rcLoop f k j b = b ∨ ∃ t, j ≤ t ∧ t < j + k ∧ rcLoop f k j b = f t)
  | 0, j, b => ⟨⟨Int.le_refl _, fun t h1 h2 => by omega⟩, Or.inl rfl⟩
  | k + 1, j, b => by
    obtain ⟨⟨h1, h2⟩, h3⟩ := rcLoop_spec f k (j + 1) (minF b (f j))
    have m := minF_le b (f j)
    unfold rcLoop
    refine ⟨⟨by omega, fun t g1 g2 => ?_⟩, ?_⟩
    · rcases Nat.lt_or_ge j t with q | q
      · exact h2 t (by omega) (by omega)
      · obtain rfl : t = j := by omega
        omega
    · rcases h3 with h3 | ⟨t, g1, g2, g3⟩
      · rw [h3]
        unfold minF
        split
        · exact Or.inl rfl
        · exact Or.inr ⟨j, by omega, by omega, rfl⟩
      · exact Or.inr ⟨t, by omega, by omega, g3⟩
/-- the reach of a word: the least distance of the whole query and a beginning of it -/
def rchD (Q P : List Int) : Int := rcN (edG (gf Q) (gf P) Q.length) P.length
theorem rchD_nil (Q : List Int) : rchD Q [] = dist Q Q.length [] := rfl
theorem rchD_snoc (Q P : List Int) (c : Int) : rchD Q (P ++ [c]) = minF (dist Q Q.length (P ++ [c])) (rchD Q P) := by
  unfold rchD dist
  rw [List.length_append, List.length_singleton]
  show minF _ (rcN _ P.length) = _
  rw [rcN_congr (g := edG (gf Q) (gf P) Q.length) P.length (fun t ht => edG_congr _ t (fun _ _ => rfl) (fun s hs => gf_app_lt (by omega)))]
/-- who ranks before whom: word and weight -/
def rlt (Q : List Int) (a b : List Int × Int) : Prop := rchD Q a.1 < rchD Q b.1 ∨ (rchD Q a.1 = rchD Q b.1 ∧ (b.2 < a.2 ∨ (a.2 = b.2 ∧ dlt a.1 b.1)))
theorem rlt_irr (Q : List Int) (a : List Int × Int) : ¬ rlt Q a a := by
  rintro (h | ⟨-, h | ⟨-, h⟩⟩)
  · omega
  · omega
  · exact dlt_irr _ h
theorem rlt_tr {Q : List Int} {a b c : List Int × Int} (h1 : rlt Q a b) (h2 : rlt Q b c) : rlt Q a c := by
  unfold rlt at *
  rcases h1 with h1 | ⟨h1, h1 | ⟨g1, k1⟩⟩ <;> rcases h2 with h2 | ⟨h2, h2 | ⟨g2, k2⟩⟩
  · exact Or.inl (by omega)
  · exact Or.inl (by omega)
  · exact Or.inl (by omega)
  · exact Or.inl (by omega)
  · exact Or.inr ⟨by omega, Or.inl (by omega)⟩
  · exact Or.inr ⟨by omega, Or.inl (by omega)⟩
  · exact Or.inl (by omega)
  · exact Or.inr ⟨by omega, Or.inl (by omega)⟩
  · exact Or.inr ⟨by omega, Or.inr ⟨by omega, dlt_tr _ _ _ k1 k2⟩⟩
theorem nodup_le {α : Type} [DecidableEq α] : ∀ (a b : List α), a.Nodup → (∀ x, x ∈ a → x ∈ b) → a.length ≤ b.length
  | [], b, _, _ => Nat.zero_le _
  | x :: a, b, hn, hs => by
    have hx : x ∈ b := hs x List.mem_cons_self
    have hnc := List.nodup_cons.mp hn
    have h1 := nodup_le a (b.erase x) hnc.2 (fun y hy => by
      have hyb := hs y (List.mem_cons_of_mem _ hy)
      have hne : y ≠ x := fun e => hnc.1 (by rw [← e]; exact hy)
      exact (List.mem_erase_of_ne hne).mpr hyb)
    rw [List.length_erase_of_mem hx] at h1
    have h2 : 0 < b.length := List.length_pos_of_mem hx
    simp only [List.length_cons]
    omega
end
section
/-! THE TREE: pth gives a node's letters; Ws the words with their weights; E a word under way (its beginnings are counted once more) -/
set_option maxRecDepth 100000
theorem fU_s (f : Int → Int) (i v : Int) : fU f i v i = v := if_pos rfl
theorem fU_n {f : Int → Int} {i v j : Int} (h : j ≠ i) : fU f i v j = f j := if_neg h
def segL (q : Int → Int) : Nat → Int → List Int
  | 0, _ => []
  | n + 1, i => q i :: segL q n (i + 1)
theorem segL_len (q : Int → Int) : ∀ (n : Nat) (i : Int), (segL q n i).length = n
  | 0, _ => rfl
  | n + 1, i => by unfold segL; rw [List.length_cons, segL_len q n (i + 1)]
theorem segL_snoc (q : Int → Int) : ∀ (n : Nat) (i : Int), segL q (n + 1) i = segL q n i ++ [q (i + (n : Int))]
  | 0, i => by
    show [q i] = [q (i + 0)]
    rw [Int.add_zero]
  | n + 1, i => by
    show q i :: segL q (n + 1) (i + 1) = (q i :: segL q n (i + 1)) ++ [q (i + ((n + 1 : Nat) : Int))]
    rw [segL_snoc q n (i + 1), show i + 1 + (n : Int) = i + ((n + 1 : Nat) : Int) from by omega]
    rfl
theorem segL_congr {q q' : Int → Int} : ∀ (n : Nat) (i : Int), (∀ j : Int, i ≤ j → j < i + (n : Int) → q j = q' j) → segL q n i = segL q' n i
  | 0, _, _ => rfl
  | n + 1, i, h => by
    unfold segL
    rw [h i (by omega) (by omega), segL_congr n (i + 1) (fun j h1 h2 => h j (by omega) (by omega))]
theorem segL_get (q : Int → Int) : ∀ (n : Nat) (i : Int) (t : Nat), t < n → (segL q n i)[t]? = some (q (i + (t : Int)))
  | 0, _, _, h => absurd h (by omega)
  | n + 1, i, 0, _ => by
    show some (q i) = some (q (i + 0))
    rw [Int.add_zero]
  | n + 1, i, t + 1, h => by
    show (segL q n (i + 1))[t]? = _
    rw [segL_get q n (i + 1) t (by omega), show i + 1 + (t : Int) = i + ((t + 1 : Nat) : Int) from by omega]
theorem segL_gf (q : Int → Int) {n t : Nat} (h : t < n) : gf (segL q n 0) t = q (t : Int) := by
  unfold gf
  rw [List.getD_eq_getElem?_getD, segL_get q n 0 t h, Int.zero_add]
  rfl
theorem segL_mem {q : Int → Int} {P : Int → Prop} (hq : ∀ i, P (q i)) : ∀ (n : Nat) (i : Int), ∀ x ∈ segL q n i, P x
  | 0, _, x, h => absurd h List.not_mem_nil
  | n + 1, i, x, h => by
    rcases List.mem_cons.mp h with e | e
    · rw [e]; exact hq i
    · exact segL_mem hq n (i + 1) x e
def inT (σ : XS) (n : Int) : Prop := 0 ≤ n ∧ n ≤ 79 ∧ (n = 0 ∨ 0 < σ.2 6 n)
def wcnt (Ws : List (List Int × Int)) (p : List Int) : Int := ((Ws.countP (fun w => p.isPrefixOf w.1) : Nat) : Int)
def ph (p E : List Int) : Int := if p.isPrefixOf E = true then 1 else 0
def TREE (σ : XS) (pth : Int → List Int) (Ws : List (List Int × Int)) (E : List Int) : Prop :=
  pth 0 = [] ∧
  (∀ n, inT σ n → n ≠ 0 → inT σ (σ.2 8 n) ∧ pth n = pth (σ.2 8 n) ++ [σ.2 9 n]) ∧
  (∀ n, inT σ n → σ.2 10 n = ((pth n).length : Int) ∧ σ.2 11 n = codeOf (pth n)) ∧
  (∀ n m, inT σ n → inT σ m → pth n = pth m → n = m) ∧
  (∀ n c, inT σ n → 0 ≤ c ∧ c ≤ 3 → (σ.2 7 (n * 4 + c) = 0 ∧ ∀ m, inT σ m → pth m ≠ pth n ++ [c]) ∨ (σ.2 7 (n * 4 + c) ≠ 0 ∧ inT σ (σ.2 7 (n * 4 + c)) ∧ pth (σ.2 7 (n * 4 + c)) = pth n ++ [c])) ∧
  (∀ n, inT σ n → n ≠ 0 → σ.2 6 n = wcnt Ws (pth n) + ph (pth n) E) ∧
  (∀ n, 0 ≤ n ∧ n ≤ 79 → n ≠ 0 → 0 ≤ σ.2 6 n) ∧
  (∀ p, p ≠ [] → ((∃ w, w ∈ Ws ∧ p <+: w.1) ∨ p <+: E) → ∃ n, inT σ n ∧ pth n = p) ∧
  (∀ n, inT σ n → n ≠ 0 → (∃ wt, (pth n, wt) ∈ Ws ∧ σ.2 12 n = wt) ∨ ((∀ wt, (pth n, wt) ∉ Ws) ∧ σ.2 12 n = -4))
/-- TREE reads the fields 6 .. 12 alone, and of 6 not the root's -/
theorem TREE.of {σ τ : XS} {pth : Int → List Int} {Ws : List (List Int × Int)} {E : List Int} (h : TREE σ pth Ws E) (h6 : ∀ n, n ≠ 0 → τ.2 6 n = σ.2 6 n) (h7 : τ.2 7 = σ.2 7) (h8 : τ.2 8 = σ.2 8) (h9 : τ.2 9 = σ.2 9) (h10 : τ.2 10 = σ.2 10) (h11 : τ.2 11 = σ.2 11) (h12 : τ.2 12 = σ.2 12) : TREE τ pth Ws E := by
  have hi : ∀ n, inT τ n ↔ inT σ n := by
    intro n
    unfold inT
    by_cases e : n = 0
    · simp [e]
    · rw [h6 n e]
  obtain ⟨t0, t1, t2, t3, t4, t6, t7, t8, t9⟩ := h
  refine ⟨t0, fun n hn e => ?_, fun n hn => ?_, fun n m hn hm => t3 n m ((hi n).mp hn) ((hi m).mp hm), fun n c hn hc => ?_, fun n hn e => ?_, fun n hn e => ?_, fun p h1 h2 => ?_, fun n hn e => ?_⟩
  · rw [h8, h9, hi]; exact t1 n ((hi n).mp hn) e
  · rw [h10, h11]; exact t2 n ((hi n).mp hn)
  · rw [h7]
    rcases t4 n c ((hi n).mp hn) hc with ⟨g1, g2⟩ | ⟨g1, g2, g3⟩
    · exact Or.inl ⟨g1, fun m hm => g2 m ((hi m).mp hm)⟩
    · exact Or.inr ⟨g1, (hi _).mpr g2, g3⟩
  · rw [h6 n e]; exact t6 n ((hi n).mp hn) e
  · rw [h6 n e]; exact t7 n hn e
  · obtain ⟨n, g1, g2⟩ := t8 p h1 h2
    exact ⟨n, (hi n).mpr g1, g2⟩
  · rw [h12]; exact t9 n ((hi n).mp hn) e
theorem inT_0 (σ : XS) : inT σ 0 := ⟨by omega, by omega, Or.inl rfl⟩
theorem ispf {p w : List Int} : p.isPrefixOf w = true ↔ p <+: w := List.isPrefixOf_iff_prefix
theorem ph_nil {p : List Int} (h : p ≠ []) : ph p [] = 0 := by
  unfold ph
  rw [if_neg]
  intro z
  exact h (List.prefix_nil.mp (ispf.mp z))
theorem pf_snoc {p E : List Int} {c : Int} : p <+: E ++ [c] ↔ p <+: E ∨ p = E ++ [c] := by
  rw [List.prefix_concat_iff]
  exact Or.comm
theorem ph_snoc_ne {p E : List Int} {c : Int} (h : p ≠ E ++ [c]) : ph p (E ++ [c]) = ph p E := by
  have e : p.isPrefixOf (E ++ [c]) = true ↔ p.isPrefixOf E = true := by
    rw [ispf, ispf, pf_snoc]
    exact ⟨fun z => z.resolve_right h, Or.inl⟩
  unfold ph
  by_cases q : p.isPrefixOf E = true
  · rw [if_pos q, if_pos (e.mpr q)]
  · rw [if_neg q, if_neg (fun z => q (e.mp z))]
theorem ph_self (p : List Int) : ph p p = 1 := if_pos (ispf.mpr (List.prefix_refl p))
theorem ph_long {p : List Int} {c : Int} : ph (p ++ [c]) p = 0 := by
  unfold ph
  rw [if_neg]
  intro z
  have := (ispf.mp z).length_le
  rw [List.length_append, List.length_singleton] at this
  omega
theorem wcnt_0 (Ws : List (List Int × Int)) (p : List Int) : 0 ≤ wcnt Ws p := by unfold wcnt; omega
theorem wcnt_pos {Ws : List (List Int × Int)} {p : List Int} : 0 < wcnt Ws p ↔ ∃ w, w ∈ Ws ∧ p <+: w.1 := by
  unfold wcnt
  constructor
  · intro h
    have h1 : 0 < Ws.countP (fun w => p.isPrefixOf w.1) := by omega
    obtain ⟨w, g1, g2⟩ := List.countP_pos_iff.mp h1
    exact ⟨w, g1, ispf.mp g2⟩
  · rintro ⟨w, g1, g2⟩
    have h1 : 0 < Ws.countP (fun w => p.isPrefixOf w.1) := List.countP_pos_iff.mpr ⟨w, g1, ispf.mpr g2⟩
    omega
theorem wcnt_mono {Ws : List (List Int × Int)} {p r : List Int} (h : p <+: r) : wcnt Ws r ≤ wcnt Ws p := by
  have h1 : Ws.countP (fun w => r.isPrefixOf w.1) ≤ Ws.countP (fun w => p.isPrefixOf w.1) := List.countP_mono_left (fun w _ hw => ispf.mpr (h.trans (ispf.mp hw)))
  unfold wcnt
  omega
theorem TREE.pre {σ : XS} {pth : Int → List Int} {Ws : List (List Int × Int)} {E : List Int} (h : TREE σ pth Ws E) {n : Int} (hn : inT σ n) (h0 : n ≠ 0) : (∃ w, w ∈ Ws ∧ pth n <+: w.1) ∨ pth n <+: E := by
  have h6 := h.2.2.2.2.2.1 n hn h0
  have hp : 0 < σ.2 6 n := hn.2.2.resolve_left h0
  by_cases q : (pth n).isPrefixOf E = true
  · exact Or.inr (ispf.mp q)
  · unfold ph at h6
    rw [if_neg q] at h6
    exact Or.inl (wcnt_pos.mp (by omega))
theorem TREE.ne {σ : XS} {pth : Int → List Int} {Ws : List (List Int × Int)} {E : List Int} (h : TREE σ pth Ws E) {n : Int} (hn : inT σ n) : n = 0 ↔ pth n = [] := by
  constructor
  · intro e; rw [e]; exact h.1
  · intro e; exact h.2.2.2.1 n 0 hn (inT_0 σ) (by rw [e, h.1])
theorem TREE.closed {σ : XS} {pth : Int → List Int} {Ws : List (List Int × Int)} {E : List Int} (h : TREE σ pth Ws E) {m : Int} (hm : inT σ m) {p : List Int} (hp : p <+: pth m) : ∃ n, inT σ n ∧ pth n = p := by
  by_cases e : p = []
  · exact ⟨0, inT_0 σ, by rw [e, h.1]⟩
  · have hm0 : m ≠ 0 := by
      intro z
      rw [z, h.1] at hp
      exact e (List.prefix_nil.mp hp)
    refine h.2.2.2.2.2.2.2.1 p e ?_
    rcases h.pre hm hm0 with ⟨w, g1, g2⟩ | g
    · exact Or.inl ⟨w, g1, hp.trans g2⟩
    · exact Or.inr (hp.trans g)
/-- going down from a node by letters -/
theorem TREE.walk {σ : XS} {pth : Int → List Int} {Ws : List (List Int × Int)} {E : List Int} (h : TREE σ pth Ws E) {q : Int → Int} (hq : ∀ i, 0 ≤ q i ∧ q i ≤ 3) : ∀ (n : Nat) (i node : Int), inT σ node → (inT σ (dnode (σ.2 7) q n i node) ∧ pth (dnode (σ.2 7) q n i node) = pth node ++ segL q n i) ∨ (dnode (σ.2 7) q n i node = -1 ∧ ∀ m, inT σ m → pth m ≠ pth node ++ segL q n i) := by
  intro n
  induction n with
  | zero =>
    intro i node hn
    exact Or.inl ⟨hn, by unfold dnode segL; rw [List.append_nil]⟩
  | succ n ih =>
    intro i node hn
    unfold dnode segL
    rcases h.2.2.2.2.1 node (q i) hn (hq i) with ⟨g1, g2⟩ | ⟨g1, g2, g3⟩
    · rw [if_pos g1]
      refine Or.inr ⟨rfl, fun m hm e => ?_⟩
      obtain ⟨m', k1, k2⟩ := h.closed hm (p := pth node ++ [q i]) (by rw [e]; exact ⟨segL q n (i + 1), by simp⟩)
      exact g2 m' k1 k2
    · rw [if_neg g1]
      have e : pth node ++ q i :: segL q n (i + 1) = pth (σ.2 7 (node * 4 + q i)) ++ segL q n (i + 1) := by rw [g3]; simp
      rw [e]
      exact ih (i + 1) _ g2
/-- a word goes in: one letter further -/
theorem TREE.insOld {σ : XS} {pth : Int → List Int} {Ws : List (List Int × Int)} {E : List Int} (h : TREE σ pth Ws E) {ch c : Int} (hch : inT σ ch) (h0 : ch ≠ 0) (hp : pth ch = E ++ [c]) : TREE (sA σ 6 ch (σ.2 6 ch + 1)) pth Ws (E ++ [c]) := by
  have hi : ∀ n, inT (sA σ 6 ch (σ.2 6 ch + 1)) n ↔ inT σ n := by
    intro n
    show (0 ≤ n ∧ n ≤ 79 ∧ (n = 0 ∨ 0 < fU (σ.2 6) ch (σ.2 6 ch + 1) n)) ↔ _
    by_cases e : n = ch
    · subst e
      rw [fU_s]
      have := hch.2.2
      unfold inT
      omega
    · rw [fU_n e]; rfl
  obtain ⟨t0, t1, t2, t3, t4, t6, t7, t8, t9⟩ := id h
  refine ⟨t0, fun n hn e => ?_, fun n hn => t2 n ((hi n).mp hn), fun n m hn hm => t3 n m ((hi n).mp hn) ((hi m).mp hm), fun n c' hn hc => ?_, fun n hn e => ?_, fun n hn e => ?_, fun p h1 h2 => ?_, fun n hn e => t9 n ((hi n).mp hn) e⟩
  · have := t1 n ((hi n).mp hn) e
    exact ⟨(hi _).mpr this.1, this.2⟩
  · rcases t4 n c' ((hi n).mp hn) hc with ⟨g1, g2⟩ | ⟨g1, g2, g3⟩
    · exact Or.inl ⟨g1, fun m hm => g2 m ((hi m).mp hm)⟩
    · exact Or.inr ⟨g1, (hi _).mpr g2, g3⟩
  · show fU (σ.2 6) ch (σ.2 6 ch + 1) n = _
    by_cases q : n = ch
    · subst q
      rw [fU_s, t6 n hch e, hp, ph_self, ph_long]
      omega
    · rw [fU_n q, t6 n ((hi n).mp hn) e, ph_snoc_ne]
      intro z
      exact q (t3 n ch ((hi n).mp hn) hch (by rw [z, hp]))
  · show 0 ≤ fU (σ.2 6) ch (σ.2 6 ch + 1) n
    have := t7 n hn e
    by_cases q : n = ch
    · subst q; rw [fU_s]; omega
    · rw [fU_n q]; exact this
  · have key : (∃ n, inT σ n ∧ pth n = p) := by
      rcases h2 with h2 | h2
      · exact t8 p h1 (Or.inl h2)
      · rcases pf_snoc.mp h2 with z | z
        · exact t8 p h1 (Or.inr z)
        · exact ⟨ch, hch, by rw [z, hp]⟩
    obtain ⟨n, g1, g2⟩ := key
    exact ⟨n, (hi n).mpr g1, g2⟩
def pthU (pth : Int → List Int) (f : Int) (p : List Int) : Int → List Int := fun n => if n = f then p else pth n
theorem mk_child (σ : XS) (node c f j : Int) : (mkC (mkB (mkA σ node c f) node c f) f).2 7 j = if j = f * 4 + 3 then 0 else if j = f * 4 + 2 then 0 else if j = f * 4 + 1 then 0 else if j = f * 4 + 0 then 0 else if j = node * 4 + c then f else σ.2 7 j := rfl
theorem TREE.insNew {σ : XS} {pth : Int → List Int} {Ws : List (List Int × Int)} {E : List Int} (h : TREE σ pth Ws E) {nd c f : Int} (hnd : inT σ nd) (hp : pth nd = E) (hc : 0 ≤ c ∧ c ≤ 3) (hf : 1 ≤ f ∧ f ≤ 79) (hfree : σ.2 6 f = 0) (hno : ∀ m, inT σ m → pth m ≠ E ++ [c]) (hW : ∀ w ∈ Ws, w.1 ≠ E ++ [c]) (v : Int) (hv : v = 1) : TREE (sA (mkC (mkB (mkA σ nd c f) nd c f) f) 6 f v) (pthU pth f (E ++ [c])) Ws (E ++ [c]) ∧ inT (sA (mkC (mkB (mkA σ nd c f) nd c f) f) 6 f v) f := by
  subst hv
  have hnf : ¬ inT σ f := fun z => by
    have := z.2.2
    omega
  have hne : ∀ n, inT σ n → n ≠ f := fun n hn e => hnf (e ▸ hn)
  have hndf := hne nd hnd
  have hi : ∀ n, inT (sA (mkC (mkB (mkA σ nd c f) nd c f) f) 6 f 1) n ↔ (inT σ n ∨ n = f) := by
    intro n
    show (0 ≤ n ∧ n ≤ 79 ∧ (n = 0 ∨ 0 < fU (σ.2 6) f 1 n)) ↔ _
    by_cases e : n = f
    · subst e
      rw [fU_s]
      constructor
      · intro _; exact Or.inr rfl
      · intro _; omega
    · rw [fU_n e]
      constructor
      · intro z; exact Or.inl z
      · intro z; exact z.resolve_right e
  have pn : ∀ n, inT σ n → pthU pth f (E ++ [c]) n = pth n := fun n hn => if_neg (hne n hn)
  have pf : pthU pth f (E ++ [c]) f = E ++ [c] := if_pos rfl
  have h60 : ph (E ++ [c]) E = 0 := ph_long
  obtain ⟨t0, t1, t2, t3, t4, t6, t7, t8, t9⟩ := id h
  have wz : wcnt Ws (E ++ [c]) = 0 := by
    rcases Int.lt_or_le 0 (wcnt Ws (E ++ [c])) with q | q
    · obtain ⟨w, g1, g2⟩ := wcnt_pos.mp q
      obtain ⟨n, k1, k2⟩ := t8 (E ++ [c]) (by simp) (Or.inl ⟨w, g1, g2⟩)
      exact absurd k2 (hno n k1)
    · have := wcnt_0 Ws (E ++ [c])
      omega
  refine ⟨⟨?_, fun n hn e => ?_, fun n hn => ?_, fun n m hn hm he => ?_, fun n c' hn hc' => ?_, fun n hn e => ?_, fun n hn e => ?_, fun p h1 h2 => ?_, fun n hn e => ?_⟩, (hi f).mpr (Or.inr rfl)⟩
  · rw [pn 0 (inT_0 σ)]; exact t0
  · show inT _ (fU (σ.2 8) f nd n) ∧ _ = pthU pth f (E ++ [c]) (fU (σ.2 8) f nd n) ++ [fU (σ.2 9) f c n]
    rcases (hi n).mp hn with z | z
    · rw [fU_n (hne n z), fU_n (hne n z)]
      obtain ⟨k1, k2⟩ := t1 n z e
      exact ⟨(hi _).mpr (Or.inl k1), by rw [pn n z, pn _ k1]; exact k2⟩
    · subst z
      rw [fU_s, fU_s]
      exact ⟨(hi _).mpr (Or.inl hnd), by rw [pf, pn nd hnd, hp]⟩
  · show fU (σ.2 10) f (σ.2 10 nd + 1) n = _ ∧ fU (σ.2 11) f (σ.2 11 nd * 5 + c + 1) n = _
    rcases (hi n).mp hn with z | z
    · rw [fU_n (hne n z), fU_n (hne n z), pn n z]
      exact t2 n z
    · subst z
      rw [fU_s, fU_s, pf, codeOf_snoc, (t2 nd hnd).1, (t2 nd hnd).2, hp]
      exact ⟨by simp, rfl⟩
  · rcases (hi n).mp hn with z | z <;> rcases (hi m).mp hm with y | y
    · rw [pn n z, pn m y] at he
      exact t3 n m z y he
    · subst y
      rw [pn n z, pf] at he
      exact absurd he (hno n z)
    · subst z
      rw [pn m y, pf] at he
      exact absurd he.symm (hno m y)
    · rw [z, y]
  · show ((mkC (mkB (mkA σ nd c f) nd c f) f).2 7 (n * 4 + c') = 0 ∧ _) ∨ ((mkC (mkB (mkA σ nd c f) nd c f) f).2 7 (n * 4 + c') ≠ 0 ∧ inT _ ((mkC (mkB (mkA σ nd c f) nd c f) f).2 7 (n * 4 + c')) ∧ pthU pth f (E ++ [c]) ((mkC (mkB (mkA σ nd c f) nd c f) f).2 7 (n * 4 + c')) = _)
    rcases (hi n).mp hn with z | z
    · have hnn := hne n z
      rw [pn n z]
      by_cases q : n = nd ∧ c' = c
      · have ec : (mkC (mkB (mkA σ nd c f) nd c f) f).2 7 (n * 4 + c') = f := by
          rw [mk_child, if_neg (by omega), if_neg (by omega), if_neg (by omega), if_neg (by omega), if_pos (by rw [q.1, q.2])]
        rw [ec]
        exact Or.inr ⟨by omega, (hi f).mpr (Or.inr rfl), by rw [pf, q.1, q.2, hp]⟩
      · have ec : (mkC (mkB (mkA σ nd c f) nd c f) f).2 7 (n * 4 + c') = σ.2 7 (n * 4 + c') := by
          rw [mk_child, if_neg (by omega), if_neg (by omega), if_neg (by omega), if_neg (by omega), if_neg (by omega)]
        rw [ec]
        rcases t4 n c' z hc' with ⟨g1, g2⟩ | ⟨g1, g2, g3⟩
        · refine Or.inl ⟨g1, fun m hm => ?_⟩
          rcases (hi m).mp hm with y | y
          · rw [pn m y]; exact g2 m y
          · subst y
            rw [pf]
            intro k
            obtain ⟨k1, k2⟩ := List.append_inj' k rfl
            refine q ⟨t3 n nd z hnd (by rw [hp, k1]), ?_⟩
            simpa using k2.symm
        · exact Or.inr ⟨g1, (hi _).mpr (Or.inl g2), by rw [pn _ g2]; exact g3⟩
    · subst z
      have ec : (mkC (mkB (mkA σ nd c n) nd c n) n).2 7 (n * 4 + c') = 0 := by
        rw [mk_child]
        rcases (show c' = 0 ∨ c' = 1 ∨ c' = 2 ∨ c' = 3 by omega) with z | z | z | z <;> subst z
        · rw [if_neg (by omega), if_neg (by omega), if_neg (by omega), if_pos rfl]
        · rw [if_neg (by omega), if_neg (by omega), if_pos rfl]
        · rw [if_neg (by omega), if_pos rfl]
        · rw [if_pos rfl]
      refine Or.inl ⟨ec, fun m hm k => ?_⟩
      rw [pf] at k
      rcases (hi m).mp hm with y | y
      · rw [pn m y] at k
        obtain ⟨m', k1, k2⟩ := h.closed y (p := E ++ [c]) (by rw [k]; exact ⟨[c'], rfl⟩)
        exact hno m' k1 k2
      · subst y
        rw [pf] at k
        have := congrArg List.length k
        simp at this
  · show fU (σ.2 6) f 1 n = _
    rcases (hi n).mp hn with z | z
    · rw [fU_n (hne n z), pn n z, ph_snoc_ne (hno n z)]
      exact t6 n z e
    · subst z
      rw [fU_s, pf, ph_self, wz]
      rfl
  · show 0 ≤ fU (σ.2 6) f 1 n
    by_cases q : n = f
    · subst q; rw [fU_s]; omega
    · rw [fU_n q]; exact t7 n hn e
  · have key : (∃ n, inT σ n ∧ pth n = p) ∨ p = E ++ [c] := by
      rcases h2 with h2 | h2
      · exact Or.inl (t8 p h1 (Or.inl h2))
      · rcases pf_snoc.mp h2 with z | z
        · exact Or.inl (t8 p h1 (Or.inr z))
        · exact Or.inr z
    rcases key with ⟨n, g1, g2⟩ | z
    · exact ⟨n, (hi n).mpr (Or.inl g1), by rw [pn n g1]; exact g2⟩
    · exact ⟨f, (hi f).mpr (Or.inr rfl), by rw [pf, z]⟩
  · show (∃ wt, _ ∧ fU (σ.2 12) f (-4) n = wt) ∨ (_ ∧ fU (σ.2 12) f (-4) n = -4)
    rcases (hi n).mp hn with z | z
    · rw [fU_n (hne n z), pn n z]
      exact t9 n z e
    · subst z
      rw [fU_s, pf]
      exact Or.inr ⟨fun wt k => hW _ k rfl, rfl⟩
end
section
/-! THE TREE, further: other lists of words, a free node, a word in, a word out, another weight -/
set_option maxRecDepth 100000
theorem TREE.perm {σ : XS} {pth : Int → List Int} {Ws Vs : List (List Int × Int)} {E : List Int} (h : TREE σ pth Ws E) (hp : Ws.Perm Vs) : TREE σ pth Vs E := by
  have hw : ∀ p, wcnt Vs p = wcnt Ws p := fun p => by
    unfold wcnt
    rw [hp.countP_eq]
  have hm : ∀ x, x ∈ Vs ↔ x ∈ Ws := fun x => hp.mem_iff.symm
  obtain ⟨t0, t1, t2, t3, t4, t6, t7, t8, t9⟩ := h
  refine ⟨t0, t1, t2, t3, t4, fun n hn e => ?_, t7, fun p h1 h2 => ?_, fun n hn e => ?_⟩
  · rw [hw]; exact t6 n hn e
  · refine t8 p h1 ?_
    rcases h2 with ⟨w, g1, g2⟩ | g
    · exact Or.inl ⟨w, (hm w).mp g1, g2⟩
    · exact Or.inr g
  · rcases t9 n hn e with ⟨wt, g1, g2⟩ | ⟨g1, g2⟩
    · exact Or.inl ⟨wt, (hm _).mpr g1, g2⟩
    · exact Or.inr ⟨fun wt z => g1 wt ((hm _).mp z), g2⟩
theorem fnode_0 (bl : Int → Int) : ∀ (k : Nat) (f : Int), (bl f = 0 ∨ ∃ n : Int, 1 ≤ n ∧ n ≤ (k : Int) ∧ bl n = 0) → bl (fnode bl k f) = 0
  | 0, f, h => by
    rcases h with h | ⟨n, h1, h2, _⟩
    · exact h
    · exfalso; omega
  | k + 1, f, h => by
    unfold fnode
    refine fnode_0 bl k _ ?_
    by_cases q : bl ((k : Int) + 1) = 0
    · rw [if_pos q]; exact Or.inl q
    · rw [if_neg q]
      rcases h with h | ⟨n, h1, h2, h3⟩
      · exact Or.inl h
      · refine Or.inr ⟨n, h1, ?_, h3⟩
        have hne : n ≠ (k : Int) + 1 := fun z => q (z ▸ h3)
        omega
/-- the nonempty beginnings of some words -/
def prefs (ws : List (List Int)) : List (List Int) := ws.flatMap (fun w => (List.range w.length).map (fun i => w.take (i + 1)))
theorem prefs_mem {ws : List (List Int)} {p w : List Int} (hw : w ∈ ws) (hp : p <+: w) (h0 : p ≠ []) : p ∈ prefs ws := by
  have h2 : 0 < p.length := List.length_pos_iff.mpr h0
  refine List.mem_flatMap.mpr ⟨w, hw, List.mem_map.mpr ⟨p.length - 1, List.mem_range.mpr ?_, ?_⟩⟩
  · have h1 := hp.length_le
    omega
  · rw [Nat.sub_add_cancel h2]
    exact (List.prefix_iff_eq_take.mp hp).symm
theorem prefs_len : ∀ (ws : List (List Int)), (∀ w ∈ ws, w.length ≤ 6) → (prefs ws).length ≤ 6 * ws.length
  | [], _ => Nat.zero_le _
  | w :: ws, h => by
    have h1 := prefs_len ws (fun v hv => h v (List.mem_cons_of_mem _ hv))
    have h2 := h w List.mem_cons_self
    unfold prefs at h1 ⊢
    rw [List.flatMap_cons, List.length_append, List.length_map, List.length_range, List.length_cons]
    omega
theorem TREE.free {σ : XS} {pth : Int → List Int} {Ws : List (List Int × Int)} {E : List Int} (h : TREE σ pth Ws E) (hl : Ws.length ≤ 11) (h6 : ∀ w ∈ Ws, w.1.length ≤ 6) (hE : E.length ≤ 6) : σ.2 6 (freeF σ) = 0 := by
  unfold freeF
  refine fnode_0 (σ.2 6) 79 1 ?_
  by_cases q : ∃ n : Int, 1 ≤ n ∧ n ≤ ((79 : Nat) : Int) ∧ σ.2 6 n = 0
  · exact Or.inr q
  · exfalso
    have hin : ∀ n : Nat, n < 79 → inT σ ((n : Int) + 1) := fun n hn => by
      have h7 := h.2.2.2.2.2.2.1 ((n : Int) + 1) (by omega) (by omega)
      have hne : σ.2 6 ((n : Int) + 1) ≠ 0 := fun z => q ⟨_, by omega, by omega, z⟩
      exact ⟨by omega, by omega, Or.inr (by omega)⟩
    have hnd : ((List.range 79).map (fun n : Nat => pth ((n : Int) + 1))).Nodup := by
      rw [List.nodup_iff_pairwise_ne, List.pairwise_map]
      refine List.Pairwise.imp_of_mem ?_ (List.nodup_range (n := 79))
      intro a b ha hb hab e
      have := h.2.2.2.1 _ _ (hin a (List.mem_range.mp ha)) (hin b (List.mem_range.mp hb)) e
      omega
    have hle := nodup_le _ (prefs (Ws.map Prod.fst ++ [E])) hnd (fun x hx => by
      obtain ⟨n, hn, rfl⟩ := List.mem_map.mp hx
      have hi := hin n (List.mem_range.mp hn)
      have h0 : pth ((n : Int) + 1) ≠ [] := fun z => by
        have := (h.ne hi).mpr z
        omega
      rcases h.pre hi (by omega) with ⟨w, g1, g2⟩ | g
      · exact prefs_mem (List.mem_append_left _ (List.mem_map.mpr ⟨w, g1, rfl⟩)) g2 h0
      · exact prefs_mem (List.mem_append_right _ List.mem_cons_self) g h0)
    have hlen := prefs_len (Ws.map Prod.fst ++ [E]) (fun w hw => by
      rcases List.mem_append.mp hw with z | z
      · obtain ⟨v, hv, rfl⟩ := List.mem_map.mp z
        exact h6 v hv
      · rw [List.mem_singleton.mp z]; exact hE)
    rw [List.length_map, List.length_range] at hle
    rw [List.length_append, List.length_map, List.length_singleton] at hlen
    omega
/-- one letter of a word goes in -/
theorem TREE.ins1 {σ : XS} {pth : Int → List Int} {Ws : List (List Int × Int)} {E : List Int} (h : TREE σ pth Ws E) (hl : Ws.length ≤ 11) (h6 : ∀ w ∈ Ws, w.1.length ≤ 6) (hE : E.length ≤ 6) {nd c : Int} (hnd : inT σ nd) (hp : pth nd = E) (hc : 0 ≤ c ∧ c ≤ 3) : ∃ pth1, TREE (adBump (adStep σ nd c)).2 pth1 Ws (E ++ [c]) ∧ inT (adBump (adStep σ nd c)).2 (adBump (adStep σ nd c)).1 ∧ pth1 (adBump (adStep σ nd c)).1 = E ++ [c] := by
  by_cases z : σ.2 7 (nd * 4 + c) = 0
  · have em : adStep σ nd c = (freeF σ, mkC (mkB (mkA σ nd c (freeF σ)) nd c (freeF σ)) (freeF σ)) := if_pos z
    have hfree := h.free hl h6 hE
    have hf := freeF_rg σ
    rw [em]
    generalize freeF σ = f at hfree hf ⊢
    have hno : ∀ m, inT σ m → pth m ≠ E ++ [c] := by
      rcases h.2.2.2.2.1 nd c hnd hc with ⟨_, g2⟩ | ⟨g1, _, _⟩
      · rw [hp] at g2; exact g2
      · exact absurd z g1
    obtain ⟨k1, k2⟩ := h.insNew hnd hp hc hf hfree hno (fun w hw e => by
      obtain ⟨m, y1, y2⟩ := h.2.2.2.2.2.2.2.1 (E ++ [c]) (by simp) (Or.inl ⟨w, hw, by rw [e]; exact List.prefix_refl _⟩)
      exact hno m y1 y2) (σ.2 6 f + 1) (by omega)
    exact ⟨pthU pth f (E ++ [c]), k1, k2, if_pos rfl⟩
  · have ea : adStep σ nd c = (σ.2 7 (nd * 4 + c), σ) := if_neg z
    rw [ea]
    rcases h.2.2.2.2.1 nd c hnd hc with ⟨g1, _⟩ | ⟨g1, g2, g3⟩
    · exact absurd g1 z
    · rw [hp] at g3
      have k := h.insOld g2 z g3
      refine ⟨pth, k, ?_, g3⟩
      have q := g2.2.2
      refine ⟨g2.1, g2.2.1, Or.inr ?_⟩
      show 0 < fU (σ.2 6) (σ.2 7 (nd * 4 + c)) (σ.2 6 (σ.2 7 (nd * 4 + c)) + 1) (σ.2 7 (nd * 4 + c))
      rw [fU_s]
      omega
theorem adStep_ne (σ : XS) (nd c : Int) : (adStep σ nd c).1 ≠ 0 := by
  have q := freeF_rg σ
  unfold adStep
  split
  · show freeF σ ≠ 0
    omega
  · rename_i z
    exact z
theorem adStep_keep (σ : XS) (nd c : Int) : (adStep σ nd c).2.1 = σ.1 ∧ (adStep σ nd c).2.2 6 = σ.2 6 ∧ ∀ k : Nat, (k < 7 ∨ 12 < k) → (adStep σ nd c).2.2 k = σ.2 k := by
  unfold adStep
  split
  · unfold mkF
    generalize freeF σ = f
    refine ⟨rfl, rfl, fun k hk => ?_⟩
    have h7 : k ≠ 7 := by omega
    have h8 : k ≠ 8 := by omega
    have h9 : k ≠ 9 := by omega
    have h10 : k ≠ 10 := by omega
    have h11 : k ≠ 11 := by omega
    have h12 : k ≠ 12 := by omega
    simp [mkC, mkB, mkA, sA, sF, h7, h8, h9, h10, h11, h12]
  · exact ⟨rfl, rfl, fun _ _ => rfl⟩
theorem adLoop_keep : ∀ (n : Nat) (i : Int) (q : Int × XS), (adLoop n i q).2.1 = q.2.1 ∧ (adLoop n i q).2.2 6 0 = q.2.2 6 0 ∧ ∀ k : Nat, (k < 6 ∨ 12 < k) → (adLoop n i q).2.2 k = q.2.2 k
  | 0, _, _ => ⟨rfl, rfl, fun _ _ => rfl⟩
  | n + 1, i, q => by
    obtain ⟨h1, h2, h3⟩ := adLoop_keep n (i + 1) (adBump (adStep q.2 q.1 (q.2.2 2 i)))
    obtain ⟨g1, g2, g3⟩ := adStep_keep q.2 q.1 (q.2.2 2 i)
    have g0 := adStep_ne q.2 q.1 (q.2.2 2 i)
    unfold adLoop
    generalize adStep q.2 q.1 (q.2.2 2 i) = r at h1 h2 h3 g1 g2 g3 g0 ⊢
    refine ⟨h1.trans g1, h2.trans ?_, fun k hk => (h3 k hk).trans ?_⟩
    · show fU (r.2.2 6) r.1 (r.2.2 6 r.1 + 1) 0 = _
      rw [fU_n (Ne.symm g0), g2]
    · show (if k = 6 then _ else r.2.2 k) = _
      rw [if_neg (by omega)]
      exact g3 k (by omega)
/-- a word goes in, letter by letter -/
theorem TREE.ins {Ws : List (List Int × Int)} (hl : Ws.length ≤ 11) (h6 : ∀ w ∈ Ws, w.1.length ≤ 6) {q : Int → Int} (hq : ∀ i, 0 ≤ q i ∧ q i ≤ 3) : ∀ (n : Nat) (i nd : Int) (σ : XS) (pth : Int → List Int) (E : List Int), TREE σ pth Ws E → inT σ nd → pth nd = E → E.length + n ≤ 6 → σ.2 2 = q → ∃ pth', TREE (adLoop n i (nd, σ)).2 pth' Ws (E ++ segL q n i) ∧ inT (adLoop n i (nd, σ)).2 (adLoop n i (nd, σ)).1 ∧ pth' (adLoop n i (nd, σ)).1 = E ++ segL q n i := by
  intro n
  induction n with
  | zero =>
    intro i nd σ pth E h hnd hp hlen h2
    have e : E ++ segL q 0 i = E := List.append_nil E
    rw [e]
    exact ⟨pth, h, hnd, hp⟩
  | succ n ih =>
    intro i nd σ pth E h hnd hp hlen h2
    have e2 : σ.2 2 i = q i := by rw [h2]
    have es : E ++ segL q (n + 1) i = (E ++ [q i]) ++ segL q n (i + 1) := by simp [segL]
    obtain ⟨pth1, g1, g2, g3⟩ := h.ins1 hl h6 (by omega) hnd hp (hq i)
    have g4 : (adBump (adStep σ nd (q i))).2.2 2 = q := by
      have z := (adStep_keep σ nd (q i)).2.2 2 (by omega)
      exact z.trans h2
    have e : adLoop (n + 1) i (nd, σ) = adLoop n (i + 1) ((adBump (adStep σ nd (q i))).1, (adBump (adStep σ nd (q i))).2) := by
      rw [← e2]
      rfl
    rw [es, e]
    exact ih (i + 1) _ _ pth1 (E ++ [q i]) g1 g2 g3 (by simp; omega) g4
theorem wcnt_app (Ws : List (List Int × Int)) (E : List Int) (wt : Int) (p : List Int) : wcnt (Ws ++ [(E, wt)]) p = wcnt Ws p + ph p E := by
  unfold wcnt ph
  rw [List.countP_append, List.countP_singleton]
  split <;> omega
theorem wcnt_cons (Ws : List (List Int × Int)) (E : List Int) (wt : Int) (p : List Int) : wcnt ((E, wt) :: Ws) p = wcnt Ws p + ph p E := by
  unfold wcnt ph
  rw [List.countP_cons]
  split <;> omega
/-- the word is in: its weight -/
theorem TREE.put {σ : XS} {pth : Int → List Int} {Ws : List (List Int × Int)} {E : List Int} (h : TREE σ pth Ws E) {nd wt : Int} (hnd : inT σ nd) (hp : pth nd = E) (hE : ∀ v, (E, v) ∉ Ws) : TREE (sA σ 12 nd wt) pth (Ws ++ [(E, wt)]) [] := by
  have hne := fun n (hn : inT σ n) => h.ne hn
  obtain ⟨t0, t1, t2, t3, t4, t6, t7, t8, t9⟩ := id h
  refine ⟨t0, t1, t2, t3, t4, fun n hn e => ?_, t7, fun p h1 h2 => ?_, fun n hn e => ?_⟩
  · show σ.2 6 n = _
    rw [wcnt_app, t6 n hn e, ph_nil (fun z => e ((hne n hn).mpr z))]
    omega
  · refine t8 p h1 ?_
    rcases h2 with ⟨w, g1, g2⟩ | g
    · rcases List.mem_append.mp g1 with k | k
      · exact Or.inl ⟨w, k, g2⟩
      · rw [List.mem_singleton.mp k] at g2
        exact Or.inr g2
    · exact absurd (List.prefix_nil.mp g) h1
  · show (∃ v, _ ∧ fU (σ.2 12) nd wt n = v) ∨ (_ ∧ fU (σ.2 12) nd wt n = -4)
    by_cases q : n = nd
    · subst q
      rw [fU_s, hp]
      exact Or.inl ⟨wt, List.mem_append_right _ List.mem_cons_self, rfl⟩
    · rw [fU_n q]
      rcases t9 n hn e with ⟨v, g1, g2⟩ | ⟨g1, g2⟩
      · exact Or.inl ⟨v, List.mem_append_left _ g1, g2⟩
      · refine Or.inr ⟨fun v z => ?_, g2⟩
        rcases List.mem_append.mp z with k | k
        · exact g1 v k
        · have k2 := congrArg Prod.fst (List.mem_singleton.mp k)
          exact q (t3 n nd hn hnd (k2.trans hp.symm))
theorem wcnt_fst {Ws Vs : List (List Int × Int)} (hf : Vs.map Prod.fst = Ws.map Prod.fst) (p : List Int) : wcnt Vs p = wcnt Ws p := by
  have e : ∀ Us : List (List Int × Int), wcnt Us p = (((Us.map Prod.fst).countP (fun w => p.isPrefixOf w) : Nat) : Int) := fun Us => by
    unfold wcnt
    rw [List.countP_map]
    rfl
  rw [e, e, hf]
/-- another weight -/
theorem TREE.setw {σ : XS} {pth : Int → List Int} {Ws Vs : List (List Int × Int)} (h : TREE σ pth Ws []) {nd wt : Int} (hnd : inT σ nd) (hf : Vs.map Prod.fst = Ws.map Prod.fst) (h1 : (pth nd, wt) ∈ Vs) (h2 : ∀ p v, p ≠ pth nd → ((p, v) ∈ Vs ↔ (p, v) ∈ Ws)) : TREE (sA σ 12 nd wt) pth Vs [] := by
  obtain ⟨t0, t1, t2, t3, t4, t6, t7, t8, t9⟩ := id h
  refine ⟨t0, t1, t2, t3, t4, fun n hn e => ?_, t7, fun p g1 g2 => ?_, fun n hn e => ?_⟩
  · show σ.2 6 n = _
    rw [wcnt_fst hf]
    exact t6 n hn e
  · refine t8 p g1 ?_
    rcases g2 with g2 | g2
    · have z := wcnt_pos.mpr g2
      rw [wcnt_fst hf] at z
      exact Or.inl (wcnt_pos.mp z)
    · exact Or.inr g2
  · show (∃ v, _ ∧ fU (σ.2 12) nd wt n = v) ∨ (_ ∧ fU (σ.2 12) nd wt n = -4)
    by_cases q : n = nd
    · subst q
      rw [fU_s]
      exact Or.inl ⟨wt, h1, rfl⟩
    · rw [fU_n q]
      have hq : pth n ≠ pth nd := fun z => q (t3 n nd hn hnd z)
      rcases t9 n hn e with ⟨v, g1, g2⟩ | ⟨g1, g2⟩
      · exact Or.inl ⟨v, (h2 _ _ hq).mpr g1, g2⟩
      · exact Or.inr ⟨fun v z => g1 v ((h2 _ _ hq).mp z), g2⟩
/-- a word loses its weight: it is under way out -/
theorem TREE.rem {σ : XS} {pth : Int → List Int} {Ws Vs : List (List Int × Int)} {D : List Int} {v : Int} (h0 : TREE σ pth Ws []) {nd : Int} (hnd : inT σ nd) (hp : pth nd = D) (hW : Ws.Perm ((D, v) :: Vs)) (hV : ∀ v', (D, v') ∉ Vs) : TREE (sA σ 12 nd (-4)) pth Vs D := by
  have h := h0.perm hW
  have hne := fun n (hn : inT σ n) => h.ne hn
  obtain ⟨t0, t1, t2, t3, t4, t6, t7, t8, t9⟩ := id h
  refine ⟨t0, t1, t2, t3, t4, fun n hn e => ?_, t7, fun p g1 g2 => ?_, fun n hn e => ?_⟩
  · show σ.2 6 n = _
    rw [t6 n hn e, wcnt_cons, ph_nil (fun z => e ((hne n hn).mpr z))]
    omega
  · refine t8 p g1 (Or.inl ?_)
    rcases g2 with ⟨w, k1, k2⟩ | k
    · exact ⟨w, List.mem_cons_of_mem _ k1, k2⟩
    · exact ⟨(D, v), List.mem_cons_self, k⟩
  · show (∃ v, _ ∧ fU (σ.2 12) nd (-4) n = v) ∨ (_ ∧ fU (σ.2 12) nd (-4) n = -4)
    by_cases q : n = nd
    · subst q
      rw [fU_s, hp]
      exact Or.inr ⟨hV, rfl⟩
    · rw [fU_n q]
      have hq : pth n ≠ D := fun z => q (t3 n nd hn hnd (z.trans hp.symm))
      rcases t9 n hn e with ⟨u, g1, g2⟩ | ⟨g1, g2⟩
      · rcases List.mem_cons.mp g1 with k | k
        · exact absurd (congrArg Prod.fst k) hq
        · exact Or.inl ⟨u, k, g2⟩
      · exact Or.inr ⟨fun u z => g1 u (List.mem_cons_of_mem _ z), g2⟩
/-- the way up from a word under way out: one letter -/
theorem TREE.up {σ : XS} {pth : Int → List Int} {Vs : List (List Int × Int)} {E : List Int} {c : Int} (h : TREE σ pth Vs (E ++ [c])) {nd : Int} (hnd : inT σ nd) (hp : pth nd = E ++ [c]) (hr : 0 ≤ c ∧ c ≤ 3) : TREE (rmStep σ nd) pth Vs E ∧ inT (rmStep σ nd) (σ.2 8 nd) ∧ pth (σ.2 8 nd) = E := by
  have hcl := fun m (hm : inT σ m) p (hq : p <+: pth m) => h.closed hm hq
  have hne := fun n (hn : inT σ n) => h.ne hn
  have h0 : nd ≠ 0 := fun z => by
    have := (hne nd hnd).mp z
    rw [hp] at this
    simp at this
  obtain ⟨t0, t1, t2, t3, t4, t6, t7, t8, t9⟩ := id h
  obtain ⟨p1, p2⟩ := t1 nd hnd h0
  have b6 := t6 nd hnd h0
  rw [hp, ph_self] at b6
  rw [hp] at p2
  obtain ⟨p3, p4⟩ := List.append_inj' p2 rfl
  have p5 : σ.2 9 nd = c := by simpa using p4.symm
  have p6 : σ.2 8 nd ≠ nd := fun z => by
    rw [z, hp] at p3
    have := congrArg List.length p3
    simp at this
  have hw := wcnt_0 Vs (E ++ [c])
  have phe : ∀ n, inT σ n → n ≠ nd → ph (pth n) (E ++ [c]) = ph (pth n) E := fun n hn q => ph_snoc_ne (fun z => q (t3 n nd hn hnd (by rw [z, hp])))
  by_cases z : σ.2 6 nd - 1 = 0
  · have er : rmStep σ nd = sA (sA σ 6 nd (σ.2 6 nd - 1)) 7 (σ.2 8 nd * 4 + σ.2 9 nd) 0 := if_pos z
    have hi : ∀ n, inT (rmStep σ nd) n ↔ (inT σ n ∧ n ≠ nd) := by
      intro n
      rw [er]
      show (0 ≤ n ∧ n ≤ 79 ∧ (n = 0 ∨ 0 < fU (σ.2 6) nd (σ.2 6 nd - 1) n)) ↔ _
      by_cases e : n = nd
      · subst e
        rw [fU_s]
        constructor
        · intro k
          exfalso
          have := k.2.2
          omega
        · intro k
          exact absurd rfl k.2
      · rw [fU_n e]
        exact ⟨fun k => ⟨k, e⟩, fun k => k.1⟩
    have wz : wcnt Vs (E ++ [c]) = 0 := by omega
    refine ⟨⟨t0, fun n hn e => ?_, fun n hn => ?_, fun n m hn hm => t3 n m ((hi n).mp hn).1 ((hi m).mp hm).1, fun n c' hn hc => ?_, fun n hn e => ?_, fun n hn e => ?_, fun p g1 g2 => ?_, fun n hn e => ?_⟩, (hi _).mpr ⟨p1, p6⟩, p3.symm⟩
    · obtain ⟨k1, k2⟩ := (hi n).mp hn
      obtain ⟨y1, y2⟩ := t1 n k1 e
      have yy : inT (rmStep σ nd) (σ.2 8 n) := by
        refine (hi _).mpr ⟨y1, fun q => ?_⟩
        have y6 := t6 n k1 e
        rw [y2, q, hp] at y6
        have yl : ph ((E ++ [c]) ++ [σ.2 9 n]) (E ++ [c]) = 0 := ph_long
        have ym : wcnt Vs ((E ++ [c]) ++ [σ.2 9 n]) ≤ wcnt Vs (E ++ [c]) := wcnt_mono (List.prefix_append _ _)
        have yp := k1.2.2
        omega
      rw [er] at yy ⊢
      exact ⟨yy, y2⟩
    · rw [er]
      exact t2 n ((hi n).mp hn).1
    · obtain ⟨k1, k2⟩ := (hi n).mp hn
      have e7 : (rmStep σ nd).2 7 (n * 4 + c') = fU (σ.2 7) (σ.2 8 nd * 4 + σ.2 9 nd) 0 (n * 4 + c') := by rw [er]; rfl
      rw [e7]
      by_cases q : n = σ.2 8 nd ∧ c' = c
      · have ei : n * 4 + c' = σ.2 8 nd * 4 + σ.2 9 nd := by rw [q.1, q.2, p5]
        rw [ei, fU_s]
        refine Or.inl ⟨rfl, fun m hm y => ?_⟩
        obtain ⟨m1, m2⟩ := (hi m).mp hm
        rw [q.1, ← p3, q.2] at y
        exact m2 (t3 m nd m1 hnd (by rw [y, hp]))
      · have ei : n * 4 + c' ≠ σ.2 8 nd * 4 + σ.2 9 nd := by
          rw [p5]
          omega
        rw [fU_n ei]
        rcases t4 n c' k1 hc with ⟨g1, g2⟩ | ⟨g1, g2, g3⟩
        · exact Or.inl ⟨g1, fun m hm => g2 m ((hi m).mp hm).1⟩
        · refine Or.inr ⟨g1, (hi _).mpr ⟨g2, fun y => ?_⟩, g3⟩
          rw [y, hp] at g3
          obtain ⟨y1, y2⟩ := List.append_inj' g3 rfl
          exact q ⟨t3 n _ k1 p1 (by rw [← y1, p3]), by simpa using y2.symm⟩
    · obtain ⟨k1, k2⟩ := (hi n).mp hn
      have e6 : (rmStep σ nd).2 6 n = σ.2 6 n := by
        rw [er]
        show fU (σ.2 6) nd (σ.2 6 nd - 1) n = _
        exact fU_n k2
      rw [e6, ← phe n k1 k2]
      exact t6 n k1 e
    · rw [er]
      show 0 ≤ fU (σ.2 6) nd (σ.2 6 nd - 1) n
      have := t7 n hn e
      by_cases q : n = nd
      · subst q; rw [fU_s]; omega
      · rw [fU_n q]; exact this
    · obtain ⟨n, k1, k2⟩ := t8 p g1 (by
        rcases g2 with g2 | g2
        · exact Or.inl g2
        · exact Or.inr (g2.trans (List.prefix_append _ _)))
      refine ⟨n, (hi n).mpr ⟨k1, fun q => ?_⟩, k2⟩
      rw [q, hp] at k2
      rw [← k2] at g2
      rcases g2 with g2 | g2
      · have := wcnt_pos.mpr g2
        omega
      · have := g2.length_le
        rw [List.length_append, List.length_singleton] at this
        omega
    · rw [er]
      exact t9 n ((hi n).mp hn).1 e
  · have er : rmStep σ nd = sA σ 6 nd (σ.2 6 nd - 1) := if_neg z
    have hi : ∀ n, inT (rmStep σ nd) n ↔ inT σ n := by
      intro n
      rw [er]
      show (0 ≤ n ∧ n ≤ 79 ∧ (n = 0 ∨ 0 < fU (σ.2 6) nd (σ.2 6 nd - 1) n)) ↔ _
      by_cases e : n = nd
      · subst e
        rw [fU_s]
        have := hnd.2.2
        unfold inT
        omega
      · rw [fU_n e]; rfl
    refine ⟨⟨t0, fun n hn e => ?_, fun n hn => ?_, fun n m hn hm => t3 n m ((hi n).mp hn) ((hi m).mp hm), fun n c' hn hc => ?_, fun n hn e => ?_, fun n hn e => ?_, fun p g1 g2 => ?_, fun n hn e => ?_⟩, (hi _).mpr p1, p3.symm⟩
    · have y := t1 n ((hi n).mp hn) e
      have yy := (hi _).mpr y.1
      rw [er] at yy ⊢
      exact ⟨yy, y.2⟩
    · rw [er]
      exact t2 n ((hi n).mp hn)
    · have e7 : (rmStep σ nd).2 7 = σ.2 7 := by rw [er]; rfl
      rw [e7]
      rcases t4 n c' ((hi n).mp hn) hc with ⟨g1, g2⟩ | ⟨g1, g2, g3⟩
      · exact Or.inl ⟨g1, fun m hm => g2 m ((hi m).mp hm)⟩
      · exact Or.inr ⟨g1, (hi _).mpr g2, g3⟩
    · have k1 := (hi n).mp hn
      rw [er]
      show fU (σ.2 6) nd (σ.2 6 nd - 1) n = _
      by_cases q : n = nd
      · subst q
        have yl : ph (E ++ [c]) E = 0 := ph_long
        rw [fU_s, hp, yl]
        omega
      · rw [fU_n q, ← phe n k1 q]
        exact t6 n k1 e
    · rw [er]
      show 0 ≤ fU (σ.2 6) nd (σ.2 6 nd - 1) n
      have := t7 n hn e
      by_cases q : n = nd
      · subst q; rw [fU_s]; omega
      · rw [fU_n q]; exact this
    · obtain ⟨n, k1, k2⟩ := t8 p g1 (by
        rcases g2 with g2 | g2
        · exact Or.inl g2
        · exact Or.inr (g2.trans (List.prefix_append _ _)))
      exact ⟨n, (hi n).mpr k1, k2⟩
    · rw [er]
      exact t9 n ((hi n).mp hn) e
theorem rmStep_keep (σ : XS) (nd : Int) : (rmStep σ nd).1 = σ.1 ∧ (nd ≠ 0 → (rmStep σ nd).2 6 0 = σ.2 6 0) ∧ ∀ k : Nat, k ≠ 6 → k ≠ 7 → (rmStep σ nd).2 k = σ.2 k := by
  unfold rmStep
  split
  · refine ⟨rfl, fun h => ?_, fun k h6 h7 => ?_⟩
    · show fU (σ.2 6) nd (σ.2 6 nd - 1) 0 = _
      exact fU_n (Ne.symm h)
    · simp [sA, sF, h6, h7]
  · refine ⟨rfl, fun h => ?_, fun k h6 h7 => ?_⟩
    · show fU (σ.2 6) nd (σ.2 6 nd - 1) 0 = _
      exact fU_n (Ne.symm h)
    · simp [sA, sF, h6]
/-- the whole way up -/
theorem TREE.out {pth : Int → List Int} {Vs : List (List Int × Int)} : ∀ (k : Nat) (nd : Int) (σ : XS) (E : List Int), TREE σ pth Vs E → inT σ nd → pth nd = E → E.length ≤ k → (∀ n, 0 ≤ σ.2 9 n ∧ σ.2 9 n ≤ 3) → TREE (rmLoop k nd σ) pth Vs [] := by
  intro k
  induction k with
  | zero =>
    intro nd σ E h hnd hp hl hr
    have e : E = [] := List.eq_nil_of_length_eq_zero (by omega)
    subst e
    exact h
  | succ k ih =>
    intro nd σ E h hnd hp hl hr
    unfold rmLoop
    by_cases q : nd = 0
    · rw [if_pos q]
      rw [q, h.1] at hp
      rw [hp]
      exact h
    · rw [if_neg q]
      obtain ⟨p1, p2⟩ := h.2.1 nd hnd q
      have eE : E = pth (σ.2 8 nd) ++ [σ.2 9 nd] := by rw [← hp]; exact p2
      have hl2 := congrArg List.length eE
      rw [List.length_append, List.length_singleton] at hl2
      rw [eE] at h
      obtain ⟨k1, k2, k3⟩ := h.up hnd p2 (hr nd)
      exact ih (σ.2 8 nd) (rmStep σ nd) _ k1 k2 k3 (by omega) (by rw [(rmStep_keep σ nd).2.2 9 (by omega) (by omega)]; exact hr)
theorem rmLoop_keep : ∀ (k : Nat) (nd : Int) (σ : XS), (rmLoop k nd σ).1 = σ.1 ∧ (rmLoop k nd σ).2 6 0 = σ.2 6 0 ∧ ∀ j : Nat, j ≠ 6 → j ≠ 7 → (rmLoop k nd σ).2 j = σ.2 j
  | 0, _, _ => ⟨rfl, rfl, fun _ _ _ => rfl⟩
  | k + 1, nd, σ => by
    unfold rmLoop
    split
    · exact ⟨rfl, rfl, fun _ _ _ => rfl⟩
    · rename_i q
      obtain ⟨h1, h2, h3⟩ := rmLoop_keep k (σ.2 8 nd) (rmStep σ nd)
      obtain ⟨g1, g2, g3⟩ := rmStep_keep σ nd
      exact ⟨h1.trans g1, h2.trans (g2 q), fun j a b => (h3 j a b).trans (g3 j a b)⟩
end
section
/-! THE LAYERS: layer l holds the capped distances of the query's first l letters and each node's letters -/
set_option maxRecDepth 100000
def LAYS (σ : XS) (pth : Int → List Int) (Q : List Int) (k : Nat) : Prop := ∀ l : Nat, l ≤ k → ∀ n, inT σ n → σ.2 13 ((l : Int) * 80 + n) = capk (σ.1 0) (dist Q l (pth n))
theorem inT_of {σ τ : XS} (h : τ.2 6 = σ.2 6) (n : Int) : inT τ n ↔ inT σ n := by
  unfold inT
  rw [h]
theorem LAYS.of {σ τ : XS} {pth : Int → List Int} {Q : List Int} {k : Nat} (h : LAYS σ pth Q k) (h0 : τ.1 0 = σ.1 0) (h6 : τ.2 6 = σ.2 6) (h13 : τ.2 13 = σ.2 13) : LAYS τ pth Q k := by
  intro l hl n hn
  rw [h0, h13]
  exact h l hl n ((inT_of h6 n).mp hn)
theorem LAYS.mono {σ : XS} {pth : Int → List Int} {Q : List Int} {k j : Nat} (h : LAYS σ pth Q k) (hj : j ≤ k) : LAYS σ pth Q j := fun l hl n hn => h l (by omega) n hn
theorem LAYS.congr {σ : XS} {pth : Int → List Int} {Q Q' : List Int} {k : Nat} (h : LAYS σ pth Q k) (hq : ∀ t, t < k → gf Q t = gf Q' t) : LAYS σ pth Q' k := by
  intro l hl n hn
  rw [h l hl n hn, dist_congr (Q' := Q') (fun t ht => hq t (by omega))]
theorem fl_at : ∀ (n : Nat) (i : Int) (σ : XS) (j : Int), (flLoop n i σ).2 13 j = if i ≤ j ∧ j < i + (n : Int) then (if j = 0 ∨ 0 < σ.2 6 j then capF σ (σ.2 10 j) else σ.1 0 + 1) else σ.2 13 j := by
  intro n
  induction n with
  | zero => intro i σ j; rw [if_neg (by omega)]; rfl
  | succ n ih =>
    intro i σ j
    unfold flLoop
    rw [ih]
    show (if i + 1 ≤ j ∧ j < i + 1 + (n : Int) then (if j = 0 ∨ 0 < σ.2 6 j then capF σ (σ.2 10 j) else σ.1 0 + 1) else fU (σ.2 13) i (if i = 0 ∨ 0 < σ.2 6 i then capF σ (σ.2 10 i) else σ.1 0 + 1) j) = _
    by_cases q : j = i
    · subst q
      rw [if_neg (by omega), fU_s]
      rw [if_pos (show j ≤ j ∧ j < j + ((n + 1 : Nat) : Int) by omega)]
    · rw [fU_n q]
      by_cases z : i + 1 ≤ j ∧ j < i + 1 + (n : Int)
      · rw [if_pos z, if_pos (show i ≤ j ∧ j < i + ((n + 1 : Nat) : Int) by omega)]
      · rw [if_neg z, if_neg (show ¬ (i ≤ j ∧ j < i + ((n + 1 : Nat) : Int)) by omega)]
theorem LAYS.first {σ : XS} {pth : Int → List Int} {Ws : List (List Int × Int)} {E : List Int} (h : TREE σ pth Ws E) (Q : List Int) : LAYS (firstF σ) pth Q 0 := by
  intro l hl n hn
  obtain rfl : l = 0 := by omega
  have hk := fl_keep 80 0 σ
  have hn : inT σ n := (inT_of (hk.2 6 (by omega)) n).mp hn
  have e : ((0 : Nat) : Int) * 80 + n = n := by omega
  have h0 : (firstF σ).1 0 = σ.1 0 := congrFun hk.1 0
  rw [e, h0]
  have e2 : (firstF σ).2 13 n = _ := fl_at 80 0 σ n
  rw [e2, if_pos (by have := hn.1; have := hn.2.1; omega), if_pos hn.2.2, (h.2.2.1 n hn).1, dist_0]
  rfl
theorem dist_root (Q : List Int) (l : Nat) : dist Q l [] = (l : Int) := edG_0 _ _ l
theorem step_ok {σ : XS} {pth : Int → List Int} {Ws : List (List Int × Int)} {E Q : List Int} {n : Nat} (h : TREE σ pth Ws E) (hL : LAYS σ pth Q n) {nd : Int} (hnd : inT σ nd) (hpar : nd ≠ 0 → σ.2 13 ((n : Int) * 80 + 80 + σ.2 8 nd) = capk (σ.1 0) (dist Q (n + 1) (pth (σ.2 8 nd)))) {c : Int} (hc : gf Q n = c) : stepF σ nd ((n : Int) * 80) ((n : Int) * 80 + 80) c = capk (σ.1 0) (dist Q (n + 1) (pth nd)) := by
  have hn := hL n (Nat.le_refl n) nd hnd
  unfold stepF
  by_cases z : nd = 0
  · rw [if_pos z]
    rw [z, h.1, dist_root] at hn
    rw [z, h.1, dist_root, hn]
    show capk (σ.1 0) (capk (σ.1 0) (n : Int) + 1) = _
    rw [capk_1]
    rfl
  · rw [if_neg z]
    obtain ⟨p1, p2⟩ := h.2.1 nd hnd z
    have hp := hL n (Nat.le_refl n) _ p1
    rw [hpar z, hp, hn]
    show capk (σ.1 0) (minF (capk (σ.1 0) _ + 1) (minF (capk (σ.1 0) _ + _) (capk (σ.1 0) _ + 1))) = _
    rw [capk_step _ _ _ _ _ (by split <;> omega)]
    have ed := dist_snoc Q (pth (σ.2 8 nd)) n (σ.2 9 nd)
    rw [← p2, hc] at ed
    rw [ed]
    have ec : (if σ.2 9 nd = c then (0 : Int) else 1) = if c = σ.2 9 nd then 0 else 1 := by
      by_cases q : σ.2 9 nd = c
      · rw [if_pos q, if_pos q.symm]
      · rw [if_neg q, if_neg (Ne.symm q)]
    rw [ec]
/-- layer n + 1 is right at the nodes of depth less than d, and at those of depth d below nd -/
def LV (σ : XS) (pth : Int → List Int) (Q : List Int) (n : Nat) (d nd : Int) : Prop := LAYS σ pth Q n ∧ ∀ m, inT σ m → (σ.2 10 m < d ∨ (σ.2 10 m = d ∧ m < nd)) → σ.2 13 ((n : Int) * 80 + 80 + m) = capk (σ.1 0) (dist Q (n + 1) (pth m))
theorem LV.one {σ : XS} {pth : Int → List Int} {Ws : List (List Int × Int)} {E Q : List Int} {n : Nat} {d nd : Int} (h : TREE σ pth Ws E) (hc : gf Q n = σ.2 4 (n : Int)) (hnd : 0 ≤ nd ∧ nd ≤ 79) (hV : LV σ pth Q n d nd) : LV (if (nd = 0 ∨ 0 < σ.2 6 nd) ∧ σ.2 10 nd = d then sA σ 13 ((n : Int) * 80 + 80 + nd) (stepF σ nd ((n : Int) * 80) ((n : Int) * 80 + 80) (σ.2 4 (n : Int))) else σ) pth Q n d (nd + 1) := by
  obtain ⟨hL, hM⟩ := hV
  by_cases z : (nd = 0 ∨ 0 < σ.2 6 nd) ∧ σ.2 10 nd = d
  · rw [if_pos z]
    have hi : inT σ nd := ⟨hnd.1, hnd.2, z.1⟩
    have hs : stepF σ nd ((n : Int) * 80) ((n : Int) * 80 + 80) (σ.2 4 (n : Int)) = capk (σ.1 0) (dist Q (n + 1) (pth nd)) := by
      refine step_ok h hL hi (fun h0 => ?_) hc
      obtain ⟨p1, p2⟩ := h.2.1 nd hi h0
      refine hM _ p1 (Or.inl ?_)
      rw [(h.2.2.1 _ p1).1, ← z.2, (h.2.2.1 nd hi).1, p2, List.length_append, List.length_singleton]
      omega
    rw [hs]
    refine ⟨fun l hl m hm => ?_, fun m hm hd => ?_⟩
    · have hm : inT σ m := hm
      show fU (σ.2 13) _ _ _ = _
      rw [fU_n (by have := hm.1; have := hm.2.1; omega)]
      exact hL l hl m hm
    · have hm : inT σ m := hm
      have hd : σ.2 10 m < d ∨ (σ.2 10 m = d ∧ m < nd + 1) := hd
      show fU (σ.2 13) _ _ _ = _
      by_cases q : m = nd
      · subst q
        rw [fU_s]
        rfl
      · rw [fU_n (by omega)]
        exact hM m hm (by omega)
  · rw [if_neg z]
    refine ⟨hL, fun m hm hd => hM m hm ?_⟩
    by_cases q : m = nd
    · subst q
      rcases hd with hd | hd
      · exact Or.inl hd
      · exact absurd ⟨hm.2.2, hd.1⟩ z
    · omega
theorem if_keep {σ : XS} {P : Prop} [Decidable P] {i v : Int} : (if P then sA σ 13 i v else σ).1 = σ.1 ∧ ∀ q : Nat, q ≠ 13 → (if P then sA σ 13 i v else σ).2 q = σ.2 q := by
  split
  · refine ⟨rfl, fun q hq => ?_⟩
    show (if q = 13 then _ else σ.2 q) = _
    rw [if_neg hq]
  · exact ⟨rfl, fun _ _ => rfl⟩
theorem TREE.keep {σ τ : XS} {pth : Int → List Int} {Ws : List (List Int × Int)} {E : List Int} (h : TREE σ pth Ws E) (hk : ∀ q : Nat, q ≠ 13 → τ.2 q = σ.2 q) : TREE τ pth Ws E := h.of (fun n _ => by rw [hk 6 (by omega)]) (hk 7 (by omega)) (hk 8 (by omega)) (hk 9 (by omega)) (hk 10 (by omega)) (hk 11 (by omega)) (hk 12 (by omega))
theorem LV.row {pth : Int → List Int} {Ws : List (List Int × Int)} {E Q : List Int} {n : Nat} {d : Int} : ∀ (k : Nat) (nd : Int) (σ : XS), TREE σ pth Ws E → gf Q n = σ.2 4 (n : Int) → 0 ≤ nd → nd + (k : Int) = 80 → LV σ pth Q n d nd → LV (nlIn (n : Int) d k nd σ) pth Q n d 80 := by
  intro k
  induction k with
  | zero =>
    intro nd σ h hc h0 hk hV
    have e : nd = 80 := by omega
    rw [e] at hV
    exact hV
  | succ k ih =>
    intro nd σ h hc h0 hk hV
    have g := LV.one h hc (by omega) hV
    have hkp := if_keep (σ := σ) (P := (nd = 0 ∨ 0 < σ.2 6 nd) ∧ σ.2 10 nd = d) (i := (n : Int) * 80 + 80 + nd) (v := stepF σ nd ((n : Int) * 80) ((n : Int) * 80 + 80) (σ.2 4 (n : Int)))
    unfold nlIn
    exact ih (nd + 1) _ (h.keep hkp.2) (by rw [hkp.2 4 (by omega)]; exact hc) (by omega) (by omega) g
theorem LV.turn {σ : XS} {pth : Int → List Int} {Q : List Int} {n : Nat} {d : Int} (h : LV σ pth Q n d 80) : LV σ pth Q n (d + 1) 0 := ⟨h.1, fun m hm hd => h.2 m hm (by have := hm.2.1; have := hm.1; omega)⟩
theorem LV.rows {pth : Int → List Int} {Ws : List (List Int × Int)} {E Q : List Int} {n : Nat} : ∀ (k : Nat) (d : Int) (σ : XS), TREE σ pth Ws E → gf Q n = σ.2 4 (n : Int) → LV σ pth Q n d 0 → LV (nlOut (n : Int) k d σ) pth Q n (d + (k : Int)) 0 := by
  intro k
  induction k with
  | zero =>
    intro d σ h hc hV
    have e : d + ((0 : Nat) : Int) = d := by omega
    rw [e]
    exact hV
  | succ k ih =>
    intro d σ h hc hV
    have hkp := in_keep (n : Int) d 80 0 σ
    have g := (LV.row 80 0 σ h hc (by omega) (by omega) hV).turn
    have e : d + ((k + 1 : Nat) : Int) = d + 1 + (k : Int) := by omega
    rw [e]
    unfold nlOut
    exact ih (d + 1) _ (h.keep hkp.2) (by rw [hkp.2 4 (by omega)]; exact hc) g
theorem TREE.deep {σ : XS} {pth : Int → List Int} {Ws : List (List Int × Int)} (h : TREE σ pth Ws []) (h6 : ∀ w ∈ Ws, w.1.length ≤ 6) {m : Int} (hm : inT σ m) : (pth m).length ≤ 6 := by
  by_cases z : m = 0
  · rw [z, h.1]
    exact Nat.zero_le _
  · rcases h.pre hm z with ⟨w, g1, g2⟩ | g
    · have := g2.length_le
      have := h6 w g1
      omega
    · rw [List.prefix_nil.mp g]
      exact Nat.zero_le _
theorem LAYS.next {σ : XS} {pth : Int → List Int} {Ws : List (List Int × Int)} {Q : List Int} {n : Nat} (h : TREE σ pth Ws []) (h6 : ∀ w ∈ Ws, w.1.length ≤ 6) (hc : gf Q n = σ.2 4 (n : Int)) (hL : LAYS σ pth Q n) : LAYS (nextF σ (n : Int)) pth Q (n + 1) := by
  have h0 : LV σ pth Q n 0 0 := ⟨hL, fun m hm hd => by
    have q := (h.2.2.1 m hm).1
    have q1 := hm.1
    omega⟩
  have hV := LV.rows 7 0 σ h hc h0
  have hkp := out_keep (n : Int) 7 0 σ
  have hT : TREE (nextF σ (n : Int)) pth Ws [] := h.keep hkp.2
  have hV : LV (nextF σ (n : Int)) pth Q n (0 + ((7 : Nat) : Int)) 0 := hV
  intro l hl m hm
  by_cases q : l = n + 1
  · subst q
    have q1 := hT.deep h6 hm
    have q2 := (hT.2.2.1 m hm).1
    have e : ((n + 1 : Nat) : Int) * 80 + m = (n : Int) * 80 + 80 + m := by omega
    rw [e]
    exact hV.2 m hm (Or.inl (by omega))
  · exact hV.1 l (by omega) m hm
theorem LAYS.lo {pth : Int → List Int} {Ws : List (List Int × Int)} {Q : List Int} (h6 : ∀ w ∈ Ws, w.1.length ≤ 6) : ∀ (k n : Nat) (σ : XS), TREE σ pth Ws [] → (∀ t : Nat, t < n + k → gf Q t = σ.2 4 (t : Int)) → LAYS σ pth Q n → LAYS (loLoop k (n : Int) σ) pth Q (n + k) := by
  intro k
  induction k with
  | zero => intro n σ h hc hL; exact hL
  | succ k ih =>
    intro n σ h hc hL
    have hkp := out_keep (n : Int) 7 0 σ
    have g := hL.next h h6 (hc n (by omega))
    have e : n + (k + 1) = n + 1 + k := by omega
    rw [e]
    unfold loLoop
    exact ih (n + 1) _ (h.keep hkp.2) (fun t ht => by
      rw [hc t (by omega)]
      exact (congrFun (hkp.2 4 (by omega)) _).symm) g
theorem LAYS.lay {σ : XS} {pth : Int → List Int} {Ws : List (List Int × Int)} {Q : List Int} (h : TREE σ pth Ws []) (h6 : ∀ w ∈ Ws, w.1.length ≤ 6) (hc : ∀ t : Nat, t < (σ.1 3).toNat → gf Q t = σ.2 4 (t : Int)) : LAYS (layP σ) pth Q (σ.1 3).toNat := by
  have hk := fl_keep 80 0 σ
  have hT : TREE (firstF σ) pth Ws [] := h.keep hk.2
  have e4 : (firstF σ).2 4 = σ.2 4 := hk.2 4 (by omega)
  have g := LAYS.lo h6 (σ.1 3).toNat 0 (firstF σ) hT (fun t ht => by rw [e4]; exact hc t (by omega)) (LAYS.first h Q)
  rw [Nat.zero_add] at g
  exact g
end
section
/-! THE RANKING: the tree's walk in the order of a dictionary, each word put in its place -/
set_option maxRecDepth 100000
def off (σ : XS) (pth : Int → List Int) (Q : List Int) (n : Int) : Prop := n ≠ 0 ∧ 0 ≤ σ.2 12 n ∧ rchD Q (pth n) ≤ σ.1 0
def key (σ : XS) (pth : Int → List Int) (n : Int) : List Int × Int := (pth n, σ.2 12 n)
/-- the ranks hold, in order, the offered ones of V -/
def RK (σ : XS) (pth : Int → List Int) (Q : List Int) (V : List Int) : Prop :=
  0 ≤ σ.1 14 ∧
  (∀ k, 0 ≤ k → k < σ.1 14 → σ.2 15 k ∈ V ∧ off σ pth Q (σ.2 15 k) ∧ σ.2 16 k = rchD Q (pth (σ.2 15 k))) ∧
  (∀ i j, 0 ≤ i → i < j → j < σ.1 14 → rlt Q (key σ pth (σ.2 15 i)) (key σ pth (σ.2 15 j))) ∧
  (∀ n, n ∈ V → off σ pth Q n → ∃ k, 0 ≤ k ∧ k < σ.1 14 ∧ σ.2 15 k = n)
theorem RK.of {σ τ : XS} {pth : Int → List Int} {Q : List Int} {V : List Int} (h : RK σ pth Q V) (h0 : τ.1 0 = σ.1 0) (h14 : τ.1 14 = σ.1 14) (h12 : τ.2 12 = σ.2 12) (h15 : τ.2 15 = σ.2 15) (h16 : τ.2 16 = σ.2 16) : RK τ pth Q V := by
  unfold RK off key at h ⊢
  rw [h0, h14, h12, h15, h16]
  exact h
theorem RK.skip {σ : XS} {pth : Int → List Int} {Q : List Int} {V : List Int} (h : RK σ pth Q V) {nd : Int} (hn : ¬ off σ pth Q nd) : RK σ pth Q (V ++ [nd]) := by
  obtain ⟨h1, h2, h3, h4⟩ := h
  refine ⟨h1, fun k a b => ?_, h3, fun n hm ho => ?_⟩
  · obtain ⟨g1, g2⟩ := h2 k a b
    exact ⟨List.mem_append_left _ g1, g2⟩
  · rcases List.mem_append.mp hm with q | q
    · exact h4 n q ho
    · rw [List.mem_singleton.mp q] at ho
      exact absurd ho hn
theorem bef_congr {σ τ : XS} {d wt r : Int} (h12 : τ.2 12 = σ.2 12) (h15 : τ.2 15 r = σ.2 15 r) (h16 : τ.2 16 r = σ.2 16 r) : befF τ d wt r = befF σ d wt r := by
  unfold befF
  rw [h12, h15, h16]
/-- where the new one goes, and how the others move -/
theorem ins_spec (node dist : Int) : ∀ (k : Nat) (σ : XS), ∃ a : Nat, a ≤ k ∧ (insLoop node dist k (k : Int) σ).1 = (a : Int) ∧
    (∀ j : Int, (insLoop node dist k (k : Int) σ).2.2 15 j = if (a : Int) < j ∧ j ≤ (k : Int) then σ.2 15 (j - 1) else σ.2 15 j) ∧
    (∀ j : Int, (insLoop node dist k (k : Int) σ).2.2 16 j = if (a : Int) < j ∧ j ≤ (k : Int) then σ.2 16 (j - 1) else σ.2 16 j) ∧
    (∀ j : Int, (a : Int) ≤ j → j < (k : Int) → befF σ dist (σ.2 12 node) j = true) ∧ (a = 0 ∨ ¬ befF σ dist (σ.2 12 node) ((a : Int) - 1) = true) := by
  intro k
  induction k with
  | zero =>
    intro σ
    refine ⟨0, Nat.le_refl 0, rfl, fun j => ?_, fun j => ?_, fun j h1 h2 => absurd h2 (by omega), Or.inl rfl⟩
    · rw [if_neg (by omega)]; rfl
    · rw [if_neg (by omega)]; rfl
  | succ k ih =>
    intro σ
    by_cases z : befF σ dist (σ.2 12 node) (k : Int) = true
    · have e : insLoop node dist (k + 1) ((k + 1 : Nat) : Int) σ = insLoop node dist k (k : Int) (sA (sA σ 15 ((k : Int) + 1) (σ.2 15 (k : Int))) 16 ((k : Int) + 1) (σ.2 16 (k : Int))) := if_pos z
      obtain ⟨a, a1, a2, a3, a4, a5, a6⟩ := ih (sA (sA σ 15 ((k : Int) + 1) (σ.2 15 (k : Int))) 16 ((k : Int) + 1) (σ.2 16 (k : Int)))
      have e15 : ∀ j, (sA (sA σ 15 ((k : Int) + 1) (σ.2 15 (k : Int))) 16 ((k : Int) + 1) (σ.2 16 (k : Int))).2 15 j = fU (σ.2 15) ((k : Int) + 1) (σ.2 15 (k : Int)) j := fun j => rfl
      have e16 : ∀ j, (sA (sA σ 15 ((k : Int) + 1) (σ.2 15 (k : Int))) 16 ((k : Int) + 1) (σ.2 16 (k : Int))).2 16 j = fU (σ.2 16) ((k : Int) + 1) (σ.2 16 (k : Int)) j := fun j => rfl
      have e12 : (sA (sA σ 15 ((k : Int) + 1) (σ.2 15 (k : Int))) 16 ((k : Int) + 1) (σ.2 16 (k : Int))).2 12 = σ.2 12 := rfl
      generalize sA (sA σ 15 ((k : Int) + 1) (σ.2 15 (k : Int))) 16 ((k : Int) + 1) (σ.2 16 (k : Int)) = τ at e a1 a2 a3 a4 a5 a6 e15 e16 e12
      have eb : ∀ j : Int, j < (k : Int) + 1 → befF τ dist (τ.2 12 node) j = befF σ dist (σ.2 12 node) j := fun j hj => by
        rw [e12]
        exact bef_congr e12 (by rw [e15, fU_n (by omega)]) (by rw [e16, fU_n (by omega)])
      rw [e]
      refine ⟨a, by omega, a2, fun j => ?_, fun j => ?_, fun j h1 h2 => ?_, ?_⟩
      · rw [a3]
        by_cases q : j = (k : Int) + 1
        · rw [if_neg (by omega), e15, q, fU_s, if_pos (by omega), show (k : Int) + 1 - 1 = (k : Int) by omega]
        · by_cases y : (a : Int) < j ∧ j ≤ (k : Int)
          · rw [if_pos y, e15, fU_n (by omega), if_pos (by omega)]
          · rw [if_neg y, e15, fU_n q, if_neg (by omega)]
      · rw [a4]
        by_cases q : j = (k : Int) + 1
        · rw [if_neg (by omega), e16, q, fU_s, if_pos (by omega), show (k : Int) + 1 - 1 = (k : Int) by omega]
        · by_cases y : (a : Int) < j ∧ j ≤ (k : Int)
          · rw [if_pos y, e16, fU_n (by omega), if_pos (by omega)]
          · rw [if_neg y, e16, fU_n q, if_neg (by omega)]
      · by_cases q : j = (k : Int)
        · rw [q]; exact z
        · have := a5 j h1 (by omega)
          rw [eb j (by omega)] at this
          exact this
      · rcases a6 with a6 | a6
        · exact Or.inl a6
        · rw [eb _ (by omega)] at a6
          exact Or.inr a6
    · have e : insLoop node dist (k + 1) ((k + 1 : Nat) : Int) σ = (((k + 1 : Nat) : Int), σ) := if_neg z
      rw [e]
      refine ⟨k + 1, Nat.le_refl _, rfl, fun j => ?_, fun j => ?_, fun j h1 h2 => absurd h2 (by omega), Or.inr ?_⟩
      · rw [if_neg (by omega)]
      · rw [if_neg (by omega)]
      · have e1 : ((k + 1 : Nat) : Int) - 1 = (k : Int) := by omega
        rw [e1]
        exact z
theorem bef_rlt {σ : XS} {pth : Int → List Int} {Q : List Int} {nd r : Int} (h16 : σ.2 16 r = rchD Q (pth (σ.2 15 r))) (hd : dlt (pth (σ.2 15 r)) (pth nd)) : (befF σ (rchD Q (pth nd)) (σ.2 12 nd) r = true → rlt Q (key σ pth nd) (key σ pth (σ.2 15 r))) ∧ (¬ befF σ (rchD Q (pth nd)) (σ.2 12 nd) r = true → rlt Q (key σ pth (σ.2 15 r)) (key σ pth nd)) := by
  unfold befF rlt key
  rw [h16]
  dsimp only
  by_cases z : rchD Q (pth nd) = rchD Q (pth (σ.2 15 r))
  · rw [if_pos z]
    constructor
    · intro y
      have y := of_decide_eq_true y
      exact Or.inr ⟨z, Or.inl y⟩
    · intro y
      have y : ¬ (σ.2 12 (σ.2 15 r) < σ.2 12 nd) := fun k => y (decide_eq_true k)
      refine Or.inr ⟨z.symm, ?_⟩
      rcases Int.lt_or_le (σ.2 12 nd) (σ.2 12 (σ.2 15 r)) with q | q
      · exact Or.inl q
      · exact Or.inr ⟨by omega, hd⟩
  · rw [if_neg z]
    constructor
    · intro y
      exact Or.inl (of_decide_eq_true y)
    · intro y
      have y : ¬ (rchD Q (pth nd) < rchD Q (pth (σ.2 15 r))) := fun k => y (decide_eq_true k)
      exact Or.inl (by omega)
theorem RK.ins {σ : XS} {pth : Int → List Int} {Q : List Int} {V : List Int} (h : RK σ pth Q V) {nd : Int} (hnd : off σ pth Q nd) (hV : ∀ v ∈ V, dlt (pth v) (pth nd)) : RK (insF σ nd (rchD Q (pth nd))) pth Q (V ++ [nd]) := by
  obtain ⟨h1, h2, h3, h4⟩ := h
  have ec : (((σ.1 14).toNat : Nat) : Int) = σ.1 14 := Int.toNat_of_nonneg h1
  obtain ⟨a, a1, a2, a3, a4, a5, a6⟩ := ins_spec nd (rchD Q (pth nd)) (σ.1 14).toNat σ
  obtain ⟨k1, k2⟩ := insLoop_keep nd (rchD Q (pth nd)) (σ.1 14).toNat (σ.1 14) σ
  have ei : insF σ nd (rchD Q (pth nd)) = insFin (insLoop nd (rchD Q (pth nd)) (σ.1 14).toNat (σ.1 14) σ) nd (rchD Q (pth nd)) := rfl
  rw [ec] at a2 a3 a4 a5
  rw [ei]
  have k12 : (insLoop nd (rchD Q (pth nd)) (σ.1 14).toNat (σ.1 14) σ).2.2 12 = σ.2 12 := k2 12 (by omega) (by omega)
  generalize insLoop nd (rchD Q (pth nd)) (σ.1 14).toNat (σ.1 14) σ = q at a2 a3 a4 k1 k12 ⊢
  have e14 : (insFin q nd (rchD Q (pth nd))).1 14 = σ.1 14 + 1 := by
    show q.2.1 14 + 1 = _
    rw [k1]
  have e0 : (insFin q nd (rchD Q (pth nd))).1 0 = σ.1 0 := by
    show q.2.1 0 = _
    rw [k1]
  have e12 : (insFin q nd (rchD Q (pth nd))).2 12 = σ.2 12 := k12
  have e15 : ∀ j, (insFin q nd (rchD Q (pth nd))).2 15 j = if j = (a : Int) then nd else if (a : Int) < j ∧ j ≤ σ.1 14 then σ.2 15 (j - 1) else σ.2 15 j := fun j => by
    show (if j = q.1 then nd else q.2.2 15 j) = _
    rw [a2, a3]
  have e16 : ∀ j, (insFin q nd (rchD Q (pth nd))).2 16 j = if j = (a : Int) then rchD Q (pth nd) else if (a : Int) < j ∧ j ≤ σ.1 14 then σ.2 16 (j - 1) else σ.2 16 j := fun j => by
    show (if j = q.1 then rchD Q (pth nd) else q.2.2 16 j) = _
    rw [a2, a4]
  generalize insFin q nd (rchD Q (pth nd)) = τ at e14 e0 e12 e15 e16 ⊢
  have hoff : ∀ n, off τ pth Q n ↔ off σ pth Q n := fun n => by unfold off; rw [e0, e12]
  have hkey : ∀ n, key τ pth n = key σ pth n := fun n => by unfold key; rw [e12]
  have x1 : ∀ j, j < (a : Int) → τ.2 15 j = σ.2 15 j ∧ τ.2 16 j = σ.2 16 j := fun j hj => ⟨by rw [e15, if_neg (by omega), if_neg (by omega)], by rw [e16, if_neg (by omega), if_neg (by omega)]⟩
  have x2 : τ.2 15 (a : Int) = nd ∧ τ.2 16 (a : Int) = rchD Q (pth nd) := ⟨by rw [e15, if_pos rfl], by rw [e16, if_pos rfl]⟩
  have x3 : ∀ j, (a : Int) < j → j ≤ σ.1 14 → τ.2 15 j = σ.2 15 (j - 1) ∧ τ.2 16 j = σ.2 16 (j - 1) := fun j hj hk => ⟨by rw [e15, if_neg (by omega), if_pos ⟨hj, hk⟩], by rw [e16, if_neg (by omega), if_pos ⟨hj, hk⟩]⟩
  have hb : ∀ r, 0 ≤ r → r < σ.1 14 → (befF σ (rchD Q (pth nd)) (σ.2 12 nd) r = true → rlt Q (key σ pth nd) (key σ pth (σ.2 15 r))) ∧ (¬ befF σ (rchD Q (pth nd)) (σ.2 12 nd) r = true → rlt Q (key σ pth (σ.2 15 r)) (key σ pth nd)) := fun r r0 r1 => by
    obtain ⟨g1, g2, g3⟩ := h2 r r0 r1
    exact bef_rlt g3 (hV _ g1)
  have lo : ∀ i, 0 ≤ i → i < (a : Int) → rlt Q (key σ pth (σ.2 15 i)) (key σ pth nd) := fun i i0 i1 => by
    have g : rlt Q (key σ pth (σ.2 15 ((a : Int) - 1))) (key σ pth nd) := by
      rcases a6 with a6 | a6
      · exfalso; omega
      · exact (hb _ (by omega) (by omega)).2 a6
    by_cases z : i = (a : Int) - 1
    · rw [z]; exact g
    · exact rlt_tr (h3 i ((a : Int) - 1) i0 (by omega) (by omega)) g
  have hi : ∀ j, (a : Int) ≤ j → j < σ.1 14 → rlt Q (key σ pth nd) (key σ pth (σ.2 15 j)) := fun j j0 j1 => (hb j (by omega) j1).1 (a5 j j0 j1)
  refine ⟨by omega, fun k c1 c2 => ?_, fun i j c1 c2 c3 => ?_, fun n hm ho => ?_⟩
  · rw [e14] at c2
    rw [hoff]
    rcases Int.lt_trichotomy k (a : Int) with z | z | z
    · rw [(x1 k z).1, (x1 k z).2]
      obtain ⟨g1, g2, g3⟩ := h2 k c1 (by omega)
      exact ⟨List.mem_append_left _ g1, g2, g3⟩
    · rw [z, x2.1, x2.2]
      exact ⟨List.mem_append_right _ List.mem_cons_self, hnd, rfl⟩
    · have y := x3 k z (by omega)
      rw [y.1, y.2]
      obtain ⟨g1, g2, g3⟩ := h2 (k - 1) (by omega) (by omega)
      exact ⟨List.mem_append_left _ g1, g2, g3⟩
  · rw [e14] at c3
    rw [hkey, hkey]
    rcases Int.lt_trichotomy i (a : Int) with z | z | z
    · rw [(x1 i z).1]
      rcases Int.lt_trichotomy j (a : Int) with y | y | y
      · rw [(x1 j y).1]
        exact h3 i j c1 c2 (by omega)
      · rw [y, x2.1]
        exact lo i c1 z
      · rw [(x3 j y (by omega)).1]
        exact h3 i (j - 1) c1 (by omega) (by omega)
    · rw [z, x2.1, (x3 j (by omega) (by omega)).1]
      exact hi (j - 1) (by omega) (by omega)
    · rw [(x3 i z (by omega)).1, (x3 j (by omega) (by omega)).1]
      exact h3 (i - 1) (j - 1) (by omega) (by omega) (by omega)
  · rw [hoff] at ho
    rw [e14]
    rcases List.mem_append.mp hm with z | z
    · obtain ⟨k, g1, g2, g3⟩ := h4 n z ho
      rcases Int.lt_or_le k (a : Int) with y | y
      · exact ⟨k, g1, by omega, by rw [(x1 k y).1]; exact g3⟩
      · refine ⟨k + 1, by omega, by omega, ?_⟩
        rw [(x3 (k + 1) (by omega) (by omega)).1]
        have e : k + 1 - 1 = k := by omega
        rw [e]
        exact g3
    · rw [List.mem_singleton.mp z]
      exact ⟨(a : Int), by omega, by omega, x2.1⟩
/-- the stack, its top first -/
def stkL (f : Int → Int) : Nat → List Int
  | 0 => []
  | n + 1 => f (n : Int) :: stkL f n
theorem stkL_len (f : Int → Int) : ∀ n : Nat, (stkL f n).length = n
  | 0 => rfl
  | n + 1 => by unfold stkL; rw [List.length_cons, stkL_len f n]
theorem stkL_congr {f g : Int → Int} : ∀ n : Nat, (∀ j : Int, j < (n : Int) → f j = g j) → stkL f n = stkL g n
  | 0, _ => rfl
  | n + 1, h => by
    unfold stkL
    rw [h n (by omega), stkL_congr n (fun j hj => h j (by omega))]
theorem stkL_push (f : Int → Int) (n : Nat) (v : Int) : stkL (fU f (n : Int) v) (n + 1) = v :: stkL f n := by
  show fU f (n : Int) v (n : Int) :: stkL (fU f (n : Int) v) n = _
  rw [fU_s, stkL_congr (g := f) n (fun j hj => fU_n (by omega))]
/-- all below p comes before all below q -/
def SL (p q : List Int) : Prop := ∀ x y, dlt (p ++ x) (q ++ y)
theorem SL.ne {p q : List Int} (h : SL p q) : p ≠ q := fun e => by
  have g := h [] []
  rw [e] at g
  exact dlt_irr _ g
theorem SL.sub {p q : List Int} (h : SL p q) (r : List Int) : SL (p ++ r) q := fun x y => by
  rw [List.append_assoc]
  exact h (r ++ x) y
theorem SL.fork (p : List Int) {a b : Int} (h : a < b) : SL (p ++ [a]) (p ++ [b]) := fun x y => by
  rw [List.append_assoc, List.append_assoc]
  exact dlt_fork p a b x y h
end
section
/-! THE RANKING, further: one node's children go on the stack; one round; all rounds -/
set_option maxRecDepth 100000
theorem push_keep2 (layer node c : Int) (q : XS × Int) : (rkPush layer node c q).1.1 = q.1.1 ∧ ∀ k : Nat, k ≠ 17 → k ≠ 18 → (rkPush layer node c q).1.2 k = q.1.2 k := by
  unfold rkPush
  split
  · exact ⟨rfl, fun _ _ _ => rfl⟩
  · refine ⟨rfl, fun k h7 h8 => ?_⟩
    simp [sA, sF, h7, h8]
theorem pushes_keep2 (layer node : Int) : ∀ (k : Nat) (q : XS × Int), (rkPushes layer node k q).1.1 = q.1.1 ∧ ∀ j : Nat, j ≠ 17 → j ≠ 18 → (rkPushes layer node k q).1.2 j = q.1.2 j
  | 0, _ => ⟨rfl, fun _ _ _ => rfl⟩
  | k + 1, q => by
    obtain ⟨h1, h2⟩ := pushes_keep2 layer node k (rkPush layer node (k : Int) q)
    obtain ⟨g1, g2⟩ := push_keep2 layer node (k : Int) q
    unfold rkPushes
    exact ⟨h1.trans g1, fun j a b => (h2 j a b).trans (g2 j a b)⟩
/-- the children of nd with letters from k on lie on the stack, over S -/
def PSH (σ0 : XS) (pth : Int → List Int) (Q : List Int) (nd : Int) (S : List Int) (k : Int) (q : XS × Int) : Prop :=
  keepR σ0 q.1 ∧ q.1.2 18 nd = capk (σ0.1 0) (rchD Q (pth nd)) ∧
  ∃ (C : List Int) (n : Nat), q.2 = (n : Int) ∧ stkL (q.1.2 17) n = C ++ S ∧
    (∀ m, m ∈ C → inT σ0 m ∧ ∃ c, k ≤ c ∧ c ≤ 3 ∧ pth m = pth nd ++ [c]) ∧
    C.Pairwise (fun a b => SL (pth a) (pth b)) ∧
    (∀ c, k ≤ c → c ≤ 3 → σ0.2 7 (nd * 4 + c) ≠ 0 → σ0.2 7 (nd * 4 + c) ∈ C) ∧
    (∀ m, m ∈ C ++ S → q.1.2 18 m = capk (σ0.1 0) (rchD Q (pth m)))
theorem PSH.push {σ0 : XS} {pth : Int → List Int} {Ws : List (List Int × Int)} {Q S : List Int} {nd layer : Int} {q : XS × Int} (hT : TREE σ0 pth Ws []) (hL : ∀ m, inT σ0 m → σ0.2 13 (layer + m) = capk (σ0.1 0) (dist Q Q.length (pth m))) (hnd : inT σ0 nd) (hS : ∀ s, s ∈ S → SL (pth nd) (pth s)) {k : Nat} (hk : k ≤ 3) (h : PSH σ0 pth Q nd S ((k : Int) + 1) q) : PSH σ0 pth Q nd S (k : Int) (rkPush layer nd (k : Int) q) := by
  have hkk := push_keep layer nd (k : Int) q
  obtain ⟨hkp, hr, C, n, hn, hs, h1, h2, h3, h4⟩ := h
  have e7 : q.1.2 7 = σ0.2 7 := hkp.2 7 (by omega) (by omega) (by omega) (by omega)
  have e13 : q.1.2 13 = σ0.2 13 := hkp.2 13 (by omega) (by omega) (by omega) (by omega)
  have kp := hkp.tr hkk
  by_cases z : σ0.2 7 (nd * 4 + (k : Int)) = 0
  · have er : rkPush layer nd (k : Int) q = q := if_pos (by rw [e7]; exact z)
    rw [er]
    refine ⟨hkp, hr, C, n, hn, hs, fun m hm => ?_, h2, fun c c1 c2 c3 => ?_, h4⟩
    · obtain ⟨g1, c, g2, g3, g4⟩ := h1 m hm
      exact ⟨g1, c, by omega, g3, g4⟩
    · by_cases y : c = (k : Int)
      · rw [y] at c3
        exact absurd z c3
      · exact h3 c (by omega) c2 c3
  · obtain ⟨g2, g3⟩ : inT σ0 (σ0.2 7 (nd * 4 + (k : Int))) ∧ pth (σ0.2 7 (nd * 4 + (k : Int))) = pth nd ++ [(k : Int)] := by
      rcases hT.2.2.2.2.1 nd (k : Int) hnd (by omega) with ⟨g1, _⟩ | ⟨_, g2, g3⟩
      · exact absurd g1 z
      · exact ⟨g2, g3⟩
    have er : rkPush layer nd (k : Int) q = (sA (sA q.1 18 (σ0.2 7 (nd * 4 + (k : Int))) (minF (σ0.2 13 (layer + σ0.2 7 (nd * 4 + (k : Int)))) (q.1.2 18 nd))) 17 q.2 (σ0.2 7 (nd * 4 + (k : Int))), q.2 + 1) := by
      unfold rkPush
      rw [e7, e13]
      exact if_neg z
    obtain ⟨to, hto⟩ : ∃ to, σ0.2 7 (nd * 4 + (k : Int)) = to := ⟨_, rfl⟩
    rw [hto] at z g2 g3 er
    rw [er] at kp ⊢
    have tn : nd ≠ to := fun y => by
      rw [← y] at g3
      have := congrArg List.length g3
      simp at this
    have tm : ∀ m, m ∈ C ++ S → m ≠ to := fun m hm y => by
      rcases List.mem_append.mp hm with w | w
      · obtain ⟨_, c, c1, c2, c3⟩ := h1 m w
        rw [y, g3] at c3
        have c4 := (List.append_inj' c3 rfl).2
        simp at c4
        omega
      · have c3 := ((hS m w).sub [(k : Int)]).ne
        rw [← g3, y] at c3
        exact c3 rfl
    have ev : minF (σ0.2 13 (layer + to)) (q.1.2 18 nd) = capk (σ0.1 0) (rchD Q (pth to)) := by
      rw [hL to g2, hr, ← capk_min, g3, rchD_snoc]
    refine ⟨kp, ?_, to :: C, n + 1, ?_, ?_, fun m hm => ?_, ?_, fun c c1 c2 c3 => ?_, fun m hm => ?_⟩
    · show fU (q.1.2 18) to _ nd = _
      rw [fU_n tn]
      exact hr
    · show q.2 + 1 = _
      rw [hn]
      omega
    · show stkL (fU (q.1.2 17) q.2 to) (n + 1) = _
      rw [hn, stkL_push, hs]
      rfl
    · rcases List.mem_cons.mp hm with y | y
      · rw [y]
        exact ⟨g2, (k : Int), by omega, by omega, g3⟩
      · obtain ⟨w1, c, w2, w3, w4⟩ := h1 m y
        exact ⟨w1, c, by omega, w3, w4⟩
    · refine List.pairwise_cons.mpr ⟨fun m hm => ?_, h2⟩
      obtain ⟨_, c, w2, w3, w4⟩ := h1 m hm
      rw [g3, w4]
      exact SL.fork _ (by omega)
    · by_cases y : c = (k : Int)
      · rw [y, hto]
        exact List.mem_cons_self
      · exact List.mem_cons_of_mem _ (h3 c (by omega) c2 c3)
    · show fU (q.1.2 18) to (minF (σ0.2 13 (layer + to)) (q.1.2 18 nd)) m = _
      rw [List.cons_append] at hm
      rcases List.mem_cons.mp hm with y | y
      · rw [y, fU_s]
        exact ev
      · rw [fU_n (tm m y)]
        exact h4 m y
theorem PSH.all {σ0 : XS} {pth : Int → List Int} {Ws : List (List Int × Int)} {Q S : List Int} {nd layer : Int} (hT : TREE σ0 pth Ws []) (hL : ∀ m, inT σ0 m → σ0.2 13 (layer + m) = capk (σ0.1 0) (dist Q Q.length (pth m))) (hnd : inT σ0 nd) (hS : ∀ s, s ∈ S → SL (pth nd) (pth s)) : ∀ (k : Nat) (q : XS × Int), k ≤ 4 → PSH σ0 pth Q nd S (k : Int) q → PSH σ0 pth Q nd S 0 (rkPushes layer nd k q) := by
  intro k
  induction k with
  | zero => intro q _ h; exact h
  | succ k ih =>
    intro q hk h
    have e : ((k + 1 : Nat) : Int) = (k : Int) + 1 := by omega
    rw [e] at h
    unfold rkPushes
    exact ih _ (by omega) (PSH.push hT hL hnd hS (by omega) h)
/-- the walk: V behind it, in order, S on the stack -/
def RI (σ0 : XS) (pth : Int → List Int) (Q : List Int) (q : XS × Int) (V S : List Int) : Prop :=
  keepR σ0 q.1 ∧ (∃ n : Nat, q.2 = (n : Int) ∧ stkL (q.1.2 17) n = S) ∧
  (∀ m, m ∈ V ∨ m ∈ S → inT σ0 m) ∧ V.Pairwise (fun a b => dlt (pth a) (pth b)) ∧
  (∀ v, v ∈ V → ∀ s, s ∈ S → ∀ y, dlt (pth v) (pth s ++ y)) ∧ S.Pairwise (fun a b => SL (pth a) (pth b)) ∧
  (∀ m, inT σ0 m → m ∈ V ∨ ∃ s, s ∈ S ∧ pth s <+: pth m) ∧
  (∀ s, s ∈ S → q.1.2 18 s = capk (σ0.1 0) (rchD Q (pth s))) ∧ RK q.1 pth Q V
theorem RI.len {σ0 : XS} {pth : Int → List Int} {Q : List Int} {q : XS × Int} {V S : List Int} (h : RI σ0 pth Q q V S) : V.length + S.length ≤ 80 := by
  obtain ⟨_, _, h3, h4, h5, h6, _⟩ := h
  have hn : (V ++ S).Nodup := by
    rw [List.nodup_iff_pairwise_ne, List.pairwise_append]
    refine ⟨h4.imp (fun {a b} g e => ?_), h6.imp (fun {a b} g e => ?_), fun a ha b hb e => ?_⟩
    · rw [e] at g
      exact dlt_irr _ g
    · exact g.ne (by rw [e])
    · have g := h5 a ha b hb []
      rw [e, List.append_nil] at g
      exact dlt_irr _ g
  have hl := nodup_le _ ((List.range 80).map (fun n : Nat => (n : Int))) hn (fun x hx => by
    have g := h3 x (List.mem_append.mp hx)
    refine List.mem_map.mpr ⟨x.toNat, List.mem_range.mpr ?_, ?_⟩
    · have g1 := g.1
      have g2 := g.2.1
      omega
    · exact Int.toNat_of_nonneg g.1)
  rw [List.length_append, List.length_map, List.length_range] at hl
  exact hl
theorem RI.ht {σ0 : XS} {pth : Int → List Int} {Q : List Int} {q : XS × Int} {V S : List Int} (h : RI σ0 pth Q q V S) : q.2 = (S.length : Int) := by
  obtain ⟨_, ⟨n, h1, h2⟩, _⟩ := h
  rw [h1, ← h2, stkL_len]
theorem RI.top {σ0 : XS} {pth : Int → List Int} {Q : List Int} {q : XS × Int} {V S : List Int} {s : Int} (h : RI σ0 pth Q q V (s :: S)) : q.1.2 17 (q.2 - 1) = s ∧ ∃ n : Nat, q.2 - 1 = (n : Int) ∧ stkL (q.1.2 17) n = S := by
  obtain ⟨_, ⟨n, h1, h2⟩, _⟩ := h
  cases n with
  | zero => exact absurd h2 (by unfold stkL; simp)
  | succ n =>
    have e : q.2 - 1 = (n : Int) := by omega
    unfold stkL at h2
    injection h2 with h3 h4
    rw [e]
    exact ⟨h3, n, rfl, h4⟩
theorem take_17 (σ : XS) (nd : Int) : (rkTake σ nd).2 17 = σ.2 17 ∧ (rkTake σ nd).2 18 = σ.2 18 := by
  unfold rkTake
  split
  · obtain ⟨_, h⟩ := insF_keep σ nd (σ.2 18 nd)
    exact ⟨h 17 (by omega) (by omega), h 18 (by omega) (by omega)⟩
  · exact ⟨rfl, rfl⟩
theorem take_off {σ0 σ : XS} {pth : Int → List Int} {Q : List Int} {nd : Int} (hk : keepR σ0 σ) (h18 : σ.2 18 nd = capk (σ0.1 0) (rchD Q (pth nd))) : (0 ≤ σ.2 12 nd ∧ nd ≠ 0 ∧ σ.2 18 nd ≤ σ.1 0) ↔ off σ pth Q nd := by
  have e0 : σ.1 0 = σ0.1 0 := hk.1 0 (by omega)
  unfold off
  rw [h18, e0, capk_le]
  exact ⟨fun h => ⟨h.2.1, h.1, h.2.2⟩, fun h => ⟨h.2.1, h.1, h.2.2⟩⟩
theorem RK.take {σ0 σ : XS} {pth : Int → List Int} {Q V : List Int} {nd : Int} (hk : keepR σ0 σ) (h18 : σ.2 18 nd = capk (σ0.1 0) (rchD Q (pth nd))) (hV : ∀ v, v ∈ V → dlt (pth v) (pth nd)) (h : RK σ pth Q V) : RK (rkTake σ nd) pth Q (V ++ [nd]) := by
  have ho := take_off (pth := pth) (Q := Q) hk h18
  by_cases z : off σ pth Q nd
  · have e : rkTake σ nd = insF σ nd (σ.2 18 nd) := if_pos (ho.mpr z)
    have e0 : σ.1 0 = σ0.1 0 := hk.1 0 (by omega)
    have e2 : σ.2 18 nd = rchD Q (pth nd) := by
      rw [h18]
      exact capk_eq (by rw [← e0]; exact z.2.2)
    rw [e, e2]
    exact h.ins z hV
  · have e : rkTake σ nd = σ := if_neg (fun y => z (ho.mp y))
    rw [e]
    exact h.skip z
theorem RI.step {σ0 : XS} {pth : Int → List Int} {Ws : List (List Int × Int)} {Q : List Int} {q : XS × Int} {V S : List Int} {s layer : Int} (hT : TREE σ0 pth Ws []) (hr : ∀ n, 0 ≤ σ0.2 9 n ∧ σ0.2 9 n ≤ 3) (hL : ∀ m, inT σ0 m → σ0.2 13 (layer + m) = capk (σ0.1 0) (dist Q Q.length (pth m))) (h : RI σ0 pth Q q V (s :: S)) : ∃ S', RI σ0 pth Q (rkRound layer q) (V ++ [s]) S' := by
  obtain ⟨t1, n, t2, t3⟩ := h.top
  obtain ⟨hk, _, h3, h4, h5, h6, h7, h8, h9⟩ := h
  have hs := h3 s (Or.inr List.mem_cons_self)
  have hVs : ∀ v, v ∈ V → dlt (pth v) (pth s) := fun v hv => by
    have g := h5 v hv s List.mem_cons_self []
    rw [List.append_nil] at g
    exact g
  have h6c := List.pairwise_cons.mp h6
  have h8s := h8 s List.mem_cons_self
  have er : rkRound layer q = rkPushes layer s 4 (rkTake q.1 s, (n : Int)) := by
    unfold rkRound
    rw [t1, t2]
  have hR := RK.take hk h8s hVs h9
  have k17 := take_17 q.1 s
  have hk1 := hk.tr (take_keep q.1 s)
  have hk2 := pushes_keep2 layer s 4 (rkTake q.1 s, (n : Int))
  have hP0 : PSH σ0 pth Q s S ((4 : Nat) : Int) (rkTake q.1 s, (n : Int)) := by
    refine ⟨hk1, ?_, [], n, rfl, ?_, fun m hm => absurd hm List.not_mem_nil, List.Pairwise.nil, fun c c1 c2 => by exfalso; omega, fun m hm => ?_⟩
    · show (rkTake q.1 s).2 18 s = _
      rw [k17.2]
      exact h8s
    · show stkL ((rkTake q.1 s).2 17) n = _
      rw [k17.1]
      exact t3
    · show (rkTake q.1 s).2 18 m = _
      rw [k17.2]
      exact h8 m (List.mem_cons_of_mem _ hm)
  have hP := PSH.all hT hL hs h6c.1 4 _ (Nat.le_refl 4) hP0
  rw [← er] at hP hk2
  obtain ⟨p1, p2, C, n', p3, p4, p5, p6, p7, p8⟩ := hP
  refine ⟨C ++ S, p1, ⟨n', p3, p4⟩, fun m hm => ?_, ?_, fun v hv m hm y => ?_, ?_, fun m hm => ?_, fun m hm => p8 m hm, ?_⟩
  · rcases hm with hm | hm
    · rcases List.mem_append.mp hm with w | w
      · exact h3 m (Or.inl w)
      · rw [List.mem_singleton.mp w]; exact hs
    · rcases List.mem_append.mp hm with w | w
      · exact (p5 m w).1
      · exact h3 m (Or.inr (List.mem_cons_of_mem _ w))
  · refine List.pairwise_append.mpr ⟨h4, List.pairwise_singleton _ _, fun a ha b hb => ?_⟩
    rw [List.mem_singleton.mp hb]
    exact hVs a ha
  · rcases List.mem_append.mp hm with w | w
    · obtain ⟨_, c, _, _, w4⟩ := p5 m w
      rw [w4, List.append_assoc]
      rcases List.mem_append.mp hv with u | u
      · exact h5 v u s List.mem_cons_self _
      · rw [List.mem_singleton.mp u]
        exact dlt_ext (pth s) c y
    · rcases List.mem_append.mp hv with u | u
      · exact h5 v u m (List.mem_cons_of_mem _ w) y
      · rw [List.mem_singleton.mp u]
        have g := h6c.1 m w [] y
        rw [List.append_nil] at g
        exact g
  · refine List.pairwise_append.mpr ⟨p6, h6c.2, fun a ha b hb => ?_⟩
    obtain ⟨_, c, _, _, w4⟩ := p5 a ha
    rw [w4]
    exact (h6c.1 b hb).sub [c]
  · rcases h7 m hm with w | ⟨u, w1, w2⟩
    · exact Or.inl (List.mem_append_left _ w)
    · rcases List.mem_cons.mp w1 with y | y
      · rw [y] at w2
        obtain ⟨r, hr2⟩ := w2
        cases r with
        | nil =>
          rw [List.append_nil] at hr2
          have e := hT.2.2.2.1 s m hs hm hr2
          exact Or.inl (List.mem_append_right _ (by rw [e]; exact List.mem_cons_self))
        | cons c r =>
          have hpre : pth s ++ [c] <+: pth m := ⟨r, by rw [← hr2]; simp⟩
          obtain ⟨m', k1, k2⟩ := hT.closed hm hpre
          have m0 : m' ≠ 0 := fun z => by
            rw [z, hT.1] at k2
            simp at k2
          have k3 := (hT.2.1 m' k1 m0).2
          rw [k2] at k3
          have k4 := (List.append_inj' k3 rfl).2
          have k5 : c = σ0.2 9 m' := by simpa using k4
          have rg := hr m'
          refine Or.inr ?_
          rcases hT.2.2.2.2.1 s c hs (by omega) with ⟨_, g2⟩ | ⟨g1, g2, g3⟩
          · exact absurd k2 (g2 m' k1)
          · exact ⟨_, List.mem_append_left _ (p7 c (by omega) (by omega) g1), by rw [g3]; exact hpre⟩
      · exact Or.inr ⟨u, List.mem_append_right _ y, w2⟩
  · exact hR.of (congrFun hk2.1 0) (congrFun hk2.1 14) (hk2.2 12 (by omega) (by omega)) (hk2.2 15 (by omega) (by omega)) (hk2.2 16 (by omega) (by omega))
theorem TREE.word {σ : XS} {pth : Int → List Int} {Ws : List (List Int × Int)} {E : List Int} (h : TREE σ pth Ws E) {n : Int} (hn : inT σ n) (h0 : n ≠ 0) (hw : 0 ≤ σ.2 12 n) : (pth n, σ.2 12 n) ∈ Ws := by
  rcases h.2.2.2.2.2.2.2.2 n hn h0 with ⟨wt, g1, g2⟩ | ⟨_, g2⟩
  · rw [g2]
    exact g1
  · omega
theorem RK.cnt {σ0 σ : XS} {pth : Int → List Int} {Ws : List (List Int × Int)} {Q V : List Int} {nd : Int} (hT : TREE σ0 pth Ws []) (hk : keepR σ0 σ) (h : RK σ pth Q V) (hV : ∀ v, v ∈ V → inT σ0 v) (hnd : inT σ0 nd) (ho : off σ pth Q nd) (hd : ∀ v, v ∈ V → dlt (pth v) (pth nd)) (hl : Ws.length ≤ 12) : σ.1 14 ≤ 11 := by
  obtain ⟨h1, h2, h3, h4⟩ := h
  have e12 : σ.2 12 = σ0.2 12 := hk.2 12 (by omega) (by omega) (by omega) (by omega)
  have hw : ∀ n, inT σ0 n → off σ pth Q n → pth n ∈ Ws.map Prod.fst := fun n hn hf => by
    have g := hT.word hn hf.1 (by rw [← e12]; exact hf.2.1)
    exact List.mem_map.mpr ⟨_, g, rfl⟩
  have hn : ((List.range (σ.1 14).toNat).map (fun i : Nat => pth (σ.2 15 (i : Int))) ++ [pth nd]).Nodup := by
    rw [List.nodup_iff_pairwise_ne, List.pairwise_append]
    refine ⟨?_, List.pairwise_singleton _ _, fun a ha b hb e => ?_⟩
    · rw [List.pairwise_map]
      refine List.Pairwise.imp_of_mem ?_ (List.pairwise_lt_range (n := (σ.1 14).toNat))
      intro a b ha hb hab e
      have ha := List.mem_range.mp ha
      have hb := List.mem_range.mp hb
      have g := h3 (a : Int) (b : Int) (by omega) (by omega) (by omega)
      have ga := hV _ (h2 (a : Int) (by omega) (by omega)).1
      have gb := hV _ (h2 (b : Int) (by omega) (by omega)).1
      rw [hT.2.2.2.1 _ _ ga gb e] at g
      exact rlt_irr _ _ g
    · obtain ⟨i, hi, rfl⟩ := List.mem_map.mp ha
      have hi := List.mem_range.mp hi
      have g := hd _ (h2 (i : Int) (by omega) (by omega)).1
      rw [e, List.mem_singleton.mp hb] at g
      exact dlt_irr _ g
  have hle := nodup_le _ (Ws.map Prod.fst) hn (fun x hx => by
    rcases List.mem_append.mp hx with y | y
    · obtain ⟨i, hi, rfl⟩ := List.mem_map.mp y
      have hi := List.mem_range.mp hi
      obtain ⟨g1, g2, _⟩ := h2 (i : Int) (by omega) (by omega)
      exact hw _ (hV _ g1) g2
    · rw [List.mem_singleton.mp y]
      exact hw nd hnd ho)
  rw [List.length_append, List.length_map, List.length_range, List.length_map, List.length_singleton] at hle
  omega
theorem RI.loop {σ0 : XS} {pth : Int → List Int} {Ws : List (List Int × Int)} {Q : List Int} {layer : Int} (hT : TREE σ0 pth Ws []) (hl : Ws.length ≤ 12) (hr : ∀ n, 0 ≤ σ0.2 9 n ∧ σ0.2 9 n ≤ 3) (hL : ∀ m, inT σ0 m → σ0.2 13 (layer + m) = capk (σ0.1 0) (dist Q Q.length (pth m))) : ∀ (n : Nat) (q : XS × Int) (V S : List Int), RI σ0 pth Q q V S → V.length + n = 80 → rkSafe layer n q ∧ ∃ V', RI σ0 pth Q (rkLoop layer n q) V' [] := by
  intro n
  induction n with
  | zero =>
    intro q V S h hn
    have g := h.len
    have e : S = [] := List.eq_nil_of_length_eq_zero (by omega)
    rw [e] at h
    exact ⟨trivial, V, h⟩
  | succ n ih =>
    intro q V S h hn
    cases S with
    | nil =>
      have g : q.2 = 0 := h.ht
      refine ⟨fun g2 => absurd g2 (by omega), V, ?_⟩
      have e : rkLoop layer (n + 1) q = q := if_neg (by omega)
      rw [e]
      exact h
    | cons s S =>
      have g := h.ht
      have gl := h.len
      have gt := h.top.1
      obtain ⟨S', h'⟩ := h.step hT hr hL
      have g' := h'.ht
      have gl' := h'.len
      rw [List.length_cons] at g gl
      rw [List.length_append, List.length_singleton] at gl'
      obtain ⟨i1, i2⟩ := ih _ _ _ h' (by rw [List.length_append, List.length_singleton]; omega)
      have e : rkLoop layer (n + 1) q = rkLoop layer n (rkRound layer q) := if_pos (by omega)
      rw [e]
      refine ⟨fun _ => ⟨by omega, by omega, fun hc => ?_, i1⟩, i2⟩
      rw [gt] at hc
      obtain ⟨hk, _, h3, h4, h5, h6, h7, h8, h9⟩ := h
      have ho := (take_off hk (h8 s List.mem_cons_self)).mp hc
      exact RK.cnt hT hk h9 (fun v hv => h3 v (Or.inl hv)) (h3 s (Or.inr List.mem_cons_self)) ho (fun v hv => by
        have y := h5 v hv s List.mem_cons_self []
        rw [List.append_nil] at y
        exact y) hl
/-- rank: it is safe, and ranks all words of the tree -/
theorem RANK {σ : XS} {pth : Int → List Int} {Ws : List (List Int × Int)} {Q : List Int} (hT : TREE σ pth Ws []) (hl : Ws.length ≤ 12) (hr : ∀ n, 0 ≤ σ.2 9 n ∧ σ.2 9 n ≤ 3) (hL : LAYS σ pth Q Q.length) (h3 : σ.1 3 = (Q.length : Int)) : rankOK σ ∧ ∃ V, RK (rankF σ) pth Q V ∧ ∀ m, m ∈ V ↔ inT σ m := by
  have hLs : ∀ m, inT σ m → σ.2 13 (σ.1 3 * 80 + m) = capk (σ.1 0) (dist Q Q.length (pth m)) := fun m hm => by
    rw [h3]
    exact hL Q.length (Nat.le_refl _) m hm
  have h0 : RI σ pth Q (rkStart σ, 1) [] [0] := by
    refine ⟨start_keep σ, ⟨1, rfl, stkL_push (σ.2 17) 0 0⟩, fun m hm => ?_, List.Pairwise.nil, fun v hv => absurd hv List.not_mem_nil, List.pairwise_singleton _ _, fun m _ => Or.inr ⟨0, List.mem_cons_self, by rw [hT.1]; exact List.nil_prefix⟩, fun s hs => ?_, ?_⟩
    · rcases hm with hm | hm
      · exact absurd hm List.not_mem_nil
      · rw [List.mem_singleton.mp hm]; exact inT_0 σ
    · rw [List.mem_singleton.mp hs]
      have e : (rkStart σ).2 18 0 = σ.2 13 (σ.1 3 * 80) := fU_s (σ.2 18) 0 _
      have g := hLs 0 (inT_0 σ)
      rw [Int.add_zero] at g
      show (rkStart σ).2 18 0 = _
      rw [e, g, hT.1, rchD_nil]
    · exact ⟨Int.le_refl 0, fun k a b => absurd b (show ¬ k < 0 by omega), fun i j a b c => absurd c (show ¬ j < 0 by omega), fun n hn => absurd hn List.not_mem_nil⟩
  obtain ⟨i1, V, i2⟩ := RI.loop hT hl hr hLs 80 (rkStart σ, 1) [] [0] h0 rfl
  refine ⟨i1, V, i2.2.2.2.2.2.2.2.2, fun m => ⟨fun hm => i2.2.2.1 m (Or.inl hm), fun hm => ?_⟩⟩
  rcases i2.2.2.2.2.2.2.1 m hm with y | ⟨s, y, _⟩
  · exact y
  · exact absurd y List.not_mem_nil
end
section
/-! THE MODEL in words: word w of the lists, the list of the words with their weights; what its questions answer -/
set_option maxRecDepth 100000
section SG
variable {α : Type}
def segF (g : Int → α) : Nat → Int → List α
  | 0, _ => []
  | n + 1, i => g i :: segF g n (i + 1)
theorem segF_len (g : Int → α) : ∀ (n : Nat) (i : Int), (segF g n i).length = n
  | 0, _ => rfl
  | n + 1, i => by unfold segF; rw [List.length_cons, segF_len g n (i + 1)]
theorem segF_mem {g : Int → α} {x : α} : ∀ (n : Nat) (i : Int), x ∈ segF g n i ↔ ∃ j : Int, i ≤ j ∧ j < i + (n : Int) ∧ g j = x
  | 0, i => ⟨fun h => absurd h List.not_mem_nil, fun ⟨j, h1, h2, _⟩ => by exfalso; omega⟩
  | n + 1, i => by
    unfold segF
    rw [List.mem_cons, segF_mem n (i + 1)]
    constructor
    · rintro (h | ⟨j, h1, h2, h3⟩)
      · exact ⟨i, by omega, by omega, h.symm⟩
      · exact ⟨j, by omega, by omega, h3⟩
    · rintro ⟨j, h1, h2, h3⟩
      by_cases q : j = i
      · rw [q] at h3
        exact Or.inl h3.symm
      · exact Or.inr ⟨j, by omega, by omega, h3⟩
theorem segF_app (g : Int → α) : ∀ (a b : Nat) (i : Int), segF g (a + b) i = segF g a i ++ segF g b (i + (a : Int))
  | 0, b, i => by
    rw [Nat.zero_add]
    show _ = [] ++ segF g b (i + 0)
    rw [Int.add_zero]
    rfl
  | a + 1, b, i => by
    have e : a + 1 + b = (a + b) + 1 := by omega
    rw [e]
    show g i :: segF g (a + b) (i + 1) = (g i :: segF g a (i + 1)) ++ segF g b (i + ((a + 1 : Nat) : Int))
    rw [segF_app g a b (i + 1)]
    have e2 : i + 1 + (a : Int) = i + ((a + 1 : Nat) : Int) := by omega
    rw [e2]
    rfl
theorem segF_congr {g h : Int → α} : ∀ (n : Nat) (i : Int), (∀ j : Int, i ≤ j → j < i + (n : Int) → g j = h j) → segF g n i = segF h n i
  | 0, _, _ => rfl
  | n + 1, i, q => by
    unfold segF
    rw [q i (by omega) (by omega), segF_congr n (i + 1) (fun j h1 h2 => q j (by omega) (by omega))]
theorem segF_pw {g : Int → α} {R : α → α → Prop} : ∀ (n : Nat) (i : Int), (∀ a b : Int, i ≤ a → a < b → b < i + (n : Int) → R (g a) (g b)) → (segF g n i).Pairwise R
  | 0, _, _ => List.Pairwise.nil
  | n + 1, i, h => by
    unfold segF
    refine List.pairwise_cons.mpr ⟨fun x hx => ?_, segF_pw n (i + 1) (fun a b h1 h2 h3 => h a b (by omega) h2 (by omega))⟩
    obtain ⟨j, h1, h2, h3⟩ := (segF_mem n (i + 1)).mp hx
    rw [← h3]
    exact h i j (by omega) (by omega) (by omega)
/-- one goes, the last takes its place -/
theorem segF_drop {g h : Int → α} (n : Nat) (w : Int) (h0 : 0 ≤ w) (h1 : w ≤ (n : Int)) (hw : w < (n : Int) → h w = g (n : Int)) (ho : ∀ j : Int, 0 ≤ j → j < (n : Int) → j ≠ w → h j = g j) : (segF g (n + 1) 0).Perm (g w :: segF h n 0) := by
  have e1 : segF g (n + 1) 0 = segF g n 0 ++ [g (n : Int)] := by
    rw [segF_app g n 1 0, Int.zero_add]
    rfl
  by_cases q : w = (n : Int)
  · rw [e1, q, segF_congr (g := h) (h := g) n 0 (fun j a b => ho j a (by omega) (by omega))]
    exact List.perm_append_singleton _ _
  · obtain ⟨a, ha⟩ : ∃ a : Nat, w = (a : Int) := ⟨w.toNat, by omega⟩
    obtain ⟨b, hb⟩ : ∃ b : Nat, n = a + (1 + b) := ⟨n - a - 1, by omega⟩
    have eg : segF g n 0 = segF g a 0 ++ (g w :: segF g b (w + 1)) := by
      rw [hb, segF_app g a (1 + b) 0, segF_app g 1 b (0 + (a : Int)), Int.zero_add, ha]
      rfl
    have eh : segF h n 0 = segF g a 0 ++ (g (n : Int) :: segF g b (w + 1)) := by
      rw [← hw (by omega), hb, segF_app h a (1 + b) 0, segF_app h 1 b (0 + (a : Int)), Int.zero_add, ha]
      rw [segF_congr (g := h) (h := g) a 0 (fun j x y => ho j x (by omega) (by omega))]
      rw [segF_congr (g := h) (h := g) b ((a : Int) + ((1 : Nat) : Int)) (fun j x y => ho j (by omega) (by omega) (by omega))]
      rfl
    rw [e1, eg, eh, List.append_assoc, List.cons_append]
    refine List.perm_middle.trans (List.Perm.cons _ ?_)
    exact List.Perm.append_left _ (List.perm_append_singleton _ _)
theorem cntL_seg (g : Int → α) (P : Int → Bool) (P' : α → Bool) : ∀ (k : Nat) (v s : Int), (∀ j : Int, v ≤ j → j < v + (k : Int) → P j = P' (g j)) → cntL P k v s = s + (((segF g k v).countP P' : Nat) : Int)
  | 0, v, s, _ => by
    show s = s + 0
    omega
  | k + 1, v, s, h => by
    unfold cntL segF
    rw [cntL_seg g P P' k (v + 1) _ (fun j a b => h j (by omega) (by omega)), List.countP_cons, h v (by omega) (by omega)]
    split <;> omega
end SG
theorem fstL_spec (P : Int → Bool) : ∀ (k : Nat) (v : Int), 0 ≤ v → (fstL P k v = -4 ∧ ∀ w, v ≤ w → w < v + (k : Int) → ¬ P w = true) ∨ (v ≤ fstL P k v ∧ fstL P k v < v + (k : Int) ∧ P (fstL P k v) = true)
  | 0, v, _ => Or.inl ⟨rfl, fun w h1 h2 => by exfalso; omega⟩
  | k + 1, v, hv => by
    unfold fstL
    by_cases q : P v = true
    · rw [if_pos q]
      exact Or.inr ⟨by omega, by omega, q⟩
    · rw [if_neg q]
      rcases fstL_spec P k (v + 1) (by omega) with ⟨h1, h2⟩ | ⟨h1, h2, h3⟩
      · refine Or.inl ⟨h1, fun w a b => ?_⟩
        by_cases z : w = v
        · rw [z]; exact q
        · exact h2 w (by omega) (by omega)
      · exact Or.inr ⟨by omega, by omega, h3⟩
theorem segL_take (q : Int → Int) : ∀ (n m : Nat) (i : Int), n ≤ m → (segL q m i).take n = segL q n i
  | 0, _, _, _ => rfl
  | n + 1, 0, _, h => absurd h (by omega)
  | n + 1, m + 1, i, h => by
    unfold segL
    rw [List.take_succ_cons, segL_take q n m (i + 1) (by omega)]
theorem segL_shift {q q' : Int → Int} : ∀ (n : Nat) (i i' : Int), (∀ t : Int, 0 ≤ t → t < (n : Int) → q (i + t) = q' (i' + t)) → segL q n i = segL q' n i'
  | 0, _, _, _ => rfl
  | n + 1, i, i', h => by
    unfold segL
    have h0 := h 0 (by omega) (by omega)
    rw [Int.add_zero, Int.add_zero] at h0
    rw [h0, segL_shift n (i + 1) (i' + 1) (fun t a b => by
      have g := h (1 + t) (by omega) (by omega)
      rw [← Int.add_assoc, ← Int.add_assoc] at g
      exact g)]
theorem segL_pf (q : Int → Int) (n m : Nat) (i j : Int) : segL q n i <+: segL q m j ↔ n ≤ m ∧ segL q n i = segL q n j := by
  constructor
  · intro h
    have hl := h.length_le
    rw [segL_len, segL_len] at hl
    have e := List.prefix_iff_eq_take.mp h
    rw [segL_len, segL_take q n m j hl] at e
    exact ⟨hl, e⟩
  · rintro ⟨h1, h2⟩
    rw [h2, ← segL_take q n m j h1]
    exact List.take_prefix _ _
/-- word w of the model's lists -/
def wordM (τ : XS) (w : Int) : List Int := segL (τ.2 1) (τ.2 2 w).toNat (6 * w)
def ent (τ : XS) (w : Int) : List Int × Int := (wordM τ w, τ.2 3 w)
def wsM (τ : XS) : List (List Int × Int) := segF (ent τ) (τ.1 4).toNat 0
theorem bgL_iff (lt : Int → Int) (a b : Int) : ∀ (n : Nat) (i : Int), bgL lt a b n i = true ↔ segL lt n (6 * a + i) = segL lt n (6 * b + i)
  | 0, _ => ⟨fun _ => rfl, fun _ => rfl⟩
  | n + 1, i => by
    unfold bgL segL
    rw [List.cons.injEq]
    by_cases q : lt (6 * a + i) = lt (6 * b + i)
    · rw [if_pos q, bgL_iff lt a b n (i + 1), Int.add_assoc, Int.add_assoc]
      exact ⟨fun h => ⟨q, h⟩, fun h => h.2⟩
    · rw [if_neg q]
      exact ⟨fun h => absurd h (by simp), fun h => absurd h.1 q⟩
theorem bgV_iff {τ : XS} (hok : OKm τ) (a b : Int) : bgV τ a b = true ↔ wordM τ a <+: wordM τ b := by
  have ha := hok.f2 a
  have hb := hok.f2 b
  unfold bgV wordM
  rw [segL_pf]
  have e := bgL_iff (τ.2 1) a b (τ.2 2 a).toNat 0
  rw [Int.add_zero, Int.add_zero] at e
  by_cases q : τ.2 2 b < τ.2 2 a
  · rw [if_pos q]
    exact ⟨fun h => absurd h (by simp), fun h => by exfalso; omega⟩
  · rw [if_neg q, e]
    exact ⟨fun h => ⟨by omega, h⟩, fun h => h.2⟩
theorem dfP_iff {τ : XS} (hok : OKm τ) (w : Int) : dfP τ w = true ↔ wordM τ w = wordM τ 12 := by
  have ha := hok.f2 w
  have hb := hok.f2 12
  unfold dfP
  rw [Bool.and_eq_true, decide_eq_true_iff, bgV_iff hok]
  constructor
  · rintro ⟨h1, h2⟩
    refine h2.eq_of_length ?_
    unfold wordM
    rw [segL_len, segL_len, h1]
  · intro h
    have hl := congrArg List.length h
    unfold wordM at hl
    rw [segL_len, segL_len] at hl
    exact ⟨by omega, by rw [h]; exact List.prefix_refl _⟩
theorem word_gf (τ : XS) (w : Int) {t : Nat} (h : t < (τ.2 2 w).toNat) : gf (wordM τ w) t = τ.2 1 (6 * w + (t : Int)) := by
  unfold gf wordM
  rw [List.getD_eq_getElem?_getD, segL_get _ _ _ t h]
  rfl
theorem word_len (τ : XS) (w : Int) : (wordM τ w).length = (τ.2 2 w).toNat := segL_len _ _ _
theorem ed_word (τ : XS) (w : Int) {j : Nat} (hj : j ≤ (τ.2 2 w).toNat) : edV (τ.2 1) w (τ.2 2 13).toNat j = edG (gf (wordM τ 13)) (gf (wordM τ w)) (wordM τ 13).length j := by
  rw [edV_G, word_len]
  exact edG_congr _ _ (fun t ht => (word_gf τ 13 ht).symm) (fun t ht => (word_gf τ w (by omega)).symm)
theorem rchV_D {τ : XS} (hok : OKm τ) (w : Int) : rchV τ w = rchD (wordM τ 13) (wordM τ w) := by
  have h13 := hok.f2 13
  unfold rchV rchD
  rw [word_len τ w]
  obtain ⟨⟨a1, a2⟩, a3⟩ := rcLoop_spec (edV (τ.2 1) w (τ.2 2 13).toNat) ((τ.2 2 w).toNat + 1) 0 9
  obtain ⟨b1, j, b2, b3⟩ := rcN_spec (edG (gf (wordM τ 13)) (gf (wordM τ w)) (wordM τ 13).length) (τ.2 2 w).toNat
  have c0 := a2 0 (by omega) (by omega)
  have d0 := edV_le (τ.2 1) w (τ.2 2 13).toNat 0
  have cj := a2 j (by omega) (by omega)
  rw [ed_word τ w b2] at cj
  rcases a3 with a3 | ⟨t, t1, t2, t3⟩
  · exfalso
    omega
  · have e := b1 t (by omega)
    rw [ed_word τ w (by omega)] at t3
    omega
theorem dist_word {τ : XS} (w : Int) : edV (τ.2 1) w (τ.2 2 13).toNat (τ.2 2 w).toNat = dist (wordM τ 13) (wordM τ 13).length (wordM τ w) := by
  rw [ed_word τ w (Nat.le_refl _)]
  unfold dist
  rw [word_len τ w]
theorem bfL_iff (lt : Int → Int) (a b la lb : Int) : ∀ (k : Nat) (i : Int) (n m : Nat), la = i + (n : Int) → lb = i + (m : Int) → (n ≤ k ∨ m ≤ k) → (bfL lt la lb a b k i = true ↔ dlt (segL lt n (6 * a + i)) (segL lt m (6 * b + i)))
  | 0, i, n, m, hn, hm, hk => by
    unfold bfL
    rw [decide_eq_true_iff]
    cases n with
    | zero =>
      cases m with
      | zero => exact ⟨fun h => by exfalso; omega, fun h => absurd h id⟩
      | succ m => exact ⟨fun _ => trivial, fun _ => by omega⟩
    | succ n =>
      cases m with
      | zero => exact ⟨fun h => by exfalso; omega, fun h => absurd h id⟩
      | succ m => exfalso; omega
  | k + 1, i, n, m, hn, hm, hk => by
    unfold bfL
    cases n with
    | zero =>
      rw [if_neg (by omega), decide_eq_true_iff]
      cases m with
      | zero => exact ⟨fun h => by exfalso; omega, fun h => absurd h id⟩
      | succ m => exact ⟨fun _ => trivial, fun _ => by omega⟩
    | succ n =>
      cases m with
      | zero =>
        rw [if_neg (by omega), decide_eq_true_iff]
        exact ⟨fun h => by exfalso; omega, fun h => absurd h id⟩
      | succ m =>
        rw [if_pos (by omega)]
        have ih := bfL_iff lt a b la lb k (i + 1) n m (by omega) (by omega) (by omega)
        rw [← Int.add_assoc, ← Int.add_assoc] at ih
        show _ ↔ (lt (6 * a + i) < lt (6 * b + i) ∨ (lt (6 * a + i) = lt (6 * b + i) ∧ dlt (segL lt n (6 * a + i + 1)) (segL lt m (6 * b + i + 1))))
        by_cases q : lt (6 * a + i) = lt (6 * b + i)
        · rw [if_pos q, ih]
          exact ⟨fun h => Or.inr ⟨q, h⟩, fun h => h.elim (fun z => by exfalso; omega) (fun z => z.2)⟩
        · rw [if_neg q, decide_eq_true_iff]
          exact ⟨fun h => Or.inl h, fun h => h.elim id (fun z => absurd z.1 q)⟩
theorem bfV_iff {τ : XS} (hok : OKm τ) (a b : Int) : bfV τ a b = true ↔ dlt (wordM τ a) (wordM τ b) := by
  have ha := hok.f2 a
  have hb := hok.f2 b
  have h := bfL_iff (τ.2 1) a b (τ.2 2 a) (τ.2 2 b) 6 0 (τ.2 2 a).toNat (τ.2 2 b).toNat (by omega) (by omega) (by omega)
  rw [Int.add_zero, Int.add_zero] at h
  exact h
theorem rbV_iff {τ : XS} (hok : OKm τ) (a b : Int) : rbV τ a b = true ↔ rlt (wordM τ 13) (ent τ a) (ent τ b) := by
  unfold rbV rlt ent
  rw [rchV_D hok, rchV_D hok]
  dsimp only
  by_cases q : rchD (wordM τ 13) (wordM τ a) = rchD (wordM τ 13) (wordM τ b)
  · rw [if_pos q]
    by_cases z : τ.2 3 a = τ.2 3 b
    · rw [if_pos z, bfV_iff hok]
      exact ⟨fun h => Or.inr ⟨q, Or.inr ⟨z, h⟩⟩, fun h => h.elim (fun y => by exfalso; omega) (fun y => y.2.elim (fun x => by exfalso; omega) (fun x => x.2))⟩
    · rw [if_neg z, decide_eq_true_iff]
      exact ⟨fun h => Or.inr ⟨q, Or.inl h⟩, fun h => h.elim (fun y => by exfalso; omega) (fun y => y.2.elim id (fun x => absurd x.1 z))⟩
  · rw [if_neg q, decide_eq_true_iff]
    exact ⟨fun h => Or.inl h, fun h => h.elim id (fun y => absurd y.1 q)⟩
theorem offP_iff {τ : XS} (hok : OKm τ) (w : Int) : offP τ w = true ↔ rchD (wordM τ 13) (wordM τ w) ≤ τ.1 0 := by
  unfold offP
  rw [decide_eq_true_iff, rchV_D hok]
theorem cdL_code (lt : Int → Int) (w : Int) : ∀ (n : Nat) (i c : Int), cdL lt w n i c = (segL lt n (6 * w + i)).foldl (fun c x => c * 5 + x + 1) c
  | 0, _, _ => rfl
  | n + 1, i, c => by
    unfold cdL segL
    rw [cdL_code lt w n (i + 1) _, List.foldl_cons, Int.add_assoc (6 * w)]
theorem cd_word (τ : XS) (w : Int) : cdL (τ.2 1) w (τ.2 2 w).toNat 0 0 = codeOf (wordM τ w) := by
  rw [cdL_code, Int.add_zero]
  rfl
theorem nmL_spec (τ : XS) : ∀ (k : Nat) (v b : Int), (nmL τ k v b ≤ b ∧ ∀ w, v ≤ w → w < v + (k : Int) → nmL τ k v b ≤ dist (wordM τ 13) (wordM τ 13).length (wordM τ w)) ∧ (nmL τ k v b = b ∨ ∃ w, v ≤ w ∧ w < v + (k : Int) ∧ nmL τ k v b = dist (wordM τ 13) (wordM τ 13).length (wordM τ w))
  | 0, v, b => ⟨⟨Int.le_refl _, fun w h1 h2 => by exfalso; omega⟩, Or.inl rfl⟩
  | k + 1, v, b => by
    obtain ⟨⟨h1, h2⟩, h3⟩ := nmL_spec τ k (v + 1) (minF b (dist (wordM τ 13) (wordM τ 13).length (wordM τ v)))
    have m := minF_le b (dist (wordM τ 13) (wordM τ 13).length (wordM τ v))
    unfold nmL
    rw [dist_word]
    refine ⟨⟨by omega, fun w g1 g2 => ?_⟩, ?_⟩
    · by_cases q : w = v
      · rw [q]; omega
      · exact h2 w (by omega) (by omega)
    · rcases h3 with h3 | ⟨w, g1, g2, g3⟩
      · rw [h3]
        unfold minF
        split
        · exact Or.inl rfl
        · exact Or.inr ⟨v, by omega, by omega, rfl⟩
      · exact Or.inr ⟨w, by omega, by omega, g3⟩
theorem orb_bit (a c : Int) (i : Nat) : (orb a c).toNat.testBit i = (a.toNat.testBit i || decide (c.toNat = i)) := by
  unfold orb
  rw [Int.toNat_natCast, Nat.testBit_or, Nat.testBit_two_pow]
theorem ctL_bit {τ : XS} (hok : OKm τ) (i : Nat) : ∀ (k : Nat) (v b : Int), ((ctL τ k v b).toNat.testBit i = true ↔ (b.toNat.testBit i = true ∨ ∃ w, v ≤ w ∧ w < v + (k : Int) ∧ wordM τ 13 <+: wordM τ w ∧ τ.2 2 13 < τ.2 2 w ∧ (τ.2 1 (6 * w + τ.2 2 13)).toNat = i))
  | 0, v, b => ⟨fun h => Or.inl h, fun h => h.elim id (fun ⟨w, h1, h2, _⟩ => by exfalso; omega)⟩
  | k + 1, v, b => by
    unfold ctL
    rw [ctL_bit hok i k (v + 1) _]
    by_cases q : bgV τ 13 v = true ∧ τ.2 2 13 < τ.2 2 v
    · rw [if_pos q, orb_bit, Bool.or_eq_true, decide_eq_true_iff]
      have q1 := (bgV_iff hok 13 v).mp q.1
      constructor
      · rintro ((h | h) | ⟨w, h1, h2, h3⟩)
        · exact Or.inl h
        · exact Or.inr ⟨v, by omega, by omega, q1, q.2, h⟩
        · exact Or.inr ⟨w, by omega, by omega, h3⟩
      · rintro (h | ⟨w, h1, h2, h3⟩)
        · exact Or.inl (Or.inl h)
        · by_cases z : w = v
          · rw [z] at h3
            exact Or.inl (Or.inr h3.2.2)
          · exact Or.inr ⟨w, by omega, by omega, h3⟩
    · rw [if_neg q]
      constructor
      · rintro (h | ⟨w, h1, h2, h3⟩)
        · exact Or.inl h
        · exact Or.inr ⟨w, by omega, by omega, h3⟩
      · rintro (h | ⟨w, h1, h2, h3⟩)
        · exact Or.inl h
        · by_cases z : w = v
          · rw [z] at h3
            exact absurd ⟨(bgV_iff hok 13 v).mpr h3.1, h3.2.1⟩ q
          · exact Or.inr ⟨w, by omega, by omega, h3⟩
theorem coL_bit (σ : XS) (node : Int) (i : Nat) : ∀ (k : Nat) (v b : Int), ((coLoop σ node k v b).toNat.testBit i = true ↔ (b.toNat.testBit i = true ∨ ∃ c, v ≤ c ∧ c < v + (k : Int) ∧ 0 ≤ node ∧ σ.2 7 (node * 4 + c) ≠ 0 ∧ c.toNat = i))
  | 0, v, b => ⟨fun h => Or.inl h, fun h => h.elim id (fun ⟨w, h1, h2, _⟩ => by exfalso; omega)⟩
  | k + 1, v, b => by
    unfold coLoop
    rw [coL_bit σ node i k (v + 1) _]
    by_cases q : 0 ≤ node ∧ σ.2 7 (node * 4 + v) ≠ 0
    · rw [if_pos q, orb_bit, Bool.or_eq_true, decide_eq_true_iff]
      constructor
      · rintro ((h | h) | ⟨w, h1, h2, h3⟩)
        · exact Or.inl h
        · exact Or.inr ⟨v, by omega, by omega, q.1, q.2, h⟩
        · exact Or.inr ⟨w, by omega, by omega, h3⟩
      · rintro (h | ⟨w, h1, h2, h3⟩)
        · exact Or.inl (Or.inl h)
        · by_cases z : w = v
          · rw [z] at h3
            exact Or.inl (Or.inr h3.2.2)
          · exact Or.inr ⟨w, by omega, by omega, h3⟩
    · rw [if_neg q]
      constructor
      · rintro (h | ⟨w, h1, h2, h3⟩)
        · exact Or.inl h
        · exact Or.inr ⟨w, by omega, by omega, h3⟩
      · rintro (h | ⟨w, h1, h2, h3⟩)
        · exact Or.inl h
        · by_cases z : w = v
          · rw [z] at h3
            exact absurd ⟨h3.1, h3.2.1⟩ q
          · exact Or.inr ⟨w, by omega, by omega, h3⟩
theorem ct_0 {τ : XS} : ∀ (k : Nat) (v b : Int), 0 ≤ b → 0 ≤ ctL τ k v b
  | 0, _, _, h => h
  | k + 1, v, b, h => by
    unfold ctL
    refine ct_0 k (v + 1) _ ?_
    split
    · unfold orb; omega
    · exact h
theorem co_0 {σ : XS} {node : Int} : ∀ (k : Nat) (v b : Int), 0 ≤ b → 0 ≤ coLoop σ node k v b
  | 0, _, _, h => h
  | k + 1, v, b, h => by
    unfold coLoop
    refine co_0 k (v + 1) _ ?_
    split
    · unfold orb; omega
    · exact h
theorem wsM_len {τ : XS} : (wsM τ).length = (τ.1 4).toNat := segF_len _ _ _
theorem wsM_mem {τ : XS} {x : List Int × Int} (hok : OKm τ) : x ∈ wsM τ ↔ ∃ w, 0 ≤ w ∧ w < τ.1 4 ∧ ent τ w = x := by
  have h4 := hok.i4
  unfold wsM
  rw [segF_mem]
  constructor
  · rintro ⟨j, h1, h2, h3⟩; exact ⟨j, h1, by omega, h3⟩
  · rintro ⟨j, h1, h2, h3⟩; exact ⟨j, h1, by omega, h3⟩
theorem wsM_6 {τ : XS} (hok : OKm τ) : ∀ w, w ∈ wsM τ → w.1.length ≤ 6 := fun x hx => by
  obtain ⟨w, _, _, rfl⟩ := (wsM_mem hok).mp hx
  have h := hok.f2 w
  show (wordM τ w).length ≤ 6
  rw [word_len]
  omega
end
section
/-! BOTH SIDES TOGETHER: what holds between the state σ of FuzzyTypeahead and the state τ of the model; the questions answer alike -/
set_option maxRecDepth 100000
def BASE (σ τ : XS) (pth : Int → List Int) : Prop :=
  OKm τ ∧ σ.1 0 = τ.1 0 ∧ (σ.1 1 = τ.2 2 12 ∧ ∀ i, 0 ≤ i → i < σ.1 1 → σ.2 2 i = τ.2 1 (72 + i)) ∧ (σ.1 3 = τ.2 2 13 ∧ ∀ i, 0 ≤ i → i < σ.1 3 → σ.2 4 i = τ.2 1 (78 + i)) ∧
  TREE σ pth (wsM τ) [] ∧ (σ.1 5 = τ.1 4 ∧ σ.2 6 0 = τ.1 4) ∧ ((wsM τ).map Prod.fst).Nodup ∧ (∀ w, w ∈ wsM τ → w.1 ≠ []) ∧ ((∀ n, 0 ≤ σ.2 9 n ∧ σ.2 9 n ≤ 3) ∧ (∀ n, 0 ≤ σ.2 2 n ∧ σ.2 2 n ≤ 3) ∧ (∀ n, 0 ≤ σ.2 4 n ∧ σ.2 4 n ≤ 3))
/-- the layers stand too -/
def PRE (σ τ : XS) (pth : Int → List Int) : Prop := BASE σ τ pth ∧ LAYS σ pth (wordM τ 13) (wordM τ 13).length
/-- and the ranks -/
def INV (σ τ : XS) (pth : Int → List Int) : Prop := PRE σ τ pth ∧ ∃ V, RK σ pth (wordM τ 13) V ∧ ∀ m, m ∈ V ↔ inT σ m
theorem qlen {σ τ : XS} {pth : Int → List Int} (h : BASE σ τ pth) : σ.1 3 = ((wordM τ 13).length : Int) := by
  have h2 := h.1.f2 13
  rw [word_len, h.2.2.2.1.1]
  omega
theorem qseg {σ τ : XS} {pth : Int → List Int} (h : BASE σ τ pth) : segL (σ.2 4) (σ.1 3).toNat 0 = wordM τ 13 := by
  unfold wordM
  rw [← h.2.2.2.1.1]
  refine segL_shift _ 0 (6 * 13) (fun t a b => ?_)
  rw [Int.zero_add]
  exact h.2.2.2.1.2 t a (by omega)
theorem dseg {σ τ : XS} {pth : Int → List Int} (h : BASE σ τ pth) : segL (σ.2 2) (σ.1 1).toNat 0 = wordM τ 12 := by
  unfold wordM
  rw [← h.2.2.1.1]
  refine segL_shift _ 0 (6 * 12) (fun t a b => ?_)
  rw [Int.zero_add]
  exact h.2.2.1.2 t a (by omega)
theorem ws12 {σ τ : XS} {pth : Int → List Int} (h : BASE σ τ pth) : (wsM τ).length ≤ 12 := by
  have h4 := h.1.i4
  rw [wsM_len]
  omega
theorem BASE.rank {σ τ : XS} {pth : Int → List Int} (h : BASE σ τ pth) : BASE (rankF σ) τ pth := by
  obtain ⟨k1, k2⟩ := rank_keep σ
  have e : ∀ q : Nat, q < 13 → (rankF σ).2 q = σ.2 q := fun q hq => k2 q (by omega) (by omega) (by omega) (by omega)
  obtain ⟨h1, h2, h3, h4, h5, h6, h7, h8, h9⟩ := h
  refine ⟨h1, by rw [k1 0 (by omega)]; exact h2, by rw [k1 1 (by omega), e 2 (by omega)]; exact h3, by rw [k1 3 (by omega), e 4 (by omega)]; exact h4, h5.of (fun n _ => by rw [e 6 (by omega)]) (e 7 (by omega)) (e 8 (by omega)) (e 9 (by omega)) (e 10 (by omega)) (e 11 (by omega)) (e 12 (by omega)), by rw [k1 5 (by omega), e 6 (by omega)]; exact h6, h7, h8, by rw [e 9 (by omega), e 2 (by omega), e 4 (by omega)]; exact h9⟩
/-- rank makes the ranks -/
theorem PRE.rank {σ τ : XS} {pth : Int → List Int} (h : PRE σ τ pth) : rankOK σ ∧ INV (rankF σ) τ pth := by
  obtain ⟨k1, k2⟩ := rank_keep σ
  obtain ⟨i1, V, i2, i3⟩ := RANK h.1.2.2.2.2.1 (ws12 h.1) h.1.2.2.2.2.2.2.2.2.1 h.2 (qlen h.1)
  have e6 : (rankF σ).2 6 = σ.2 6 := k2 6 (by omega) (by omega) (by omega) (by omega)
  refine ⟨i1, ⟨h.1.rank, h.2.of (k1 0 (by omega)) e6 (k2 13 (by omega) (by omega) (by omega) (by omega))⟩, V, i2, fun m => ?_⟩
  rw [i3 m]
  exact (inT_of e6 m).symm
theorem BASE.lay {σ τ : XS} {pth : Int → List Int} (h : BASE σ τ pth) : PRE (layP σ) τ pth := by
  obtain ⟨k1, k2⟩ := layP_keep σ
  have ql := qlen h
  have qs := qseg h
  have hL : LAYS (layP σ) pth (wordM τ 13) (σ.1 3).toNat := LAYS.lay h.2.2.2.2.1 (wsM_6 h.1) (fun t ht => by
    rw [← qs]
    exact segL_gf _ ht)
  have el : (wordM τ 13).length = (σ.1 3).toNat := by omega
  obtain ⟨h1, h2, h3, h4, h5, h6, h7, h8, h9⟩ := h
  refine ⟨⟨h1, by rw [k1]; exact h2, by rw [k1, k2 2 (by omega)]; exact h3, by rw [k1, k2 4 (by omega)]; exact h4, h5.keep k2, by rw [k1, k2 6 (by omega)]; exact h6, h7, h8, by rw [k2 9 (by omega), k2 2 (by omega), k2 4 (by omega)]; exact h9⟩, ?_⟩
  rw [el]
  exact hL
theorem BASE.layA {σ τ : XS} {pth : Int → List Int} (h : BASE σ τ pth) : rankOK (layP σ) ∧ INV (layF σ) τ pth := h.lay.rank
theorem word_same {τ u : XS} (g : sameM τ u) (w : Int) : wordM u w = wordM τ w := by
  unfold wordM
  rw [g.2.1, g.2.2.1]
theorem wsM_same {τ u : XS} (g : sameM τ u) : wsM u = wsM τ := by
  have e : ent u = ent τ := by
    funext w
    unfold ent
    rw [word_same g, g.2.2.2]
  unfold wsM
  rw [e, g.1]
theorem INV.same {σ τ u : XS} {pth : Int → List Int} (h : INV σ τ pth) (g : sameM τ u) : INV σ u pth := by
  obtain ⟨⟨⟨h1, h2, h3, h4, h5, h6, h7, h8, h9⟩, h10⟩, V, h11, h12⟩ := h
  refine ⟨⟨⟨h1.same g, by rw [g.1]; exact h2, by rw [g.2.1, g.2.2.1]; exact h3, by rw [g.2.1, g.2.2.1]; exact h4, by rw [wsM_same g]; exact h5, by rw [g.1]; exact h6, by rw [wsM_same g]; exact h7, by rw [wsM_same g]; exact h8, h9⟩, by rw [word_same g]; exact h10⟩, V, by rw [word_same g]; exact h11, h12⟩
theorem map_nodup {Ws : List (List Int × Int)} (h : (Ws.map Prod.fst).Nodup) : Ws.Nodup := by
  rw [List.nodup_iff_pairwise_ne, List.pairwise_map] at h
  exact h.imp (fun {a b} g e => g (by rw [e]))
theorem fst_inj {Ws : List (List Int × Int)} (h : (Ws.map Prod.fst).Nodup) {p : List Int} {u v : Int} (hu : (p, u) ∈ Ws) (hv : (p, v) ∈ Ws) : u = v := by
  induction Ws with
  | nil => exact absurd hu List.not_mem_nil
  | cons x Ws ih =>
    rw [List.map_cons, List.nodup_cons] at h
    rcases List.mem_cons.mp hu with a | a <;> rcases List.mem_cons.mp hv with b | b
    · rw [← a] at b
      exact (congrArg Prod.snd b).symm
    · exact absurd (List.mem_map.mpr ⟨_, b, by rw [← a]⟩) h.1
    · exact absurd (List.mem_map.mpr ⟨_, a, by rw [← b]⟩) h.1
    · exact ih h.2 a b
/-- a word of the model has its node -/
theorem BASE.node {σ τ : XS} {pth : Int → List Int} (h : BASE σ τ pth) {w : Int} (h0 : 0 ≤ w) (h1 : w < τ.1 4) : ∃ n, inT σ n ∧ n ≠ 0 ∧ pth n = wordM τ w ∧ σ.2 12 n = τ.2 3 w := by
  have hm : ent τ w ∈ wsM τ := (wsM_mem h.1).mpr ⟨w, h0, h1, rfl⟩
  have hne : wordM τ w ≠ [] := h.2.2.2.2.2.2.2.1 _ hm
  have hT := h.2.2.2.2.1
  obtain ⟨n, g1, g2⟩ := hT.2.2.2.2.2.2.2.1 (wordM τ w) hne (Or.inl ⟨_, hm, List.prefix_refl _⟩)
  have n0 : n ≠ 0 := fun z => hne (by rw [← g2]; exact (hT.ne g1).mp z)
  refine ⟨n, g1, n0, g2, ?_⟩
  rcases hT.2.2.2.2.2.2.2.2 n g1 n0 with ⟨wt, k1, k2⟩ | ⟨k1, _⟩
  · rw [k2]
    rw [g2] at k1
    exact fst_inj h.2.2.2.2.2.2.1 k1 hm
  · rw [g2] at k1
    exact absurd hm (k1 _)
/-- the ranks as a list -/
def rkL (σ : XS) (pth : Int → List Int) : List (List Int × Int) := segF (fun i => key σ pth (σ.2 15 i)) (σ.1 14).toNat 0
theorem INV.rkl {σ τ : XS} {pth : Int → List Int} (h : INV σ τ pth) : (rkL σ pth).Perm ((wsM τ).filter (fun x => decide (rchD (wordM τ 13) x.1 ≤ τ.1 0))) := by
  obtain ⟨⟨hB, _⟩, V, ⟨r1, r2, r3, r4⟩, hV⟩ := h
  have hT := hB.2.2.2.2.1
  have e0 := hB.2.1
  refine (List.perm_ext_iff_of_nodup ?_ ?_).mpr (fun x => ?_)
  · refine (segF_pw (R := rlt (wordM τ 13)) _ _ (fun a b h1 h2 h3 => r3 a b h1 h2 (by omega))).imp (fun {a b} g e => ?_)
    rw [e] at g
    exact rlt_irr _ _ g
  · exact (map_nodup hB.2.2.2.2.2.2.1).sublist List.filter_sublist
  · unfold rkL
    rw [segF_mem, List.mem_filter, decide_eq_true_iff]
    constructor
    · rintro ⟨j, h1, h2, rfl⟩
      obtain ⟨g1, g2, g3⟩ := r2 j h1 (by omega)
      have gi := (hV _).mp g1
      refine ⟨hT.word gi g2.1 g2.2.1, ?_⟩
      rw [← e0]
      exact g2.2.2
    · rintro ⟨h1, h2⟩
      obtain ⟨w, w1, w2, rfl⟩ := (wsM_mem hB.1).mp h1
      obtain ⟨n, n1, n2, n3, n4⟩ := hB.node w1 w2
      have q3 := hB.1.f3 w
      obtain ⟨k, k1, k2, k3⟩ := r4 n ((hV n).mpr n1) ⟨n2, by rw [n4]; exact q3.1, by rw [n3, e0]; exact h2⟩
      refine ⟨k, k1, by omega, ?_⟩
      rw [k3]
      unfold key ent
      rw [n3, n4]
/-- offered -/
theorem INV.offered {σ τ : XS} {pth : Int → List Int} (h : INV σ τ pth) : σ.1 14 = ofV τ := by
  have hp := h.rkl.length_eq
  obtain ⟨⟨hB, _⟩, V, ⟨r1, _⟩, _⟩ := h
  unfold rkL at hp
  rw [segF_len, ← List.countP_eq_length_filter] at hp
  unfold ofV
  rw [cntL_seg (ent τ) (offP τ) (fun x => decide (rchD (wordM τ 13) x.1 ≤ τ.1 0)) _ _ _ (fun j _ _ => by
    rw [Bool.eq_iff_iff, offP_iff hB.1, decide_eq_true_iff]
    exact Iff.rfl)]
  unfold wsM at hp
  omega
noncomputable def rltD (Q : List Int) (y x : List Int × Int) : Bool := @decide (rlt Q x y) (Classical.propDecidable _)
theorem rltD_iff {Q : List Int} {x y : List Int × Int} : rltD Q y x = true ↔ rlt Q x y := @decide_eq_true_iff _ (Classical.propDecidable _)
/-- the rank of the one at rank k is k -/
theorem INV.rk {σ τ : XS} {pth : Int → List Int} (h : INV σ τ pth) {w k : Int} (h0 : 0 ≤ k) (h1 : k < σ.1 14) (hw : ent τ w = key σ pth (σ.2 15 k)) : rkV τ w = k := by
  have hp := h.rkl.countP_eq (rltD (wordM τ 13) (ent τ w))
  obtain ⟨⟨hB, _⟩, V, ⟨r1, r2, r3, r4⟩, hV⟩ := h
  rw [List.countP_filter] at hp
  have e1 : rkV τ w = 0 + (((wsM τ).countP (fun a => rltD (wordM τ 13) (ent τ w) a && decide (rchD (wordM τ 13) a.1 ≤ τ.1 0)) : Nat) : Int) := by
    unfold rkV wsM
    refine cntL_seg (ent τ) (rkP τ w) _ _ _ _ (fun j _ _ => ?_)
    unfold rkP
    rw [Bool.eq_iff_iff, Bool.and_eq_true, Bool.and_eq_true, offP_iff hB.1, rbV_iff hB.1, rltD_iff, decide_eq_true_iff]
    exact And.comm
  have e2 : (rkL σ pth).countP (rltD (wordM τ 13) (ent τ w)) = k.toNat := by
    have es : (σ.1 14).toNat = k.toNat + ((σ.1 14).toNat - k.toNat) := by omega
    unfold rkL
    rw [es, segF_app, List.countP_append]
    have c1 : (segF (fun i => key σ pth (σ.2 15 i)) k.toNat 0).countP (rltD (wordM τ 13) (ent τ w)) = k.toNat := by
      have g := List.countP_eq_length (p := rltD (wordM τ 13) (ent τ w)) (l := segF (fun i => key σ pth (σ.2 15 i)) k.toNat 0)
      rw [segF_len] at g
      refine g.mpr (fun x hx => ?_)
      obtain ⟨j, j1, j2, j3⟩ := (segF_mem _ _).mp hx
      rw [rltD_iff, ← j3, hw]
      exact r3 j k j1 (by omega) h1
    have c2 : (segF (fun i => key σ pth (σ.2 15 i)) ((σ.1 14).toNat - k.toNat) (0 + (k.toNat : Int))).countP (rltD (wordM τ 13) (ent τ w)) = 0 := by
      refine List.countP_eq_zero.mpr (fun x hx y => ?_)
      obtain ⟨j, j1, j2, j3⟩ := (segF_mem _ _).mp hx
      rw [rltD_iff, ← j3, hw] at y
      by_cases q : j = k
      · rw [q] at y
        exact rlt_irr _ _ y
      · exact rlt_irr _ _ (rlt_tr y (r3 k j h0 (by omega) (by omega)))
    rw [c1, c2]
    rfl
  rw [e1, ← hp, e2]
  omega
/-- the word at a rank -/
theorem INV.wa {σ τ : XS} {pth : Int → List Int} (h : INV σ τ pth) (r : Int) : ((r < 0 ∨ σ.1 14 ≤ r) ∧ waV τ r = -4) ∨ (¬ (r < 0 ∨ σ.1 14 ≤ r) ∧ waV τ r ≠ -4 ∧ ent τ (waV τ r) = key σ pth (σ.2 15 r)) := by
  have hk := fun w k h0 h1 hw => h.rk (w := w) (k := k) h0 h1 hw
  have hp := h.rkl
  have hB := h.1.1
  obtain ⟨_, V, ⟨r1, _⟩, _⟩ := h
  have h4 := hB.1.i4
  have hit : ∀ w, 0 ≤ w → w < τ.1 4 → waP τ r w = true → (0 ≤ r ∧ r < σ.1 14) ∧ ent τ w = key σ pth (σ.2 15 r) := fun w w0 w1 hw => by
    unfold waP at hw
    rw [Bool.and_eq_true, offP_iff hB.1, decide_eq_true_iff] at hw
    have hm : ent τ w ∈ rkL σ pth := hp.mem_iff.mpr (List.mem_filter.mpr ⟨(wsM_mem hB.1).mpr ⟨w, w0, w1, rfl⟩, decide_eq_true hw.1⟩)
    obtain ⟨j, j1, j2, j3⟩ := (segF_mem _ _).mp hm
    have g := hk w j j1 (by omega) j3.symm
    have e : j = r := by rw [← g]; exact hw.2
    rw [e] at j1 j2 j3
    exact ⟨⟨j1, by omega⟩, j3.symm⟩
  unfold waV
  rcases fstL_spec (waP τ r) (τ.1 4).toNat 0 (by omega) with ⟨f1, f2⟩ | ⟨f1, f2, f3⟩
  · refine Or.inl ⟨?_, f1⟩
    by_cases q : r < 0 ∨ σ.1 14 ≤ r
    · exact q
    · exfalso
      have hm : key σ pth (σ.2 15 r) ∈ rkL σ pth := (segF_mem _ _).mpr ⟨r, by omega, by omega, rfl⟩
      have hm2 := List.mem_filter.mp (hp.mem_iff.mp hm)
      obtain ⟨w, w1, w2, w3⟩ := (wsM_mem hB.1).mp hm2.1
      refine f2 w (by omega) (by omega) ?_
      unfold waP
      rw [Bool.and_eq_true, offP_iff hB.1, decide_eq_true_iff]
      refine ⟨?_, hk w r (by omega) (by omega) w3⟩
      have g := of_decide_eq_true hm2.2
      rw [← w3] at g
      exact g
  · obtain ⟨g1, g2⟩ := hit _ f1 (by omega) f3
    exact Or.inr ⟨by omega, by omega, g2⟩
theorem INV.rin {σ τ : XS} {pth : Int → List Int} (h : INV σ τ pth) {r : Int} (hr : ¬ (r < 0 ∨ σ.1 14 ≤ r)) : inT σ (σ.2 15 r) ∧ σ.2 16 r = rchD (wordM τ 13) (pth (σ.2 15 r)) := by
  obtain ⟨_, V, ⟨r1, r2, _⟩, hV⟩ := h
  obtain ⟨g1, _, g3⟩ := r2 r (by omega) (by omega)
  exact ⟨(hV _).mp g1, g3⟩
theorem INV.offer {σ τ : XS} {pth : Int → List Int} (h : INV σ τ pth) (r : Int) : (if r < 0 ∨ σ.1 14 ≤ r then -4 else σ.2 11 (σ.2 15 r)) = if waV τ r = -4 then -4 else cdL (τ.2 1) (waV τ r) (τ.2 2 (waV τ r)).toNat 0 0 := by
  rcases h.wa r with ⟨h1, h2⟩ | ⟨h1, h2, h3⟩
  · rw [if_pos h1, if_pos h2]
  · rw [if_neg h1, if_neg h2, cd_word, ((h.1.1.2.2.2.2.1).2.2.1 _ (h.rin h1).1).2]
    exact congrArg codeOf (congrArg Prod.fst h3).symm
theorem INV.distance {σ τ : XS} {pth : Int → List Int} (h : INV σ τ pth) (r : Int) : (if r < 0 ∨ σ.1 14 ≤ r then -4 else σ.2 16 r) = if waV τ r = -4 then -4 else rchV τ (waV τ r) := by
  rcases h.wa r with ⟨h1, h2⟩ | ⟨h1, h2, h3⟩
  · rw [if_pos h1, if_pos h2]
  · rw [if_neg h1, if_neg h2, rchV_D h.1.1.1, (h.rin h1).2]
    exact congrArg (rchD _) (congrArg Prod.fst h3).symm
theorem INV.weightAt {σ τ : XS} {pth : Int → List Int} (h : INV σ τ pth) (r : Int) : (if r < 0 ∨ σ.1 14 ≤ r then -4 else σ.2 12 (σ.2 15 r)) = if waV τ r = -4 then -4 else τ.2 3 (waV τ r) := by
  rcases h.wa r with ⟨h1, h2⟩ | ⟨h1, h2, h3⟩
  · rw [if_pos h1, if_pos h2]
  · rw [if_neg h1, if_neg h2]
    exact (congrArg Prod.snd h3).symm
theorem nrL_spec (σ : XS) : ∀ (k : Nat) (v b : Int), (nrLoop σ k v b ≤ b ∧ ∀ n, v ≤ n → n < v + (k : Int) → (0 < σ.2 6 n ∧ 0 ≤ σ.2 12 n) → nrLoop σ k v b ≤ σ.2 13 (σ.1 3 * 80 + n)) ∧ (nrLoop σ k v b = b ∨ ∃ n, v ≤ n ∧ n < v + (k : Int) ∧ (0 < σ.2 6 n ∧ 0 ≤ σ.2 12 n) ∧ nrLoop σ k v b = σ.2 13 (σ.1 3 * 80 + n))
  | 0, v, b => ⟨⟨Int.le_refl _, fun w h1 h2 => by exfalso; omega⟩, Or.inl rfl⟩
  | k + 1, v, b => by
    unfold nrLoop
    by_cases q : 0 < σ.2 6 v ∧ 0 ≤ σ.2 12 v ∧ σ.2 13 (σ.1 3 * 80 + v) < b
    · rw [if_pos q]
      obtain ⟨⟨h1, h2⟩, h3⟩ := nrL_spec σ k (v + 1) (σ.2 13 (σ.1 3 * 80 + v))
      refine ⟨⟨by omega, fun n g1 g2 g3 => ?_⟩, ?_⟩
      · by_cases z : n = v
        · rw [z]; exact h1
        · exact h2 n (by omega) (by omega) g3
      · rcases h3 with h3 | ⟨n, g1, g2, g3⟩
        · exact Or.inr ⟨v, by omega, by omega, ⟨q.1, q.2.1⟩, h3⟩
        · exact Or.inr ⟨n, by omega, by omega, g3⟩
    · rw [if_neg q]
      obtain ⟨⟨h1, h2⟩, h3⟩ := nrL_spec σ k (v + 1) b
      refine ⟨⟨h1, fun n g1 g2 g3 => ?_⟩, ?_⟩
      · by_cases z : n = v
        · rw [z] at g3 ⊢; omega
        · exact h2 n (by omega) (by omega) g3
      · rcases h3 with h3 | ⟨n, g1, g2, g3⟩
        · exact Or.inl h3
        · exact Or.inr ⟨n, by omega, by omega, g3⟩
theorem capk_top (k d : Int) : capk k d ≤ k + 1 := by unfold capk; split <;> omega
theorem capk_mono {k a b : Int} (h : a ≤ b) : capk k a ≤ capk k b := by
  unfold capk
  repeat' split
  all_goals omega
theorem PRE.near {σ τ : XS} {pth : Int → List Int} (h : PRE σ τ pth) {n : Int} (hn : inT σ n) : σ.2 13 (σ.1 3 * 80 + n) = capk (σ.1 0) (dist (wordM τ 13) (wordM τ 13).length (pth n)) := by
  rw [qlen h.1]
  exact h.2 _ (Nat.le_refl _) n hn
theorem PRE.nearest {σ τ : XS} {pth : Int → List Int} (h : PRE σ τ pth) : nrF σ = nmV τ := by
  have hB := h.1
  have h0 := hB.1.i0
  have e0 := hB.2.1
  have h4 := hB.1.i4
  have hT := hB.2.2.2.2.1
  obtain ⟨⟨a1, a2⟩, a3⟩ := nrL_spec σ 79 1 (σ.1 0 + 1)
  obtain ⟨⟨b1, b2⟩, b3⟩ := nmL_spec τ (τ.1 4).toNat 0 9
  have key1 : nrLoop σ 79 1 (σ.1 0 + 1) ≤ capk (σ.1 0) (nmL τ (τ.1 4).toNat 0 9) := by
    rcases b3 with b3 | ⟨w, w1, w2, w3⟩
    · rw [b3]
      have e : capk (σ.1 0) 9 = σ.1 0 + 1 := by unfold capk; rw [if_pos (by omega)]
      rw [e]
      exact a1
    · obtain ⟨n, n1, n2, n3, n4⟩ := hB.node w1 (by omega)
      have q3 := hB.1.f3 w
      have g := a2 n (by have := n1.1; omega) (by have := n1.2.1; omega) ⟨n1.2.2.resolve_left n2, by rw [n4]; exact q3.1⟩
      rw [h.near n1, n3, ← w3] at g
      exact g
  have key2 : capk (σ.1 0) (nmL τ (τ.1 4).toNat 0 9) ≤ nrLoop σ 79 1 (σ.1 0 + 1) := by
    rcases a3 with a3 | ⟨n, n1, n2, n3, n4⟩
    · rw [a3]
      exact capk_top _ _
    · have hi : inT σ n := ⟨by omega, by omega, Or.inr n3.1⟩
      have hw := hT.word hi (by omega) n3.2
      obtain ⟨w, w1, w2, w3⟩ := (wsM_mem hB.1).mp hw
      have g := b2 w w1 (by omega)
      rw [n4, h.near hi]
      have e : wordM τ w = pth n := congrArg Prod.fst w3
      rw [e] at g
      exact capk_mono g
  have e : nrLoop σ 79 1 (σ.1 0 + 1) = capk (σ.1 0) (nmL τ (τ.1 4).toNat 0 9) := Int.le_antisymm key1 key2
  unfold nrF nmV
  rw [e, ← e0]
  by_cases q : nmL τ (τ.1 4).toNat 0 9 ≤ σ.1 0
  · rw [if_pos q, capk_eq q, if_neg (by omega)]
  · rw [if_neg q, if_pos]
    rcases Int.lt_or_le (σ.1 0) (capk (σ.1 0) (nmL τ (τ.1 4).toNat 0 9)) with y | y
    · exact y
    · exact absurd (capk_le.mp y) q
/-- the query's node -/
theorem BASE.qnode {σ τ : XS} {pth : Int → List Int} (h : BASE σ τ pth) : (inT σ (qyNode σ) ∧ pth (qyNode σ) = wordM τ 13) ∨ (qyNode σ = -1 ∧ ∀ m, inT σ m → pth m ≠ wordM τ 13) := by
  have hT := h.2.2.2.2.1
  have g := hT.walk h.2.2.2.2.2.2.2.2.2.2 (σ.1 3).toNat 0 0 (inT_0 σ)
  rw [hT.1, List.nil_append, qseg h] at g
  exact g
theorem BASE.dno {σ τ : XS} {pth : Int → List Int} (h : BASE σ τ pth) : (inT σ (adThere σ) ∧ pth (adThere σ) = wordM τ 12) ∨ (adThere σ = -1 ∧ ∀ m, inT σ m → pth m ≠ wordM τ 12) := by
  have hT := h.2.2.2.2.1
  have g := hT.walk h.2.2.2.2.2.2.2.2.2.1 (σ.1 1).toNat 0 0 (inT_0 σ)
  rw [hT.1, List.nil_append, dseg h] at g
  exact g
theorem wcnt_nil (Ws : List (List Int × Int)) : wcnt Ws [] = (Ws.length : Int) := by
  unfold wcnt
  have e : Ws.countP (fun w => ([] : List Int).isPrefixOf w.1) = Ws.length := List.countP_eq_length.mpr (fun x _ => rfl)
  rw [e]
theorem exV_w {τ : XS} (hok : OKm τ) : exV τ = wcnt (wsM τ) (wordM τ 13) := by
  unfold exV wcnt wsM
  rw [cntL_seg (ent τ) (fun w => bgV τ 13 w) (fun x => (wordM τ 13).isPrefixOf x.1) _ _ _ (fun j _ _ => by
    rw [Bool.eq_iff_iff, bgV_iff hok, ispf]
    exact Iff.rfl)]
  omega
theorem BASE.exa {σ τ : XS} {pth : Int → List Int} (h : BASE σ τ pth) : (if qyNode σ < 0 then 0 else σ.2 6 (qyNode σ)) = exV τ := by
  have hT := h.2.2.2.2.1
  have h4 := h.1.i4
  rw [exV_w h.1]
  rcases h.qnode with ⟨g1, g2⟩ | ⟨g1, g2⟩
  · rw [if_neg (by have := g1.1; omega)]
    by_cases z : qyNode σ = 0
    · have e := (hT.ne g1).mp z
      rw [g2] at e
      rw [z, e, wcnt_nil, wsM_len, h.2.2.2.2.2.1.2]
      omega
    · rw [hT.2.2.2.2.2.1 _ g1 z, g2, ph_nil]
      · omega
      · intro e
        exact z ((hT.ne g1).mpr (by rw [g2, e]))
  · rw [if_pos (by omega)]
    rcases Int.lt_or_le 0 (wcnt (wsM τ) (wordM τ 13)) with q | q
    · exfalso
      by_cases e : wordM τ 13 = []
      · exact g2 0 (inT_0 σ) (by rw [hT.1, e])
      · obtain ⟨n, k1, k2⟩ := hT.2.2.2.2.2.2.2.1 _ e (Or.inl (wcnt_pos.mp q))
        exact g2 n k1 k2
    · have := wcnt_0 (wsM τ) (wordM τ 13)
      omega
theorem next_iff {τ : XS} (hok : OKm τ) (w c : Int) : (wordM τ 13 <+: wordM τ w ∧ τ.2 2 13 < τ.2 2 w ∧ τ.2 1 (6 * w + τ.2 2 13) = c) ↔ wordM τ 13 ++ [c] <+: wordM τ w := by
  have h13 := hok.f2 13
  have hw := hok.f2 w
  constructor
  · rintro ⟨h1, h2, h3⟩
    obtain ⟨r, hr⟩ := h1
    have hl := congrArg List.length hr
    rw [List.length_append, word_len, word_len] at hl
    cases r with
    | nil =>
      rw [List.length_nil] at hl
      omega
    | cons d r =>
      have e : d = c := by
        have g := word_gf τ w (t := (τ.2 2 13).toNat) (by omega)
        have e2 : ((τ.2 2 13).toNat : Int) = τ.2 2 13 := by omega
        rw [e2, h3, ← hr] at g
        unfold gf at g
        rw [List.getD_eq_getElem?_getD, List.getElem?_append_right (by rw [word_len]; omega), word_len] at g
        simpa using g
      rw [← e]
      exact ⟨r, by rw [← hr]; simp⟩
  · rintro ⟨r, hr⟩
    have hl := congrArg List.length hr
    rw [List.length_append, List.length_append, word_len, word_len, List.length_singleton] at hl
    refine ⟨⟨c :: r, by rw [← hr]; simp⟩, by omega, ?_⟩
    have g := word_gf τ w (t := (τ.2 2 13).toNat) (by omega)
    have e2 : ((τ.2 2 13).toNat : Int) = τ.2 2 13 := by omega
    rw [e2] at g
    rw [← g, ← hr]
    unfold gf
    rw [List.append_assoc, List.getD_eq_getElem?_getD, List.getElem?_append_right (by rw [word_len]; omega), word_len]
    simp
theorem BASE.continues {σ τ : XS} {pth : Int → List Int} (h : BASE σ τ pth) : coLoop σ (qyNode σ) 4 0 0 = ctL τ (τ.1 4).toNat 0 0 := by
  have hT := h.2.2.2.2.1
  have h4 := h.1.i4
  have hx := co_0 (σ := σ) (node := qyNode σ) 4 0 0 (Int.le_refl 0)
  have hy := ct_0 (τ := τ) (τ.1 4).toNat 0 0 (Int.le_refl 0)
  have hb : (coLoop σ (qyNode σ) 4 0 0).toNat = (ctL τ (τ.1 4).toNat 0 0).toNat := by
    refine Nat.eq_of_testBit_eq (fun i => ?_)
    rw [Bool.eq_iff_iff, coL_bit, ctL_bit h.1]
    refine or_congr Iff.rfl ?_
    constructor
    · rintro ⟨c, c1, c2, c3, c4, c5⟩
      rcases h.qnode with ⟨g1, g2⟩ | ⟨g1, _⟩
      · rcases hT.2.2.2.2.1 _ c g1 (by omega) with ⟨k1, _⟩ | ⟨_, k2, k3⟩
        · exact absurd k1 c4
        · rw [g2] at k3
          have n0 : σ.2 7 (qyNode σ * 4 + c) ≠ 0 := c4
          rcases hT.pre k2 n0 with ⟨x, x1, x2⟩ | x
          · obtain ⟨w, w1, w2, rfl⟩ := (wsM_mem h.1).mp x1
            rw [k3] at x2
            have g := (next_iff h.1 w c).mpr x2
            exact ⟨w, w1, by omega, g.1, g.2.1, by rw [g.2.2]; exact c5⟩
          · rw [List.prefix_nil.mp x] at k3
            exact absurd k3.symm (by simp)
      · omega
    · rintro ⟨w, w1, w2, w3, w4, w5⟩
      have q1 := h.1.f1 (6 * w + τ.2 2 13)
      have g := (next_iff h.1 w _).mp ⟨w3, w4, rfl⟩
      have hm : ent τ w ∈ wsM τ := (wsM_mem h.1).mpr ⟨w, w1, by omega, rfl⟩
      obtain ⟨n, n1, n2⟩ := hT.2.2.2.2.2.2.2.1 _ (by simp) (Or.inl ⟨_, hm, g⟩)
      obtain ⟨m, m1, m2⟩ := hT.closed n1 (p := wordM τ 13) (by rw [n2]; exact List.prefix_append _ _)
      rcases h.qnode with ⟨g1, g2⟩ | ⟨g1, g2⟩
      · refine ⟨_, q1.1, by omega, g1.1, ?_, w5⟩
        rcases hT.2.2.2.2.1 _ _ g1 q1 with ⟨_, k2⟩ | ⟨k1, _, _⟩
        · rw [g2] at k2
          exact absurd n2 (k2 n n1)
        · exact k1
      · exact absurd m2 (g2 m m1)
  omega
end
section
/-! BOTH SIDES TOGETHER: the calls that change something -/
set_option maxRecDepth 100000
def ST (B : Int) (σ τ : XS) : Prop := OKx B σ ∧ ∃ pth, INV σ τ pth
theorem ST.okm {B : Int} {σ τ : XS} (h : ST B σ τ) : OKm τ := by
  obtain ⟨_, _, h⟩ := h
  exact h.1.1.1
theorem ST.up {B C : Int} {σ τ u : XS} (h : ST B σ τ) (hC : B ≤ C) (g : sameM τ u) : ST C σ u := by
  obtain ⟨h1, pth, h2⟩ := h
  exact ⟨h1.mono hC, pth, h2.same g⟩
theorem word_upd {τ u : XS} {w : Int} (h2 : u.2 2 w = τ.2 2 w) (h1 : ∀ t : Int, 0 ≤ t → t < ((τ.2 2 w).toNat : Int) → u.2 1 (6 * w + t) = τ.2 1 (6 * w + t)) : wordM u w = wordM τ w := by
  unfold wordM
  rw [h2]
  exact segL_shift _ _ _ h1
theorem wsM_upd {τ u : XS} (h4 : u.1 4 = τ.1 4) (hok : OKm τ) (h : ∀ w, 0 ≤ w → w < τ.1 4 → ent u w = ent τ w) : wsM u = wsM τ := by
  have q := hok.i4
  unfold wsM
  rw [h4]
  exact segF_congr _ _ (fun j a b => h j a (by omega))
theorem ap_word {τ : XS} (hok : OKm τ) {l a : Int} (hl : τ.2 2 l ≤ 5) {w : Int} (hw : w ≠ l) : wordM (apM τ l a) w = wordM τ w := by
  have q1 := hok.f2 l
  have q2 := hok.f2 w
  refine word_upd ?_ (fun t t1 t2 => ?_)
  · show fU (τ.2 2) l _ w = _
    exact fU_n hw
  · show fU (τ.2 1) _ _ _ = _
    exact fU_n (by omega)
theorem ap_self {τ : XS} (hok : OKm τ) {l a : Int} : wordM (apM τ l a) l = wordM τ l ++ [a] := by
  have q1 := hok.f2 l
  have e2 : (apM τ l a).2 2 l = τ.2 2 l + 1 := fU_s _ _ _
  have e1 : (apM τ l a).2 1 = fU (τ.2 1) (6 * l + τ.2 2 l) a := rfl
  have en : (τ.2 2 l + 1).toNat = (τ.2 2 l).toNat + 1 := by omega
  have ei : ((τ.2 2 l).toNat : Int) = τ.2 2 l := by omega
  unfold wordM
  rw [e2, e1, en, segL_snoc, ei, fU_s]
  rw [segL_congr (q := fU (τ.2 1) (6 * l + τ.2 2 l) a) (q' := τ.2 1) _ _ (fun j a b => fU_n (by omega))]
theorem ap_ws {τ : XS} (hok : OKm τ) {l a : Int} (hl : τ.2 2 l ≤ 5) (h12 : 12 ≤ l) : wsM (apM τ l a) = wsM τ := by
  have q := hok.i4
  refine wsM_upd rfl hok (fun w a b => ?_)
  unfold ent
  rw [ap_word hok hl (by omega)]
  rfl
theorem ap_ok {τ : XS} (hok : OKm τ) {l a : Int} (hl : τ.2 2 l ≤ 5) (ha : 0 ≤ a ∧ a ≤ 3) : OKm (apM τ l a) := by
  have q1 := hok.f2 l
  exact (hok.sA1 ha).sA2 (by omega)
/-- the tree's fields alone matter to the tree -/
theorem TREE.eq {σ τ : XS} {pth : Int → List Int} {Ws : List (List Int × Int)} {E : List Int} (h : TREE σ pth Ws E) (hk : ∀ q : Nat, 6 ≤ q → q ≤ 12 → τ.2 q = σ.2 q) : TREE τ pth Ws E := h.of (fun n _ => by rw [hk 6 (by omega) (by omega)]) (hk 7 (by omega) (by omega)) (hk 8 (by omega) (by omega)) (hk 9 (by omega) (by omega)) (hk 10 (by omega) (by omega)) (hk 11 (by omega) (by omega)) (hk 12 (by omega) (by omega))
theorem sA_ne (σ : XS) {k q : Nat} (i v : Int) (h : q ≠ k) : (sA σ k i v).2 q = σ.2 q := by
  show (if q = k then _ else σ.2 q) = _
  rw [if_neg h]
/-- draft -/
theorem INV.draft {σ τ : XS} {pth : Int → List Int} (h : INV σ τ pth) {a : Int} (ha : 0 ≤ a ∧ a ≤ 3) (h6 : ¬ σ.1 1 = 6) : INV (sI (sA σ 2 (σ.1 1) a) 1 (σ.1 1 + 1)) (apM τ 12 a) pth := by
  obtain ⟨⟨⟨h1, h2, h3, h4, h5, h6', h7, h8, h9⟩, h10⟩, V, h11, h12⟩ := h
  have q12 := h1.f2 12
  have hl : τ.2 2 12 ≤ 5 := by have := h3.1; omega
  have e13 : wordM (apM τ 12 a) 13 = wordM τ 13 := ap_word h1 hl (by omega)
  have ew : wsM (apM τ 12 a) = wsM τ := ap_ws h1 hl (by omega)
  refine ⟨⟨⟨ap_ok h1 hl ha, h2, ⟨?_, fun i i0 i1 => ?_⟩, ⟨?_, fun i i0 i1 => ?_⟩, ?_, h6', ?_, ?_, h9.1, fun n => fU_rg h9.2.1 ha n, h9.2.2⟩, ?_⟩, V, ?_, h12⟩
  · show σ.1 1 + 1 = fU (τ.2 2) 12 (τ.2 2 12 + 1) 12
    rw [fU_s, h3.1]
  · have i1 : i < σ.1 1 + 1 := i1
    show fU (σ.2 2) (σ.1 1) a i = fU (τ.2 1) (6 * 12 + τ.2 2 12) a (72 + i)
    by_cases q : i = σ.1 1
    · have e : 72 + i = 6 * 12 + τ.2 2 12 := by have := h3.1; omega
      rw [e, fU_s, q, fU_s]
    · have e : 72 + i ≠ 6 * 12 + τ.2 2 12 := by have := h3.1; omega
      rw [fU_n q, fU_n e]
      exact h3.2 i i0 (by omega)
  · show σ.1 3 = fU (τ.2 2) 12 (τ.2 2 12 + 1) 13
    rw [fU_n (by omega)]
    exact h4.1
  · have i1 : i < σ.1 3 := i1
    show σ.2 4 i = fU (τ.2 1) (6 * 12 + τ.2 2 12) a (78 + i)
    rw [fU_n (by omega)]
    exact h4.2 i i0 i1
  · rw [ew]
    exact h5.eq (fun q a b => sA_ne σ _ _ (by omega))
  · rw [ew]; exact h7
  · rw [ew]; exact h8
  · rw [e13]
    exact h10.of rfl rfl rfl
  · rw [e13]
    exact h11.of rfl rfl rfl rfl rfl
theorem sc_word {τ : XS} (n l : Int) {w : Int} (hw : w ≠ l) : wordM (sA τ 2 l n) w = wordM τ w := word_upd (fU_n hw) (fun _ _ _ => rfl)
theorem sc_ws {τ : XS} (hok : OKm τ) {n l : Int} (hl : 12 ≤ l) : wsM (sA τ 2 l n) = wsM τ := by
  have q := hok.i4
  refine wsM_upd rfl hok (fun w a b => ?_)
  unfold ent
  rw [sc_word n l (by omega)]
  rfl
theorem BASE.scrap {σ τ : XS} {pth : Int → List Int} (h : BASE σ τ pth) : BASE (sI σ 1 0) (sA τ 2 12 0) pth := by
  obtain ⟨h1, h2, h3, h4, h5, h6, h7, h8, h9⟩ := h
  have ew : wsM (sA τ 2 12 0) = wsM τ := sc_ws h1 (by omega)
  refine ⟨h1.sA2 (by omega), h2, ⟨(sA_at τ 2 12 0).symm, fun i i0 i1 => absurd i1 (show ¬ i < 0 by omega)⟩, ⟨?_, h4.2⟩, ?_, h6, ?_, ?_, h9⟩
  · show σ.1 3 = fU (τ.2 2) 12 0 13
    rw [fU_n (by omega)]
    exact h4.1
  · rw [ew]
    exact h5.eq (fun q a b => rfl)
  · rw [ew]; exact h7
  · rw [ew]; exact h8
theorem INV.scrap {σ τ : XS} {pth : Int → List Int} (h : INV σ τ pth) : INV (sI σ 1 0) (sA τ 2 12 0) pth := by
  obtain ⟨⟨hB, h10⟩, V, h11, h12⟩ := h
  have e13 : wordM (sA τ 2 12 0) 13 = wordM τ 13 := sc_word 0 12 (by omega)
  refine ⟨⟨hB.scrap, ?_⟩, V, ?_, h12⟩
  · rw [e13]
    exact h10.of rfl rfl rfl
  · rw [e13]
    exact h11.of rfl rfl rfl rfl rfl
/-- the query's beginning of n letters -/
theorem PRE.cut {σ τ : XS} {pth : Int → List Int} (h : PRE σ τ pth) {n : Int} (h0 : 0 ≤ n) (hn : n ≤ σ.1 3) : PRE (sI σ 3 n) (sA τ 2 13 n) pth := by
  obtain ⟨⟨h1, h2, h3, h4, h5, h6, h7, h8, h9⟩, h10⟩ := h
  have q13 := h1.f2 13
  have h41 := h4.1
  have ew : wsM (sA τ 2 13 n) = wsM τ := sc_ws h1 (by omega)
  have e2 : (sA τ 2 13 n).2 2 13 = n := sA_at τ 2 13 n
  refine ⟨⟨h1.sA2 (by omega), h2, ⟨?_, h3.2⟩, ⟨e2.symm, fun i i0 i1 => h4.2 i i0 (by have : i < n := i1; omega)⟩, ?_, h6, ?_, ?_, h9⟩, ?_⟩
  · show σ.1 1 = fU (τ.2 2) 13 n 12
    rw [fU_n (by omega)]
    exact h3.1
  · rw [ew]
    exact h5.eq (fun q a b => rfl)
  · rw [ew]; exact h7
  · rw [ew]; exact h8
  · rw [word_len, e2]
    rw [word_len] at h10
    refine ((h10.mono (by omega)).congr (fun t ht => ?_)).of rfl rfl rfl
    rw [word_gf τ 13 (by omega), word_gf (sA τ 2 13 n) 13 (by rw [e2]; omega)]
    rfl
/-- type -/
theorem INV.typ {σ τ : XS} {pth : Int → List Int} (h : INV σ τ pth) {a : Int} (ha : 0 ≤ a ∧ a ≤ 3) (h6 : ¬ σ.1 3 = 6) : PRE (typP σ a) (apM τ 13 a) pth := by
  have hql := qlen h.1.1
  obtain ⟨⟨⟨h1, h2, h3, h4, h5, h6', h7, h8, h9⟩, h10⟩, _⟩ := h
  have q13 := h1.f2 13
  have h41 := h4.1
  have hl : τ.2 2 13 ≤ 5 := by omega
  have e13 : wordM (apM τ 13 a) 13 = wordM τ 13 ++ [a] := ap_self h1
  have ew : wsM (apM τ 13 a) = wsM τ := ap_ws h1 hl (by omega)
  have hT1 : TREE (sA σ 4 (σ.1 3) a) pth (wsM τ) [] := h5.eq (fun q x y => sA_ne σ _ _ (by omega))
  have hL1 : LAYS (sA σ 4 (σ.1 3) a) pth (wordM τ 13 ++ [a]) (wordM τ 13).length := (h10.congr (fun t ht => (gf_app_lt ht).symm)).of rfl rfl rfl
  have hL2 : LAYS (nextF (sA σ 4 (σ.1 3) a) ((wordM τ 13).length : Int)) pth (wordM τ 13 ++ [a]) ((wordM τ 13).length + 1) := by
    refine hL1.next hT1 (wsM_6 h1) ?_
    rw [gf_snoc, hql]
    exact (fU_s _ _ _).symm
  rw [← hql] at hL2
  obtain ⟨k1, k2⟩ := out_keep (σ.1 3) 7 0 (sA σ 4 (σ.1 3) a)
  have k1 : (nextF (sA σ 4 (σ.1 3) a) (σ.1 3)).1 = σ.1 := k1
  have k2 : ∀ q : Nat, q ≠ 13 → (nextF (sA σ 4 (σ.1 3) a) (σ.1 3)).2 q = (sA σ 4 (σ.1 3) a).2 q := k2
  have et : typP σ a = sI (nextF (sA σ 4 (σ.1 3) a) (σ.1 3)) 3 (σ.1 3 + 1) := rfl
  rw [et]
  generalize nextF (sA σ 4 (σ.1 3) a) (σ.1 3) = υ at hL2 k1 k2 ⊢
  have e4 : υ.2 4 = fU (σ.2 4) (σ.1 3) a := k2 4 (by omega)
  have eo : ∀ q : Nat, q ≠ 13 → q ≠ 4 → υ.2 q = σ.2 q := fun q x y => (k2 q x).trans (sA_ne σ _ _ y)
  refine ⟨⟨ap_ok h1 hl ha, ?_, ⟨?_, fun i i0 i1 => ?_⟩, ⟨?_, fun i i0 i1 => ?_⟩, ?_, ⟨?_, ?_⟩, ?_, ?_, ?_, ?_, ?_⟩, ?_⟩
  · show υ.1 0 = τ.1 0
    rw [k1]; exact h2
  · show υ.1 1 = fU (τ.2 2) 13 (τ.2 2 13 + 1) 12
    rw [k1, fU_n (by omega)]
    exact h3.1
  · have i1 : i < υ.1 1 := i1
    rw [k1] at i1
    show υ.2 2 i = fU (τ.2 1) (6 * 13 + τ.2 2 13) a (72 + i)
    have q12 := h1.f2 12
    have h31 := h3.1
    rw [eo 2 (by omega) (by omega), fU_n (by omega)]
    exact h3.2 i i0 i1
  · show σ.1 3 + 1 = fU (τ.2 2) 13 (τ.2 2 13 + 1) 13
    rw [fU_s, h4.1]
  · have i1 : i < σ.1 3 + 1 := i1
    show υ.2 4 i = fU (τ.2 1) (6 * 13 + τ.2 2 13) a (78 + i)
    rw [e4]
    by_cases q : i = σ.1 3
    · have e : 78 + i = 6 * 13 + τ.2 2 13 := by omega
      rw [e, fU_s, q, fU_s]
    · have e : 78 + i ≠ 6 * 13 + τ.2 2 13 := by omega
      rw [fU_n q, fU_n e]
      exact h4.2 i i0 (by omega)
  · rw [ew]
    exact h5.eq (fun q x y => eo q (by omega) (by omega))
  · show υ.1 5 = τ.1 4
    rw [k1]; exact h6'.1
  · show υ.2 6 0 = τ.1 4
    rw [eo 6 (by omega) (by omega)]
    exact h6'.2
  · rw [ew]; exact h7
  · rw [ew]; exact h8
  · show ∀ n, 0 ≤ υ.2 9 n ∧ υ.2 9 n ≤ 3
    rw [eo 9 (by omega) (by omega)]; exact h9.1
  · show ∀ n, 0 ≤ υ.2 2 n ∧ υ.2 2 n ≤ 3
    rw [eo 2 (by omega) (by omega)]; exact h9.2.1
  · show ∀ n, 0 ≤ υ.2 4 n ∧ υ.2 4 n ≤ 3
    rw [e4]
    exact fun n => fU_rg h9.2.2 ha n
  · rw [e13, List.length_append, List.length_singleton]
    exact hL2.of rfl rfl rfl
/-- the draft among the words -/
theorem BASE.df {σ τ : XS} {pth : Int → List Int} (h : BASE σ τ pth) : (dfV τ = -4 ∧ (adThere σ ≤ 0 ∨ σ.2 12 (adThere σ) = -4) ∧ ∀ v, (wordM τ 12, v) ∉ wsM τ) ∨ (dfV τ ≠ -4 ∧ 0 ≤ dfV τ ∧ dfV τ < τ.1 4 ∧ wordM τ (dfV τ) = wordM τ 12 ∧ inT σ (adThere σ) ∧ 0 < adThere σ ∧ pth (adThere σ) = wordM τ 12 ∧ σ.2 12 (adThere σ) = τ.2 3 (dfV τ)) := by
  have hT := h.2.2.2.2.1
  have h4 := h.1.i4
  unfold dfV
  rcases fstL_spec (dfP τ) (τ.1 4).toNat 0 (by omega) with ⟨f1, f2⟩ | ⟨f1, f2, f3⟩
  · have hno : ∀ v, (wordM τ 12, v) ∉ wsM τ := fun v hv => by
      obtain ⟨w, w1, w2, w3⟩ := (wsM_mem h.1).mp hv
      exact f2 w w1 (by omega) ((dfP_iff h.1 w).mpr (congrArg Prod.fst w3))
    refine Or.inl ⟨f1, ?_, hno⟩
    rcases h.dno with ⟨g1, g2⟩ | ⟨g1, g2⟩
    · by_cases z : adThere σ = 0
      · exact Or.inl (by omega)
      · rcases hT.2.2.2.2.2.2.2.2 _ g1 z with ⟨v, k1, _⟩ | ⟨_, k2⟩
        · rw [g2] at k1
          exact absurd k1 (hno v)
        · exact Or.inr k2
    · exact Or.inl (by omega)
  · have e := (dfP_iff h.1 _).mp f3
    generalize fstL (dfP τ) (τ.1 4).toNat 0 = w at f1 f2 e ⊢
    obtain ⟨n, n1, n2, n3, n4⟩ := h.node f1 (show w < τ.1 4 by omega)
    rcases h.dno with ⟨g1, g2⟩ | ⟨g1, g2⟩
    · have en : adThere σ = n := hT.2.2.2.1 _ _ g1 n1 (by rw [g2, n3, e])
      have n5 := n1.1
      rw [en]
      exact Or.inr ⟨by omega, f1, by omega, e, n1, by omega, by rw [n3, e], n4⟩
    · exact absurd (n3.trans e) (g2 n n1)
/-- weight -/
theorem BASE.weight {σ τ : XS} {pth : Int → List Int} (h : BASE σ τ pth) : (if adThere σ ≤ 0 then -4 else σ.2 12 (adThere σ)) = if dfV τ = -4 then -4 else τ.2 3 (dfV τ) := by
  rcases h.df with ⟨h1, h2, _⟩ | ⟨h1, h2, h3, h4, h5, h6, h7, h8⟩
  · rw [if_pos h1]
    split
    · rfl
    · rename_i z
      exact h2.resolve_left z
  · rw [if_neg h1, if_neg (by omega)]
    exact h8
end
section
/-! BOTH SIDES TOGETHER: add and remove -/
set_option maxRecDepth 100000
theorem cpL_at (fr to : Int) : ∀ (k : Nat) (i : Int) (τ : XS), 0 ≤ i → i + (k : Int) ≤ 6 → ∀ j : Int, (cpL fr to k i τ).2 1 j = if 6 * to + i ≤ j ∧ j < 6 * to + i + (k : Int) then τ.2 1 (j - 6 * to + 6 * fr) else τ.2 1 j := by
  intro k
  induction k with
  | zero => intro i τ h0 h6 j; rw [if_neg (by omega)]; rfl
  | succ k ih =>
    intro i τ h0 h6 j
    unfold cpL
    rw [ih (i + 1) _ (by omega) (by omega) j]
    show (if 6 * to + (i + 1) ≤ j ∧ j < 6 * to + (i + 1) + (k : Int) then fU (τ.2 1) (6 * to + i) (τ.2 1 (6 * fr + i)) (j - 6 * to + 6 * fr) else fU (τ.2 1) (6 * to + i) (τ.2 1 (6 * fr + i)) j) = _
    by_cases q : j = 6 * to + i
    · rw [if_neg (by omega), if_pos (by omega), q, fU_s, show 6 * to + i - 6 * to + 6 * fr = 6 * fr + i by omega]
    · by_cases z : 6 * to + (i + 1) ≤ j ∧ j < 6 * to + (i + 1) + (k : Int)
      · rw [if_pos z, if_pos (by omega), fU_n (by omega)]
      · rw [if_neg z, if_neg (by omega), fU_n q]
theorem cp_word {τ : XS} (hok : OKm τ) (fr to : Int) {w : Int} (hw : w ≠ to) : wordM (cpF τ fr to) w = wordM τ w := by
  have q1 := hok.f2 fr
  have q2 := hok.f2 w
  obtain ⟨_, _, k2, _⟩ := OK_cpL fr to (τ.2 2 fr).toNat 0 τ hok
  refine word_upd ?_ (fun t t1 t2 => ?_)
  · show fU ((cpL fr to (τ.2 2 fr).toNat 0 τ).2 2) to _ w = _
    rw [fU_n hw, k2]
  · show (cpL fr to (τ.2 2 fr).toNat 0 τ).2 1 (6 * w + t) = _
    rw [cpL_at fr to _ 0 τ (by omega) (by omega), if_neg (by omega)]
theorem cp_self {τ : XS} (hok : OKm τ) (fr to : Int) : wordM (cpF τ fr to) to = wordM τ fr := by
  have q1 := hok.f2 fr
  obtain ⟨_, _, k2, _⟩ := OK_cpL fr to (τ.2 2 fr).toNat 0 τ hok
  have e2 : (cpF τ fr to).2 2 to = τ.2 2 fr := by
    show fU ((cpL fr to (τ.2 2 fr).toNat 0 τ).2 2) to ((cpL fr to (τ.2 2 fr).toNat 0 τ).2 2 fr) to = _
    rw [fU_s, k2]
  unfold wordM
  rw [e2]
  refine segL_shift _ _ _ (fun t t1 t2 => ?_)
  show (cpL fr to (τ.2 2 fr).toNat 0 τ).2 1 (6 * to + t) = _
  rw [cpL_at fr to _ 0 τ (by omega) (by omega), if_pos (by omega), show 6 * to + t - 6 * to + 6 * fr = 6 * fr + t by omega]
theorem cp_len {τ : XS} (hok : OKm τ) (fr to : Int) {w : Int} (hw : w ≠ to) : (cpF τ fr to).2 2 w = τ.2 2 w := by
  obtain ⟨_, _, k2, _⟩ := OK_cpL fr to (τ.2 2 fr).toNat 0 τ hok
  show fU ((cpL fr to (τ.2 2 fr).toNat 0 τ).2 2) to _ w = _
  rw [fU_n hw, k2]
theorem cp_let {τ : XS} (hok : OKm τ) (fr to : Int) {j : Int} (hj : 6 * to + 6 ≤ j) : (cpF τ fr to).2 1 j = τ.2 1 j := by
  have q1 := hok.f2 fr
  show (cpL fr to (τ.2 2 fr).toNat 0 τ).2 1 j = _
  rw [cpL_at fr to _ 0 τ (by omega) (by omega), if_neg (by omega)]
theorem OK_adLoop : ∀ (n : Nat) (i : Int) (q : Int × XS) (C : Int), OKx C q.2 → 0 ≤ q.1 ∧ q.1 ≤ 79 → OKx (C + 2 * (n : Int)) (adLoop n i q).2
  | 0, i, q, C, h, _ => h.mono (by omega)
  | n + 1, i, q, C, h, hq => by
    obtain ⟨h1, h2⟩ := adStep_ok h hq (h.f2 i)
    have g := OK_adLoop n (i + 1) (adBump (adStep q.2 q.1 (q.2.2 2 i))) (C + 1 + 1) (adBump_ok h1) h2
    unfold adLoop
    exact g.mono (by omega)
theorem OK_adIns {B : Int} {σ : XS} (h : OKx B σ) {wt : Int} (hw : 0 ≤ wt ∧ wt ≤ 99) : OKx (B + 14) (adIns σ wt) := by
  have q1 := h.i1
  have q6 := h.f6 0
  have g : OKx (B + 1) (sA σ 6 0 (σ.2 6 0 + 1)) := (h.mono (by omega)).sA6 (by omega)
  have g2 := OK_adLoop (σ.1 1).toNat 0 (0, sA σ 6 0 (σ.2 6 0 + 1)) (B + 1) g (by dsimp only; omega)
  have g3 := g2.i5
  have g4 : OKx (B + 14) (adLoop (σ.1 1).toNat 0 (0, sA σ 6 0 (σ.2 6 0 + 1))).2 := g2.mono (by omega)
  exact ((g4.sA12 (by omega)).sI5 (by omega)).sI1 (by omega)
theorem OK_rmLoop : ∀ (k : Nat) (nd : Int) (σ : XS) (C : Int), OKx C σ → OKx (C + (k : Int)) (rmLoop k nd σ)
  | 0, _, _, _, h => h.mono (by omega)
  | k + 1, nd, σ, C, h => by
    unfold rmLoop
    split
    · exact h.mono (by omega)
    · exact (OK_rmLoop k _ _ (C + 1) (rmStep_ok h nd)).mono (by omega)
theorem OK_rmDel {B : Int} {σ : XS} (h : OKx B σ) (nd : Int) (hB : 10 ≤ B) : OKx (B + 7) (rmDel σ nd) := by
  have q5 := h.i5
  have q6 := h.f6 0
  have g : OKx (B + 1) σ := h.mono (by omega)
  have g2 : OKx (B + 1) (rmStart σ nd) := ((g.sA12 (by omega)).sI5 (by omega)).sA6 (by show _ ≤ σ.2 6 0 - 1 ∧ σ.2 6 0 - 1 ≤ _; omega)
  exact ((OK_rmLoop 6 nd _ (B + 1) g2).mono (by omega)).sI1 (by omega)
/-- a word that is there gets another weight -/
theorem INV.rep {σ τ : XS} {pth : Int → List Int} (h : INV σ τ pth) {wt : Int} (hw : 0 ≤ wt ∧ wt ≤ 99) (hd : dfV τ ≠ -4) : PRE (adRep σ wt) (adOld τ (dfV τ) wt) pth := by
  have hB := h.1.1
  have h10 := h.1.2
  rcases hB.df with ⟨d1, _⟩ | ⟨_, d2, d3, d4, d5, d6, d7, d8⟩
  · exact absurd d1 hd
  obtain ⟨h1, h2, h3, h4, h5, h6, h7, h8, h9⟩ := hB
  have hq := h1.i4
  have ok3 : OKm (sA τ 3 (dfV τ) wt) := h1.sA3 hw
  have eW : ∀ w, wordM (sA τ 3 (dfV τ) wt) w = wordM τ w := fun w => rfl
  have eE : ∀ w, ent (sA τ 3 (dfV τ) wt) w = (wordM τ w, fU (τ.2 3) (dfV τ) wt w) := fun w => rfl
  have ef : (wsM (sA τ 3 (dfV τ) wt)).map Prod.fst = (wsM τ).map Prod.fst := by
    have e : ∀ (n : Nat) (i : Int), (segF (ent (sA τ 3 (dfV τ) wt)) n i).map Prod.fst = (segF (ent τ) n i).map Prod.fst := by
      intro n
      induction n with
      | zero => intro i; rfl
      | succ n ih =>
        intro i
        unfold segF
        rw [List.map_cons, List.map_cons, ih]
        rfl
    exact e _ _
  have hTn : TREE (sA σ 12 (adThere σ) wt) pth (wsM (sA τ 3 (dfV τ) wt)) [] := by
    refine h5.setw d5 ef ?_ (fun p v hp => ?_)
    · refine (wsM_mem ok3).mpr ⟨dfV τ, d2, d3, ?_⟩
      rw [eE, fU_s, d4, d7]
    · rw [wsM_mem ok3, wsM_mem h1]
      constructor
      · rintro ⟨w, w1, w2, w3⟩
        refine ⟨w, w1, w2, ?_⟩
        have hne : w ≠ dfV τ := fun z => by
          have := congrArg Prod.fst w3
          rw [eE, z, d4] at this
          exact hp (this.symm.trans d7.symm)
        rw [eE, fU_n hne] at w3
        exact w3
      · rintro ⟨w, w1, w2, w3⟩
        refine ⟨w, w1, w2, ?_⟩
        have hne : w ≠ dfV τ := fun z => by
          have := congrArg Prod.fst w3
          rw [z] at this
          exact hp (this.symm.trans (d4.trans d7.symm))
        rw [eE, fU_n hne]
        exact w3
  have hB1 : BASE (sA σ 12 (adThere σ) wt) (sA τ 3 (dfV τ) wt) pth := ⟨ok3, h2, h3, h4, hTn, h6, by rw [ef]; exact h7, fun x hx => by
    obtain ⟨w, w1, w2, rfl⟩ := (wsM_mem ok3).mp hx
    exact h8 (ent τ w) ((wsM_mem h1).mpr ⟨w, w1, w2, rfl⟩), h9⟩
  refine ⟨hB1.scrap, ?_⟩
  have e13 : wordM (sA (sA τ 3 (dfV τ) wt) 2 12 0) 13 = wordM τ 13 := sc_word 0 12 (by omega)
  show LAYS (adRep σ wt) pth (wordM (sA (sA τ 3 (dfV τ) wt) 2 12 0) 13) (wordM (sA (sA τ 3 (dfV τ) wt) 2 12 0) 13).length
  rw [e13]
  exact h10.of rfl rfl rfl
/-- a new word -/
theorem INV.ins {σ τ : XS} {pth : Int → List Int} (h : INV σ τ pth) {B wt : Int} (hok : OKx B σ) (hw : 0 ≤ wt ∧ wt ≤ 99) (h0 : ¬ σ.1 1 = 0) (hd : dfV τ = -4) (h12 : ¬ τ.1 4 = 12) : ∃ pth', BASE (adIns σ wt) (adNew (cpF τ 12 (τ.1 4)) wt) pth' := by
  have hB := h.1.1
  have hseg := dseg hB
  have hoi := OK_adIns hok hw
  have hno : ∀ v, (wordM τ 12, v) ∉ wsM τ := by
    rcases hB.df with ⟨_, _, d⟩ | ⟨d, _⟩
    · exact d
    · exact absurd hd d
  obtain ⟨h1, h2, h3, h4, h5, h6, h7, h8, h9⟩ := hB
  have hq := h1.i4
  have q1 := hok.i1
  have q12 := h1.f2 12
  -- the model
  have hokc := OK_cpF h1 12 (τ.1 4)
  obtain ⟨c1, c2, c3⟩ := hokc
  have wo : ∀ w, w ≠ τ.1 4 → wordM (cpF τ 12 (τ.1 4)) w = wordM τ w := fun w hw => cp_word h1 12 (τ.1 4) hw
  have ws : wordM (cpF τ 12 (τ.1 4)) (τ.1 4) = wordM τ 12 := cp_self h1 12 (τ.1 4)
  have lo : ∀ w, w ≠ τ.1 4 → (cpF τ 12 (τ.1 4)).2 2 w = τ.2 2 w := fun w hw => cp_len h1 12 (τ.1 4) hw
  have le : ∀ j, 72 ≤ j → (cpF τ 12 (τ.1 4)).2 1 j = τ.2 1 j := fun j hj => cp_let h1 12 (τ.1 4) (by omega)
  have em : adNew (cpF τ 12 (τ.1 4)) wt = sA (sI (sA (cpF τ 12 (τ.1 4)) 3 (τ.1 4) wt) 4 (τ.1 4 + 1)) 2 12 0 := by
    unfold adNew
    rw [c2]
  rw [em]
  generalize cpF τ 12 (τ.1 4) = υ at c1 c2 c3 wo ws lo le ⊢
  have okn : OKm (sA (sI (sA υ 3 (τ.1 4) wt) 4 (τ.1 4 + 1)) 2 12 0) := ((c1.sA3 hw).sI4 (by omega)).sA2 (by omega)
  have wn : ∀ w, w ≠ 12 → wordM (sA (sI (sA υ 3 (τ.1 4) wt) 4 (τ.1 4 + 1)) 2 12 0) w = wordM υ w := fun w hw => sc_word 0 12 hw
  have en : ∀ w, w ≠ 12 → ent (sA (sI (sA υ 3 (τ.1 4) wt) 4 (τ.1 4 + 1)) 2 12 0) w = (wordM υ w, fU (υ.2 3) (τ.1 4) wt w) := fun w hw => by
    unfold ent
    rw [wn w hw]
    rfl
  have ew : wsM (sA (sI (sA υ 3 (τ.1 4) wt) 4 (τ.1 4 + 1)) 2 12 0) = wsM τ ++ [(wordM τ 12, wt)] := by
    show segF (ent (sA (sI (sA υ 3 (τ.1 4) wt) 4 (τ.1 4 + 1)) 2 12 0)) (τ.1 4 + 1).toNat 0 = _
    have e1 : (τ.1 4 + 1).toNat = (τ.1 4).toNat + 1 := by omega
    have e2 : 0 + ((τ.1 4).toNat : Int) = τ.1 4 := by omega
    rw [e1, segF_app, e2]
    refine congr (congrArg HAppend.hAppend ?_) ?_
    · refine segF_congr _ _ (fun j a b => ?_)
      rw [en j (by omega), fU_n (by omega), wo j (by omega), c3]
      rfl
    · show [ent _ (τ.1 4)] = _
      rw [en _ (by omega), fU_s, ws]
  have w13 : wordM (sA (sI (sA υ 3 (τ.1 4) wt) 4 (τ.1 4 + 1)) 2 12 0) 13 = wordM τ 13 := (wn 13 (by omega)).trans (wo 13 (by omega))
  have l13 : (sA (sI (sA υ 3 (τ.1 4) wt) 4 (τ.1 4 + 1)) 2 12 0).2 2 13 = τ.2 2 13 := by
    show fU (υ.2 2) 12 0 13 = _
    rw [fU_n (by omega)]
    exact lo 13 (by omega)
  have l12 : (sA (sI (sA υ 3 (τ.1 4) wt) 4 (τ.1 4 + 1)) 2 12 0).2 2 12 = 0 := sA_at _ 2 12 0
  have lt1 : ∀ j, 72 ≤ j → (sA (sI (sA υ 3 (τ.1 4) wt) 4 (τ.1 4 + 1)) 2 12 0).2 1 j = τ.2 1 j := le
  have n4 : (sA (sI (sA υ 3 (τ.1 4) wt) 4 (τ.1 4 + 1)) 2 12 0).1 4 = τ.1 4 + 1 := rfl
  have n0 : (sA (sI (sA υ 3 (τ.1 4) wt) 4 (τ.1 4 + 1)) 2 12 0).1 0 = τ.1 0 := by
    show υ.1 0 = _
    rw [c2]
  generalize sA (sI (sA υ 3 (τ.1 4) wt) 4 (τ.1 4 + 1)) 2 12 0 = ω at okn ew w13 l13 l12 lt1 n4 n0 ⊢
  -- the tree
  have hT0 : TREE (sA σ 6 0 (σ.2 6 0 + 1)) pth (wsM τ) [] := h5.of (fun n hn => fU_n hn) rfl rfl rfl rfl rfl rfl
  obtain ⟨pth', t1, t2, t3⟩ := TREE.ins (Ws := wsM τ) (by rw [wsM_len]; omega) (wsM_6 h1) h9.2.1 (σ.1 1).toNat 0 0 (sA σ 6 0 (σ.2 6 0 + 1)) pth [] hT0 (inT_0 _) h5.1 (by rw [List.length_nil]; omega) rfl
  obtain ⟨k1, k2, k3⟩ := adLoop_keep (σ.1 1).toNat 0 (0, sA σ 6 0 (σ.2 6 0 + 1))
  have ea : adIns σ wt = (fun q : Int × XS => sI (sI (sA q.2 12 q.1 wt) 5 (q.2.1 5 + 1)) 1 0) (adLoop (σ.1 1).toNat 0 (0, sA σ 6 0 (σ.2 6 0 + 1))) := rfl
  rw [List.nil_append, hseg] at t1 t3
  rw [ea] at hoi ⊢
  generalize adLoop (σ.1 1).toNat 0 (0, sA σ 6 0 (σ.2 6 0 + 1)) = q at t1 t2 t3 k1 k2 k3 hoi ⊢
  have hTp := t1.put (wt := wt) t2 t3 hno
  have k1 : q.2.1 = σ.1 := k1
  have k6 : q.2.2 6 0 = σ.2 6 0 + 1 := k2
  have k3 : ∀ k : Nat, (k < 6 ∨ 12 < k) → q.2.2 k = σ.2 k := fun k hk => (k3 k hk).trans (sA_ne σ _ _ (by omega))
  refine ⟨pth', okn, ?_, ⟨?_, fun i i0 i1 => ?_⟩, ⟨?_, fun i i0 i1 => ?_⟩, ?_, ⟨?_, ?_⟩, ?_, ?_, ?_, ?_, ?_⟩
  · show q.2.1 0 = _
    rw [k1, n0]; exact h2
  · rw [l12]; rfl
  · have i1 : i < 0 := i1
    exfalso; omega
  · show q.2.1 3 = _
    rw [k1, l13]; exact h4.1
  · have i1 : i < q.2.1 3 := i1
    rw [k1] at i1
    show q.2.2 4 i = _
    rw [k3 4 (by omega), lt1 _ (by omega)]
    exact h4.2 i i0 i1
  · rw [ew]
    exact hTp.eq (fun k a b => rfl)
  · show q.2.1 5 + 1 = _
    rw [k1, n4, h6.1]
  · show q.2.2 6 0 = _
    rw [k6, n4, h6.2]
  · rw [ew, List.map_append, List.nodup_append]
    refine ⟨h7, List.pairwise_singleton _ _, fun a ha b hb e => ?_⟩
    obtain ⟨x, x1, x2⟩ := List.mem_map.mp ha
    have hb : b = wordM τ 12 := by simpa using hb
    rw [hb] at e
    refine hno x.2 ?_
    rw [← e, ← x2]
    exact x1
  · intro x hx
    rw [ew] at hx
    rcases List.mem_append.mp hx with y | y
    · exact h8 x y
    · rw [List.mem_singleton.mp y]
      intro z
      have z := congrArg List.length z
      have z : (wordM τ 12).length = 0 := z
      rw [word_len] at z
      have := h3.1
      omega
  · exact hoi.f9
  · exact hoi.f2
  · exact hoi.f4
/-- a word goes -/
theorem INV.del {σ τ : XS} {pth : Int → List Int} (h : INV σ τ pth) {B : Int} (hB0 : 10 ≤ B) (hok : OKx B σ) (hd : dfV τ ≠ -4) : BASE (rmDel σ (adThere σ)) (rmM τ (dfV τ)) pth := by
  have hB := h.1.1
  have hoi := OK_rmDel hok (adThere σ) hB0
  rcases hB.df with ⟨d1, _⟩ | ⟨_, d2, d3, d4, d5, d6, d7, d8⟩
  · exact absurd d1 hd
  obtain ⟨h1, h2, h3, h4, h5, h6, h7, h8, h9⟩ := hB
  generalize dfV τ = w0 at d2 d3 d4 d8 hd ⊢
  have hq := h1.i4
  -- the model
  have ok1 : OKm (sI τ 4 (τ.1 4 - 1)) := h1.sI4 (by omega)
  obtain ⟨c1, c2, c3⟩ := OK_cpF ok1 (τ.1 4 - 1) w0
  have wo : ∀ w, w ≠ w0 → wordM (cpF (sI τ 4 (τ.1 4 - 1)) (τ.1 4 - 1) w0) w = wordM τ w := fun w hw => cp_word ok1 _ w0 hw
  have ws : wordM (cpF (sI τ 4 (τ.1 4 - 1)) (τ.1 4 - 1) w0) w0 = wordM τ (τ.1 4 - 1) := cp_self ok1 _ w0
  have lo : ∀ w, w ≠ w0 → (cpF (sI τ 4 (τ.1 4 - 1)) (τ.1 4 - 1) w0).2 2 w = τ.2 2 w := fun w hw => cp_len ok1 _ w0 hw
  have le : ∀ j, 72 ≤ j → (cpF (sI τ 4 (τ.1 4 - 1)) (τ.1 4 - 1) w0).2 1 j = τ.2 1 j := fun j hj => cp_let ok1 _ w0 (by omega)
  have em : rmM τ w0 = sA (sA (cpF (sI τ 4 (τ.1 4 - 1)) (τ.1 4 - 1) w0) 3 w0 (τ.2 3 (τ.1 4 - 1))) 2 12 0 := by
    unfold rmM rmFin
    rw [c2, c3]
    rfl
  have c2 : (cpF (sI τ 4 (τ.1 4 - 1)) (τ.1 4 - 1) w0).1 4 = τ.1 4 - 1 ∧ (cpF (sI τ 4 (τ.1 4 - 1)) (τ.1 4 - 1) w0).1 0 = τ.1 0 := by
    rw [c2]
    exact ⟨rfl, rfl⟩
  have c3 : (cpF (sI τ 4 (τ.1 4 - 1)) (τ.1 4 - 1) w0).2 3 = τ.2 3 := c3
  rw [em]
  generalize cpF (sI τ 4 (τ.1 4 - 1)) (τ.1 4 - 1) w0 = υ at c1 c2 c3 wo ws lo le ⊢
  have okn : OKm (sA (sA υ 3 w0 (τ.2 3 (τ.1 4 - 1))) 2 12 0) := (c1.sA3 (h1.f3 _)).sA2 (by omega)
  have wn : ∀ w, w ≠ 12 → wordM (sA (sA υ 3 w0 (τ.2 3 (τ.1 4 - 1))) 2 12 0) w = wordM υ w := fun w hw => sc_word 0 12 hw
  have en : ∀ w, w ≠ 12 → ent (sA (sA υ 3 w0 (τ.2 3 (τ.1 4 - 1))) 2 12 0) w = (wordM υ w, fU (υ.2 3) w0 (τ.2 3 (τ.1 4 - 1)) w) := fun w hw => by
    unfold ent
    rw [wn w hw]
    rfl
  have hp : (wsM τ).Perm (ent τ w0 :: wsM (sA (sA υ 3 w0 (τ.2 3 (τ.1 4 - 1))) 2 12 0)) := by
    have e4 : (sA (sA υ 3 w0 (τ.2 3 (τ.1 4 - 1))) 2 12 0).1 4 = τ.1 4 - 1 := c2.1
    unfold wsM
    rw [e4]
    have e1 : (τ.1 4).toNat = (τ.1 4 - 1).toNat + 1 := by omega
    have e2 : ((τ.1 4 - 1).toNat : Int) = τ.1 4 - 1 := by omega
    rw [e1]
    refine segF_drop (τ.1 4 - 1).toNat w0 d2 (by omega) (fun z => ?_) (fun j a b c => ?_)
    · rw [en w0 (by omega), fU_s, ws, e2]
      rfl
    · rw [en j (by omega), fU_n c, wo j c, c3]
      rfl
  have w13 : wordM (sA (sA υ 3 w0 (τ.2 3 (τ.1 4 - 1))) 2 12 0) 13 = wordM τ 13 := (wn 13 (by omega)).trans (wo 13 (by omega))
  have l13 : (sA (sA υ 3 w0 (τ.2 3 (τ.1 4 - 1))) 2 12 0).2 2 13 = τ.2 2 13 := by
    show fU (υ.2 2) 12 0 13 = _
    rw [fU_n (by omega)]
    exact lo 13 (by omega)
  have l12 : (sA (sA υ 3 w0 (τ.2 3 (τ.1 4 - 1))) 2 12 0).2 2 12 = 0 := sA_at _ 2 12 0
  have lt1 : ∀ j, 72 ≤ j → (sA (sA υ 3 w0 (τ.2 3 (τ.1 4 - 1))) 2 12 0).2 1 j = τ.2 1 j := le
  have n4 : (sA (sA υ 3 w0 (τ.2 3 (τ.1 4 - 1))) 2 12 0).1 4 = τ.1 4 - 1 := c2.1
  have n0 : (sA (sA υ 3 w0 (τ.2 3 (τ.1 4 - 1))) 2 12 0).1 0 = τ.1 0 := c2.2
  generalize sA (sA υ 3 w0 (τ.2 3 (τ.1 4 - 1))) 2 12 0 = ω at okn hp w13 l13 l12 lt1 n4 n0 ⊢
  -- the lists
  have ee : ent τ w0 = (wordM τ 12, τ.2 3 w0) := by
    unfold ent
    rw [d4]
  rw [ee] at hp
  have hnd := hp.map Prod.fst
  rw [List.map_cons] at hnd
  have hnd2 := List.nodup_cons.mp (hnd.nodup h7)
  have hV : ∀ v, (wordM τ 12, v) ∉ wsM ω := fun v hv => hnd2.1 (List.mem_map.mpr ⟨_, hv, rfl⟩)
  -- the tree
  have hT1 := h5.rem d5 d7 hp hV
  have hT2 : TREE (rmStart σ (adThere σ)) pth (wsM ω) (wordM τ 12) := hT1.of (fun n hn => fU_n hn) rfl rfl rfl rfl rfl rfl
  have q12 := h1.f2 12
  have hT3 := TREE.out 6 (adThere σ) (rmStart σ (adThere σ)) (wordM τ 12) hT2 (show inT (rmStart σ (adThere σ)) (adThere σ) from ⟨d5.1, d5.2.1, Or.inr (by
    show 0 < fU (σ.2 6) 0 (σ.2 6 0 - 1) (adThere σ)
    rw [fU_n (by omega)]
    exact d5.2.2.resolve_left (by omega))⟩) d7 (by rw [word_len]; omega) h9.1
  obtain ⟨k1, k2, k3⟩ := rmLoop_keep 6 (adThere σ) (rmStart σ (adThere σ))
  have er : rmDel σ (adThere σ) = sI (rmLoop 6 (adThere σ) (rmStart σ (adThere σ))) 1 0 := rfl
  have s1 : (rmStart σ (adThere σ)).1 5 = σ.1 5 - 1 := rfl
  have s2 : ∀ k : Nat, k ≠ 5 → (rmStart σ (adThere σ)).1 k = σ.1 k := fun k hk => if_neg hk
  have s3 : (rmStart σ (adThere σ)).2 6 0 = σ.2 6 0 - 1 := sA_at _ 6 0 _
  have s4 : ∀ k : Nat, k ≠ 6 → k ≠ 12 → (rmStart σ (adThere σ)).2 k = σ.2 k := fun k a b => (sA_ne _ _ _ a).trans (sA_ne σ _ _ b)
  rw [er] at hoi ⊢
  generalize rmLoop 6 (adThere σ) (rmStart σ (adThere σ)) = υ2 at hT3 k1 k2 k3 hoi ⊢
  generalize rmStart σ (adThere σ) = υ1 at k1 k2 k3 s1 s2 s3 s4
  refine ⟨okn, ?_, ⟨?_, fun i i0 i1 => ?_⟩, ⟨?_, fun i i0 i1 => ?_⟩, ?_, ⟨?_, ?_⟩, hnd2.2, fun x hx => ?_, ?_, ?_, ?_⟩
  · show υ2.1 0 = _
    rw [k1, s2 0 (by omega), n0]; exact h2
  · rw [l12]; rfl
  · have i1 : i < 0 := i1
    exfalso; omega
  · show υ2.1 3 = _
    rw [k1, s2 3 (by omega), l13]; exact h4.1
  · have i1 : i < υ2.1 3 := i1
    rw [k1, s2 3 (by omega)] at i1
    show υ2.2 4 i = _
    rw [k3 4 (by omega) (by omega), s4 4 (by omega) (by omega), lt1 _ (by omega)]
    exact h4.2 i i0 i1
  · exact hT3.eq (fun k a b => rfl)
  · show υ2.1 5 = _
    rw [k1, s1, n4, h6.1]
  · show υ2.2 6 0 = _
    rw [k2, s3, n4, h6.2]
  · exact h8 x (hp.mem_iff.mpr (List.mem_cons_of_mem _ hx))
  · exact hoi.f9
  · exact hoi.f2
  · exact hoi.f4
end
section
/-! THE CALLS, one by one: from states that go together both answer alike, and go together again -/
set_option maxRecDepth 100000
theorem ST.mk' {B C : Int} {σ τ : XS} {pth : Int → List Int} (h : OKx B σ) (hC : B ≤ C) (hi : INV σ τ pth) : ST C σ τ := ⟨h.mono hC, pth, hi⟩
theorem ST.draft {B : Int} {σ τ : XS} (h : ST B σ τ) (a : Int) {z z' : Int} {u u' : XS} (hx : (if a < 0 ∨ 3 < a then ((-1, σ) : Int × XS) else if σ.1 1 = 6 then (-2, σ) else (σ.1 1 + 1, sI (sA σ 2 (σ.1 1) a) 1 (σ.1 1 + 1))) = (z, u)) (hm : (if a < 0 ∨ 3 < a then ((-1, τ) : Int × XS) else if τ.2 2 12 = 6 then (-2, τ) else (τ.2 2 12 + 1, apM τ 12 a)) = (z', u')) : z = z' ∧ ST (B + 20) u u' := by
  obtain ⟨h1, pth, h2⟩ := h
  have e := h2.1.1.2.2.1.1
  have q := h1.i1
  by_cases c1 : a < 0 ∨ 3 < a
  · rw [if_pos c1] at hx hm
    cases hx
    cases hm
    exact ⟨rfl, ST.mk' h1 (by omega) h2⟩
  · rw [if_neg c1] at hx hm
    rw [← e] at hm
    by_cases c2 : σ.1 1 = 6
    · rw [if_pos c2] at hx hm
      cases hx
      cases hm
      exact ⟨rfl, ST.mk' h1 (by omega) h2⟩
    · rw [if_neg c2] at hx hm
      cases hx
      cases hm
      exact ⟨rfl, ST.mk' ((h1.sA2 (by omega)).sI1 (by omega)) (by omega) (h2.draft (by omega) c2)⟩
theorem ST.scrap {B : Int} {σ τ : XS} (h : ST B σ τ) {u u' : XS} (hx : sI σ 1 0 = u) (hm : sA τ 2 12 0 = u') : ST (B + 20) u u' := by
  obtain ⟨h1, pth, h2⟩ := h
  subst hx
  subst hm
  exact ST.mk' (h1.sI1 (by omega)) (by omega) h2.scrap
/-- add: where the ranks are made anew -/
theorem ST.add1 {B : Int} {σ τ : XS} (h : ST B σ τ) (a : Int) (c1 : ¬ (a < 0 ∨ 99 < a ∨ σ.1 1 = 0)) (c2 : 0 < adThere σ ∧ 0 ≤ σ.2 12 (adThere σ)) : rankOK (adRep σ a) ∧ dfV τ ≠ -4 ∧ ST (B + 20) (rankF (adRep σ a)) (adOld τ (dfV τ) a) := by
  obtain ⟨h1, pth, h2⟩ := h
  have hd : dfV τ ≠ -4 := by
    rcases h2.1.1.df with ⟨_, d2, _⟩ | ⟨d, _⟩
    · exfalso; omega
    · exact d
  obtain ⟨g1, g2⟩ := (h2.rep (wt := a) (by omega) hd).rank
  exact ⟨g1, hd, ST.mk' (OK_rankF ((h1.sA12 (by omega)).sI1 (by omega)) g1) (by omega) g2⟩
theorem ST.add2 {B : Int} (hB : 10 ≤ B) {σ τ : XS} (h : ST B σ τ) (a : Int) (c1 : ¬ (a < 0 ∨ 99 < a ∨ σ.1 1 = 0)) (c2 : ¬ (0 < adThere σ ∧ 0 ≤ σ.2 12 (adThere σ))) : dfV τ = -4 ∧ (¬ σ.1 5 = 12 → rankOK (layP (adIns σ a)) ∧ ST (B + 20) (layF (adIns σ a)) (adNew (cpF τ 12 (τ.1 4)) a)) := by
  obtain ⟨h1, pth, h2⟩ := h
  have e5 := h2.1.1.2.2.2.2.2.1.1
  have hd : dfV τ = -4 := by
    rcases h2.1.1.df with ⟨d, _⟩ | ⟨_, d2, d3, d4, d5, d6, d7, d8⟩
    · exact d
    · have q := h2.1.1.1.f3 (dfV τ)
      exfalso; omega
  refine ⟨hd, fun c3 => ?_⟩
  obtain ⟨pth', hb⟩ := h2.ins (wt := a) h1 (by omega) (by omega) hd (by omega)
  obtain ⟨g1, g2⟩ := hb.layA
  exact ⟨g1, ST.mk' (OK_rankF (OK_layP (by omega) (OK_adIns h1 (by omega))) g1) (by omega) g2⟩
theorem ST.add {B : Int} (hB : 10 ≤ B) {σ τ : XS} (h : ST B σ τ) (a : Int) {z z' : Int} {u u' : XS} (hx : addF σ a = (z, u)) (hm : addM τ a = (z', u')) : z = z' ∧ ST (B + 20) u u' := by
  have g1 := h.add1 a
  have g2 := h.add2 hB a
  obtain ⟨h1, pth, h2⟩ := h
  have e1 := h2.1.1.2.2.1.1
  have e5 := h2.1.1.2.2.2.2.2.1.1
  unfold addF at hx
  unfold addM at hm
  rw [← e1, ← e5] at hm
  by_cases c1 : a < 0 ∨ 99 < a ∨ σ.1 1 = 0
  · rw [if_pos c1] at hx hm
    cases hx
    cases hm
    exact ⟨rfl, ST.mk' h1 (by omega) h2⟩
  · rw [if_neg c1] at hx hm
    by_cases c2 : 0 < adThere σ ∧ 0 ≤ σ.2 12 (adThere σ)
    · obtain ⟨_, k1, k2⟩ := g1 c1 c2
      rw [if_pos c2] at hx
      rw [if_neg k1] at hm
      cases hx
      cases hm
      exact ⟨rfl, k2⟩
    · obtain ⟨k1, k2⟩ := g2 c1 c2
      rw [if_neg c2] at hx
      rw [if_pos k1] at hm
      by_cases c3 : σ.1 5 = 12
      · rw [if_pos c3] at hx hm
        cases hx
        cases hm
        exact ⟨rfl, ST.mk' h1 (by omega) h2⟩
      · rw [if_neg c3] at hx hm
        cases hx
        cases hm
        rw [e5]
        exact ⟨rfl, (k2 c3).2⟩
theorem ST.rem1 {B : Int} (hB : 10 ≤ B) {σ τ : XS} (h : ST B σ τ) (c2 : ¬ (adThere σ < 0 ∨ σ.2 12 (adThere σ) < 0)) (c1 : ¬ σ.1 1 = 0) : rankOK (layP (rmDel σ (adThere σ))) ∧ dfV τ ≠ -4 ∧ σ.2 12 (adThere σ) = τ.2 3 (dfV τ) ∧ ST (B + 20) (layF (rmDel σ (adThere σ))) (rmM τ (dfV τ)) := by
  obtain ⟨h1, pth, h2⟩ := h
  have e1 := h2.1.1.2.2.1.1
  have q12 := h2.1.1.1.f2 12
  rcases h2.1.1.df with ⟨_, d2, _⟩ | ⟨d1, d2, d3, d4, d5, d6, d7, d8⟩
  · exfalso
    rcases h2.1.1.dno with ⟨g1, g2⟩ | ⟨g1, g2⟩
    · have g3 : adThere σ ≠ 0 := fun e => by
        have := (h2.1.1.2.2.2.2.1.ne g1).mp e
        rw [g2] at this
        have := congrArg List.length this
        rw [word_len, List.length_nil] at this
        omega
      omega
    · omega
  · obtain ⟨g1, g2⟩ := (h2.del hB h1 d1).layA
    exact ⟨g1, d1, d8, ST.mk' (OK_rankF (OK_layP (by omega) (OK_rmDel h1 _ hB)) g1) (by omega) g2⟩
theorem ST.remove {B : Int} (hB : 10 ≤ B) {σ τ : XS} (h : ST B σ τ) {z z' : Int} {u u' : XS} (hx : removeF σ = (z, u)) (hm : removeM τ = (z', u')) : z = z' ∧ ST (B + 20) u u' := by
  have g1 := h.rem1 hB
  obtain ⟨h1, pth, h2⟩ := h
  have e1 := h2.1.1.2.2.1.1
  unfold removeF at hx
  unfold removeM at hm
  rw [← e1] at hm
  by_cases c1 : σ.1 1 = 0
  · rw [if_pos c1] at hx hm
    cases hx
    cases hm
    exact ⟨rfl, ST.mk' h1 (by omega) h2⟩
  · rw [if_neg c1] at hx hm
    by_cases c2 : adThere σ < 0 ∨ σ.2 12 (adThere σ) < 0
    · have hd : dfV τ = -4 := by
        rcases h2.1.1.df with ⟨d, _⟩ | ⟨_, d2, d3, d4, d5, d6, d7, d8⟩
        · exact d
        · have q := h2.1.1.1.f3 (dfV τ)
          exfalso; omega
      rw [if_pos c2] at hx
      rw [if_pos hd] at hm
      cases hx
      cases hm
      exact ⟨rfl, ST.mk' h1 (by omega) h2⟩
    · obtain ⟨_, k1, k2, k3⟩ := g1 c2 c1
      rw [if_neg c2] at hx
      rw [if_neg k1] at hm
      cases hx
      cases hm
      exact ⟨k2, k3⟩
theorem ST.weight {B : Int} {σ τ : XS} (h : ST B σ τ) {z z' : Int} {u u' : XS} (hx : (if adThere σ ≤ 0 then -4 else σ.2 12 (adThere σ)) = z ∧ σ = u) (hm : (if dfV τ = -4 then -4 else τ.2 3 (dfV τ)) = z' ∧ τ = u') : z = z' ∧ ST (B + 20) u u' := by
  obtain ⟨h1, pth, h2⟩ := h
  obtain ⟨rfl, rfl⟩ := hx
  obtain ⟨rfl, rfl⟩ := hm
  exact ⟨h2.1.1.weight, ST.mk' h1 (by omega) h2⟩
theorem ST.words {B : Int} {σ τ : XS} (h : ST B σ τ) {z z' : Int} {u u' : XS} (hx : σ.1 5 = z ∧ σ = u) (hm : τ.1 4 = z' ∧ τ = u') : z = z' ∧ ST (B + 20) u u' := by
  obtain ⟨h1, pth, h2⟩ := h
  obtain ⟨rfl, rfl⟩ := hx
  obtain ⟨rfl, rfl⟩ := hm
  exact ⟨h2.1.1.2.2.2.2.2.1.1, ST.mk' h1 (by omega) h2⟩
theorem ST.typ1 {B : Int} (hB : 10 ≤ B) {σ τ : XS} (h : ST B σ τ) (a : Int) (c1 : ¬ (a < 0 ∨ 3 < a)) (c2 : ¬ σ.1 3 = 6) : rankOK (typP σ a) ∧ ST (B + 20) (rankF (typP σ a)) (apM τ 13 a) := by
  obtain ⟨h1, pth, h2⟩ := h
  have q := h1.i3
  obtain ⟨g1, g2⟩ := (h2.typ (a := a) (by omega) c2).rank
  exact ⟨g1, ST.mk' (OK_rankF ((OK_out (by omega) (σ.1 3) 7 0 _ (h1.sA4 (by omega))).sI3 (by omega)) g1) (by omega) g2⟩
theorem ST.typ {B : Int} (hB : 10 ≤ B) {σ τ : XS} (h : ST B σ τ) (a : Int) {z z' : Int} {u u' : XS} (hx : (if a < 0 ∨ 3 < a then ((-1, σ) : Int × XS) else if σ.1 3 = 6 then (-2, σ) else (σ.1 3 + 1, rankF (typP σ a))) = (z, u)) (hm : (if a < 0 ∨ 3 < a then ((-1, τ) : Int × XS) else if τ.2 2 13 = 6 then (-2, τ) else (τ.2 2 13 + 1, apM τ 13 a)) = (z', u')) : z = z' ∧ ST (B + 20) u u' := by
  have g := h.typ1 hB a
  obtain ⟨h1, pth, h2⟩ := h
  have e := h2.1.1.2.2.2.1.1
  by_cases c1 : a < 0 ∨ 3 < a
  · rw [if_pos c1] at hx hm
    cases hx
    cases hm
    exact ⟨rfl, ST.mk' h1 (by omega) h2⟩
  · rw [if_neg c1] at hx hm
    rw [← e] at hm
    by_cases c2 : σ.1 3 = 6
    · rw [if_pos c2] at hx hm
      cases hx
      cases hm
      exact ⟨rfl, ST.mk' h1 (by omega) h2⟩
    · rw [if_neg c2] at hx hm
      cases hx
      cases hm
      exact ⟨rfl, (g c1 c2).2⟩
theorem ST.cut {B : Int} {σ τ : XS} (h : ST B σ τ) {n : Int} (h0 : 0 ≤ n) (hn : n ≤ σ.1 3) : rankOK (sI σ 3 n) ∧ ST (B + 20) (rankF (sI σ 3 n)) (sA τ 2 13 n) := by
  obtain ⟨h1, pth, h2⟩ := h
  have q := h1.i3
  obtain ⟨g1, g2⟩ := (h2.1.cut h0 hn).rank
  exact ⟨g1, ST.mk' (OK_rankF (h1.sI3 (by omega)) g1) (by omega) g2⟩
theorem ST.back1 {B : Int} {σ τ : XS} (h : ST B σ τ) (c1 : ¬ σ.1 3 = 0) : rankOK (sI σ 3 (σ.1 3 - 1)) := by
  have q := h.1.i3
  exact (h.cut (n := σ.1 3 - 1) (by omega) (by omega)).1
theorem ST.back {B : Int} {σ τ : XS} (h : ST B σ τ) {z z' : Int} {u u' : XS} (hx : (if σ.1 3 = 0 then ((-4, σ) : Int × XS) else (σ.2 4 (σ.1 3 - 1), rankF (sI σ 3 (σ.1 3 - 1)))) = (z, u)) (hm : (if τ.2 2 13 = 0 then ((-4, τ) : Int × XS) else (τ.2 1 (78 + (τ.2 2 13 - 1)), sA τ 2 13 (τ.2 2 13 - 1))) = (z', u')) : z = z' ∧ ST (B + 20) u u' := by
  have q := h.1.i3
  have g := fun n a b => (h.cut (n := n) a b).2
  obtain ⟨h1, pth, h2⟩ := h
  have e := h2.1.1.2.2.2.1
  rw [← e.1] at hm
  by_cases c1 : σ.1 3 = 0
  · rw [if_pos c1] at hx hm
    cases hx
    cases hm
    exact ⟨rfl, ST.mk' h1 (by omega) h2⟩
  · rw [if_neg c1] at hx hm
    cases hx
    cases hm
    exact ⟨e.2 _ (by omega) (by omega), g _ (by omega) (by omega)⟩
theorem ST.reset1 {B : Int} {σ τ : XS} (h : ST B σ τ) : rankOK (sI σ 3 0) := by
  have q := h.1.i3
  exact (h.cut (n := 0) (by omega) (by omega)).1
theorem ST.reset {B : Int} {σ τ : XS} (h : ST B σ τ) {u u' : XS} (hx : rankF (sI σ 3 0) = u) (hm : sA τ 2 13 0 = u') : ST (B + 20) u u' := by
  have q := h.1.i3
  subst hx
  subst hm
  exact (h.cut (n := 0) (by omega) (by omega)).2
theorem ST.length {B : Int} {σ τ : XS} (h : ST B σ τ) {z z' : Int} {u u' : XS} (hx : σ.1 3 = z ∧ σ = u) (hm : τ.2 2 13 = z' ∧ τ = u') : z = z' ∧ ST (B + 20) u u' := by
  obtain ⟨h1, pth, h2⟩ := h
  obtain ⟨rfl, rfl⟩ := hx
  obtain ⟨rfl, rfl⟩ := hm
  exact ⟨h2.1.1.2.2.2.1.1, ST.mk' h1 (by omega) h2⟩
theorem ST.offered {B : Int} {σ τ : XS} (h : ST B σ τ) {z z' : Int} {u u' : XS} (hx : σ.1 14 = z ∧ σ = u) (hm : ofV τ = z' ∧ sameM τ u') : z = z' ∧ ST (B + 20) u u' := by
  obtain ⟨h1, pth, h2⟩ := h
  obtain ⟨rfl, rfl⟩ := hx
  obtain ⟨rfl, g⟩ := hm
  exact ⟨h2.offered, ST.mk' h1 (by omega) (h2.same g)⟩
theorem ST.offer {B : Int} {σ τ : XS} (h : ST B σ τ) (a : Int) {z z' : Int} {u u' : XS} (hx : (if a < 0 ∨ σ.1 14 ≤ a then -4 else σ.2 11 (σ.2 15 a)) = z ∧ σ = u) (hm : (if waV τ a = -4 then -4 else cdL (τ.2 1) (waV τ a) (τ.2 2 (waV τ a)).toNat 0 0) = z' ∧ sameM τ u') : z = z' ∧ ST (B + 20) u u' := by
  obtain ⟨h1, pth, h2⟩ := h
  obtain ⟨rfl, rfl⟩ := hx
  obtain ⟨rfl, g⟩ := hm
  exact ⟨h2.offer a, ST.mk' h1 (by omega) (h2.same g)⟩
theorem ST.distance {B : Int} {σ τ : XS} (h : ST B σ τ) (a : Int) {z z' : Int} {u u' : XS} (hx : (if a < 0 ∨ σ.1 14 ≤ a then -4 else σ.2 16 a) = z ∧ σ = u) (hm : (if waV τ a = -4 then -4 else rchV τ (waV τ a)) = z' ∧ sameM τ u') : z = z' ∧ ST (B + 20) u u' := by
  obtain ⟨h1, pth, h2⟩ := h
  obtain ⟨rfl, rfl⟩ := hx
  obtain ⟨rfl, g⟩ := hm
  exact ⟨h2.distance a, ST.mk' h1 (by omega) (h2.same g)⟩
theorem ST.weightAt {B : Int} {σ τ : XS} (h : ST B σ τ) (a : Int) {z z' : Int} {u u' : XS} (hx : (if a < 0 ∨ σ.1 14 ≤ a then -4 else σ.2 12 (σ.2 15 a)) = z ∧ σ = u) (hm : (if waV τ a = -4 then -4 else τ.2 3 (waV τ a)) = z' ∧ sameM τ u') : z = z' ∧ ST (B + 20) u u' := by
  obtain ⟨h1, pth, h2⟩ := h
  obtain ⟨rfl, rfl⟩ := hx
  obtain ⟨rfl, g⟩ := hm
  exact ⟨h2.weightAt a, ST.mk' h1 (by omega) (h2.same g)⟩
theorem ST.nearest {B : Int} {σ τ : XS} (h : ST B σ τ) {z z' : Int} {u u' : XS} (hx : nrF σ = z ∧ σ = u) (hm : nmV τ = z' ∧ sameM τ u') : z = z' ∧ ST (B + 20) u u' := by
  obtain ⟨h1, pth, h2⟩ := h
  obtain ⟨rfl, rfl⟩ := hx
  obtain ⟨rfl, g⟩ := hm
  exact ⟨h2.1.nearest, ST.mk' h1 (by omega) (h2.same g)⟩
theorem ST.exa {B : Int} {σ τ : XS} (h : ST B σ τ) {z z' : Int} {u u' : XS} (hx : (if qyNode σ < 0 then 0 else σ.2 6 (qyNode σ)) = z ∧ σ = u) (hm : exV τ = z' ∧ τ = u') : z = z' ∧ ST (B + 20) u u' := by
  obtain ⟨h1, pth, h2⟩ := h
  obtain ⟨rfl, rfl⟩ := hx
  obtain ⟨rfl, rfl⟩ := hm
  exact ⟨h2.1.1.exa, ST.mk' h1 (by omega) h2⟩
theorem ST.continues {B : Int} {σ τ : XS} (h : ST B σ τ) {z z' : Int} {u u' : XS} (hx : coLoop σ (qyNode σ) 4 0 0 = z ∧ σ = u) (hm : ctL τ (τ.1 4).toNat 0 0 = z' ∧ τ = u') : z = z' ∧ ST (B + 20) u u' := by
  obtain ⟨h1, pth, h2⟩ := h
  obtain ⟨rfl, rfl⟩ := hx
  obtain ⟨rfl, rfl⟩ := hm
  exact ⟨h2.1.1.continues, ST.mk' h1 (by omega) h2⟩
/-! THE START: nothing but the limit -/
def sX0 (k : Int) : XS := (fun q => if q = 0 then k else 0, fun q => if q = 12 then fun _ => -4 else fun _ => 0)
def sM0 (k : Int) : XS := (fun q => if q = 0 then k else 0, fun _ _ => 0)
theorem OKx_0 {k : Int} (hk : 0 ≤ k ∧ k ≤ 3) {σ : XS} (h1 : ∀ q, σ.1 q = (sX0 k).1 q) (h2 : ∀ q j, (q = 12 ∧ (σ.2 q j = -4 ∨ σ.2 q j = 0)) ∨ (q ≠ 12 ∧ σ.2 q j = 0)) : OKx 10 σ := by
  have e0 : σ.1 0 = k := h1 0
  have e1 : ∀ q, q ≠ 0 → σ.1 q = 0 := fun q hq => (h1 q).trans (if_neg hq)
  have z : ∀ q, q ≠ 12 → ∀ j, σ.2 q j = 0 := fun q hq j => by
    rcases h2 q j with h | h
    · exact absurd h.1 hq
    · exact h.2
  have z12 : ∀ j, σ.2 12 j = -4 ∨ σ.2 12 j = 0 := fun j => by
    rcases h2 12 j with h | h
    · exact h.2
    · exact absurd rfl h.1
  unfold OKx
  rw [e0, e1 1 (by omega), e1 3 (by omega), e1 5 (by omega), e1 14 (by omega)]
  refine ⟨hk, by omega, fun j => by rw [z 2 (by omega)]; omega, by omega, fun j => by rw [z 4 (by omega)]; omega, by omega, fun j => by rw [z 6 (by omega)]; omega, fun j => by rw [z 7 (by omega)]; omega, fun j => by rw [z 8 (by omega)]; omega, fun j => by rw [z 9 (by omega)]; omega, fun j => by rw [z 10 (by omega)]; omega, fun j => by have := z12 j; omega, fun j => by rw [z 13 (by omega)]; omega, by omega, fun j => by rw [z 15 (by omega)]; omega, fun j => by rw [z 16 (by omega)]; omega, fun j => by rw [z 17 (by omega)]; omega, fun j => by rw [z 18 (by omega)]; omega⟩
/-- the constructor's state ahead of layOut: weights -4 in its 80 places -/
theorem BASE.start {k : Int} (hk : 0 ≤ k ∧ k ≤ 3) {σ : XS} (h1 : ∀ q, σ.1 q = (sX0 k).1 q) (h2 : ∀ q j, (q = 12 ∧ (σ.2 q j = -4 ∨ σ.2 q j = 0)) ∨ (q ≠ 12 ∧ σ.2 q j = 0)) : BASE σ (sM0 k) (fun _ => []) := by
  have e0 : σ.1 0 = k := h1 0
  have e1 : ∀ q, q ≠ 0 → σ.1 q = 0 := fun q hq => (h1 q).trans (if_neg hq)
  have z : ∀ q, q ≠ 12 → ∀ j, σ.2 q j = 0 := fun q hq j => by
    rcases h2 q j with h | h
    · exact absurd h.1 hq
    · exact h.2
  have hin : ∀ n, inT σ n → n = 0 := fun n hn => by
    have h := hn.2.2
    rw [z 6 (by omega)] at h
    omega
  have ew : wsM (sM0 k) = [] := rfl
  refine ⟨⟨hk, fun j => ⟨Int.le_refl 0, by show (0 : Int) ≤ 3; omega⟩, fun j => ⟨Int.le_refl 0, by show (0 : Int) ≤ 6; omega⟩, fun j => ⟨Int.le_refl 0, by show (0 : Int) ≤ 99; omega⟩, ⟨Int.le_refl 0, by show (0 : Int) ≤ 12; omega⟩⟩, e0, ⟨e1 1 (by omega), fun i i0 i1 => ?_⟩, ⟨e1 3 (by omega), fun i i0 i1 => ?_⟩, ?_, ⟨e1 5 (by omega), z 6 (by omega) 0⟩, ?_, ?_, fun n => ?_, fun n => ?_, fun n => ?_⟩
  · rw [z 2 (by omega)]; rfl
  · rw [z 4 (by omega)]; rfl
  · rw [ew]
    refine ⟨rfl, fun n hn e => absurd (hin n hn) e, fun n hn => ⟨?_, ?_⟩, fun n m hn hm _ => (hin n hn).trans (hin m hm).symm, fun n c hn hc => Or.inl ⟨z 7 (by omega) _, fun m _ y => absurd y (by simp)⟩, fun n hn e => absurd (hin n hn) e, fun n hn e => by rw [z 6 (by omega)]; omega, fun p h1 h2 => ?_, fun n hn e => absurd (hin n hn) e⟩
    · rw [z 10 (by omega)]; rfl
    · rw [z 11 (by omega)]; rfl
    · rcases h2 with ⟨w, g, _⟩ | g
      · exact absurd g List.not_mem_nil
      · exact absurd (List.prefix_nil.mp g) h1
  · rw [ew]; exact List.Pairwise.nil
  · rw [ew]; exact fun w hw => absurd hw List.not_mem_nil
  · rw [z 9 (by omega)]; omega
  · rw [z 2 (by omega)]; omega
  · rw [z 4 (by omega)]; omega
theorem ST.start {k : Int} (hk : 0 ≤ k ∧ k ≤ 3) {σ : XS} (h1 : ∀ q, σ.1 q = (sX0 k).1 q) (h2 : ∀ q j, (q = 12 ∧ (σ.2 q j = -4 ∨ σ.2 q j = 0)) ∨ (q ≠ 12 ∧ σ.2 q j = 0)) : rankOK (layP σ) ∧ ST 10 (layF σ) (sM0 k) := by
  obtain ⟨g1, g2⟩ := (BASE.start hk h1 h2).layA
  exact ⟨g1, OK_rankF (OK_layP (by omega) (OKx_0 hk h1 h2)) g1, _, g2⟩
end
section
/-! ROWS FOR CONSTRUCTORS: the world as the list of its cells, which grows -/
set_option maxRecDepth 100000
section XK
variable {S : Type} {p : Program} {l : Launch} {e : Env} {R : Room} {s : State} {m : MethodId} {args : Array Value} {below : List Frame} {meth : Method} {c : Code} {cells slots : Nat} {Q : State → Prop} {D : va_G} {cl : List vw_C} {A : Nat → Prop} {w : S → va_W} {cc : ByteArray} {nL : Nat} {own : String} {tys : List (ClassId × FieldType)} {σ : S} {L : List (Option Value)} {st : List Value} {pc : Nat}
theorem x_turn {S' : Type} {w' : S' → va_W} {σ' : S'} (h : w σ = w' σ') (kk : XW p l e R s m args below meth c cells slots Q D cl A w' σ' L st pc) : XW p l e R s m args below meth c cells slots Q D cl A w σ L st pc :=
  fun H locs ls hP hD hS hz => kk H locs ls (h ▸ hP) (h ▸ hD) hS hz
theorem x_widen {k n : Nat} (h1 : cells ≤ k) (h2 : slots ≤ n) (kk : XW p l e R s m args below meth c k n Q D cl A w σ L st pc) : XW p l e R s m args below meth c cells slots Q D cl A w σ L st pc :=
  fun H locs ls hP hD hS hz => W.widen h1 h2 (kk H locs ls hP hD hS hz)
theorem x_objInit (hC : XC p s m args meth c D cl A cc nL own tys) {idx o : Nat} (hl : Cond.methodLink own idx Lib.objectInit ∈ lw_all) (h1 : Cond.instanceMethod Lib.objectInit ∈ lw_all) (h2 : Cond.code Lib.objectInit ⟨#[0xb1]⟩ 1 none ∈ lw_all) (hLn : L.length = nL) (hcat : (st.map fun v => v.category).sum ≤ 8) (hf : 1 ≤ R.frames) (hR : 20 ≤ R.locals) (hd : decode cc pc = .ok (.invokespecial idx, 3)) (kk : XW p l e R s m args below meth c cells slots Q D cl A w σ L st (pc + 3)) : XW p l e R s m args below meth c cells slots Q D cl A w σ L (.ref o :: st) pc := by
  intro H locs ls hP hD hS hz
  refine W.objInit hC.1 hC.2.1 hC.2.2.2.1 (hC.2.2.2.2.1 _ hl) (hC.2.2.2.2.1 _ h1) (hC.2.2.2.2.1 _ h2) rfl (by rw [hC.2.2.1, ← hLn]; exact hz.1) rfl hd hf ?_ ?_
  · have q := lv_room (m := m) (pc := pc) (ls := ls) (rest := .ref o :: st) hcat
    omega
  · exact kk H locs ls hP hD hS hz
theorem x_putF (hC : XC p s m args meth c D cl A cc nL own tys) (hini : meth.name = "<init>") {ref C : String} {T : u_T} {N ci index a : Nat} (hin : ∀ w ∈ u_ws C T N, w ∈ lw_all) (ty0 : Nat → FieldType) (hty : ∀ k, k < N → parseFieldDescriptor (T k).2.2.1 = some (ty0 k)) (hnm : ∀ a, a < N → ∀ b, b < N → a ≠ b → (T a).2.1 ≠ (T b).2.1) (q0 : Nat) {fs : List Value} (he : (w σ)[q0]? = some (a, .inr (ci, fs))) (hc : cl[ci]? = some (C, T, N)) (k : Nat) (hk : k < N) (hlink : Cond.fieldLink own index ref (T k).2.1 (T k).2.2.1 ∈ lw_all) (hr : (T k).1 = ref) (hfin : (T k).2.2.2 = true) (hdecl : (T k).1 = own) {ty : FieldType} {v : Value} (htk : ty0 k = ty) (hn : narrow ty v = v) (hfit : fits ty v = true) (hl : k < fs.length) {σ' : S} (hw : (w σ).set q0 (a, .inr (ci, fs.set k v)) = w σ') (hd : decode cc pc = .ok (.putfield index, 3)) (kk : XW p l e R s m args below meth c cells slots Q D cl A w σ' L st (pc + 3)) : XW p l e R s m args below meth c cells slots Q D cl A w σ L (v :: .ref a :: st) pc :=
  fun H locs ls hP hD hS hz => va_putF hC.1 hC.2.1 hC.2.2.2.2.1 hin ty0 hty hnm hC.2.2.2.1 hC.2.2.2.2.2.1 hP hD hS q0 he hc k hk (hC.2.2.2.2.1 _ hlink) (fun x h => by rw [← hr]; exact h) hfin hini hdecl (by rw [hty k hk, htk]) hn hfit hl hd (fun H1 locs1 hP1 hD1 hS1 => kk H1 locs1 ls (hw ▸ hP1) (hw ▸ hD1) hS1 hz)
/-- a new array of n zeros -/
def arr0 (cA : ClassId) (q n : Nat) : Nat × va_E := (q, .inl (cA, n, .inl (fun j : Nat => iI ((fun _ => 0 : Int → Int) (j : Int)))))
theorem x_newa {cA : ClassId} (hC : XC p s m args meth c D cl A cc nL own [(cA, .int)]) {σ : va_W} (n : Nat) (hd : decode cc pc = .ok (.newarray .int, 2)) (hn : n < 100000) (hcells : cells + 1 ≤ R.cells) (hslots : slots + n ≤ R.slots) (kk : ∀ q : Nat, XW p l e R s m args below meth c (cells + 1) (slots + n) Q D cl A (fun w : va_W => w) (σ ++ [arr0 cA q n]) L (.ref q :: st) (pc + 2)) : XW p l e R s m args below meth c cells slots Q D cl A (fun w : va_W => w) σ L (.int (iI (n : Int)) :: st) pc := by
  intro H locs ls hP hD hS hz
  have e1 := iI_cl (i := (n : Int)) (by omega)
  refine va_newa (a0 := (n, .inl (fun j : Nat => iI ((fun _ => 0 : Int → Int) (j : Int))))) (N' := n) (atype := .int) hC.1 hC.2.1 (hC.2.2.2.2.1 _ q132) rfl hC.2.2.2.2.2.1 hP hD hS hC.2.2.2.2.2.2.2 (fun cA => rfl) ?_ ?_ ?_ hcells hslots hd (fun q cB H1 hK1 hP1 hD1 hS1 => ?_)
  · rw [← iI_0, iI_lt (by omega) (by omega)]
    omega
  · omega
  · show n * 4 ≤ _
    omega
  · have k1 := (hC.2.2.2.2.2.1.2 0 _ rfl).2
    have k2 := (hK1.2 1 _ rfl).2
    have e2 : cB = cA := Option.some.inj ((show s.vm.findClass _ = some cB from k2).symm.trans (show s.vm.findClass _ = some cA from k1))
    rw [e2] at hP1 hD1
    exact kk q H1 locs ls hP1 hD1 hS1 hz
/-- a constructor's contract: out of the cells w0 (its object, new) comes the world wC -/
def MC (l : Launch) (y : MethodName) (ws : List Cond) (rm : Room) (wC : (Nat → Nat) → XS → va_W) (D : va_G) (cl : List vw_C) (tys : List (ClassId × FieldType)) (o : Nat) (As : List Value) (w0 : va_W) (post : XS → Prop) (mc ms : Nat) : Prop :=
  ∀ sz : Nat, Met l y ws rm (va_Pc (.ref o :: As) (fun U => U.heap.size = sz ∧ va_P D cl w0 U.heap ∧ va_K D cl tys U ∧ va_D (fun _ => True) w0)) (va_Qv (fun u : (Nat → Nat) × XS => u.1 0 = o ∧ post u.2) (fun u t => va_P D cl (wC u.1 u.2) t.heap ∧ va_K D cl tys t ∧ va_D (va_A w0 sz) (wC u.1 u.2)) (va_A w0 sz)) mc ms (va_A w0 sz)
theorem MC.of {y : MethodName} {rm : Room} {o : Nat} {As : List Value} {w0 : va_W} {wC : (Nat → Nat) → XS → va_W} {post : XS → Prop} {mc ms : Nat} (hy : plainName y.cls = true) (ho : y.cls = own) (hyn : y.name = "<init>") (hc : ∀ v ∈ As, v.category = 1) (hn : As.length + 1 ≤ nL) (hL : (Value.ref o :: As).map some ++ List.replicate (nL - (Value.ref o :: As).length) none = L)
    (body : ∀ (p : Program) (e : Env) (s : State) (m : MethodId) (below : List Frame) (meth : Method) (c : Code) (A : Nat → Prop), XC p s m (Value.ref o :: As).toArray meth c D cl A cc nL own tys → meth.sig.returnType = none → meth.name = "<init>" →
      XW p l e rm s m (Value.ref o :: As).toArray below meth c 0 0 (MQ below (va_Qv (fun u : (Nat → Nat) × XS => u.1 0 = o ∧ post u.2) (fun u t => va_P D cl (wC u.1 u.2) t.heap ∧ va_K D cl tys t ∧ va_D A (wC u.1 u.2)) A) (Value.ref o :: As).toArray s mc ms A) D cl A (fun w : va_W => w) w0 L [] 0) : MC l y (ws_ y cc nL none) rm wC D cl tys o As w0 post mc ms := by
  intro sz
  refine Met.ofW (cc := cc) (maxL := nL) (ret := none) hy rfl ?_
  intro p e s m args below meth c s₁ B hml hv
  obtain ⟨rfl, hsz, hP, hK, hD0⟩ := hv
  have hts := atoms_spec (ws := ws_ y cc nL none) B.pre
  have hts : ∀ w ∈ lw_all, w.before _ s = true := fun w h => hts w (List.mem_cons_of_mem _ h)
  have hown : s.vm.findClass own = some m.cls := ho ▸ findClass_of_methodNamed B.named
  have hin : meth.name = "<init>" := (name_of_methodNamed B.named B.method).1.trans hyn
  subst hsz
  have hD := hD0.self (sz := s.heap.size)
  have hz := lz_entry (Value.ref o :: As) (fun v hv => by
    rcases List.mem_cons.mp hv with h | h
    · rw [h]; rfl
    · exact hc v h) (n := nL) (by simpa using hn)
  rw [hL] at hz
  rw [lg_entry_eq]
  exact body p e s m below meth c _ ⟨B.exec, B.bytes, hml, hown, hts, hK, B.notSynchronized, fun q h => Or.inr h⟩ B.returns hin s.heap [] _ hP hD va_S.rf hz
theorem x_cret (hC : XC p s m args meth c D cl A cc nL own tys) (hr : meth.sig.returnType = none) {o : Nat} {wC : (Nat → Nat) → XS → va_W} {h : Nat → Nat} {υ : XS} {post : XS → Prop} (hd : decode cc pc = .ok (.return_, 1)) (h0 : h 0 = o) (hp : post υ) : XW p l e R s m args below meth c cells slots (MQ below (va_Qv (fun u : (Nat → Nat) × XS => u.1 0 = o ∧ post u.2) (fun u t => va_P D cl (wC u.1 u.2) t.heap ∧ va_K D cl tys t ∧ va_D A (wC u.1 u.2)) A) args s cells slots A) D cl A (wC h) υ L [] pc :=
  fun H locs ls hP hD hS hz => W.vret hC.1 hC.2.1 hr (fun t ht hW => ⟨⟨(h, υ), rfl, ⟨h0, hp⟩, by rw [ht]; exact hP, va_K.moved hW.alike hC.2.2.2.2.2.1, hD⟩, hS.F ht⟩) hS.2.2 hd hC.2.2.2.2.2.2.1
end XK
end
section
/-! THE CONSTRUCTORS -/
set_option maxRecDepth 100000
def clampK (a : Int) : Int := if a < 0 then 0 else if 3 < a then 3 else a
theorem clampK_rg (a : Int) : 0 ≤ clampK a ∧ clampK a ≤ 3 := by
  unfold clampK
  repeat' split
  all_goals omega
def s00 : XS := (fun _ => 0, fun _ _ => 0)
def fsX0 : List Value := [.int (iI 0), .int (iI 0), .null, .int (iI 0), .null, .int (iI 0), .null, .null, .null, .null, .null, .null, .null, .null, .int (iI 0), .null, .null, .null, .null]
def fsM0 : List Value := [.int (iI 0), .null, .null, .null, .int (iI 0), .null]
def hX1 (o q2 q4 q6 q7 q8 q9 q10 q11 q12 q13 q15 q16 q17 q18 : Nat) : Nat → Nat := fun k => match k with
  | 0 => o
  | 2 => q2
  | 4 => q4
  | 6 => q6
  | 7 => q7
  | 8 => q8
  | 9 => q9
  | 10 => q10
  | 11 => q11
  | 12 => q12
  | 13 => q13
  | 15 => q15
  | 16 => q16
  | 17 => q17
  | 18 => q18
  | _ => 0
def hM1 (o q1 q2 q3 q5 : Nat) : Nat → Nat := fun k => match k with
  | 0 => o
  | 1 => q1
  | 2 => q2
  | 3 => q3
  | 5 => q5
  | _ => 0
abbrev rX1_init : Room := ({ frames := 4, cells := 14, slots := 1556, locals := 96 } : Room)
abbrev rX2_init : Room := ({ frames := 1, cells := 4, slots := 159, locals := 20 } : Room)
-- the weights: their loop, and layOut behind it
set_option maxHeartbeats 4000000 in
theorem ctorX_loop {p : Program} {l : Launch} {e : Env} {s : State} {m : MethodId} {below : List Frame} {meth : Method} {c : Code} {D : va_G} {A : Nat → Prop} {cA : ClassId} {h : Nat → Nat} {o : Nat} {a : Int} (hC : XC p s m (Value.ref o :: [.int (iI a)]).toArray meth c D vwCl A cX1_init 4 RX1 [(cA, .int)]) (hr : meth.sig.returnType = none) (h0 : h 0 = o) : ∀ (n : Nat) (i : Int) (τ : XS), 0 ≤ i → i + (n : Int) = 80 → (∀ q, τ.1 q = (sX0 (clampK a)).1 q) → (∀ q j, (q = 12 ∧ (τ.2 q j = -4 ∨ τ.2 q j = 0)) ∨ (q ≠ 12 ∧ τ.2 q j = 0)) → XW p l e rX1_init s m (Value.ref o :: [.int (iI a)]).toArray below meth c 14 1556 (MQ below (va_Qv (fun u : (Nat → Nat) × XS => u.1 0 = o ∧ ST 10 u.2 (sM0 (clampK a))) (fun u t => va_P D vwCl (wX u.1 cA u.2) t.heap ∧ va_K D vwCl [(cA, .int)] t ∧ va_D A (wX u.1 cA u.2)) A) (Value.ref o :: [.int (iI a)]).toArray s 14 1556 A) D vwCl A (wX h cA) τ [some (.ref (h 0)), some (.int (iI a)), some (.int (iI (clampK a))), some (.int (iI i))] [] 140 := by
  intro n
  induction n with
  | zero =>
    intro i τ hi hn h1 h2
    obtain ⟨g1, g2⟩ := ST.start (clampK_rg a) h1 h2
    have ok := OKx_0 (clampK_rg a) h1 h2
    refine x_iload_n (i := 3) hC dX1_init_140 rfl rfl ?_
    refine x_bipush hC dX1_init_141 bp_80 ?_
    refine x_icmp_ge hC 160 dX1_init_143 (by decide) (by omega) (by omega) (fun h143 => ?_) (fun h143 => by exfalso; omega)
    refine x_aload_n (i := 0) hC dX1_init_160 rfl rfl ?_
    refine x_callV hC (tX1_layOut l D cA h τ (B := 10) (by omega) ok g1) gX1_X1_layOut hyX1_layOut ⟨rfl, rfl⟩ ⟨Nat.le_of_ble_eq_true rfl, Nat.le_of_ble_eq_true rfl⟩ ⟨Nat.le_of_ble_eq_true rfl, Nat.le_of_ble_eq_true rfl⟩ (ci := 0) (q0 := 0) rfl rfl rfl rfl (Nat.le_of_ble_eq_true rfl) rfl dX1_init_161 (fun u hu => ?_)
    subst hu
    exact x_cret (wC := fun h u => wX h cA u) (post := fun u => ST 10 u (sM0 (clampK a))) hC hr dX1_init_164 h0 g2
  | succ n ih =>
    intro i τ hi hn h1 h2
    refine x_iload_n (i := 3) hC dX1_init_140 rfl rfl ?_
    refine x_bipush hC dX1_init_141 bp_80 ?_
    refine x_icmp_ge hC 160 dX1_init_143 (by decide) (by omega) (by omega) (fun h143 => by exfalso; omega) (fun h143 => ?_)
    refine x_aload_n (i := 0) hC dX1_init_146 rfl rfl ?_
    refine x1_g12 hC dX1_init_147 ?_
    refine x_iload_n (i := 3) hC dX1_init_150 rfl rfl ?_
    refine x_bipush hC dX1_init_151 bp_m4 ?_
    refine x1_s12 hC (by omega) dX1_init_153 ?_
    refine x_iinc hC dX1_init_154 (i := 3) rfl rfl ?_
    refine x_goto hC 140 dX1_init_157 (by decide) ?_
    refine ih (i + 1) _ (by omega) (by omega) h1 (fun q j => ?_)
    by_cases e : q = 12
    · subst e
      refine Or.inl ⟨rfl, ?_⟩
      show fU (τ.2 12) i (-4) j = -4 ∨ fU (τ.2 12) i (-4) j = 0
      by_cases z : j = i
      · rw [z, fU_s]; exact Or.inl rfl
      · rw [fU_n z]
        rcases h2 12 j with y | y
        · exact y.2
        · exact absurd rfl y.1
    · refine Or.inr ⟨e, ?_⟩
      rw [sA_ne _ _ _ e]
      rcases h2 q j with y | y
      · exact absurd y.1 e
      · exact y.2
-- the limit goes in
set_option maxHeartbeats 4000000 in
theorem ctorX_lim {p : Program} {l : Launch} {e : Env} {s : State} {m : MethodId} {below : List Frame} {meth : Method} {c : Code} {D : va_G} {A : Nat → Prop} {cA : ClassId} {h : Nat → Nat} {o : Nat} {a : Int} (hC : XC p s m (Value.ref o :: [.int (iI a)]).toArray meth c D vwCl A cX1_init 4 RX1 [(cA, .int)]) (hr : meth.sig.returnType = none) (hini : meth.name = "<init>") (h0 : h 0 = o) (k : Int) (hk : clampK a = k) : XW p l e rX1_init s m (Value.ref o :: [.int (iI a)]).toArray below meth c 14 1556 (MQ below (va_Qv (fun u : (Nat → Nat) × XS => u.1 0 = o ∧ ST 10 u.2 (sM0 (clampK a))) (fun u t => va_P D vwCl (wX u.1 cA u.2) t.heap ∧ va_K D vwCl [(cA, .int)] t ∧ va_D A (wX u.1 cA u.2)) A) (Value.ref o :: [.int (iI a)]).toArray s 14 1556 A) D vwCl A (wX h cA) s00 [some (.ref (h 0)), some (.int (iI a)), some (.int (iI k)), none] [] 133 := by
  subst hk
  refine x_aload_n (i := 0) hC dX1_init_133 rfl rfl ?_
  refine x_iload_n (i := 2) hC dX1_init_134 rfl rfl ?_
  refine x_putF (σ' := sI s00 0 (clampK a)) hC hini in_X1 tyX1 tyX1_ok nmX1 0 rfl rfl 0 (by decide) q74 rfl rfl rfl (ty := .int) rfl rfl rfl (Nat.le_of_ble_eq_true rfl) rfl dX1_init_135 ?_
  refine x_iconst hC dX1_init_138 ?_
  refine x_istore_n (i := 3) hC dX1_init_139 rfl (Nat.le_of_ble_eq_true rfl) rfl ?_
  refine ctorX_loop hC hr h0 80 0 _ (by omega) (by omega) (fun q => ?_) (fun q j => ?_)
  · rfl
  · by_cases e : q = 12
    · exact Or.inl ⟨e, Or.inr rfl⟩
    · exact Or.inr ⟨e, rfl⟩
set_option maxHeartbeats 4000000 in
theorem ctorX_mid {p : Program} {l : Launch} {e : Env} {s : State} {m : MethodId} {below : List Frame} {meth : Method} {c : Code} {D : va_G} {A : Nat → Prop} {cA : ClassId} {h : Nat → Nat} {o : Nat} {a : Int} (hC : XC p s m (Value.ref o :: [.int (iI a)]).toArray meth c D vwCl A cX1_init 4 RX1 [(cA, .int)]) (hr : meth.sig.returnType = none) (hini : meth.name = "<init>") (h0 : h 0 = o) (k : Int) (hk0 : 0 ≤ k ∧ k ≤ 2147483647) (hk : clampK a = if 3 < k then 3 else k) : XW p l e rX1_init s m (Value.ref o :: [.int (iI a)]).toArray below meth c 14 1556 (MQ below (va_Qv (fun u : (Nat → Nat) × XS => u.1 0 = o ∧ ST 10 u.2 (sM0 (clampK a))) (fun u t => va_P D vwCl (wX u.1 cA u.2) t.heap ∧ va_K D vwCl [(cA, .int)] t ∧ va_D A (wX u.1 cA u.2)) A) (Value.ref o :: [.int (iI a)]).toArray s 14 1556 A) D vwCl A (wX h cA) s00 [some (.ref (h 0)), some (.int (iI a)), some (.int (iI k)), none] [] 126 := by
  refine x_iload_n (i := 2) hC dX1_init_126 rfl rfl ?_
  refine x_iconst hC dX1_init_127 ?_
  refine x_icmp_le hC 133 dX1_init_128 (by decide) (by omega) (by omega) (fun h128 => ?_) (fun h128 => ?_)
  · exact ctorX_lim hC hr hini h0 k (by rw [hk, if_neg (by omega)])
  · refine x_iconst hC dX1_init_131 ?_
    refine x_istore_n (i := 2) hC dX1_init_132 rfl (Nat.le_of_ble_eq_true rfl) rfl ?_
    exact ctorX_lim hC hr hini h0 3 (by rw [hk, if_pos (by omega)])
set_option maxHeartbeats 4000000 in
theorem ctorX_beg {p : Program} {l : Launch} {e : Env} {s : State} {m : MethodId} {below : List Frame} {meth : Method} {c : Code} {D : va_G} {A : Nat → Prop} {cA : ClassId} {h : Nat → Nat} {o : Nat} {a : Int} (ha : -2147483648 ≤ a ∧ a ≤ 2147483647) (hC : XC p s m (Value.ref o :: [.int (iI a)]).toArray meth c D vwCl A cX1_init 4 RX1 [(cA, .int)]) (hr : meth.sig.returnType = none) (hini : meth.name = "<init>") (h0 : h 0 = o) : XW p l e rX1_init s m (Value.ref o :: [.int (iI a)]).toArray below meth c 14 1556 (MQ below (va_Qv (fun u : (Nat → Nat) × XS => u.1 0 = o ∧ ST 10 u.2 (sM0 (clampK a))) (fun u t => va_P D vwCl (wX u.1 cA u.2) t.heap ∧ va_K D vwCl [(cA, .int)] t ∧ va_D A (wX u.1 cA u.2)) A) (Value.ref o :: [.int (iI a)]).toArray s 14 1556 A) D vwCl A (wX h cA) s00 [some (.ref (h 0)), some (.int (iI a)), none, none] [] 118 := by
  refine x_iload_n (i := 1) hC dX1_init_118 rfl rfl ?_
  refine x_istore_n (i := 2) hC dX1_init_119 rfl (Nat.le_of_ble_eq_true rfl) rfl ?_
  refine x_iload_n (i := 2) hC dX1_init_120 rfl rfl ?_
  refine x_if_ge hC 126 dX1_init_121 (by decide) ha (fun h121 => ?_) (fun h121 => ?_)
  · exact ctorX_mid hC hr hini h0 a (by omega) (by unfold clampK; rw [if_neg (by omega)])
  · refine x_iconst hC dX1_init_124 ?_
    refine x_istore_n (i := 2) hC dX1_init_125 rfl (Nat.le_of_ble_eq_true rfl) rfl ?_
    exact ctorX_mid hC hr hini h0 0 (by omega) (by unfold clampK; rw [if_pos (by omega), if_neg (by omega)])
set_option maxHeartbeats 8000000 in
theorem tX1_init (l : Launch) (D : va_G) (cA : ClassId) (o : Nat) (a : Int) (ha : -2147483648 ≤ a ∧ a ≤ 2147483647) : MC l yX1_init (ws_ yX1_init cX1_init 4 none) rX1_init (fun h u => wX h cA u) D vwCl [(cA, .int)] o [.int (iI a)] [(o, .inr (0, fsX0))] (fun u => ST 10 u (sM0 (clampK a))) 14 1556 := by
  refine MC.of (own := RX1) (L := [some (.ref o), some (.int (iI a)), none, none]) (by decide) rfl rfl (by simp [Value.category]) (Nat.le_of_ble_eq_true rfl) rfl ?_
  intro p e s m below meth c A hC hr hini
  refine x_aload_n (i := 0) hC dX1_init_0 rfl rfl ?_
  refine x_objInit hC q35 q36 q37 rfl (Nat.le_of_ble_eq_true rfl) (Nat.le_of_ble_eq_true rfl) (Nat.le_of_ble_eq_true rfl) dX1_init_1 ?_
  refine x_aload_n (i := 0) hC dX1_init_4 rfl rfl ?_
  refine x_bipush hC dX1_init_5 bp_6 ?_
  refine x_newa hC 6 dX1_init_7 (by decide) (Nat.le_of_ble_eq_true rfl) (Nat.le_of_ble_eq_true rfl) (fun q2 => ?_)
  refine x_putF (σ' := [(o, .inr (0, [.int (iI 0), .int (iI 0), .ref q2, .int (iI 0), .null, .int (iI 0), .null, .null, .null, .null, .null, .null, .null, .null, .int (iI 0), .null, .null, .null, .null])), arr0 cA q2 6]) hC hini in_X1 tyX1 tyX1_ok nmX1 0 rfl rfl 2 (by decide) q76 rfl rfl rfl (ty := .array .int) rfl rfl rfl (Nat.le_of_ble_eq_true rfl) rfl dX1_init_9 ?_
  refine x_aload_n (i := 0) hC dX1_init_12 rfl rfl ?_
  refine x_bipush hC dX1_init_13 bp_6 ?_
  refine x_newa hC 6 dX1_init_15 (by decide) (Nat.le_of_ble_eq_true rfl) (Nat.le_of_ble_eq_true rfl) (fun q4 => ?_)
  refine x_putF (σ' := [(o, .inr (0, [.int (iI 0), .int (iI 0), .ref q2, .int (iI 0), .ref q4, .int (iI 0), .null, .null, .null, .null, .null, .null, .null, .null, .int (iI 0), .null, .null, .null, .null])), arr0 cA q2 6, arr0 cA q4 6]) hC hini in_X1 tyX1 tyX1_ok nmX1 0 rfl rfl 4 (by decide) q78 rfl rfl rfl (ty := .array .int) rfl rfl rfl (Nat.le_of_ble_eq_true rfl) rfl dX1_init_17 ?_
  refine x_aload_n (i := 0) hC dX1_init_20 rfl rfl ?_
  refine x_bipush hC dX1_init_21 bp_80 ?_
  refine x_newa hC 80 dX1_init_23 (by decide) (Nat.le_of_ble_eq_true rfl) (Nat.le_of_ble_eq_true rfl) (fun q6 => ?_)
  refine x_putF (σ' := [(o, .inr (0, [.int (iI 0), .int (iI 0), .ref q2, .int (iI 0), .ref q4, .int (iI 0), .ref q6, .null, .null, .null, .null, .null, .null, .null, .int (iI 0), .null, .null, .null, .null])), arr0 cA q2 6, arr0 cA q4 6, arr0 cA q6 80]) hC hini in_X1 tyX1 tyX1_ok nmX1 0 rfl rfl 6 (by decide) q80 rfl rfl rfl (ty := .array .int) rfl rfl rfl (Nat.le_of_ble_eq_true rfl) rfl dX1_init_25 ?_
  refine x_aload_n (i := 0) hC dX1_init_28 rfl rfl ?_
  refine x_sipush hC dX1_init_29 sp_320 ?_
  refine x_newa hC 320 dX1_init_32 (by decide) (Nat.le_of_ble_eq_true rfl) (Nat.le_of_ble_eq_true rfl) (fun q7 => ?_)
  refine x_putF (σ' := [(o, .inr (0, [.int (iI 0), .int (iI 0), .ref q2, .int (iI 0), .ref q4, .int (iI 0), .ref q6, .ref q7, .null, .null, .null, .null, .null, .null, .int (iI 0), .null, .null, .null, .null])), arr0 cA q2 6, arr0 cA q4 6, arr0 cA q6 80, arr0 cA q7 320]) hC hini in_X1 tyX1 tyX1_ok nmX1 0 rfl rfl 7 (by decide) q81 rfl rfl rfl (ty := .array .int) rfl rfl rfl (Nat.le_of_ble_eq_true rfl) rfl dX1_init_34 ?_
  refine x_aload_n (i := 0) hC dX1_init_37 rfl rfl ?_
  refine x_bipush hC dX1_init_38 bp_80 ?_
  refine x_newa hC 80 dX1_init_40 (by decide) (Nat.le_of_ble_eq_true rfl) (Nat.le_of_ble_eq_true rfl) (fun q8 => ?_)
  refine x_putF (σ' := [(o, .inr (0, [.int (iI 0), .int (iI 0), .ref q2, .int (iI 0), .ref q4, .int (iI 0), .ref q6, .ref q7, .ref q8, .null, .null, .null, .null, .null, .int (iI 0), .null, .null, .null, .null])), arr0 cA q2 6, arr0 cA q4 6, arr0 cA q6 80, arr0 cA q7 320, arr0 cA q8 80]) hC hini in_X1 tyX1 tyX1_ok nmX1 0 rfl rfl 8 (by decide) q82 rfl rfl rfl (ty := .array .int) rfl rfl rfl (Nat.le_of_ble_eq_true rfl) rfl dX1_init_42 ?_
  refine x_aload_n (i := 0) hC dX1_init_45 rfl rfl ?_
  refine x_bipush hC dX1_init_46 bp_80 ?_
  refine x_newa hC 80 dX1_init_48 (by decide) (Nat.le_of_ble_eq_true rfl) (Nat.le_of_ble_eq_true rfl) (fun q9 => ?_)
  refine x_putF (σ' := [(o, .inr (0, [.int (iI 0), .int (iI 0), .ref q2, .int (iI 0), .ref q4, .int (iI 0), .ref q6, .ref q7, .ref q8, .ref q9, .null, .null, .null, .null, .int (iI 0), .null, .null, .null, .null])), arr0 cA q2 6, arr0 cA q4 6, arr0 cA q6 80, arr0 cA q7 320, arr0 cA q8 80, arr0 cA q9 80]) hC hini in_X1 tyX1 tyX1_ok nmX1 0 rfl rfl 9 (by decide) q83 rfl rfl rfl (ty := .array .int) rfl rfl rfl (Nat.le_of_ble_eq_true rfl) rfl dX1_init_50 ?_
  refine x_aload_n (i := 0) hC dX1_init_53 rfl rfl ?_
  refine x_bipush hC dX1_init_54 bp_80 ?_
  refine x_newa hC 80 dX1_init_56 (by decide) (Nat.le_of_ble_eq_true rfl) (Nat.le_of_ble_eq_true rfl) (fun q10 => ?_)
  refine x_putF (σ' := [(o, .inr (0, [.int (iI 0), .int (iI 0), .ref q2, .int (iI 0), .ref q4, .int (iI 0), .ref q6, .ref q7, .ref q8, .ref q9, .ref q10, .null, .null, .null, .int (iI 0), .null, .null, .null, .null])), arr0 cA q2 6, arr0 cA q4 6, arr0 cA q6 80, arr0 cA q7 320, arr0 cA q8 80, arr0 cA q9 80, arr0 cA q10 80]) hC hini in_X1 tyX1 tyX1_ok nmX1 0 rfl rfl 10 (by decide) q84 rfl rfl rfl (ty := .array .int) rfl rfl rfl (Nat.le_of_ble_eq_true rfl) rfl dX1_init_58 ?_
  refine x_aload_n (i := 0) hC dX1_init_61 rfl rfl ?_
  refine x_bipush hC dX1_init_62 bp_80 ?_
  refine x_newa hC 80 dX1_init_64 (by decide) (Nat.le_of_ble_eq_true rfl) (Nat.le_of_ble_eq_true rfl) (fun q11 => ?_)
  refine x_putF (σ' := [(o, .inr (0, [.int (iI 0), .int (iI 0), .ref q2, .int (iI 0), .ref q4, .int (iI 0), .ref q6, .ref q7, .ref q8, .ref q9, .ref q10, .ref q11, .null, .null, .int (iI 0), .null, .null, .null, .null])), arr0 cA q2 6, arr0 cA q4 6, arr0 cA q6 80, arr0 cA q7 320, arr0 cA q8 80, arr0 cA q9 80, arr0 cA q10 80, arr0 cA q11 80]) hC hini in_X1 tyX1 tyX1_ok nmX1 0 rfl rfl 11 (by decide) q85 rfl rfl rfl (ty := .array .int) rfl rfl rfl (Nat.le_of_ble_eq_true rfl) rfl dX1_init_66 ?_
  refine x_aload_n (i := 0) hC dX1_init_69 rfl rfl ?_
  refine x_bipush hC dX1_init_70 bp_80 ?_
  refine x_newa hC 80 dX1_init_72 (by decide) (Nat.le_of_ble_eq_true rfl) (Nat.le_of_ble_eq_true rfl) (fun q12 => ?_)
  refine x_putF (σ' := [(o, .inr (0, [.int (iI 0), .int (iI 0), .ref q2, .int (iI 0), .ref q4, .int (iI 0), .ref q6, .ref q7, .ref q8, .ref q9, .ref q10, .ref q11, .ref q12, .null, .int (iI 0), .null, .null, .null, .null])), arr0 cA q2 6, arr0 cA q4 6, arr0 cA q6 80, arr0 cA q7 320, arr0 cA q8 80, arr0 cA q9 80, arr0 cA q10 80, arr0 cA q11 80, arr0 cA q12 80]) hC hini in_X1 tyX1 tyX1_ok nmX1 0 rfl rfl 12 (by decide) q86 rfl rfl rfl (ty := .array .int) rfl rfl rfl (Nat.le_of_ble_eq_true rfl) rfl dX1_init_74 ?_
  refine x_aload_n (i := 0) hC dX1_init_77 rfl rfl ?_
  refine x_sipush hC dX1_init_78 sp_560 ?_
  refine x_newa hC 560 dX1_init_81 (by decide) (Nat.le_of_ble_eq_true rfl) (Nat.le_of_ble_eq_true rfl) (fun q13 => ?_)
  refine x_putF (σ' := [(o, .inr (0, [.int (iI 0), .int (iI 0), .ref q2, .int (iI 0), .ref q4, .int (iI 0), .ref q6, .ref q7, .ref q8, .ref q9, .ref q10, .ref q11, .ref q12, .ref q13, .int (iI 0), .null, .null, .null, .null])), arr0 cA q2 6, arr0 cA q4 6, arr0 cA q6 80, arr0 cA q7 320, arr0 cA q8 80, arr0 cA q9 80, arr0 cA q10 80, arr0 cA q11 80, arr0 cA q12 80, arr0 cA q13 560]) hC hini in_X1 tyX1 tyX1_ok nmX1 0 rfl rfl 13 (by decide) q87 rfl rfl rfl (ty := .array .int) rfl rfl rfl (Nat.le_of_ble_eq_true rfl) rfl dX1_init_83 ?_
  refine x_aload_n (i := 0) hC dX1_init_86 rfl rfl ?_
  refine x_bipush hC dX1_init_87 bp_12 ?_
  refine x_newa hC 12 dX1_init_89 (by decide) (Nat.le_of_ble_eq_true rfl) (Nat.le_of_ble_eq_true rfl) (fun q15 => ?_)
  refine x_putF (σ' := [(o, .inr (0, [.int (iI 0), .int (iI 0), .ref q2, .int (iI 0), .ref q4, .int (iI 0), .ref q6, .ref q7, .ref q8, .ref q9, .ref q10, .ref q11, .ref q12, .ref q13, .int (iI 0), .ref q15, .null, .null, .null])), arr0 cA q2 6, arr0 cA q4 6, arr0 cA q6 80, arr0 cA q7 320, arr0 cA q8 80, arr0 cA q9 80, arr0 cA q10 80, arr0 cA q11 80, arr0 cA q12 80, arr0 cA q13 560, arr0 cA q15 12]) hC hini in_X1 tyX1 tyX1_ok nmX1 0 rfl rfl 15 (by decide) q89 rfl rfl rfl (ty := .array .int) rfl rfl rfl (Nat.le_of_ble_eq_true rfl) rfl dX1_init_91 ?_
  refine x_aload_n (i := 0) hC dX1_init_94 rfl rfl ?_
  refine x_bipush hC dX1_init_95 bp_12 ?_
  refine x_newa hC 12 dX1_init_97 (by decide) (Nat.le_of_ble_eq_true rfl) (Nat.le_of_ble_eq_true rfl) (fun q16 => ?_)
  refine x_putF (σ' := [(o, .inr (0, [.int (iI 0), .int (iI 0), .ref q2, .int (iI 0), .ref q4, .int (iI 0), .ref q6, .ref q7, .ref q8, .ref q9, .ref q10, .ref q11, .ref q12, .ref q13, .int (iI 0), .ref q15, .ref q16, .null, .null])), arr0 cA q2 6, arr0 cA q4 6, arr0 cA q6 80, arr0 cA q7 320, arr0 cA q8 80, arr0 cA q9 80, arr0 cA q10 80, arr0 cA q11 80, arr0 cA q12 80, arr0 cA q13 560, arr0 cA q15 12, arr0 cA q16 12]) hC hini in_X1 tyX1 tyX1_ok nmX1 0 rfl rfl 16 (by decide) q90 rfl rfl rfl (ty := .array .int) rfl rfl rfl (Nat.le_of_ble_eq_true rfl) rfl dX1_init_99 ?_
  refine x_aload_n (i := 0) hC dX1_init_102 rfl rfl ?_
  refine x_bipush hC dX1_init_103 bp_80 ?_
  refine x_newa hC 80 dX1_init_105 (by decide) (Nat.le_of_ble_eq_true rfl) (Nat.le_of_ble_eq_true rfl) (fun q17 => ?_)
  refine x_putF (σ' := [(o, .inr (0, [.int (iI 0), .int (iI 0), .ref q2, .int (iI 0), .ref q4, .int (iI 0), .ref q6, .ref q7, .ref q8, .ref q9, .ref q10, .ref q11, .ref q12, .ref q13, .int (iI 0), .ref q15, .ref q16, .ref q17, .null])), arr0 cA q2 6, arr0 cA q4 6, arr0 cA q6 80, arr0 cA q7 320, arr0 cA q8 80, arr0 cA q9 80, arr0 cA q10 80, arr0 cA q11 80, arr0 cA q12 80, arr0 cA q13 560, arr0 cA q15 12, arr0 cA q16 12, arr0 cA q17 80]) hC hini in_X1 tyX1 tyX1_ok nmX1 0 rfl rfl 17 (by decide) q91 rfl rfl rfl (ty := .array .int) rfl rfl rfl (Nat.le_of_ble_eq_true rfl) rfl dX1_init_107 ?_
  refine x_aload_n (i := 0) hC dX1_init_110 rfl rfl ?_
  refine x_bipush hC dX1_init_111 bp_80 ?_
  refine x_newa hC 80 dX1_init_113 (by decide) (Nat.le_of_ble_eq_true rfl) (Nat.le_of_ble_eq_true rfl) (fun q18 => ?_)
  refine x_putF (σ' := [(o, .inr (0, [.int (iI 0), .int (iI 0), .ref q2, .int (iI 0), .ref q4, .int (iI 0), .ref q6, .ref q7, .ref q8, .ref q9, .ref q10, .ref q11, .ref q12, .ref q13, .int (iI 0), .ref q15, .ref q16, .ref q17, .ref q18])), arr0 cA q2 6, arr0 cA q4 6, arr0 cA q6 80, arr0 cA q7 320, arr0 cA q8 80, arr0 cA q9 80, arr0 cA q10 80, arr0 cA q11 80, arr0 cA q12 80, arr0 cA q13 560, arr0 cA q15 12, arr0 cA q16 12, arr0 cA q17 80, arr0 cA q18 80]) hC hini in_X1 tyX1 tyX1_ok nmX1 0 rfl rfl 18 (by decide) q92 rfl rfl rfl (ty := .array .int) rfl rfl rfl (Nat.le_of_ble_eq_true rfl) rfl dX1_init_115 ?_
  refine x_widen (k := 14) (n := 1556) (Nat.le_of_ble_eq_true rfl) (Nat.le_of_ble_eq_true rfl) ?_
  refine x_turn (w' := wX (hX1 o q2 q4 q6 q7 q8 q9 q10 q11 q12 q13 q15 q16 q17 q18) cA) (σ' := s00) rfl ?_
  exact ctorX_beg (h := hX1 o q2 q4 q6 q7 q8 q9 q10 q11 q12 q13 q15 q16 q17 q18) ha hC hr hini rfl
set_option maxHeartbeats 8000000 in
theorem tX2_init (l : Launch) (D : va_G) (cA : ClassId) (o : Nat) (a : Int) (ha : -2147483648 ≤ a ∧ a ≤ 2147483647) : MC l yX2_init (ws_ yX2_init cX2_init 2 none) rX2_init (fun h u => wM h cA u) D vwCl [(cA, .int)] o [.int (iI a)] [(o, .inr (1, fsM0))] (fun u => sameM (sM0 (clampK a)) u) 4 159 := by
  refine MC.of (own := RX2) (L := [some (.ref o), some (.int (iI a))]) (by decide) rfl rfl (by simp [Value.category]) (Nat.le_of_ble_eq_true rfl) rfl ?_
  intro p e s m below meth c A hC hr hini
  refine x_aload_n (i := 0) hC dX2_init_0 rfl rfl ?_
  refine x_objInit hC q233 q36 q37 rfl (Nat.le_of_ble_eq_true rfl) (Nat.le_of_ble_eq_true rfl) (Nat.le_of_ble_eq_true rfl) dX2_init_1 ?_
  refine x_aload_n (i := 0) hC dX2_init_4 rfl rfl ?_
  refine x_bipush hC dX2_init_5 bp_84 ?_
  refine x_newa hC 84 dX2_init_7 (by decide) (Nat.le_of_ble_eq_true rfl) (Nat.le_of_ble_eq_true rfl) (fun q1 => ?_)
  refine x_putF (σ' := [(o, .inr (1, [.int (iI 0), .ref q1, .null, .null, .int (iI 0), .null])), arr0 cA q1 84]) hC hini in_X2 tyX2 tyX2_ok nmX2 0 rfl rfl 1 (by decide) q235 rfl rfl rfl (ty := .array .int) rfl rfl rfl (Nat.le_of_ble_eq_true rfl) rfl dX2_init_9 ?_
  refine x_aload_n (i := 0) hC dX2_init_12 rfl rfl ?_
  refine x_bipush hC dX2_init_13 bp_14 ?_
  refine x_newa hC 14 dX2_init_15 (by decide) (Nat.le_of_ble_eq_true rfl) (Nat.le_of_ble_eq_true rfl) (fun q2 => ?_)
  refine x_putF (σ' := [(o, .inr (1, [.int (iI 0), .ref q1, .ref q2, .null, .int (iI 0), .null])), arr0 cA q1 84, arr0 cA q2 14]) hC hini in_X2 tyX2 tyX2_ok nmX2 0 rfl rfl 2 (by decide) q236 rfl rfl rfl (ty := .array .int) rfl rfl rfl (Nat.le_of_ble_eq_true rfl) rfl dX2_init_17 ?_
  refine x_aload_n (i := 0) hC dX2_init_20 rfl rfl ?_
  refine x_bipush hC dX2_init_21 bp_12 ?_
  refine x_newa hC 12 dX2_init_23 (by decide) (Nat.le_of_ble_eq_true rfl) (Nat.le_of_ble_eq_true rfl) (fun q3 => ?_)
  refine x_putF (σ' := [(o, .inr (1, [.int (iI 0), .ref q1, .ref q2, .ref q3, .int (iI 0), .null])), arr0 cA q1 84, arr0 cA q2 14, arr0 cA q3 12]) hC hini in_X2 tyX2 tyX2_ok nmX2 0 rfl rfl 3 (by decide) q237 rfl rfl rfl (ty := .array .int) rfl rfl rfl (Nat.le_of_ble_eq_true rfl) rfl dX2_init_25 ?_
  refine x_aload_n (i := 0) hC dX2_init_28 rfl rfl ?_
  refine x_bipush hC dX2_init_29 bp_49 ?_
  refine x_newa hC 49 dX2_init_31 (by decide) (Nat.le_of_ble_eq_true rfl) (Nat.le_of_ble_eq_true rfl) (fun q5 => ?_)
  refine x_putF (σ' := [(o, .inr (1, [.int (iI 0), .ref q1, .ref q2, .ref q3, .int (iI 0), .ref q5])), arr0 cA q1 84, arr0 cA q2 14, arr0 cA q3 12, arr0 cA q5 49]) hC hini in_X2 tyX2 tyX2_ok nmX2 0 rfl rfl 5 (by decide) q239 rfl rfl rfl (ty := .array .int) rfl rfl rfl (Nat.le_of_ble_eq_true rfl) rfl dX2_init_33 ?_
  refine x_widen (k := 4) (n := 159) (Nat.le_of_ble_eq_true rfl) (Nat.le_of_ble_eq_true rfl) ?_
  refine x_turn (w' := wM (hM1 o q1 q2 q3 q5) cA) (σ' := s00) rfl ?_
  have tail : ∀ k : Int, clampK a = k → XW p l e rX2_init s m (Value.ref o :: [.int (iI a)]).toArray below meth c 4 159 (MQ below (va_Qv (fun u : (Nat → Nat) × XS => u.1 0 = o ∧ sameM (sM0 (clampK a)) u.2) (fun u t => va_P D vwCl (wM u.1 cA u.2) t.heap ∧ va_K D vwCl [(cA, .int)] t ∧ va_D A (wM u.1 cA u.2)) A) (Value.ref o :: [.int (iI a)]).toArray s 4 159 A) D vwCl A (wM (hM1 o q1 q2 q3 q5) cA) s00 [some (.ref o), some (.int (iI a))] [.int (iI k), .ref o] 55 := by
    intro k hk
    subst hk
    refine x_put (σ' := sI s00 0 (clampK a)) hC in_X2 tyX2 tyX2_ok nmX2 0 rfl rfl 0 (by decide) q234 rfl rfl rfl rfl rfl (Nat.le_of_ble_eq_true rfl) rfl dX2_init_55 ?_
    exact x_cret (wC := fun h u => wM h cA u) (post := fun u => sameM (sM0 (clampK a)) u) hC hr dX2_init_58 rfl ⟨rfl, rfl, rfl, rfl⟩
  refine x_aload_n (i := 0) hC dX2_init_36 rfl rfl ?_
  refine x_iload_n (i := 1) hC dX2_init_37 rfl rfl ?_
  refine x_if_ge hC 45 dX2_init_38 (by decide) ha (fun h38 => ?_) (fun h38 => ?_)
  · refine x_iload_n (i := 1) hC dX2_init_45 rfl rfl ?_
    refine x_iconst hC dX2_init_46 ?_
    refine x_icmp_le hC 54 dX2_init_47 (by decide) ha (by omega) (fun h47 => ?_) (fun h47 => ?_)
    · refine x_iload_n (i := 1) hC dX2_init_54 rfl rfl ?_
      exact tail a (by unfold clampK; rw [if_neg (by omega), if_neg (by omega)])
    · refine x_iconst hC dX2_init_50 ?_
      refine x_goto hC 55 dX2_init_51 (by decide) ?_
      exact tail 3 (by unfold clampK; rw [if_neg (by omega), if_pos (by omega)])
  · refine x_iconst hC dX2_init_41 ?_
    refine x_goto hC 55 dX2_init_42 (by decide) ?_
    exact tail 0 (by unfold clampK; rw [if_pos (by omega)])
end
section
/-! THE CLAIM OUT OF ONE WALK OF THE LAW'S BODY. Your part is whole_start (and what it stands on); all else here is the same for every law, but numbers. -/
def R_law : String := "FuzzyTypeaheadLaw"
def lw_P (b : Addr) (xs : List Int32) (args : Array Value) (s : State) : Prop := args = #[.ref b] ∧ s.IntsAt b xs ∧ xs.length ≤ 129 ∧ (Jvm.Cond.and given_1 narrow_1).before args s = true
def lw_Q (_ : Array Value) (s : State) (o : Outcome) (t : State) : Prop := o = .returned (some (.int 1)) ∧ Framed s o t [] 600000 7290000
def lw_Z (below : List Frame) (a : Array Value) (s : State) : State → Prop := fun t => ∃ o, t.status = .running ∧ Ended t below o ∧ lw_Q a s o t
/-- the law's own end, with 1 on the stack, nothing written that was there before, its room as the claim has it -/
theorem lw_ret {p : Program} {l : Launch} {e : Env} {s : State} {m : MethodId} {below : List Frame} {meth : Method} {c : Code} {b : Nat} (hx : p.tables.exec = Jvm.exec) (hb : c.code = code) (hr : meth.sig.returnType = ret) (hlocks : meth.locks = false) {pc : Nat} {H : Heap} {ls : Array Slot} (hdg : decode code pc = .ok (.ireturn, 1)) : W p l e room_1 s m #[Value.ref b] below meth c H [] 600000 7290000 (lw_Z below #[Value.ref b] s) (F0 m pc ls [.int 1]) := by
  intro T hT X
  obtain ⟨fs, hret, hrun, hended, hW, hframe⟩ := X.leave (v := some (.int 1)) (hlocks := hlocks) (fun h => by rw [hr] at h; cases h)
  have hmeth' : T.vm.method? m = some meth := X.method'
  refine ⟨T.setFrames fs, ?_, .returned (some (.int 1)), hrun, hended, rfl, ⟨_, rfl⟩, hW, hframe⟩
  jvm_step X.here [X.here.top, hx, hb, hdg, hmeth', hr, ret, narrow_b1]
  (try refine ⟨rfl, ?_⟩); (try refine ⟨rfl, ?_⟩)
  first | (intro acts; rw [hret _ acts rfl rfl rfl]) | rw [hret _ _ rfl rfl rfl]
  exact Steps.refl _
/-- what holds at the law's entry: the machine, the code, the tables' words (any of lw_tbl by 'hts w (by decide +kernel)'), the script of L ints xs at the cell b, what the Statement gives of the start (any of its parts by flat_of_before) -/
def lw_At (p : Program) (s : State) (m : MethodId) (meth : Method) (c : Code) (b L : Nat) (xs : Nat → Int32) : Prop :=
  p.tables.exec = Jvm.exec ∧ c.code = code ∧ meth.sig.returnType = ret ∧ c.maxLocals = 4 ∧ s.vm.findClass R_law = some m.cls ∧ (∀ w ∈ lw_tbl, w.before #[Value.ref b] s = true) ∧ va_X b L xs s s.heap ∧ b < s.heap.size ∧ meth.locks = false ∧ (Jvm.Cond.and given_1 narrow_1).before #[Value.ref b] s = true
/-! the law's own entry -/
set_option maxRecDepth 100000
abbrev cL_law : ByteArray := code
theorem dL_law_0 : decode cL_law 0 = .ok (.new 7, 3) := by decide +kernel
theorem dL_law_3 : decode cL_law 3 = .ok (.dup, 1) := by decide +kernel
theorem dL_law_4 : decode cL_law 4 = .ok (.aload_n 0, 1) := by decide +kernel
theorem dL_law_5 : decode cL_law 5 = .ok (.iconst 0, 1) := by decide +kernel
theorem dL_law_6 : decode cL_law 6 = .ok (.invokestatic 9, 3) := by decide +kernel
theorem dL_law_9 : decode cL_law 9 = .ok (.invokespecial 15, 3) := by decide +kernel
theorem dL_law_12 : decode cL_law 12 = .ok (.astore_n 1, 1) := by decide +kernel
theorem dL_law_13 : decode cL_law 13 = .ok (.new 18, 3) := by decide +kernel
theorem dL_law_16 : decode cL_law 16 = .ok (.dup, 1) := by decide +kernel
theorem dL_law_17 : decode cL_law 17 = .ok (.aload_n 0, 1) := by decide +kernel
theorem dL_law_18 : decode cL_law 18 = .ok (.iconst 0, 1) := by decide +kernel
theorem dL_law_19 : decode cL_law 19 = .ok (.invokestatic 9, 3) := by decide +kernel
theorem dL_law_22 : decode cL_law 22 = .ok (.invokespecial 20, 3) := by decide +kernel
theorem dL_law_25 : decode cL_law 25 = .ok (.astore_n 2, 1) := by decide +kernel
theorem dL_law_26 : decode cL_law 26 = .ok (.iconst 1, 1) := by decide +kernel
theorem dL_law_27 : decode cL_law 27 = .ok (.istore_n 3, 1) := by decide +kernel
theorem dL_law_28 : decode cL_law 28 = .ok (.iload_n 3, 1) := by decide +kernel
theorem dL_law_29 : decode cL_law 29 = .ok (.aload_n 0, 1) := by decide +kernel
theorem dL_law_30 : decode cL_law 30 = .ok (.arraylength, 1) := by decide +kernel
theorem dL_law_31 : decode cL_law 31 = .ok (.iconst 2, 1) := by decide +kernel
theorem dL_law_32 : decode cL_law 32 = .ok (.isub, 1) := by decide +kernel
theorem dL_law_33 : decode cL_law 33 = .ok (.if_icmp .gt 374, 3) := by decide +kernel
theorem dL_law_36 : decode cL_law 36 = .ok (.aload_n 0, 1) := by decide +kernel
theorem dL_law_37 : decode cL_law 37 = .ok (.iload_n 3, 1) := by decide +kernel
theorem dL_law_38 : decode cL_law 38 = .ok (.iaload, 1) := by decide +kernel
theorem dL_law_39 : decode cL_law 39 = .ok (.bipush 31, 2) := by decide +kernel
theorem dL_law_41 : decode cL_law 41 = .ok (.iand, 1) := by decide +kernel
theorem dL_law_42 : decode cL_law 42 = .ok (.tableswitch 359 0 16 #[82, 105, 116, 139, 152, 165, 178, 201, 214, 225, 238, 251, 274, 297, 320, 333, 346], 82) := by decide +kernel
theorem dL_law_124 : decode cL_law 124 = .ok (.aload_n 1, 1) := by decide +kernel
theorem dL_law_125 : decode cL_law 125 = .ok (.aload_n 0, 1) := by decide +kernel
theorem dL_law_126 : decode cL_law 126 = .ok (.iload_n 3, 1) := by decide +kernel
theorem dL_law_127 : decode cL_law 127 = .ok (.iconst 1, 1) := by decide +kernel
theorem dL_law_128 : decode cL_law 128 = .ok (.iadd, 1) := by decide +kernel
theorem dL_law_129 : decode cL_law 129 = .ok (.iaload, 1) := by decide +kernel
theorem dL_law_130 : decode cL_law 130 = .ok (.invokevirtual 21, 3) := by decide +kernel
theorem dL_law_133 : decode cL_law 133 = .ok (.aload_n 2, 1) := by decide +kernel
theorem dL_law_134 : decode cL_law 134 = .ok (.aload_n 0, 1) := by decide +kernel
theorem dL_law_135 : decode cL_law 135 = .ok (.iload_n 3, 1) := by decide +kernel
theorem dL_law_136 : decode cL_law 136 = .ok (.iconst 1, 1) := by decide +kernel
theorem dL_law_137 : decode cL_law 137 = .ok (.iadd, 1) := by decide +kernel
theorem dL_law_138 : decode cL_law 138 = .ok (.iaload, 1) := by decide +kernel
theorem dL_law_139 : decode cL_law 139 = .ok (.invokevirtual 25, 3) := by decide +kernel
theorem dL_law_142 : decode cL_law 142 = .ok (.if_icmp .eq 259, 3) := by decide +kernel
theorem dL_law_145 : decode cL_law 145 = .ok (.iconst 0, 1) := by decide +kernel
theorem dL_law_146 : decode cL_law 146 = .ok (.ireturn, 1) := by decide +kernel
theorem dL_law_147 : decode cL_law 147 = .ok (.aload_n 1, 1) := by decide +kernel
theorem dL_law_148 : decode cL_law 148 = .ok (.invokevirtual 26, 3) := by decide +kernel
theorem dL_law_151 : decode cL_law 151 = .ok (.aload_n 2, 1) := by decide +kernel
theorem dL_law_152 : decode cL_law 152 = .ok (.invokevirtual 29, 3) := by decide +kernel
theorem dL_law_155 : decode cL_law 155 = .ok (.goto 246, 3) := by decide +kernel
theorem dL_law_158 : decode cL_law 158 = .ok (.aload_n 1, 1) := by decide +kernel
theorem dL_law_159 : decode cL_law 159 = .ok (.aload_n 0, 1) := by decide +kernel
theorem dL_law_160 : decode cL_law 160 = .ok (.iload_n 3, 1) := by decide +kernel
theorem dL_law_161 : decode cL_law 161 = .ok (.iconst 1, 1) := by decide +kernel
theorem dL_law_162 : decode cL_law 162 = .ok (.iadd, 1) := by decide +kernel
theorem dL_law_163 : decode cL_law 163 = .ok (.iaload, 1) := by decide +kernel
theorem dL_law_164 : decode cL_law 164 = .ok (.invokevirtual 30, 3) := by decide +kernel
theorem dL_law_167 : decode cL_law 167 = .ok (.aload_n 2, 1) := by decide +kernel
theorem dL_law_168 : decode cL_law 168 = .ok (.aload_n 0, 1) := by decide +kernel
theorem dL_law_169 : decode cL_law 169 = .ok (.iload_n 3, 1) := by decide +kernel
theorem dL_law_170 : decode cL_law 170 = .ok (.iconst 1, 1) := by decide +kernel
theorem dL_law_171 : decode cL_law 171 = .ok (.iadd, 1) := by decide +kernel
theorem dL_law_172 : decode cL_law 172 = .ok (.iaload, 1) := by decide +kernel
theorem dL_law_173 : decode cL_law 173 = .ok (.invokevirtual 33, 3) := by decide +kernel
theorem dL_law_176 : decode cL_law 176 = .ok (.if_icmp .eq 225, 3) := by decide +kernel
theorem dL_law_179 : decode cL_law 179 = .ok (.iconst 0, 1) := by decide +kernel
theorem dL_law_180 : decode cL_law 180 = .ok (.ireturn, 1) := by decide +kernel
theorem dL_law_181 : decode cL_law 181 = .ok (.aload_n 1, 1) := by decide +kernel
theorem dL_law_182 : decode cL_law 182 = .ok (.invokevirtual 34, 3) := by decide +kernel
theorem dL_law_185 : decode cL_law 185 = .ok (.aload_n 2, 1) := by decide +kernel
theorem dL_law_186 : decode cL_law 186 = .ok (.invokevirtual 38, 3) := by decide +kernel
theorem dL_law_189 : decode cL_law 189 = .ok (.if_icmp .eq 212, 3) := by decide +kernel
theorem dL_law_192 : decode cL_law 192 = .ok (.iconst 0, 1) := by decide +kernel
theorem dL_law_193 : decode cL_law 193 = .ok (.ireturn, 1) := by decide +kernel
theorem dL_law_194 : decode cL_law 194 = .ok (.aload_n 1, 1) := by decide +kernel
theorem dL_law_195 : decode cL_law 195 = .ok (.invokevirtual 39, 3) := by decide +kernel
theorem dL_law_198 : decode cL_law 198 = .ok (.aload_n 2, 1) := by decide +kernel
theorem dL_law_199 : decode cL_law 199 = .ok (.invokevirtual 42, 3) := by decide +kernel
theorem dL_law_202 : decode cL_law 202 = .ok (.if_icmp .eq 199, 3) := by decide +kernel
theorem dL_law_205 : decode cL_law 205 = .ok (.iconst 0, 1) := by decide +kernel
theorem dL_law_206 : decode cL_law 206 = .ok (.ireturn, 1) := by decide +kernel
theorem dL_law_207 : decode cL_law 207 = .ok (.aload_n 1, 1) := by decide +kernel
theorem dL_law_208 : decode cL_law 208 = .ok (.invokevirtual 43, 3) := by decide +kernel
theorem dL_law_211 : decode cL_law 211 = .ok (.aload_n 2, 1) := by decide +kernel
theorem dL_law_212 : decode cL_law 212 = .ok (.invokevirtual 46, 3) := by decide +kernel
theorem dL_law_215 : decode cL_law 215 = .ok (.if_icmp .eq 186, 3) := by decide +kernel
theorem dL_law_218 : decode cL_law 218 = .ok (.iconst 0, 1) := by decide +kernel
theorem dL_law_219 : decode cL_law 219 = .ok (.ireturn, 1) := by decide +kernel
theorem dL_law_220 : decode cL_law 220 = .ok (.aload_n 1, 1) := by decide +kernel
theorem dL_law_221 : decode cL_law 221 = .ok (.aload_n 0, 1) := by decide +kernel
theorem dL_law_222 : decode cL_law 222 = .ok (.iload_n 3, 1) := by decide +kernel
theorem dL_law_223 : decode cL_law 223 = .ok (.iconst 1, 1) := by decide +kernel
theorem dL_law_224 : decode cL_law 224 = .ok (.iadd, 1) := by decide +kernel
theorem dL_law_225 : decode cL_law 225 = .ok (.iaload, 1) := by decide +kernel
theorem dL_law_226 : decode cL_law 226 = .ok (.invokevirtual 47, 3) := by decide +kernel
theorem dL_law_229 : decode cL_law 229 = .ok (.aload_n 2, 1) := by decide +kernel
theorem dL_law_230 : decode cL_law 230 = .ok (.aload_n 0, 1) := by decide +kernel
theorem dL_law_231 : decode cL_law 231 = .ok (.iload_n 3, 1) := by decide +kernel
theorem dL_law_232 : decode cL_law 232 = .ok (.iconst 1, 1) := by decide +kernel
theorem dL_law_233 : decode cL_law 233 = .ok (.iadd, 1) := by decide +kernel
theorem dL_law_234 : decode cL_law 234 = .ok (.iaload, 1) := by decide +kernel
theorem dL_law_235 : decode cL_law 235 = .ok (.invokevirtual 50, 3) := by decide +kernel
theorem dL_law_238 : decode cL_law 238 = .ok (.if_icmp .eq 163, 3) := by decide +kernel
theorem dL_law_241 : decode cL_law 241 = .ok (.iconst 0, 1) := by decide +kernel
theorem dL_law_242 : decode cL_law 242 = .ok (.ireturn, 1) := by decide +kernel
theorem dL_law_243 : decode cL_law 243 = .ok (.aload_n 1, 1) := by decide +kernel
theorem dL_law_244 : decode cL_law 244 = .ok (.invokevirtual 51, 3) := by decide +kernel
theorem dL_law_247 : decode cL_law 247 = .ok (.aload_n 2, 1) := by decide +kernel
theorem dL_law_248 : decode cL_law 248 = .ok (.invokevirtual 54, 3) := by decide +kernel
theorem dL_law_251 : decode cL_law 251 = .ok (.if_icmp .eq 150, 3) := by decide +kernel
theorem dL_law_254 : decode cL_law 254 = .ok (.iconst 0, 1) := by decide +kernel
theorem dL_law_255 : decode cL_law 255 = .ok (.ireturn, 1) := by decide +kernel
theorem dL_law_256 : decode cL_law 256 = .ok (.aload_n 1, 1) := by decide +kernel
theorem dL_law_257 : decode cL_law 257 = .ok (.invokevirtual 55, 3) := by decide +kernel
theorem dL_law_260 : decode cL_law 260 = .ok (.aload_n 2, 1) := by decide +kernel
theorem dL_law_261 : decode cL_law 261 = .ok (.invokevirtual 58, 3) := by decide +kernel
theorem dL_law_264 : decode cL_law 264 = .ok (.goto 137, 3) := by decide +kernel
theorem dL_law_267 : decode cL_law 267 = .ok (.aload_n 1, 1) := by decide +kernel
theorem dL_law_268 : decode cL_law 268 = .ok (.invokevirtual 59, 3) := by decide +kernel
theorem dL_law_271 : decode cL_law 271 = .ok (.aload_n 2, 1) := by decide +kernel
theorem dL_law_272 : decode cL_law 272 = .ok (.invokevirtual 62, 3) := by decide +kernel
theorem dL_law_275 : decode cL_law 275 = .ok (.if_icmp .eq 126, 3) := by decide +kernel
theorem dL_law_278 : decode cL_law 278 = .ok (.iconst 0, 1) := by decide +kernel
theorem dL_law_279 : decode cL_law 279 = .ok (.ireturn, 1) := by decide +kernel
theorem dL_law_280 : decode cL_law 280 = .ok (.aload_n 1, 1) := by decide +kernel
theorem dL_law_281 : decode cL_law 281 = .ok (.invokevirtual 63, 3) := by decide +kernel
theorem dL_law_284 : decode cL_law 284 = .ok (.aload_n 2, 1) := by decide +kernel
theorem dL_law_285 : decode cL_law 285 = .ok (.invokevirtual 66, 3) := by decide +kernel
theorem dL_law_288 : decode cL_law 288 = .ok (.if_icmp .eq 113, 3) := by decide +kernel
theorem dL_law_291 : decode cL_law 291 = .ok (.iconst 0, 1) := by decide +kernel
theorem dL_law_292 : decode cL_law 292 = .ok (.ireturn, 1) := by decide +kernel
theorem dL_law_293 : decode cL_law 293 = .ok (.aload_n 1, 1) := by decide +kernel
theorem dL_law_294 : decode cL_law 294 = .ok (.aload_n 0, 1) := by decide +kernel
theorem dL_law_295 : decode cL_law 295 = .ok (.iload_n 3, 1) := by decide +kernel
theorem dL_law_296 : decode cL_law 296 = .ok (.iconst 1, 1) := by decide +kernel
theorem dL_law_297 : decode cL_law 297 = .ok (.iadd, 1) := by decide +kernel
theorem dL_law_298 : decode cL_law 298 = .ok (.iaload, 1) := by decide +kernel
theorem dL_law_299 : decode cL_law 299 = .ok (.invokevirtual 67, 3) := by decide +kernel
theorem dL_law_302 : decode cL_law 302 = .ok (.aload_n 2, 1) := by decide +kernel
theorem dL_law_303 : decode cL_law 303 = .ok (.aload_n 0, 1) := by decide +kernel
theorem dL_law_304 : decode cL_law 304 = .ok (.iload_n 3, 1) := by decide +kernel
theorem dL_law_305 : decode cL_law 305 = .ok (.iconst 1, 1) := by decide +kernel
theorem dL_law_306 : decode cL_law 306 = .ok (.iadd, 1) := by decide +kernel
theorem dL_law_307 : decode cL_law 307 = .ok (.iaload, 1) := by decide +kernel
theorem dL_law_308 : decode cL_law 308 = .ok (.invokevirtual 70, 3) := by decide +kernel
theorem dL_law_311 : decode cL_law 311 = .ok (.if_icmp .eq 90, 3) := by decide +kernel
theorem dL_law_314 : decode cL_law 314 = .ok (.iconst 0, 1) := by decide +kernel
theorem dL_law_315 : decode cL_law 315 = .ok (.ireturn, 1) := by decide +kernel
theorem dL_law_316 : decode cL_law 316 = .ok (.aload_n 1, 1) := by decide +kernel
theorem dL_law_317 : decode cL_law 317 = .ok (.aload_n 0, 1) := by decide +kernel
theorem dL_law_318 : decode cL_law 318 = .ok (.iload_n 3, 1) := by decide +kernel
theorem dL_law_319 : decode cL_law 319 = .ok (.iconst 1, 1) := by decide +kernel
theorem dL_law_320 : decode cL_law 320 = .ok (.iadd, 1) := by decide +kernel
theorem dL_law_321 : decode cL_law 321 = .ok (.iaload, 1) := by decide +kernel
theorem dL_law_322 : decode cL_law 322 = .ok (.invokevirtual 71, 3) := by decide +kernel
theorem dL_law_325 : decode cL_law 325 = .ok (.aload_n 2, 1) := by decide +kernel
theorem dL_law_326 : decode cL_law 326 = .ok (.aload_n 0, 1) := by decide +kernel
theorem dL_law_327 : decode cL_law 327 = .ok (.iload_n 3, 1) := by decide +kernel
theorem dL_law_328 : decode cL_law 328 = .ok (.iconst 1, 1) := by decide +kernel
theorem dL_law_329 : decode cL_law 329 = .ok (.iadd, 1) := by decide +kernel
theorem dL_law_330 : decode cL_law 330 = .ok (.iaload, 1) := by decide +kernel
theorem dL_law_331 : decode cL_law 331 = .ok (.invokevirtual 74, 3) := by decide +kernel
theorem dL_law_334 : decode cL_law 334 = .ok (.if_icmp .eq 67, 3) := by decide +kernel
theorem dL_law_337 : decode cL_law 337 = .ok (.iconst 0, 1) := by decide +kernel
theorem dL_law_338 : decode cL_law 338 = .ok (.ireturn, 1) := by decide +kernel
theorem dL_law_339 : decode cL_law 339 = .ok (.aload_n 1, 1) := by decide +kernel
theorem dL_law_340 : decode cL_law 340 = .ok (.aload_n 0, 1) := by decide +kernel
theorem dL_law_341 : decode cL_law 341 = .ok (.iload_n 3, 1) := by decide +kernel
theorem dL_law_342 : decode cL_law 342 = .ok (.iconst 1, 1) := by decide +kernel
theorem dL_law_343 : decode cL_law 343 = .ok (.iadd, 1) := by decide +kernel
theorem dL_law_344 : decode cL_law 344 = .ok (.iaload, 1) := by decide +kernel
theorem dL_law_345 : decode cL_law 345 = .ok (.invokevirtual 75, 3) := by decide +kernel
theorem dL_law_348 : decode cL_law 348 = .ok (.aload_n 2, 1) := by decide +kernel
theorem dL_law_349 : decode cL_law 349 = .ok (.aload_n 0, 1) := by decide +kernel
theorem dL_law_350 : decode cL_law 350 = .ok (.iload_n 3, 1) := by decide +kernel
theorem dL_law_351 : decode cL_law 351 = .ok (.iconst 1, 1) := by decide +kernel
theorem dL_law_352 : decode cL_law 352 = .ok (.iadd, 1) := by decide +kernel
theorem dL_law_353 : decode cL_law 353 = .ok (.iaload, 1) := by decide +kernel
theorem dL_law_354 : decode cL_law 354 = .ok (.invokevirtual 78, 3) := by decide +kernel
theorem dL_law_357 : decode cL_law 357 = .ok (.if_icmp .eq 44, 3) := by decide +kernel
theorem dL_law_360 : decode cL_law 360 = .ok (.iconst 0, 1) := by decide +kernel
theorem dL_law_361 : decode cL_law 361 = .ok (.ireturn, 1) := by decide +kernel
theorem dL_law_362 : decode cL_law 362 = .ok (.aload_n 1, 1) := by decide +kernel
theorem dL_law_363 : decode cL_law 363 = .ok (.invokevirtual 79, 3) := by decide +kernel
theorem dL_law_366 : decode cL_law 366 = .ok (.aload_n 2, 1) := by decide +kernel
theorem dL_law_367 : decode cL_law 367 = .ok (.invokevirtual 82, 3) := by decide +kernel
theorem dL_law_370 : decode cL_law 370 = .ok (.if_icmp .eq 31, 3) := by decide +kernel
theorem dL_law_373 : decode cL_law 373 = .ok (.iconst 0, 1) := by decide +kernel
theorem dL_law_374 : decode cL_law 374 = .ok (.ireturn, 1) := by decide +kernel
theorem dL_law_375 : decode cL_law 375 = .ok (.aload_n 1, 1) := by decide +kernel
theorem dL_law_376 : decode cL_law 376 = .ok (.invokevirtual 83, 3) := by decide +kernel
theorem dL_law_379 : decode cL_law 379 = .ok (.aload_n 2, 1) := by decide +kernel
theorem dL_law_380 : decode cL_law 380 = .ok (.invokevirtual 86, 3) := by decide +kernel
theorem dL_law_383 : decode cL_law 383 = .ok (.if_icmp .eq 18, 3) := by decide +kernel
theorem dL_law_386 : decode cL_law 386 = .ok (.iconst 0, 1) := by decide +kernel
theorem dL_law_387 : decode cL_law 387 = .ok (.ireturn, 1) := by decide +kernel
theorem dL_law_388 : decode cL_law 388 = .ok (.aload_n 1, 1) := by decide +kernel
theorem dL_law_389 : decode cL_law 389 = .ok (.invokevirtual 87, 3) := by decide +kernel
theorem dL_law_392 : decode cL_law 392 = .ok (.aload_n 2, 1) := by decide +kernel
theorem dL_law_393 : decode cL_law 393 = .ok (.invokevirtual 90, 3) := by decide +kernel
theorem dL_law_396 : decode cL_law 396 = .ok (.if_icmp .eq 5, 3) := by decide +kernel
theorem dL_law_399 : decode cL_law 399 = .ok (.iconst 0, 1) := by decide +kernel
theorem dL_law_400 : decode cL_law 400 = .ok (.ireturn, 1) := by decide +kernel
theorem dL_law_401 : decode cL_law 401 = .ok (.iinc 3 2, 3) := by decide +kernel
theorem dL_law_404 : decode cL_law 404 = .ok (.goto (-376), 3) := by decide +kernel
theorem dL_law_407 : decode cL_law 407 = .ok (.iconst 1, 1) := by decide +kernel
theorem dL_law_408 : decode cL_law 408 = .ok (.ireturn, 1) := by decide +kernel
end
section
/-! ROWS FOR THE LAW: its script, its calls into a part of the world -/
set_option maxRecDepth 100000
theorem fm_map {α β : Type} (f : α → Option β) : ∀ (is : List α) (l : List β), is.map f = l.map some → is.filterMap f = l
  | [], [], _ => rfl
  | [], _ :: _, h => by cases h
  | _ :: _, [], h => by cases h
  | a :: is, b :: l, h => by
    rw [List.map_cons, List.map_cons] at h
    injection h with h1 h2
    rw [List.filterMap_cons, h1, fm_map f is l h2]
theorem iI_nat {n : Nat} (h : n < 2 ^ 31) : Int32.ofNat n = iI (n : Int) := by
  have h1 : (nI n).toInt = (n : Int) := nI_toInt h
  have h2 : (iI (n : Int)).toInt = (n : Int) := iI_toInt (by omega)
  exact Int32.toInt_inj.mp (h1.trans h2.symm)
section XL
variable {S : Type} {p : Program} {l : Launch} {e : Env} {R : Room} {s : State} {m : MethodId} {args : Array Value} {below : List Frame} {meth : Method} {c : Code} {cells slots : Nat} {Q : State → Prop} {D : va_G} {cl : List vw_C} {A : Nat → Prop} {w : S → va_W} {cc : ByteArray} {nL : Nat} {own : String} {tys : List (ClassId × FieldType)} {σ : S} {L : List (Option Value)} {st : List Value} {pc : Nat}
theorem x_slen (hC : XC p s m args meth c D cl A cc nL own tys) {b N : Nat} {xs : Nat → Int32} (hX : va_X b N xs s s.heap) (hbl : b < s.heap.size) (hbA : ¬ A b) (hN : N < 2 ^ 31) (hd : decode cc pc = .ok (.arraylength, 1)) (kk : XW p l e R s m args below meth c cells slots Q D cl A w σ L (.int (iI (N : Int)) :: st) (pc + 1)) : XW p l e R s m args below meth c cells slots Q D cl A w σ L (.ref b :: st) pc := by
  intro H locs ls hP hD hS hz
  refine va_slen hC.1 hC.2.1 hX hbl hbA hS hd ?_
  rw [iI_nat hN]
  exact kk H locs ls hP hD hS hz
theorem x_sld (hC : XC p s m args meth c D cl A cc nL own tys) {b N : Nat} {xs : Nat → Int32} (hX : va_X b N xs s s.heap) (hbl : b < s.heap.size) (hbA : ¬ A b) (hN : N < 2 ^ 31) {i : Int} (hi : 0 ≤ i ∧ i < (N : Int)) (hd : decode cc pc = .ok (.iaload, 1)) (kk : XW p l e R s m args below meth c cells slots Q D cl A w σ L (.int (iI (xs i.toNat).toInt) :: st) (pc + 1)) : XW p l e R s m args below meth c cells slots Q D cl A w σ L (.int (iI i) :: .ref b :: st) pc := by
  intro H locs ls hP hD hS hz
  refine va_sld hC.1 hC.2.1 hX hbl hbA hS (iI_in hi hN) hd ?_
  have e1 := iI_cl (i := i) (by omega)
  have e2 : (iI i).toNatClampNeg = i.toNat := by omega
  rw [e2, ← iI_of (xs i.toNat)]
  exact kk H locs ls hP hD hS hz
theorem x_tin (hC : XC p s m args meth c D cl A cc nL own tys) {dflt lo hi v off : Int} {offs : Array Int} {len : Nat} (tgt : Nat) (hv : -2147483648 ≤ v ∧ v ≤ 2147483647) (hd : decode cc pc = .ok (.tableswitch dflt lo hi offs, len)) (h1 : ¬ v < lo) (h2 : ¬ hi < v) (ho : offs[(v - lo).toNat]? = some off) (ht : (pc : Int) + off = (tgt : Int)) (kk : XW p l e R s m args below meth c cells slots Q D cl A w σ L st tgt) : XW p l e R s m args below meth c cells slots Q D cl A w σ L (.int (iI v) :: st) pc := by
  intro H locs ls hP hD hS hz
  refine lv_tableIn (tgt := tgt) (off := off) hC.1 hC.2.1 hd ?_ ?_ ?_ ht (kk H locs ls hP hD hS hz)
  · rw [iI_toInt hv]; exact h1
  · rw [iI_toInt hv]; exact h2
  · rw [iI_toInt hv]; exact ho
theorem x_tout (hC : XC p s m args meth c D cl A cc nL own tys) {dflt lo hi v : Int} {offs : Array Int} {len : Nat} (tgt : Nat) (hv : -2147483648 ≤ v ∧ v ≤ 2147483647) (hd : decode cc pc = .ok (.tableswitch dflt lo hi offs, len)) (h : v < lo ∨ hi < v) (ht : (pc : Int) + dflt = (tgt : Int)) (kk : XW p l e R s m args below meth c cells slots Q D cl A w σ L st tgt) : XW p l e R s m args below meth c cells slots Q D cl A w σ L (.int (iI v) :: st) pc := by
  intro H locs ls hP hD hS hz
  refine lv_tableOut (tgt := tgt) hC.1 hC.2.1 hd ?_ ht (kk H locs ls hP hD hS hz)
  rw [iI_toInt hv]
  exact h
/-- a call of a method of an object of a part of the world: the part at the places isC, the rest at isR, behind it put in order by isB -/
theorem x_callI2 (hC : XC p s m args meth c D cl A cc nL own tys) {S1 : Type} {w1 : S1 → va_W} {σ1 : S1} {y : MethodName} {bytes : ByteArray} {maxL n idx o q0 ci N : Nat} {ret : Option FieldType} {rm : Room} {As fs : List Value} {st0 : List Value} {T : u_T} {post : Int → S1 → Prop} (hM : MI l y (ws_ y bytes maxL ret) rm w1 D cl tys o As σ1 post) (hG : GoodIn lw_all (wsV own idx y.cls y (ws_ y bytes maxL ret))) (hy : y.cls ≠ "java/lang/invoke/MethodHandle" ∧ y.cls ≠ "java/lang/invoke/VarHandle" ∧ (parseMethodDescriptor y.desc).map (fun d => d.parameters.length) = some n) (hrc : rm.cells = 0 ∧ rm.slots = 0) (hR : rm.frames + 1 ≤ R.frames ∧ 8 + (maxL + 11) + rm.locals ≤ R.locals) (hcs : cells ≤ R.cells ∧ slots ≤ R.slots) (hc : cl[ci]? = some (y.cls, T, N))
    (wr : va_W) (isC isR isB : List Nat) (σ' : S1 → S) (hisC : isC.map (fun i => (w σ)[i]?) = (w1 σ1).map some) (hndC : va_nd isC = true) (hisR : isR.map (fun i => (w σ)[i]?) = wr.map some) (hndR : va_nd isR = true) (hdis : ∀ i ∈ isR, i ∉ isC) (hndB : va_nd isB = true) (hisB : ∀ u, isB.map (fun i => (wr ++ w1 u)[i]?) = (w (σ' u)).map some) (he : (w1 σ1)[q0]? = some (o, .inr (ci, fs))) (hn : As.length = n) (hst : st0 = As.reverse ++ .ref o :: st) (hcat : (st.map fun v => v.category).sum ≤ 8) (hLn : L.length = nL) (hd : decode cc pc = .ok (.invokevirtual idx, 3)) (kk : ∀ (z : Int) (u : S1), post z u → XW p l e R s m args below meth c cells slots Q D cl A w (σ' u) L (.int (iI z) :: st) (pc + 3)) : XW p l e R s m args below meth c cells slots Q D cl A w σ L st0 pc := by
  intro H locs ls hP hD hS hz
  have hPc := hP.sub isC (fm_map _ _ _ hisC)
  have hDc := hD.sub isC hndC hisC
  have hFc := va_free (wc := w1 σ1) hD hS hC.2.2.2.2.2.2.2 isC hisC
  refine va_calli (va_runV (As := As) (rest := st) (nL := nL) ⟨hC.1, hC.2.1, hC.2.2.1, hC.2.2.2.1, hC.2.2.2.2.1⟩ (hM H.size) (cwV n hC.2.2.2.2.1 hG rfl hrc.1 hrc.2 ⟨rfl, hy⟩ hR) ⟨fun a U g mk q => by obtain ⟨q0, q1, qP, qK, qD⟩ := q; exact ⟨q0, q1, qP, va_K.moved (u := U) (U := U.calling g mk a) (Vm.Alike.refl U.vm) qK, qD⟩, va_recv hC.2.2.2.2.2.1 hPc hc he, fun U hU hW => ⟨rfl, by rw [hU], by rw [hU]; exact hPc, va_K.moved hW.alike hC.2.2.2.2.2.1, hDc.weaken (fun _ _ _ _ => trivial)⟩⟩ rfl hn (hz.1.trans hLn) hst (lv_room hcat) hd ⟨hcs.1, hcs.2⟩) hS (fun q _ h => hFc q h) hFc (fun r u t H1 locs1 ht hvm hpost hB hz1 hk1 hS1 => ?_)
  obtain ⟨z, rfl, hp⟩ := hpost
  obtain ⟨hP1, hK1, hD1⟩ := hB
  rw [ht] at hP1
  obtain ⟨hP2, hD2⟩ := va_join (wr := wr) (w1 := w1 u) hP hD isC isR hisC hisR hndR hdis hk1 hFc hP1 hD1
  exact kk z u hp H1 locs1 ls (hP2.sub isB (fm_map _ _ _ (hisB u))) (hD2.sub isB hndB (hisB u)) hS1 hz
theorem x_callV2 (hC : XC p s m args meth c D cl A cc nL own tys) {S1 : Type} {w1 : S1 → va_W} {σ1 : S1} {y : MethodName} {bytes : ByteArray} {maxL n idx o q0 ci N : Nat} {ret : Option FieldType} {rm : Room} {As fs : List Value} {st0 : List Value} {T : u_T} {post : S1 → Prop} (hM : MV l y (ws_ y bytes maxL ret) rm w1 D cl tys o As σ1 post) (hG : GoodIn lw_all (wsV own idx y.cls y (ws_ y bytes maxL ret))) (hy : y.cls ≠ "java/lang/invoke/MethodHandle" ∧ y.cls ≠ "java/lang/invoke/VarHandle" ∧ (parseMethodDescriptor y.desc).map (fun d => d.parameters.length) = some n) (hrc : rm.cells = 0 ∧ rm.slots = 0) (hR : rm.frames + 1 ≤ R.frames ∧ 8 + (maxL + 11) + rm.locals ≤ R.locals) (hcs : cells ≤ R.cells ∧ slots ≤ R.slots) (hc : cl[ci]? = some (y.cls, T, N))
    (wr : va_W) (isC isR isB : List Nat) (σ' : S1 → S) (hisC : isC.map (fun i => (w σ)[i]?) = (w1 σ1).map some) (hndC : va_nd isC = true) (hisR : isR.map (fun i => (w σ)[i]?) = wr.map some) (hndR : va_nd isR = true) (hdis : ∀ i ∈ isR, i ∉ isC) (hndB : va_nd isB = true) (hisB : ∀ u, isB.map (fun i => (wr ++ w1 u)[i]?) = (w (σ' u)).map some) (he : (w1 σ1)[q0]? = some (o, .inr (ci, fs))) (hn : As.length = n) (hst : st0 = As.reverse ++ .ref o :: st) (hcat : (st.map fun v => v.category).sum ≤ 8) (hLn : L.length = nL) (hd : decode cc pc = .ok (.invokevirtual idx, 3)) (kk : ∀ (u : S1), post u → XW p l e R s m args below meth c cells slots Q D cl A w (σ' u) L st (pc + 3)) : XW p l e R s m args below meth c cells slots Q D cl A w σ L st0 pc := by
  intro H locs ls hP hD hS hz
  have hPc := hP.sub isC (fm_map _ _ _ hisC)
  have hDc := hD.sub isC hndC hisC
  have hFc := va_free (wc := w1 σ1) hD hS hC.2.2.2.2.2.2.2 isC hisC
  refine va_callv (va_runV (As := As) (rest := st) (nL := nL) ⟨hC.1, hC.2.1, hC.2.2.1, hC.2.2.2.1, hC.2.2.2.2.1⟩ (hM H.size) (cwV n hC.2.2.2.2.1 hG rfl hrc.1 hrc.2 ⟨rfl, hy⟩ hR) ⟨fun a U g mk q => by obtain ⟨q0, q1, qP, qK, qD⟩ := q; exact ⟨q0, q1, qP, va_K.moved (u := U) (U := U.calling g mk a) (Vm.Alike.refl U.vm) qK, qD⟩, va_recv hC.2.2.2.2.2.1 hPc hc he, fun U hU hW => ⟨rfl, by rw [hU], by rw [hU]; exact hPc, va_K.moved hW.alike hC.2.2.2.2.2.1, hDc.weaken (fun _ _ _ _ => trivial)⟩⟩ rfl hn (hz.1.trans hLn) hst (lv_room hcat) hd ⟨hcs.1, hcs.2⟩) hS (fun q _ h => hFc q h) hFc (fun u t H1 locs1 ht hvm hpost hB hz1 hk1 hS1 => ?_)
  obtain ⟨hP1, hK1, hD1⟩ := hB
  rw [ht] at hP1
  obtain ⟨hP2, hD2⟩ := va_join (wr := wr) (w1 := w1 u) hP hD isC isR hisC hisR hndR hdis hk1 hFc hP1 hD1
  exact kk u hpost H1 locs1 ls (hP2.sub isB (fm_map _ _ _ (hisB u))) (hD2.sub isB hndB (hisB u)) hS1 hz
/-- a new object -/
theorem x_new (hC : XC p s m args meth c D cl A cc nL own tys) {σ : va_W} {C : String} {T : u_T} {N ci index : Nat} (hin : ∀ w ∈ u_ws C T N, w ∈ lw_all) (ty : Nat → FieldType) (hty : ∀ k, k < N → parseFieldDescriptor (T k).2.2.1 = some (ty k)) (hcl : Cond.classLink own index C ∈ lw_all) (hinst : Cond.instantiable C N ∈ lw_all) (hini : Cond.initialized C ∈ lw_all) (hc : cl[ci]? = some (C, T, N)) {fs : List Value} (hfs : ∀ j, j < N → defaultValue (ty j) = vp_V fs j) (hcells : cells + 1 ≤ R.cells) (hslots : slots + N ≤ R.slots) (hd : decode cc pc = .ok (.new index, 3)) (kk : ∀ q : Nat, XW p l e R s m args below meth c (cells + 1) (slots + N) Q D cl A (fun w : va_W => w) (σ ++ [(q, .inr (ci, fs))]) L (.ref q :: st) (pc + 3)) : XW p l e R s m args below meth c cells slots Q D cl A (fun w : va_W => w) σ L st pc := by
  intro H locs ls hP hD hS hz
  exact va_new hC.1 hC.2.1 hC.2.2.2.2.1 hin ty hty hC.2.2.2.1 (hC.2.2.2.2.1 _ hcl) (hC.2.2.2.2.1 _ hinst) (hC.2.2.2.2.1 _ hini) hC.2.2.2.2.2.1 hP hD hS hC.2.2.2.2.2.2.2 hc hfs hcells hslots hd (fun q H1 hP1 hD1 hS1 => kk q H1 locs ls hP1 hD1 hS1 hz)
/-- its constructor: the object is the world's last cell -/
theorem x_ctor (hC : XC p s m args meth c D cl A cc nL own tys) {wr : va_W} {x0 : Nat × va_E} {y : MethodName} {bytes : ByteArray} {maxL n idx o mc ms : Nat} {rm : Room} {As : List Value} {st0 : List Value} {wC : (Nat → Nat) → XS → va_W} {post : XS → Prop} (hM : MC l y (ws_ y bytes maxL none) rm wC D cl tys o As [x0] post mc ms) (hG : Cond.code y bytes maxL none ∈ lw_all) (hini : Cond.initialized y.cls ∈ lw_all) (hl : Cond.methodLink own idx y ∈ lw_all) (hin : Cond.instanceMethod y ∈ lw_all) (hyn : y.name = "<init>") (hy : y.cls ≠ "java/lang/invoke/MethodHandle" ∧ y.cls ≠ "java/lang/invoke/VarHandle" ∧ (parseMethodDescriptor y.desc).map (fun d => d.parameters.length) = some n) (hrc : rm.cells = mc ∧ rm.slots = ms) (hR : rm.frames + 1 ≤ R.frames ∧ 8 + (maxL + 11) + rm.locals ≤ R.locals) (hcs : cells + mc ≤ R.cells ∧ slots + ms ≤ R.slots)
    (isC isR : List Nat) (hisC : isC.map (fun i => (wr ++ [x0])[i]?) = [x0].map some) (hndC : va_nd isC = true) (hisR : isR.map (fun i => (wr ++ [x0])[i]?) = wr.map some) (hndR : va_nd isR = true) (hdis : ∀ i ∈ isR, i ∉ isC) (hn : As.length = n) (hst : st0 = As.reverse ++ .ref o :: st) (hcat : (st.map fun v => v.category).sum ≤ 8) (hLn : L.length = nL) (hd : decode cc pc = .ok (.invokespecial idx, 3)) (kk : ∀ (h : Nat → Nat) (u : XS), h 0 = o → post u → XW p l e R s m args below meth c (cells + mc) (slots + ms) Q D cl A (fun w : va_W => w) (wr ++ wC h u) L st (pc + 3)) : XW p l e R s m args below meth c cells slots Q D cl A (fun w : va_W => w) (wr ++ [x0]) L st0 pc := by
  intro H locs ls hP hD hS hz
  have hPc := hP.sub (ws' := [x0]) isC (fm_map _ _ _ hisC)
  have hDc := hD.sub (ws' := [x0]) isC hndC hisC
  have hFc := va_free (wc := [x0]) hD hS hC.2.2.2.2.2.2.2 isC hisC
  refine va_callv (va_runI (As := As) (rest := st) (nL := nL) ⟨hC.1, hC.2.1, hC.2.2.1, hC.2.2.2.1, hC.2.2.2.2.1⟩ (hM H.size) (cwI n hC.2.2.2.2.1 (lw_meth hG) rfl hrc.1 hrc.2 (hC.2.2.2.2.1 _ hini) (hC.2.2.2.2.1 _ hl) (hC.2.2.2.2.1 _ hin) hyn hy hR) ⟨fun a U g mk q => by obtain ⟨q0, q1, qP, qK, qD⟩ := q; exact ⟨q0, q1, qP, va_K.moved (u := U) (U := U.calling g mk a) (Vm.Alike.refl U.vm) qK, qD⟩, fun U hU hW => ⟨rfl, by rw [hU], by rw [hU]; exact hPc, va_K.moved hW.alike hC.2.2.2.2.2.1, hDc.weaken (fun _ _ _ _ => trivial)⟩⟩ rfl hn (hz.1.trans hLn) hst (lv_room hcat) hd ⟨hcs.1, hcs.2⟩) hS (fun q _ h => hFc q h) hFc (fun u t H1 locs1 ht hvm hpost hB hz1 hk1 hS1 => ?_)
  obtain ⟨hP1, hK1, hD1⟩ := hB
  rw [ht] at hP1
  obtain ⟨hP2, hD2⟩ := va_join (wr := wr) (w1 := wC u.1 u.2) hP hD isC isR hisC hisR hndR hdis hk1 hFc hP1 hD1
  exact kk u.1 u.2 hpost.1 hpost.2 H1 locs1 ls hP2 hD2 hS1 hz
end XL
/-- the script's first int -/
def cell0 (N : Nat) (xs : Nat → Int32) : Int := if 0 < N then (xs 0).toInt else 0
abbrev rX0_cell : Room := ({ frames := 0, cells := 0, slots := 0, locals := 0 } : Room)
set_option maxHeartbeats 4000000 in
theorem tX0_cell (l : Launch) (b N : Nat) (xs : Nat → Int32) (hN : N < 2 ^ 31) (sz : Nat) : Met l yX0_cell (ws_ yX0_cell cX0_cell 2 (some .int)) rX0_cell (va_Pc [.ref b, .int (iI 0)] (fun U => U.heap.size = sz ∧ va_X b N xs U U.heap ∧ b < sz)) (va_Qi (fun (r : Int32) (_ : Unit) => r = iI (cell0 N xs)) (fun _ _ => True) (fun q => sz ≤ q)) 0 0 (fun q => sz ≤ q) := by
  refine Met.ofW (cc := cX0_cell) (maxL := 2) (ret := some .int) (by decide) rfl ?_
  intro p e s m args below meth c s₁ B hml hv
  obtain ⟨rfl, hsz, hX, hb1⟩ := hv
  have hx := B.exec
  have hb := B.bytes
  have hr := B.returns
  have hlocks := B.notSynchronized
  subst hsz
  have hS : va_S (fun q => s.heap.size ≤ q) s.heap s.heap [] := va_S.rf
  have hbA : ¬ (fun q : Nat => s.heap.size ≤ q) b := Nat.not_le.mpr hb1
  have hl := lv_entry ([.ref b, .int (iI 0)]) (n := 2) (Nat.le_of_ble_eq_true rfl)
  rw [lg_entry_eq]
  generalize (lg_sl ([.ref b, .int (iI 0)]) ++ List.replicate (2 - (lg_sl ([.ref b, .int (iI 0)])).length) Slot.unset).toArray = ls at hl ⊢
  have hl : lv_has ls 2 [(0, .ref b), (1, .int (iI 0))] := hl
  refine lv_iload_n hx hb dX0_cell_0 rfl (lv_at hl 1 rfl) ?_
  refine lv_aload_n hx hb dX0_cell_1 rfl (lv_at hl 0 rfl) ?_
  refine va_slen hx hb hX hb1 hbA hS dX0_cell_2 ?_
  rw [iI_nat hN]
  refine lv_icmp_ge (tgt := 12) hx hb dX0_cell_3 (by decide) (fun h3 => ?_) (fun h3 => ?_)
  · rw [iI_le (by omega) (by omega)] at h3
    refine lv_iconst (v := iI 0) hx hb dX0_cell_12 rfl ?_
    exact W.iret hx hb hr (fun t ht hW => ⟨⟨iI 0, (), rfl, by unfold cell0; rw [if_neg (by omega)], trivial⟩, hS.F ht⟩) hS.2.2 dX0_cell_13 hlocks
  · rw [iI_le (by omega) (by omega)] at h3
    refine lv_aload_n hx hb dX0_cell_6 rfl (lv_at hl 0 rfl) ?_
    refine lv_iload_n hx hb dX0_cell_7 rfl (lv_at hl 1 rfl) ?_
    refine va_sld hx hb hX hb1 hbA hS (iI_in (by omega) hN) dX0_cell_8 ?_
    refine lv_goto (tgt := 13) hx hb dX0_cell_9 (by decide) ?_
    exact W.iret hx hb hr (fun t ht hW => ⟨⟨xs (iI 0).toNatClampNeg, (), rfl, by unfold cell0; rw [if_pos (by omega), iI_of]; rfl, trivial⟩, hS.F ht⟩) hS.2.2 dX0_cell_13 hlocks
section XM
variable {S : Type} {p : Program} {l : Launch} {e : Env} {R : Room} {s : State} {m : MethodId} {args : Array Value} {below : List Frame} {meth : Method} {c : Code} {cells slots : Nat} {Q : State → Prop} {D : va_G} {cl : List vw_C} {A : Nat → Prop} {w : S → va_W} {cc : ByteArray} {nL : Nat} {tys : List (ClassId × FieldType)} {σ : S} {L : List (Option Value)} {st : List Value} {pc : Nat}
theorem hyX0_cell : yX0_cell.cls ≠ "java/lang/invoke/MethodHandle" ∧ yX0_cell.cls ≠ "java/lang/invoke/VarHandle" ∧ (parseMethodDescriptor yX0_cell.desc).map (fun d => d.parameters.length) = some 2 := by decide +kernel
theorem x_cell (hC : XC p s m args meth c D cl A cc nL RX0 tys) {b N : Nat} {xs : Nat → Int32} (hX : va_X b N xs s s.heap) (hbl : b < s.heap.size) (hbA : ¬ A b) (hN : N < 2 ^ 31) (hR : 1 ≤ R.frames ∧ 21 ≤ R.locals) (hcs : cells ≤ R.cells ∧ slots ≤ R.slots) (hcat : (st.map fun v => v.category).sum ≤ 8) (hLn : L.length = nL) (hd : decode cc pc = .ok (.invokestatic 9, 3)) (kk : XW p l e R s m args below meth c cells slots Q D cl A w σ L (.int (iI (cell0 N xs)) :: st) (pc + 3)) : XW p l e R s m args below meth c cells slots Q D cl A w σ L (.int (iI 0) :: .ref b :: st) pc := by
  intro H locs ls hP hD hS hz
  have hXH : va_X b N xs s H := hX.kept (hS.2.1 b hbl hbA)
  have hbH : b < H.size := Nat.lt_of_lt_of_le hbl hS.1
  have hfr : ∀ q : Nat, H.size ≤ q → A q := fun q h => hC.2.2.2.2.2.2.2 q (Nat.le_trans hS.1 h)
  refine va_calli (va_runS (As := [.ref b, .int (iI 0)]) (rest := st) (nL := nL) ⟨hC.1, hC.2.1, hC.2.2.1, hC.2.2.2.1, hC.2.2.2.2.1⟩ (tX0_cell l b N xs hN H.size) (va_cwS 2 hC.2.2.2.2.1 (lw_S q225 q226 q27 q227) rfl rfl rfl hyX0_cell hR) ⟨fun a U g mk q => by obtain ⟨q0, q1, qX, q2⟩ := q; exact ⟨q0, q1, va_X.moved (u := U) (U := U.calling g mk a) (Vm.Alike.refl U.vm) qX, q2⟩, fun U hU hW => ⟨rfl, by rw [hU], by rw [hU]; exact va_X.moved hW.alike hXH, hbH⟩⟩ rfl rfl (hz.1.trans hLn) rfl (lv_room hcat) hd ⟨hcs.1, hcs.2⟩) hS (fun q _ h => hfr q h) hfr (fun r u t H1 locs1 ht hvm hpost hB hz1 hk1 hS1 => ?_)
  rw [hpost]
  exact kk H1 locs1 ls (hP.kept (fun k q hq => hk1 q.1 ((hP k q hq).lt) (Nat.not_le.mpr ((hP k q hq).lt)))) hD hS1 hz
end XM
end
section
/-! THE LAW's CALLS -/
set_option maxRecDepth 100000
def w2 (hX hM : Nat → Nat) (cA : ClassId) : XS × XS → va_W := fun q => wX hX cA q.1 ++ wM hM cA q.2
section LC
variable {p : Program} {l : Launch} {e : Env} {R : Room} {s : State} {m : MethodId} {args : Array Value} {below : List Frame} {meth : Method} {c : Code} {cells slots : Nat} {Q : State → Prop} {D : va_G} {A : Nat → Prop} {cc : ByteArray} {nL : Nat} {L : List (Option Value)} {st : List Value} {pc : Nat} {hX hM : Nat → Nat} {cA : ClassId} {σ τ : XS}
theorem x_icmp_same {S : Type} {cl : List vw_C} {w : S → va_W} {own : String} {tys : List (ClassId × FieldType)} {υ : S} (hC : XC p s m args meth c D cl A cc nL own tys) {x : Int32} {off : Int} (tgt : Nat) (hd : decode cc pc = .ok (.if_icmp .eq off, 3)) (ht : (pc : Int) + off = (tgt : Int)) (kk : XW p l e R s m args below meth c cells slots Q D cl A w υ L st tgt) : XW p l e R s m args below meth c cells slots Q D cl A w υ L (.int x :: .int x :: st) pc :=
  fun H locs ls hP hD hS hz => lv_icmp_eq (tgt := tgt) hC.1 hC.2.1 hd ht (fun _ => kk H locs ls hP hD hS hz) (fun h => absurd rfl h)
theorem l_xI (hC : XC p s m args meth c D vwCl A cc nL RX0 [(cA, .int)]) {y : MethodName} {bytes : ByteArray} {maxL n idx : Nat} {ret : Option FieldType} {rm : Room} {As : List Value} {st0 : List Value} {post : Int → XS → Prop} (hM1 : MI l y (ws_ y bytes maxL ret) rm (wX hX cA) D vwCl [(cA, .int)] (hX 0) As σ post) (hG : GoodIn lw_all (wsV RX0 idx y.cls y (ws_ y bytes maxL ret))) (hy : y.cls ≠ "java/lang/invoke/MethodHandle" ∧ y.cls ≠ "java/lang/invoke/VarHandle" ∧ (parseMethodDescriptor y.desc).map (fun d => d.parameters.length) = some n) (hrc : rm.cells = 0 ∧ rm.slots = 0) (hR : rm.frames + 1 ≤ R.frames ∧ 8 + (maxL + 11) + rm.locals ≤ R.locals) (hcs : cells ≤ R.cells ∧ slots ≤ R.slots) (hc : vwCl[0]? = some (y.cls, TX1, 19)) (hn : As.length = n) (hst : st0 = As.reverse ++ .ref (hX 0) :: st) (hcat : (st.map fun v => v.category).sum ≤ 8) (hLn : L.length = nL) (hd : decode cc pc = .ok (.invokevirtual idx, 3)) (kk : ∀ (z : Int) (u : XS), post z u → XW p l e R s m args below meth c cells slots Q D vwCl A (w2 hX hM cA) (u, τ) L (.int (iI z) :: st) (pc + 3)) : XW p l e R s m args below meth c cells slots Q D vwCl A (w2 hX hM cA) (σ, τ) L st0 pc :=
  x_callI2 (w := w2 hX hM cA) (σ := (σ, τ)) (ci := 0) (q0 := 0) hC hM1 hG hy hrc hR hcs hc (wM hM cA τ) [0, 1, 2, 3, 4, 5, 6, 7, 8, 9, 10, 11, 12, 13, 14] [15, 16, 17, 18, 19] [5, 6, 7, 8, 9, 10, 11, 12, 13, 14, 15, 16, 17, 18, 19, 0, 1, 2, 3, 4] (fun u => (u, τ)) rfl (by decide) rfl (by decide) (by decide) (by decide) (fun u => rfl) rfl hn hst hcat hLn hd kk
theorem l_xV (hC : XC p s m args meth c D vwCl A cc nL RX0 [(cA, .int)]) {y : MethodName} {bytes : ByteArray} {maxL n idx : Nat} {ret : Option FieldType} {rm : Room} {As : List Value} {st0 : List Value} {post : XS → Prop} (hM1 : MV l y (ws_ y bytes maxL ret) rm (wX hX cA) D vwCl [(cA, .int)] (hX 0) As σ post) (hG : GoodIn lw_all (wsV RX0 idx y.cls y (ws_ y bytes maxL ret))) (hy : y.cls ≠ "java/lang/invoke/MethodHandle" ∧ y.cls ≠ "java/lang/invoke/VarHandle" ∧ (parseMethodDescriptor y.desc).map (fun d => d.parameters.length) = some n) (hrc : rm.cells = 0 ∧ rm.slots = 0) (hR : rm.frames + 1 ≤ R.frames ∧ 8 + (maxL + 11) + rm.locals ≤ R.locals) (hcs : cells ≤ R.cells ∧ slots ≤ R.slots) (hc : vwCl[0]? = some (y.cls, TX1, 19)) (hn : As.length = n) (hst : st0 = As.reverse ++ .ref (hX 0) :: st) (hcat : (st.map fun v => v.category).sum ≤ 8) (hLn : L.length = nL) (hd : decode cc pc = .ok (.invokevirtual idx, 3)) (kk : ∀ (u : XS), post u → XW p l e R s m args below meth c cells slots Q D vwCl A (w2 hX hM cA) (u, τ) L st (pc + 3)) : XW p l e R s m args below meth c cells slots Q D vwCl A (w2 hX hM cA) (σ, τ) L st0 pc :=
  x_callV2 (w := w2 hX hM cA) (σ := (σ, τ)) (ci := 0) (q0 := 0) hC hM1 hG hy hrc hR hcs hc (wM hM cA τ) [0, 1, 2, 3, 4, 5, 6, 7, 8, 9, 10, 11, 12, 13, 14] [15, 16, 17, 18, 19] [5, 6, 7, 8, 9, 10, 11, 12, 13, 14, 15, 16, 17, 18, 19, 0, 1, 2, 3, 4] (fun u => (u, τ)) rfl (by decide) rfl (by decide) (by decide) (by decide) (fun u => rfl) rfl hn hst hcat hLn hd kk
theorem l_mI (hC : XC p s m args meth c D vwCl A cc nL RX0 [(cA, .int)]) {y : MethodName} {bytes : ByteArray} {maxL n idx : Nat} {ret : Option FieldType} {rm : Room} {As : List Value} {st0 : List Value} {post : Int → XS → Prop} (hM1 : MI l y (ws_ y bytes maxL ret) rm (wM hM cA) D vwCl [(cA, .int)] (hM 0) As τ post) (hG : GoodIn lw_all (wsV RX0 idx y.cls y (ws_ y bytes maxL ret))) (hy : y.cls ≠ "java/lang/invoke/MethodHandle" ∧ y.cls ≠ "java/lang/invoke/VarHandle" ∧ (parseMethodDescriptor y.desc).map (fun d => d.parameters.length) = some n) (hrc : rm.cells = 0 ∧ rm.slots = 0) (hR : rm.frames + 1 ≤ R.frames ∧ 8 + (maxL + 11) + rm.locals ≤ R.locals) (hcs : cells ≤ R.cells ∧ slots ≤ R.slots) (hc : vwCl[1]? = some (y.cls, TX2, 6)) (hn : As.length = n) (hst : st0 = As.reverse ++ .ref (hM 0) :: st) (hcat : (st.map fun v => v.category).sum ≤ 8) (hLn : L.length = nL) (hd : decode cc pc = .ok (.invokevirtual idx, 3)) (kk : ∀ (z : Int) (u : XS), post z u → XW p l e R s m args below meth c cells slots Q D vwCl A (w2 hX hM cA) (σ, u) L (.int (iI z) :: st) (pc + 3)) : XW p l e R s m args below meth c cells slots Q D vwCl A (w2 hX hM cA) (σ, τ) L st0 pc :=
  x_callI2 (w := w2 hX hM cA) (σ := (σ, τ)) (ci := 1) (q0 := 0) hC hM1 hG hy hrc hR hcs hc (wX hX cA σ) [15, 16, 17, 18, 19] [0, 1, 2, 3, 4, 5, 6, 7, 8, 9, 10, 11, 12, 13, 14] [0, 1, 2, 3, 4, 5, 6, 7, 8, 9, 10, 11, 12, 13, 14, 15, 16, 17, 18, 19] (fun u => (σ, u)) rfl (by decide) rfl (by decide) (by decide) (by decide) (fun u => rfl) rfl hn hst hcat hLn hd kk
theorem l_mV (hC : XC p s m args meth c D vwCl A cc nL RX0 [(cA, .int)]) {y : MethodName} {bytes : ByteArray} {maxL n idx : Nat} {ret : Option FieldType} {rm : Room} {As : List Value} {st0 : List Value} {post : XS → Prop} (hM1 : MV l y (ws_ y bytes maxL ret) rm (wM hM cA) D vwCl [(cA, .int)] (hM 0) As τ post) (hG : GoodIn lw_all (wsV RX0 idx y.cls y (ws_ y bytes maxL ret))) (hy : y.cls ≠ "java/lang/invoke/MethodHandle" ∧ y.cls ≠ "java/lang/invoke/VarHandle" ∧ (parseMethodDescriptor y.desc).map (fun d => d.parameters.length) = some n) (hrc : rm.cells = 0 ∧ rm.slots = 0) (hR : rm.frames + 1 ≤ R.frames ∧ 8 + (maxL + 11) + rm.locals ≤ R.locals) (hcs : cells ≤ R.cells ∧ slots ≤ R.slots) (hc : vwCl[1]? = some (y.cls, TX2, 6)) (hn : As.length = n) (hst : st0 = As.reverse ++ .ref (hM 0) :: st) (hcat : (st.map fun v => v.category).sum ≤ 8) (hLn : L.length = nL) (hd : decode cc pc = .ok (.invokevirtual idx, 3)) (kk : ∀ (u : XS), post u → XW p l e R s m args below meth c cells slots Q D vwCl A (w2 hX hM cA) (σ, u) L st (pc + 3)) : XW p l e R s m args below meth c cells slots Q D vwCl A (w2 hX hM cA) (σ, τ) L st0 pc :=
  x_callV2 (w := w2 hX hM cA) (σ := (σ, τ)) (ci := 1) (q0 := 0) hC hM1 hG hy hrc hR hcs hc (wX hX cA σ) [15, 16, 17, 18, 19] [0, 1, 2, 3, 4, 5, 6, 7, 8, 9, 10, 11, 12, 13, 14] [0, 1, 2, 3, 4, 5, 6, 7, 8, 9, 10, 11, 12, 13, 14, 15, 16, 17, 18, 19] (fun u => (σ, u)) rfl (by decide) rfl (by decide) (by decide) (by decide) (fun u => rfl) rfl hn hst hcat hLn hd kk
end LC
/-- the law at pc, with both sides' states -/
abbrev LW (p : Program) (l : Launch) (e : Env) (s : State) (m : MethodId) (b : Nat) (below : List Frame) (meth : Method) (c : Code) (D : va_G) (hX hM : Nat → Nat) (cA : ClassId) (q : XS × XS) (i : Int) (st : List Value) (pc : Nat) : Prop := XW p l e room_1 s m #[Value.ref b] below meth c 20 1740 (lw_Z below #[Value.ref b] s) D vwCl (fun q : Nat => s.heap.size ≤ q) (w2 hX hM cA) q [some (.ref b), some (.ref (hX 0)), some (.ref (hM 0)), some (.int (iI i))] st pc
section LD
variable {p : Program} {l : Launch} {e : Env} {s : State} {m : MethodId} {below : List Frame} {meth : Method} {c : Code} {D : va_G} {hX hM : Nat → Nat} {cA : ClassId} {b N : Nat} {xs : Nat → Int32}
set_option maxHeartbeats 4000000 in
theorem law_draft (hC : XC p s m #[Value.ref b] meth c D vwCl (fun q : Nat => s.heap.size ≤ q) cL_law 4 RX0 [(cA, .int)]) (hSc : va_X b N xs s s.heap) (hbl : b < s.heap.size) (hN : N < 2 ^ 31) {B i : Int} {σ τ : XS} (hB : 10 ≤ B ∧ B ≤ 50000) (h : ST B σ τ) (hi : 0 ≤ i ∧ i + 1 < (N : Int)) (next : ∀ u u' : XS, ST (B + 20) u u' → LW p l e s m b below meth c D hX hM cA (u, u') i [] 401) : LW p l e s m b below meth c D hX hM cA (σ, τ) i [] 124 := by
  have hbA : ¬ (fun q : Nat => s.heap.size ≤ q) b := Nat.not_le.mpr hbl
  refine x_aload_n (i := 1) hC dL_law_124 rfl rfl ?_
  refine x_aload_n (i := 0) hC dL_law_125 rfl rfl ?_
  refine x_iload_n (i := 3) hC dL_law_126 rfl rfl ?_
  refine x_iconst hC dL_law_127 ?_
  refine x_iadd hC dL_law_128 ?_
  refine x_sld hC hSc hbl hbA hN (by omega) dL_law_129 ?_
  refine l_xI hC (tX1_draft l D cA hX σ (by omega) h.1 _ (iI_rg _)) gX0_X1_draft hyX1_draft ⟨rfl, rfl⟩ ⟨Nat.le_of_ble_eq_true rfl, Nat.le_of_ble_eq_true rfl⟩ ⟨Nat.le_of_ble_eq_true rfl, Nat.le_of_ble_eq_true rfl⟩ rfl rfl rfl (Nat.le_of_ble_eq_true rfl) rfl dL_law_130 (fun z u hu => ?_)
  refine x_aload_n (i := 2) hC dL_law_133 rfl rfl ?_
  refine x_aload_n (i := 0) hC dL_law_134 rfl rfl ?_
  refine x_iload_n (i := 3) hC dL_law_135 rfl rfl ?_
  refine x_iconst hC dL_law_136 ?_
  refine x_iadd hC dL_law_137 ?_
  refine x_sld hC hSc hbl hbA hN (by omega) dL_law_138 ?_
  refine l_mI hC (tX2_draft l D cA hM τ h.okm _ (iI_rg _)) gX0_X2_draft hyX2_draft ⟨rfl, rfl⟩ ⟨Nat.le_of_ble_eq_true rfl, Nat.le_of_ble_eq_true rfl⟩ ⟨Nat.le_of_ble_eq_true rfl, Nat.le_of_ble_eq_true rfl⟩ rfl rfl rfl (Nat.le_of_ble_eq_true rfl) rfl dL_law_139 (fun z' u' hv => ?_)
  obtain ⟨ez, hs⟩ := h.draft _ hu hv
  subst ez
  refine x_icmp_same hC 401 dL_law_142 (by decide) ?_
  exact next u u' hs
set_option maxHeartbeats 4000000 in
theorem law_scrap (hC : XC p s m #[Value.ref b] meth c D vwCl (fun q : Nat => s.heap.size ≤ q) cL_law 4 RX0 [(cA, .int)]) (hSc : va_X b N xs s s.heap) (hbl : b < s.heap.size) (hN : N < 2 ^ 31) {B i : Int} {σ τ : XS} (hB : 10 ≤ B ∧ B ≤ 50000) (h : ST B σ τ) (hi : 0 ≤ i ∧ i + 1 < (N : Int)) (next : ∀ u u' : XS, ST (B + 20) u u' → LW p l e s m b below meth c D hX hM cA (u, u') i [] 401) : LW p l e s m b below meth c D hX hM cA (σ, τ) i [] 147 := by
  refine x_aload_n (i := 1) hC dL_law_147 rfl rfl ?_
  refine l_xV hC (tX1_scrap l D cA hX σ ) gX0_X1_scrap hyX1_scrap ⟨rfl, rfl⟩ ⟨Nat.le_of_ble_eq_true rfl, Nat.le_of_ble_eq_true rfl⟩ ⟨Nat.le_of_ble_eq_true rfl, Nat.le_of_ble_eq_true rfl⟩ rfl rfl rfl (Nat.le_of_ble_eq_true rfl) rfl dL_law_148 (fun u hu => ?_)
  refine x_aload_n (i := 2) hC dL_law_151 rfl rfl ?_
  refine l_mV hC (tX2_scrap l D cA hM τ ) gX0_X2_scrap hyX2_scrap ⟨rfl, rfl⟩ ⟨Nat.le_of_ble_eq_true rfl, Nat.le_of_ble_eq_true rfl⟩ ⟨Nat.le_of_ble_eq_true rfl, Nat.le_of_ble_eq_true rfl⟩ rfl rfl rfl (Nat.le_of_ble_eq_true rfl) rfl dL_law_152 (fun u' hv => ?_)
  refine x_goto hC 401 dL_law_155 (by decide) ?_
  exact next u u' (h.scrap hu hv)
set_option maxHeartbeats 4000000 in
theorem law_add (hC : XC p s m #[Value.ref b] meth c D vwCl (fun q : Nat => s.heap.size ≤ q) cL_law 4 RX0 [(cA, .int)]) (hSc : va_X b N xs s s.heap) (hbl : b < s.heap.size) (hN : N < 2 ^ 31) {B i : Int} {σ τ : XS} (hB : 10 ≤ B ∧ B ≤ 50000) (h : ST B σ τ) (hi : 0 ≤ i ∧ i + 1 < (N : Int)) (next : ∀ u u' : XS, ST (B + 20) u u' → LW p l e s m b below meth c D hX hM cA (u, u') i [] 401) : LW p l e s m b below meth c D hX hM cA (σ, τ) i [] 158 := by
  have hbA : ¬ (fun q : Nat => s.heap.size ≤ q) b := Nat.not_le.mpr hbl
  refine x_aload_n (i := 1) hC dL_law_158 rfl rfl ?_
  refine x_aload_n (i := 0) hC dL_law_159 rfl rfl ?_
  refine x_iload_n (i := 3) hC dL_law_160 rfl rfl ?_
  refine x_iconst hC dL_law_161 ?_
  refine x_iadd hC dL_law_162 ?_
  refine x_sld hC hSc hbl hbA hN (by omega) dL_law_163 ?_
  refine l_xI hC (tX1_add l D cA hX σ (by omega) h.1 _ (iI_rg _) (fun c1 c2 => (h.add1 _ c1 c2).1) (fun c1 c2 c3 => ((h.add2 hB.1 _ c1 c2).2 c3).1)) gX0_X1_add hyX1_add ⟨rfl, rfl⟩ ⟨Nat.le_of_ble_eq_true rfl, Nat.le_of_ble_eq_true rfl⟩ ⟨Nat.le_of_ble_eq_true rfl, Nat.le_of_ble_eq_true rfl⟩ rfl rfl rfl (Nat.le_of_ble_eq_true rfl) rfl dL_law_164 (fun z u hu => ?_)
  refine x_aload_n (i := 2) hC dL_law_167 rfl rfl ?_
  refine x_aload_n (i := 0) hC dL_law_168 rfl rfl ?_
  refine x_iload_n (i := 3) hC dL_law_169 rfl rfl ?_
  refine x_iconst hC dL_law_170 ?_
  refine x_iadd hC dL_law_171 ?_
  refine x_sld hC hSc hbl hbA hN (by omega) dL_law_172 ?_
  refine l_mI hC (tX2_add l D cA hM τ h.okm _ (iI_rg _)) gX0_X2_add hyX2_add ⟨rfl, rfl⟩ ⟨Nat.le_of_ble_eq_true rfl, Nat.le_of_ble_eq_true rfl⟩ ⟨Nat.le_of_ble_eq_true rfl, Nat.le_of_ble_eq_true rfl⟩ rfl rfl rfl (Nat.le_of_ble_eq_true rfl) rfl dL_law_173 (fun z' u' hv => ?_)
  obtain ⟨ez, hs⟩ := h.add hB.1 _ hu hv
  subst ez
  refine x_icmp_same hC 401 dL_law_176 (by decide) ?_
  exact next u u' hs
set_option maxHeartbeats 4000000 in
theorem law_remove (hC : XC p s m #[Value.ref b] meth c D vwCl (fun q : Nat => s.heap.size ≤ q) cL_law 4 RX0 [(cA, .int)]) (hSc : va_X b N xs s s.heap) (hbl : b < s.heap.size) (hN : N < 2 ^ 31) {B i : Int} {σ τ : XS} (hB : 10 ≤ B ∧ B ≤ 50000) (h : ST B σ τ) (hi : 0 ≤ i ∧ i + 1 < (N : Int)) (next : ∀ u u' : XS, ST (B + 20) u u' → LW p l e s m b below meth c D hX hM cA (u, u') i [] 401) : LW p l e s m b below meth c D hX hM cA (σ, τ) i [] 181 := by
  refine x_aload_n (i := 1) hC dL_law_181 rfl rfl ?_
  refine l_xI hC (tX1_remove l D cA hX σ (by omega) h.1 (fun c1 c2 => (h.rem1 hB.1 c2 c1).1)) gX0_X1_remove hyX1_remove ⟨rfl, rfl⟩ ⟨Nat.le_of_ble_eq_true rfl, Nat.le_of_ble_eq_true rfl⟩ ⟨Nat.le_of_ble_eq_true rfl, Nat.le_of_ble_eq_true rfl⟩ rfl rfl rfl (Nat.le_of_ble_eq_true rfl) rfl dL_law_182 (fun z u hu => ?_)
  refine x_aload_n (i := 2) hC dL_law_185 rfl rfl ?_
  refine l_mI hC (tX2_remove l D cA hM τ h.okm) gX0_X2_remove hyX2_remove ⟨rfl, rfl⟩ ⟨Nat.le_of_ble_eq_true rfl, Nat.le_of_ble_eq_true rfl⟩ ⟨Nat.le_of_ble_eq_true rfl, Nat.le_of_ble_eq_true rfl⟩ rfl rfl rfl (Nat.le_of_ble_eq_true rfl) rfl dL_law_186 (fun z' u' hv => ?_)
  obtain ⟨ez, hs⟩ := h.remove hB.1 hu hv
  subst ez
  refine x_icmp_same hC 401 dL_law_189 (by decide) ?_
  exact next u u' hs
set_option maxHeartbeats 4000000 in
theorem law_weight (hC : XC p s m #[Value.ref b] meth c D vwCl (fun q : Nat => s.heap.size ≤ q) cL_law 4 RX0 [(cA, .int)]) (hSc : va_X b N xs s s.heap) (hbl : b < s.heap.size) (hN : N < 2 ^ 31) {B i : Int} {σ τ : XS} (hB : 10 ≤ B ∧ B ≤ 50000) (h : ST B σ τ) (hi : 0 ≤ i ∧ i + 1 < (N : Int)) (next : ∀ u u' : XS, ST (B + 20) u u' → LW p l e s m b below meth c D hX hM cA (u, u') i [] 401) : LW p l e s m b below meth c D hX hM cA (σ, τ) i [] 194 := by
  refine x_aload_n (i := 1) hC dL_law_194 rfl rfl ?_
  refine l_xI hC (tX1_weight l D cA hX σ (by omega) h.1) gX0_X1_weight hyX1_weight ⟨rfl, rfl⟩ ⟨Nat.le_of_ble_eq_true rfl, Nat.le_of_ble_eq_true rfl⟩ ⟨Nat.le_of_ble_eq_true rfl, Nat.le_of_ble_eq_true rfl⟩ rfl rfl rfl (Nat.le_of_ble_eq_true rfl) rfl dL_law_195 (fun z u hu => ?_)
  refine x_aload_n (i := 2) hC dL_law_198 rfl rfl ?_
  refine l_mI hC (tX2_weight l D cA hM τ h.okm) gX0_X2_weight hyX2_weight ⟨rfl, rfl⟩ ⟨Nat.le_of_ble_eq_true rfl, Nat.le_of_ble_eq_true rfl⟩ ⟨Nat.le_of_ble_eq_true rfl, Nat.le_of_ble_eq_true rfl⟩ rfl rfl rfl (Nat.le_of_ble_eq_true rfl) rfl dL_law_199 (fun z' u' hv => ?_)
  obtain ⟨ez, hs⟩ := h.weight hu hv
  subst ez
  refine x_icmp_same hC 401 dL_law_202 (by decide) ?_
  exact next u u' hs
set_option maxHeartbeats 4000000 in
theorem law_words (hC : XC p s m #[Value.ref b] meth c D vwCl (fun q : Nat => s.heap.size ≤ q) cL_law 4 RX0 [(cA, .int)]) (hSc : va_X b N xs s s.heap) (hbl : b < s.heap.size) (hN : N < 2 ^ 31) {B i : Int} {σ τ : XS} (hB : 10 ≤ B ∧ B ≤ 50000) (h : ST B σ τ) (hi : 0 ≤ i ∧ i + 1 < (N : Int)) (next : ∀ u u' : XS, ST (B + 20) u u' → LW p l e s m b below meth c D hX hM cA (u, u') i [] 401) : LW p l e s m b below meth c D hX hM cA (σ, τ) i [] 207 := by
  refine x_aload_n (i := 1) hC dL_law_207 rfl rfl ?_
  refine l_xI hC (tX1_words l D cA hX σ ) gX0_X1_words hyX1_words ⟨rfl, rfl⟩ ⟨Nat.le_of_ble_eq_true rfl, Nat.le_of_ble_eq_true rfl⟩ ⟨Nat.le_of_ble_eq_true rfl, Nat.le_of_ble_eq_true rfl⟩ rfl rfl rfl (Nat.le_of_ble_eq_true rfl) rfl dL_law_208 (fun z u hu => ?_)
  refine x_aload_n (i := 2) hC dL_law_211 rfl rfl ?_
  refine l_mI hC (tX2_words l D cA hM τ ) gX0_X2_words hyX2_words ⟨rfl, rfl⟩ ⟨Nat.le_of_ble_eq_true rfl, Nat.le_of_ble_eq_true rfl⟩ ⟨Nat.le_of_ble_eq_true rfl, Nat.le_of_ble_eq_true rfl⟩ rfl rfl rfl (Nat.le_of_ble_eq_true rfl) rfl dL_law_212 (fun z' u' hv => ?_)
  obtain ⟨ez, hs⟩ := h.words hu hv
  subst ez
  refine x_icmp_same hC 401 dL_law_215 (by decide) ?_
  exact next u u' hs
set_option maxHeartbeats 4000000 in
theorem law_type (hC : XC p s m #[Value.ref b] meth c D vwCl (fun q : Nat => s.heap.size ≤ q) cL_law 4 RX0 [(cA, .int)]) (hSc : va_X b N xs s s.heap) (hbl : b < s.heap.size) (hN : N < 2 ^ 31) {B i : Int} {σ τ : XS} (hB : 10 ≤ B ∧ B ≤ 50000) (h : ST B σ τ) (hi : 0 ≤ i ∧ i + 1 < (N : Int)) (next : ∀ u u' : XS, ST (B + 20) u u' → LW p l e s m b below meth c D hX hM cA (u, u') i [] 401) : LW p l e s m b below meth c D hX hM cA (σ, τ) i [] 220 := by
  have hbA : ¬ (fun q : Nat => s.heap.size ≤ q) b := Nat.not_le.mpr hbl
  refine x_aload_n (i := 1) hC dL_law_220 rfl rfl ?_
  refine x_aload_n (i := 0) hC dL_law_221 rfl rfl ?_
  refine x_iload_n (i := 3) hC dL_law_222 rfl rfl ?_
  refine x_iconst hC dL_law_223 ?_
  refine x_iadd hC dL_law_224 ?_
  refine x_sld hC hSc hbl hbA hN (by omega) dL_law_225 ?_
  refine l_xI hC (tX1_type l D cA hX σ (by omega) h.1 _ (iI_rg _) (fun c1 c2 => (h.typ1 hB.1 _ c1 c2).1)) gX0_X1_type hyX1_type ⟨rfl, rfl⟩ ⟨Nat.le_of_ble_eq_true rfl, Nat.le_of_ble_eq_true rfl⟩ ⟨Nat.le_of_ble_eq_true rfl, Nat.le_of_ble_eq_true rfl⟩ rfl rfl rfl (Nat.le_of_ble_eq_true rfl) rfl dL_law_226 (fun z u hu => ?_)
  refine x_aload_n (i := 2) hC dL_law_229 rfl rfl ?_
  refine x_aload_n (i := 0) hC dL_law_230 rfl rfl ?_
  refine x_iload_n (i := 3) hC dL_law_231 rfl rfl ?_
  refine x_iconst hC dL_law_232 ?_
  refine x_iadd hC dL_law_233 ?_
  refine x_sld hC hSc hbl hbA hN (by omega) dL_law_234 ?_
  refine l_mI hC (tX2_type l D cA hM τ h.okm _ (iI_rg _)) gX0_X2_type hyX2_type ⟨rfl, rfl⟩ ⟨Nat.le_of_ble_eq_true rfl, Nat.le_of_ble_eq_true rfl⟩ ⟨Nat.le_of_ble_eq_true rfl, Nat.le_of_ble_eq_true rfl⟩ rfl rfl rfl (Nat.le_of_ble_eq_true rfl) rfl dL_law_235 (fun z' u' hv => ?_)
  obtain ⟨ez, hs⟩ := h.typ hB.1 _ hu hv
  subst ez
  refine x_icmp_same hC 401 dL_law_238 (by decide) ?_
  exact next u u' hs
set_option maxHeartbeats 4000000 in
theorem law_backspace (hC : XC p s m #[Value.ref b] meth c D vwCl (fun q : Nat => s.heap.size ≤ q) cL_law 4 RX0 [(cA, .int)]) (hSc : va_X b N xs s s.heap) (hbl : b < s.heap.size) (hN : N < 2 ^ 31) {B i : Int} {σ τ : XS} (hB : 10 ≤ B ∧ B ≤ 50000) (h : ST B σ τ) (hi : 0 ≤ i ∧ i + 1 < (N : Int)) (next : ∀ u u' : XS, ST (B + 20) u u' → LW p l e s m b below meth c D hX hM cA (u, u') i [] 401) : LW p l e s m b below meth c D hX hM cA (σ, τ) i [] 243 := by
  refine x_aload_n (i := 1) hC dL_law_243 rfl rfl ?_
  refine l_xI hC (tX1_backspace l D cA hX σ (by omega) h.1 (fun c1 => h.back1 c1)) gX0_X1_backspace hyX1_backspace ⟨rfl, rfl⟩ ⟨Nat.le_of_ble_eq_true rfl, Nat.le_of_ble_eq_true rfl⟩ ⟨Nat.le_of_ble_eq_true rfl, Nat.le_of_ble_eq_true rfl⟩ rfl rfl rfl (Nat.le_of_ble_eq_true rfl) rfl dL_law_244 (fun z u hu => ?_)
  refine x_aload_n (i := 2) hC dL_law_247 rfl rfl ?_
  refine l_mI hC (tX2_backspace l D cA hM τ h.okm) gX0_X2_backspace hyX2_backspace ⟨rfl, rfl⟩ ⟨Nat.le_of_ble_eq_true rfl, Nat.le_of_ble_eq_true rfl⟩ ⟨Nat.le_of_ble_eq_true rfl, Nat.le_of_ble_eq_true rfl⟩ rfl rfl rfl (Nat.le_of_ble_eq_true rfl) rfl dL_law_248 (fun z' u' hv => ?_)
  obtain ⟨ez, hs⟩ := h.back hu hv
  subst ez
  refine x_icmp_same hC 401 dL_law_251 (by decide) ?_
  exact next u u' hs
set_option maxHeartbeats 4000000 in
theorem law_reset (hC : XC p s m #[Value.ref b] meth c D vwCl (fun q : Nat => s.heap.size ≤ q) cL_law 4 RX0 [(cA, .int)]) (hSc : va_X b N xs s s.heap) (hbl : b < s.heap.size) (hN : N < 2 ^ 31) {B i : Int} {σ τ : XS} (hB : 10 ≤ B ∧ B ≤ 50000) (h : ST B σ τ) (hi : 0 ≤ i ∧ i + 1 < (N : Int)) (next : ∀ u u' : XS, ST (B + 20) u u' → LW p l e s m b below meth c D hX hM cA (u, u') i [] 401) : LW p l e s m b below meth c D hX hM cA (σ, τ) i [] 256 := by
  refine x_aload_n (i := 1) hC dL_law_256 rfl rfl ?_
  refine l_xV hC (tX1_reset l D cA hX σ (by omega) h.1 h.reset1) gX0_X1_reset hyX1_reset ⟨rfl, rfl⟩ ⟨Nat.le_of_ble_eq_true rfl, Nat.le_of_ble_eq_true rfl⟩ ⟨Nat.le_of_ble_eq_true rfl, Nat.le_of_ble_eq_true rfl⟩ rfl rfl rfl (Nat.le_of_ble_eq_true rfl) rfl dL_law_257 (fun u hu => ?_)
  refine x_aload_n (i := 2) hC dL_law_260 rfl rfl ?_
  refine l_mV hC (tX2_reset l D cA hM τ ) gX0_X2_reset hyX2_reset ⟨rfl, rfl⟩ ⟨Nat.le_of_ble_eq_true rfl, Nat.le_of_ble_eq_true rfl⟩ ⟨Nat.le_of_ble_eq_true rfl, Nat.le_of_ble_eq_true rfl⟩ rfl rfl rfl (Nat.le_of_ble_eq_true rfl) rfl dL_law_261 (fun u' hv => ?_)
  refine x_goto hC 401 dL_law_264 (by decide) ?_
  exact next u u' (h.reset hu hv)
set_option maxHeartbeats 4000000 in
theorem law_length (hC : XC p s m #[Value.ref b] meth c D vwCl (fun q : Nat => s.heap.size ≤ q) cL_law 4 RX0 [(cA, .int)]) (hSc : va_X b N xs s s.heap) (hbl : b < s.heap.size) (hN : N < 2 ^ 31) {B i : Int} {σ τ : XS} (hB : 10 ≤ B ∧ B ≤ 50000) (h : ST B σ τ) (hi : 0 ≤ i ∧ i + 1 < (N : Int)) (next : ∀ u u' : XS, ST (B + 20) u u' → LW p l e s m b below meth c D hX hM cA (u, u') i [] 401) : LW p l e s m b below meth c D hX hM cA (σ, τ) i [] 267 := by
  refine x_aload_n (i := 1) hC dL_law_267 rfl rfl ?_
  refine l_xI hC (tX1_length l D cA hX σ ) gX0_X1_length hyX1_length ⟨rfl, rfl⟩ ⟨Nat.le_of_ble_eq_true rfl, Nat.le_of_ble_eq_true rfl⟩ ⟨Nat.le_of_ble_eq_true rfl, Nat.le_of_ble_eq_true rfl⟩ rfl rfl rfl (Nat.le_of_ble_eq_true rfl) rfl dL_law_268 (fun z u hu => ?_)
  refine x_aload_n (i := 2) hC dL_law_271 rfl rfl ?_
  refine l_mI hC (tX2_length l D cA hM τ ) gX0_X2_length hyX2_length ⟨rfl, rfl⟩ ⟨Nat.le_of_ble_eq_true rfl, Nat.le_of_ble_eq_true rfl⟩ ⟨Nat.le_of_ble_eq_true rfl, Nat.le_of_ble_eq_true rfl⟩ rfl rfl rfl (Nat.le_of_ble_eq_true rfl) rfl dL_law_272 (fun z' u' hv => ?_)
  obtain ⟨ez, hs⟩ := h.length hu hv
  subst ez
  refine x_icmp_same hC 401 dL_law_275 (by decide) ?_
  exact next u u' hs
set_option maxHeartbeats 4000000 in
theorem law_offered (hC : XC p s m #[Value.ref b] meth c D vwCl (fun q : Nat => s.heap.size ≤ q) cL_law 4 RX0 [(cA, .int)]) (hSc : va_X b N xs s s.heap) (hbl : b < s.heap.size) (hN : N < 2 ^ 31) {B i : Int} {σ τ : XS} (hB : 10 ≤ B ∧ B ≤ 50000) (h : ST B σ τ) (hi : 0 ≤ i ∧ i + 1 < (N : Int)) (next : ∀ u u' : XS, ST (B + 20) u u' → LW p l e s m b below meth c D hX hM cA (u, u') i [] 401) : LW p l e s m b below meth c D hX hM cA (σ, τ) i [] 280 := by
  refine x_aload_n (i := 1) hC dL_law_280 rfl rfl ?_
  refine l_xI hC (tX1_offered l D cA hX σ ) gX0_X1_offered hyX1_offered ⟨rfl, rfl⟩ ⟨Nat.le_of_ble_eq_true rfl, Nat.le_of_ble_eq_true rfl⟩ ⟨Nat.le_of_ble_eq_true rfl, Nat.le_of_ble_eq_true rfl⟩ rfl rfl rfl (Nat.le_of_ble_eq_true rfl) rfl dL_law_281 (fun z u hu => ?_)
  refine x_aload_n (i := 2) hC dL_law_284 rfl rfl ?_
  refine l_mI hC (tX2_offered l D cA hM τ h.okm) gX0_X2_offered hyX2_offered ⟨rfl, rfl⟩ ⟨Nat.le_of_ble_eq_true rfl, Nat.le_of_ble_eq_true rfl⟩ ⟨Nat.le_of_ble_eq_true rfl, Nat.le_of_ble_eq_true rfl⟩ rfl rfl rfl (Nat.le_of_ble_eq_true rfl) rfl dL_law_285 (fun z' u' hv => ?_)
  obtain ⟨ez, hs⟩ := h.offered hu hv
  subst ez
  refine x_icmp_same hC 401 dL_law_288 (by decide) ?_
  exact next u u' hs
set_option maxHeartbeats 4000000 in
theorem law_offer (hC : XC p s m #[Value.ref b] meth c D vwCl (fun q : Nat => s.heap.size ≤ q) cL_law 4 RX0 [(cA, .int)]) (hSc : va_X b N xs s s.heap) (hbl : b < s.heap.size) (hN : N < 2 ^ 31) {B i : Int} {σ τ : XS} (hB : 10 ≤ B ∧ B ≤ 50000) (h : ST B σ τ) (hi : 0 ≤ i ∧ i + 1 < (N : Int)) (next : ∀ u u' : XS, ST (B + 20) u u' → LW p l e s m b below meth c D hX hM cA (u, u') i [] 401) : LW p l e s m b below meth c D hX hM cA (σ, τ) i [] 293 := by
  have hbA : ¬ (fun q : Nat => s.heap.size ≤ q) b := Nat.not_le.mpr hbl
  refine x_aload_n (i := 1) hC dL_law_293 rfl rfl ?_
  refine x_aload_n (i := 0) hC dL_law_294 rfl rfl ?_
  refine x_iload_n (i := 3) hC dL_law_295 rfl rfl ?_
  refine x_iconst hC dL_law_296 ?_
  refine x_iadd hC dL_law_297 ?_
  refine x_sld hC hSc hbl hbA hN (by omega) dL_law_298 ?_
  refine l_xI hC (tX1_offer l D cA hX σ (by omega) h.1 _ (iI_rg _)) gX0_X1_offer hyX1_offer ⟨rfl, rfl⟩ ⟨Nat.le_of_ble_eq_true rfl, Nat.le_of_ble_eq_true rfl⟩ ⟨Nat.le_of_ble_eq_true rfl, Nat.le_of_ble_eq_true rfl⟩ rfl rfl rfl (Nat.le_of_ble_eq_true rfl) rfl dL_law_299 (fun z u hu => ?_)
  refine x_aload_n (i := 2) hC dL_law_302 rfl rfl ?_
  refine x_aload_n (i := 0) hC dL_law_303 rfl rfl ?_
  refine x_iload_n (i := 3) hC dL_law_304 rfl rfl ?_
  refine x_iconst hC dL_law_305 ?_
  refine x_iadd hC dL_law_306 ?_
  refine x_sld hC hSc hbl hbA hN (by omega) dL_law_307 ?_
  refine l_mI hC (tX2_offer l D cA hM τ h.okm _ (iI_rg _)) gX0_X2_offer hyX2_offer ⟨rfl, rfl⟩ ⟨Nat.le_of_ble_eq_true rfl, Nat.le_of_ble_eq_true rfl⟩ ⟨Nat.le_of_ble_eq_true rfl, Nat.le_of_ble_eq_true rfl⟩ rfl rfl rfl (Nat.le_of_ble_eq_true rfl) rfl dL_law_308 (fun z' u' hv => ?_)
  obtain ⟨ez, hs⟩ := h.offer _ hu hv
  subst ez
  refine x_icmp_same hC 401 dL_law_311 (by decide) ?_
  exact next u u' hs
set_option maxHeartbeats 4000000 in
theorem law_distance (hC : XC p s m #[Value.ref b] meth c D vwCl (fun q : Nat => s.heap.size ≤ q) cL_law 4 RX0 [(cA, .int)]) (hSc : va_X b N xs s s.heap) (hbl : b < s.heap.size) (hN : N < 2 ^ 31) {B i : Int} {σ τ : XS} (hB : 10 ≤ B ∧ B ≤ 50000) (h : ST B σ τ) (hi : 0 ≤ i ∧ i + 1 < (N : Int)) (next : ∀ u u' : XS, ST (B + 20) u u' → LW p l e s m b below meth c D hX hM cA (u, u') i [] 401) : LW p l e s m b below meth c D hX hM cA (σ, τ) i [] 316 := by
  have hbA : ¬ (fun q : Nat => s.heap.size ≤ q) b := Nat.not_le.mpr hbl
  refine x_aload_n (i := 1) hC dL_law_316 rfl rfl ?_
  refine x_aload_n (i := 0) hC dL_law_317 rfl rfl ?_
  refine x_iload_n (i := 3) hC dL_law_318 rfl rfl ?_
  refine x_iconst hC dL_law_319 ?_
  refine x_iadd hC dL_law_320 ?_
  refine x_sld hC hSc hbl hbA hN (by omega) dL_law_321 ?_
  refine l_xI hC (tX1_distance l D cA hX σ (by omega) h.1 _ (iI_rg _)) gX0_X1_distance hyX1_distance ⟨rfl, rfl⟩ ⟨Nat.le_of_ble_eq_true rfl, Nat.le_of_ble_eq_true rfl⟩ ⟨Nat.le_of_ble_eq_true rfl, Nat.le_of_ble_eq_true rfl⟩ rfl rfl rfl (Nat.le_of_ble_eq_true rfl) rfl dL_law_322 (fun z u hu => ?_)
  refine x_aload_n (i := 2) hC dL_law_325 rfl rfl ?_
  refine x_aload_n (i := 0) hC dL_law_326 rfl rfl ?_
  refine x_iload_n (i := 3) hC dL_law_327 rfl rfl ?_
  refine x_iconst hC dL_law_328 ?_
  refine x_iadd hC dL_law_329 ?_
  refine x_sld hC hSc hbl hbA hN (by omega) dL_law_330 ?_
  refine l_mI hC (tX2_distance l D cA hM τ h.okm _ (iI_rg _)) gX0_X2_distance hyX2_distance ⟨rfl, rfl⟩ ⟨Nat.le_of_ble_eq_true rfl, Nat.le_of_ble_eq_true rfl⟩ ⟨Nat.le_of_ble_eq_true rfl, Nat.le_of_ble_eq_true rfl⟩ rfl rfl rfl (Nat.le_of_ble_eq_true rfl) rfl dL_law_331 (fun z' u' hv => ?_)
  obtain ⟨ez, hs⟩ := h.distance _ hu hv
  subst ez
  refine x_icmp_same hC 401 dL_law_334 (by decide) ?_
  exact next u u' hs
set_option maxHeartbeats 4000000 in
theorem law_weightAt (hC : XC p s m #[Value.ref b] meth c D vwCl (fun q : Nat => s.heap.size ≤ q) cL_law 4 RX0 [(cA, .int)]) (hSc : va_X b N xs s s.heap) (hbl : b < s.heap.size) (hN : N < 2 ^ 31) {B i : Int} {σ τ : XS} (hB : 10 ≤ B ∧ B ≤ 50000) (h : ST B σ τ) (hi : 0 ≤ i ∧ i + 1 < (N : Int)) (next : ∀ u u' : XS, ST (B + 20) u u' → LW p l e s m b below meth c D hX hM cA (u, u') i [] 401) : LW p l e s m b below meth c D hX hM cA (σ, τ) i [] 339 := by
  have hbA : ¬ (fun q : Nat => s.heap.size ≤ q) b := Nat.not_le.mpr hbl
  refine x_aload_n (i := 1) hC dL_law_339 rfl rfl ?_
  refine x_aload_n (i := 0) hC dL_law_340 rfl rfl ?_
  refine x_iload_n (i := 3) hC dL_law_341 rfl rfl ?_
  refine x_iconst hC dL_law_342 ?_
  refine x_iadd hC dL_law_343 ?_
  refine x_sld hC hSc hbl hbA hN (by omega) dL_law_344 ?_
  refine l_xI hC (tX1_weightAt l D cA hX σ (by omega) h.1 _ (iI_rg _)) gX0_X1_weightAt hyX1_weightAt ⟨rfl, rfl⟩ ⟨Nat.le_of_ble_eq_true rfl, Nat.le_of_ble_eq_true rfl⟩ ⟨Nat.le_of_ble_eq_true rfl, Nat.le_of_ble_eq_true rfl⟩ rfl rfl rfl (Nat.le_of_ble_eq_true rfl) rfl dL_law_345 (fun z u hu => ?_)
  refine x_aload_n (i := 2) hC dL_law_348 rfl rfl ?_
  refine x_aload_n (i := 0) hC dL_law_349 rfl rfl ?_
  refine x_iload_n (i := 3) hC dL_law_350 rfl rfl ?_
  refine x_iconst hC dL_law_351 ?_
  refine x_iadd hC dL_law_352 ?_
  refine x_sld hC hSc hbl hbA hN (by omega) dL_law_353 ?_
  refine l_mI hC (tX2_weightAt l D cA hM τ h.okm _ (iI_rg _)) gX0_X2_weightAt hyX2_weightAt ⟨rfl, rfl⟩ ⟨Nat.le_of_ble_eq_true rfl, Nat.le_of_ble_eq_true rfl⟩ ⟨Nat.le_of_ble_eq_true rfl, Nat.le_of_ble_eq_true rfl⟩ rfl rfl rfl (Nat.le_of_ble_eq_true rfl) rfl dL_law_354 (fun z' u' hv => ?_)
  obtain ⟨ez, hs⟩ := h.weightAt _ hu hv
  subst ez
  refine x_icmp_same hC 401 dL_law_357 (by decide) ?_
  exact next u u' hs
set_option maxHeartbeats 4000000 in
theorem law_nearest (hC : XC p s m #[Value.ref b] meth c D vwCl (fun q : Nat => s.heap.size ≤ q) cL_law 4 RX0 [(cA, .int)]) (hSc : va_X b N xs s s.heap) (hbl : b < s.heap.size) (hN : N < 2 ^ 31) {B i : Int} {σ τ : XS} (hB : 10 ≤ B ∧ B ≤ 50000) (h : ST B σ τ) (hi : 0 ≤ i ∧ i + 1 < (N : Int)) (next : ∀ u u' : XS, ST (B + 20) u u' → LW p l e s m b below meth c D hX hM cA (u, u') i [] 401) : LW p l e s m b below meth c D hX hM cA (σ, τ) i [] 362 := by
  refine x_aload_n (i := 1) hC dL_law_362 rfl rfl ?_
  refine l_xI hC (tX1_nearest l D cA hX σ (by omega) h.1) gX0_X1_nearest hyX1_nearest ⟨rfl, rfl⟩ ⟨Nat.le_of_ble_eq_true rfl, Nat.le_of_ble_eq_true rfl⟩ ⟨Nat.le_of_ble_eq_true rfl, Nat.le_of_ble_eq_true rfl⟩ rfl rfl rfl (Nat.le_of_ble_eq_true rfl) rfl dL_law_363 (fun z u hu => ?_)
  refine x_aload_n (i := 2) hC dL_law_366 rfl rfl ?_
  refine l_mI hC (tX2_nearest l D cA hM τ h.okm) gX0_X2_nearest hyX2_nearest ⟨rfl, rfl⟩ ⟨Nat.le_of_ble_eq_true rfl, Nat.le_of_ble_eq_true rfl⟩ ⟨Nat.le_of_ble_eq_true rfl, Nat.le_of_ble_eq_true rfl⟩ rfl rfl rfl (Nat.le_of_ble_eq_true rfl) rfl dL_law_367 (fun z' u' hv => ?_)
  obtain ⟨ez, hs⟩ := h.nearest hu hv
  subst ez
  refine x_icmp_same hC 401 dL_law_370 (by decide) ?_
  exact next u u' hs
set_option maxHeartbeats 4000000 in
theorem law_exact (hC : XC p s m #[Value.ref b] meth c D vwCl (fun q : Nat => s.heap.size ≤ q) cL_law 4 RX0 [(cA, .int)]) (hSc : va_X b N xs s s.heap) (hbl : b < s.heap.size) (hN : N < 2 ^ 31) {B i : Int} {σ τ : XS} (hB : 10 ≤ B ∧ B ≤ 50000) (h : ST B σ τ) (hi : 0 ≤ i ∧ i + 1 < (N : Int)) (next : ∀ u u' : XS, ST (B + 20) u u' → LW p l e s m b below meth c D hX hM cA (u, u') i [] 401) : LW p l e s m b below meth c D hX hM cA (σ, τ) i [] 375 := by
  refine x_aload_n (i := 1) hC dL_law_375 rfl rfl ?_
  refine l_xI hC (tX1_exact l D cA hX σ (by omega) h.1) gX0_X1_exact hyX1_exact ⟨rfl, rfl⟩ ⟨Nat.le_of_ble_eq_true rfl, Nat.le_of_ble_eq_true rfl⟩ ⟨Nat.le_of_ble_eq_true rfl, Nat.le_of_ble_eq_true rfl⟩ rfl rfl rfl (Nat.le_of_ble_eq_true rfl) rfl dL_law_376 (fun z u hu => ?_)
  refine x_aload_n (i := 2) hC dL_law_379 rfl rfl ?_
  refine l_mI hC (tX2_exact l D cA hM τ h.okm) gX0_X2_exact hyX2_exact ⟨rfl, rfl⟩ ⟨Nat.le_of_ble_eq_true rfl, Nat.le_of_ble_eq_true rfl⟩ ⟨Nat.le_of_ble_eq_true rfl, Nat.le_of_ble_eq_true rfl⟩ rfl rfl rfl (Nat.le_of_ble_eq_true rfl) rfl dL_law_380 (fun z' u' hv => ?_)
  obtain ⟨ez, hs⟩ := h.exa hu hv
  subst ez
  refine x_icmp_same hC 401 dL_law_383 (by decide) ?_
  exact next u u' hs
set_option maxHeartbeats 4000000 in
theorem law_continues (hC : XC p s m #[Value.ref b] meth c D vwCl (fun q : Nat => s.heap.size ≤ q) cL_law 4 RX0 [(cA, .int)]) (hSc : va_X b N xs s s.heap) (hbl : b < s.heap.size) (hN : N < 2 ^ 31) {B i : Int} {σ τ : XS} (hB : 10 ≤ B ∧ B ≤ 50000) (h : ST B σ τ) (hi : 0 ≤ i ∧ i + 1 < (N : Int)) (next : ∀ u u' : XS, ST (B + 20) u u' → LW p l e s m b below meth c D hX hM cA (u, u') i [] 401) : LW p l e s m b below meth c D hX hM cA (σ, τ) i [] 388 := by
  refine x_aload_n (i := 1) hC dL_law_388 rfl rfl ?_
  refine l_xI hC (tX1_continues l D cA hX σ (by omega) h.1) gX0_X1_continues hyX1_continues ⟨rfl, rfl⟩ ⟨Nat.le_of_ble_eq_true rfl, Nat.le_of_ble_eq_true rfl⟩ ⟨Nat.le_of_ble_eq_true rfl, Nat.le_of_ble_eq_true rfl⟩ rfl rfl rfl (Nat.le_of_ble_eq_true rfl) rfl dL_law_389 (fun z u hu => ?_)
  refine x_aload_n (i := 2) hC dL_law_392 rfl rfl ?_
  refine l_mI hC (tX2_continues l D cA hM τ h.okm) gX0_X2_continues hyX2_continues ⟨rfl, rfl⟩ ⟨Nat.le_of_ble_eq_true rfl, Nat.le_of_ble_eq_true rfl⟩ ⟨Nat.le_of_ble_eq_true rfl, Nat.le_of_ble_eq_true rfl⟩ rfl rfl rfl (Nat.le_of_ble_eq_true rfl) rfl dL_law_393 (fun z' u' hv => ?_)
  obtain ⟨ez, hs⟩ := h.continues hu hv
  subst ez
  refine x_icmp_same hC 401 dL_law_396 (by decide) ?_
  exact next u u' hs
end LD
end
section
/-! THE LAW's LOOP, ITS START -/
set_option maxRecDepth 100000
section LE
variable {p : Program} {l : Launch} {e : Env} {s : State} {m : MethodId} {below : List Frame} {meth : Method} {c : Code} {D : va_G} {hX hM : Nat → Nat} {cA : ClassId} {b N : Nat} {xs : Nat → Int32}
set_option maxHeartbeats 4000000 in
-- the switch
theorem law_step (hC : XC p s m #[Value.ref b] meth c D vwCl (fun q : Nat => s.heap.size ≤ q) cL_law 4 RX0 [(cA, .int)]) (hSc : va_X b N xs s s.heap) (hbl : b < s.heap.size) (hN : N < 2 ^ 31) {B i v : Int} {σ τ : XS} (hv : 0 ≤ v ∧ v ≤ 31) (hB : 10 ≤ B ∧ B ≤ 50000) (h : ST B σ τ) (hi : 0 ≤ i ∧ i + 1 < (N : Int)) (next : ∀ u u' : XS, ST (B + 20) u u' → LW p l e s m b below meth c D hX hM cA (u, u') i [] 401) : LW p l e s m b below meth c D hX hM cA (σ, τ) i [.int (iI v)] 42 := by
  rcases (show v = 0 ∨ v = 1 ∨ v = 2 ∨ v = 3 ∨ v = 4 ∨ v = 5 ∨ v = 6 ∨ v = 7 ∨ v = 8 ∨ v = 9 ∨ v = 10 ∨ v = 11 ∨ v = 12 ∨ v = 13 ∨ v = 14 ∨ v = 15 ∨ v = 16 ∨ 16 < v by omega) with rfl | rfl | rfl | rfl | rfl | rfl | rfl | rfl | rfl | rfl | rfl | rfl | rfl | rfl | rfl | rfl | rfl | hv17
  · refine x_tin hC 124 (by omega) dL_law_42 (by omega) (by omega) (off := 82) rfl (by decide) ?_
    exact law_draft hC hSc hbl hN hB h hi next
  · refine x_tin hC 147 (by omega) dL_law_42 (by omega) (by omega) (off := 105) rfl (by decide) ?_
    exact law_scrap hC hSc hbl hN hB h hi next
  · refine x_tin hC 158 (by omega) dL_law_42 (by omega) (by omega) (off := 116) rfl (by decide) ?_
    exact law_add hC hSc hbl hN hB h hi next
  · refine x_tin hC 181 (by omega) dL_law_42 (by omega) (by omega) (off := 139) rfl (by decide) ?_
    exact law_remove hC hSc hbl hN hB h hi next
  · refine x_tin hC 194 (by omega) dL_law_42 (by omega) (by omega) (off := 152) rfl (by decide) ?_
    exact law_weight hC hSc hbl hN hB h hi next
  · refine x_tin hC 207 (by omega) dL_law_42 (by omega) (by omega) (off := 165) rfl (by decide) ?_
    exact law_words hC hSc hbl hN hB h hi next
  · refine x_tin hC 220 (by omega) dL_law_42 (by omega) (by omega) (off := 178) rfl (by decide) ?_
    exact law_type hC hSc hbl hN hB h hi next
  · refine x_tin hC 243 (by omega) dL_law_42 (by omega) (by omega) (off := 201) rfl (by decide) ?_
    exact law_backspace hC hSc hbl hN hB h hi next
  · refine x_tin hC 256 (by omega) dL_law_42 (by omega) (by omega) (off := 214) rfl (by decide) ?_
    exact law_reset hC hSc hbl hN hB h hi next
  · refine x_tin hC 267 (by omega) dL_law_42 (by omega) (by omega) (off := 225) rfl (by decide) ?_
    exact law_length hC hSc hbl hN hB h hi next
  · refine x_tin hC 280 (by omega) dL_law_42 (by omega) (by omega) (off := 238) rfl (by decide) ?_
    exact law_offered hC hSc hbl hN hB h hi next
  · refine x_tin hC 293 (by omega) dL_law_42 (by omega) (by omega) (off := 251) rfl (by decide) ?_
    exact law_offer hC hSc hbl hN hB h hi next
  · refine x_tin hC 316 (by omega) dL_law_42 (by omega) (by omega) (off := 274) rfl (by decide) ?_
    exact law_distance hC hSc hbl hN hB h hi next
  · refine x_tin hC 339 (by omega) dL_law_42 (by omega) (by omega) (off := 297) rfl (by decide) ?_
    exact law_weightAt hC hSc hbl hN hB h hi next
  · refine x_tin hC 362 (by omega) dL_law_42 (by omega) (by omega) (off := 320) rfl (by decide) ?_
    exact law_nearest hC hSc hbl hN hB h hi next
  · refine x_tin hC 375 (by omega) dL_law_42 (by omega) (by omega) (off := 333) rfl (by decide) ?_
    exact law_exact hC hSc hbl hN hB h hi next
  · refine x_tin hC 388 (by omega) dL_law_42 (by omega) (by omega) (off := 346) rfl (by decide) ?_
    exact law_continues hC hSc hbl hN hB h hi next
  · refine x_tout hC 401 (by omega) dL_law_42 (Or.inr hv17) (by decide) ?_
    exact next σ τ (h.up (by omega) sameM.rf)
set_option maxHeartbeats 4000000 in
theorem law_loop (hC : XC p s m #[Value.ref b] meth c D vwCl (fun q : Nat => s.heap.size ≤ q) cL_law 4 RX0 [(cA, .int)]) (hr : meth.sig.returnType = ret) (hSc : va_X b N xs s s.heap) (hbl : b < s.heap.size) (hN1 : N ≤ 1000) : ∀ (n : Nat) (i B : Int) (σ τ : XS), 1 ≤ i → i ≤ (N : Int) + 1 → (N : Int) - 1 ≤ i + 2 * (n : Int) → 10 ≤ B → B + 20 * (n : Int) ≤ 50000 → ST B σ τ → LW p l e s m b below meth c D hX hM cA (σ, τ) i [] 28 := by
  intro n
  have hN : N < 2 ^ 31 := by omega
  have hbA : ¬ (fun q : Nat => s.heap.size ≤ q) b := Nat.not_le.mpr hbl
  have fin : ∀ (q : XS × XS) (i : Int), LW p l e s m b below meth c D hX hM cA q i [] 407 := by
    intro q i
    refine x_iconst hC dL_law_407 ?_
    intro H locs ls hP hD hS hz
    refine va_forget (fun q hq => hS.2.2 q hq) ?_
    refine W.widen (k := 600000) (n := 7290000) (Nat.le_of_ble_eq_true rfl) (Nat.le_of_ble_eq_true rfl) ?_
    exact lw_ret hC.1 hC.2.1 hr hC.2.2.2.2.2.2.1 dL_law_408
  induction n with
  | zero =>
    intro i B σ τ h1 h2 h3 h4 h5 h
    refine x_iload_n (i := 3) hC dL_law_28 rfl rfl ?_
    refine x_aload_n (i := 0) hC dL_law_29 rfl rfl ?_
    refine x_slen hC hSc hbl hbA hN dL_law_30 ?_
    refine x_iconst hC dL_law_31 ?_
    refine x_isub hC dL_law_32 ?_
    refine x_icmp_gt hC 407 dL_law_33 (by decide) (by omega) (by omega) (fun h33 => ?_) (fun h33 => by exfalso; omega)
    exact fin _ _
  | succ n ih =>
    intro i B σ τ h1 h2 h3 h4 h5 h
    refine x_iload_n (i := 3) hC dL_law_28 rfl rfl ?_
    refine x_aload_n (i := 0) hC dL_law_29 rfl rfl ?_
    refine x_slen hC hSc hbl hbA hN dL_law_30 ?_
    refine x_iconst hC dL_law_31 ?_
    refine x_isub hC dL_law_32 ?_
    refine x_icmp_gt hC 407 dL_law_33 (by decide) (by omega) (by omega) (fun h33 => fin _ _) (fun h33 => ?_)
    refine x_aload_n (i := 0) hC dL_law_36 rfl rfl ?_
    refine x_iload_n (i := 3) hC dL_law_37 rfl rfl ?_
    refine x_sld hC hSc hbl hbA hN (by omega) dL_law_38 ?_
    refine x_bipush hC dL_law_39 bp_31 ?_
    obtain ⟨j, hj1, hj2⟩ := pk_andE (iI (xs i.toNat).toInt) (m := iI 31) 5 (by decide)
    refine x_iand (v := (j : Int)) hC dL_law_41 (hj2.trans (iI_nat (by omega))) ?_
    refine law_step hC hSc hbl hN (by omega) (by omega) h (by omega) (fun u u' hs => ?_)
    refine x_iinc hC dL_law_401 (i := 3) rfl rfl ?_
    refine x_goto hC 28 dL_law_404 (by decide) ?_
    exact ih (i + 2) (B + 20) u u' (by omega) (by omega) (by omega) (by omega) (by omega) hs
end LE
theorem hyX1_init : yX1_init.cls ≠ "java/lang/invoke/MethodHandle" ∧ yX1_init.cls ≠ "java/lang/invoke/VarHandle" ∧ (parseMethodDescriptor yX1_init.desc).map (fun d => d.parameters.length) = some 1 := by decide +kernel
theorem hyX2_init : yX2_init.cls ≠ "java/lang/invoke/MethodHandle" ∧ yX2_init.cls ≠ "java/lang/invoke/VarHandle" ∧ (parseMethodDescriptor yX2_init.desc).map (fun d => d.parameters.length) = some 1 := by decide +kernel
set_option maxHeartbeats 8000000 in
theorem whole_start {p : Program} {e : Env} {s : State} {m : MethodId} {below : List Frame} {meth : Method} {c : Code} (l : Launch) {b L : Nat} {xs : Nat → Int32} (hL : L ≤ 129) (C0 : lw_At p s m meth c b L xs) : W p l e room_1 s m #[Value.ref b] below meth c s.heap [] 0 0 (lw_Z below #[Value.ref b] s) (entryFrame m ([Value.ref b] : List Value).toArray 4) := by
  obtain ⟨hx, hb, hr, hml, hown, hts0, hSc, hbl, hlocks, hgv⟩ := id C0
  have hts : ∀ w ∈ lw_all, w.before #[Value.ref b] s = true := fun w h => hts0 w (lw_all_tbl h)
  have hbA : ¬ (fun q : Nat => s.heap.size ≤ q) b := Nat.not_le.mpr hbl
  obtain ⟨c0, iS0, hKn0⟩ := u_known (C := RX1) (T := TX1) (N := 19) (n := 19) hts in_X1 (hts _ q31)
  obtain ⟨c1, iS1, hKn1⟩ := u_known (C := RX2) (T := TX2) (N := 6) (n := 6) hts in_X2 (hts _ q229)
  obtain ⟨D, hKc⟩ : ∃ D : va_G, ∀ (k : Nat) (q : vw_C), vwCl[k]? = some q → u_Kn s q.1 q.2.1 q.2.2 (D.1 k) (D.2 k) := by
    refine ⟨(fun k => if k = 0 then c0 else c1, fun k => if k = 0 then iS0 else iS1), ?_⟩
    intro k q hq
    match k, hq with
    | 0, hq => cases hq; exact hKn0
    | 1, hq => cases hq; exact hKn1
    | k + 2, hq => simp [vwCl] at hq
  obtain ⟨cA, kA, comp, hA1, hA2, hA3⟩ := Cond.arrayClass_spec (hts _ q132)
  have hK : va_K D vwCl [(cA, .int)] s := by
    refine ⟨hKc, fun k q hq => ?_⟩
    match k, hq with
    | 0, hq => cases hq; exact ⟨fun n z => ⟨fun k h => (by cases h), kA, hA2, comp, hA3⟩, hA1⟩
    | k + 1, hq => simp at hq
  have hC : XC p s m #[Value.ref b] meth c D vwCl (fun q : Nat => s.heap.size ≤ q) cL_law 4 RX0 [(cA, .int)] := ⟨hx, hb, hml, hown, hts, hK, hlocks, fun _ h => h⟩
  have hz := lz_entry [Value.ref b] (fun v hv => by rw [List.mem_singleton.mp hv]; rfl) (n := 4) (Nat.le_of_ble_eq_true rfl)
  rw [lg_entry_eq]
  have key : XW p l e room_1 s m #[Value.ref b] below meth c 0 0 (lw_Z below #[Value.ref b] s) D vwCl (fun q : Nat => s.heap.size ≤ q) (fun w : va_W => w) [] [some (.ref b), none, none, none] [] 0 := by
    have hN : L < 2 ^ 31 := by omega
    have hc0 : -2147483648 ≤ cell0 L xs ∧ cell0 L xs ≤ 2147483647 := by
      unfold cell0
      split
      · exact iI_rg _
      · omega
    refine x_new (ci := 0) (fs := fsX0) hC in_X1 tyX1 tyX1_ok q30 q31 q28 rfl (fun j hj => by
      rcases (show j = 0 ∨ j = 1 ∨ j = 2 ∨ j = 3 ∨ j = 4 ∨ j = 5 ∨ j = 6 ∨ j = 7 ∨ j = 8 ∨ j = 9 ∨ j = 10 ∨ j = 11 ∨ j = 12 ∨ j = 13 ∨ j = 14 ∨ j = 15 ∨ j = 16 ∨ j = 17 ∨ j = 18 by omega) with rfl | rfl | rfl | rfl | rfl | rfl | rfl | rfl | rfl | rfl | rfl | rfl | rfl | rfl | rfl | rfl | rfl | rfl | rfl <;> rfl) (Nat.le_of_ble_eq_true rfl) (Nat.le_of_ble_eq_true rfl) dL_law_0 (fun o1 => ?_)
    refine x_dup hC dL_law_3 rfl ?_
    refine x_aload_n (i := 0) hC dL_law_4 rfl rfl ?_
    refine x_iconst hC dL_law_5 ?_
    refine x_cell hC hSc hbl hbA hN ⟨Nat.le_of_ble_eq_true rfl, Nat.le_of_ble_eq_true rfl⟩ ⟨Nat.le_of_ble_eq_true rfl, Nat.le_of_ble_eq_true rfl⟩ (Nat.le_of_ble_eq_true rfl) rfl dL_law_6 ?_
    refine x_ctor (wr := []) hC (tX1_init l D cA o1 _ hc0) q34 q28 q32 q33 rfl hyX1_init ⟨rfl, rfl⟩ ⟨Nat.le_of_ble_eq_true rfl, Nat.le_of_ble_eq_true rfl⟩ ⟨Nat.le_of_ble_eq_true rfl, Nat.le_of_ble_eq_true rfl⟩ [0] [] rfl (by decide) rfl (by decide) (by decide) rfl rfl (Nat.le_of_ble_eq_true rfl) rfl dL_law_9 (fun hX σ e1 hσ => ?_)
    refine x_astore_n (i := 1) hC dL_law_12 rfl (Nat.le_of_ble_eq_true rfl) rfl ?_
    refine x_new (ci := 1) (fs := fsM0) hC in_X2 tyX2 tyX2_ok q228 q229 q29 rfl (fun j hj => by
      rcases (show j = 0 ∨ j = 1 ∨ j = 2 ∨ j = 3 ∨ j = 4 ∨ j = 5 by omega) with rfl | rfl | rfl | rfl | rfl | rfl <;> rfl) (Nat.le_of_ble_eq_true rfl) (Nat.le_of_ble_eq_true rfl) dL_law_13 (fun o2 => ?_)
    refine x_dup hC dL_law_16 rfl ?_
    refine x_aload_n (i := 0) hC dL_law_17 rfl rfl ?_
    refine x_iconst hC dL_law_18 ?_
    refine x_cell hC hSc hbl hbA hN ⟨Nat.le_of_ble_eq_true rfl, Nat.le_of_ble_eq_true rfl⟩ ⟨Nat.le_of_ble_eq_true rfl, Nat.le_of_ble_eq_true rfl⟩ (Nat.le_of_ble_eq_true rfl) rfl dL_law_19 ?_
    refine x_ctor (wr := wX hX cA σ) hC (tX2_init l D cA o2 _ hc0) q232 q29 q230 q231 rfl hyX2_init ⟨rfl, rfl⟩ ⟨Nat.le_of_ble_eq_true rfl, Nat.le_of_ble_eq_true rfl⟩ ⟨Nat.le_of_ble_eq_true rfl, Nat.le_of_ble_eq_true rfl⟩ [15] [0, 1, 2, 3, 4, 5, 6, 7, 8, 9, 10, 11, 12, 13, 14] rfl (by decide) rfl (by decide) (by decide) rfl rfl (Nat.le_of_ble_eq_true rfl) rfl dL_law_22 (fun hM τ e2 hτ => ?_)
    refine x_astore_n (i := 2) hC dL_law_25 rfl (Nat.le_of_ble_eq_true rfl) rfl ?_
    refine x_iconst hC dL_law_26 ?_
    refine x_istore_n (i := 3) hC dL_law_27 rfl (Nat.le_of_ble_eq_true rfl) rfl ?_
    refine x_widen (k := 20) (n := 1740) (Nat.le_of_ble_eq_true rfl) (Nat.le_of_ble_eq_true rfl) ?_
    refine x_turn (w' := w2 hX hM cA) (σ' := (σ, τ)) rfl ?_
    subst e1
    subst e2
    exact law_loop hC hr hSc hbl (by omega) 65 1 10 σ τ (by omega) (by omega) (by omega) (by omega) (by omega) (hσ.up (by omega) hτ)
  exact key s.heap [] _ (fun k q h => by simp at h) ⟨fun i j p q h => by simp at h, fun k q h => by simp at h⟩ va_S.rf hz
end
section
-- ===== YOUR PART ENDS =====
set_option maxHeartbeats 4000000 in
theorem lw_walk (l : Launch) (b : Addr) (xs : List Int32) : MetFree l x (headSpec (Jvm.Cond.code x code maxLocals ret :: tables_1) room_1) (lw_P b xs) (fun _ _ _ _ _ => True) lw_Q := by
  refine MetFree.of_bodyS (code := code) (maxLocals := maxLocals) (ret := ret) (by decide) ?_ ?_
  · intro args s m h hn
    obtain ⟨meth, c, h1, h2, h3, h4, h5, h6, -, -⟩ := Cond.code_spec hn (atoms_spec (ws := Jvm.Cond.code x code maxLocals ret :: tables_1) h _ List.mem_cons_self)
    exact ⟨meth, c, h1, h2, h3, h4, h5, h6⟩
  · intro p e s m args below meth c s₁ B hml0 hP _
    obtain ⟨rfl, hx, hbd, hgv⟩ := hP
    obtain ⟨scr, harrAt, hlist, hof, hsmall⟩ := hx
    obtain ⟨hcb, hkn, -, -⟩ := State.arrayAt?_spec harrAt
    have hown : s.vm.findClass R_law = some m.cls := findClass_of_methodNamed B.named
    have hts0 : ∀ c ∈ (Jvm.Cond.code x code maxLocals ret :: tables_1), c.before #[Value.ref b] s = true := atoms_spec (ws := Jvm.Cond.code x code maxLocals ret :: tables_1) B.pre
    have hts : ∀ w ∈ lw_tbl, w.before #[Value.ref b] s = true := k2_hts_sels lw_privs (fun w hw => hts0 w (List.mem_cons_of_mem _ hw)) lw_privs_ok
    have hml : c.maxLocals = 4 := B.maxLocals_eq (hts0 _ List.mem_cons_self)
    have X₀ : Stand p l e room_1 s m #[Value.ref b] below meth c s₁ [] 0 0 := Stand.of_body B
    have hh0 : s₁.heap = s.heap := by rw [B.state]; rfl
    have hsz : scr.slots.size = xs.length := by rw [← Array.length_toList, hlist, List.length_map]
    have hval : ∀ j : Nat, j < xs.length → scr.slots[j]? = some (.int (xs.getD j 0)) := fun j hj => by
      rw [← Array.getElem?_toList, hlist]
      simp [hj]
    have hbl : b < s.heap.size := (Array.getElem?_eq_some_iff.mp hcb).1
    have hX : va_X b xs.length (fun j => xs.getD j 0) s s.heap := ⟨scr, hcb, hof, hkn, hsz, hval⟩
    have K : W p l e room_1 s m #[Value.ref b] below meth c s₁.heap [] 0 0 (lw_Z below #[Value.ref b] s) (entryFrame m ([Value.ref b] : List Value).toArray 4) := by
      rw [hh0]
      exact whole_start l hbd ⟨B.exec, B.bytes, B.returns, hml, hown, hts, hX, hbl, B.notSynchronized, hgv⟩
    obtain ⟨t, a1, o, b1, b2, b3⟩ := K s₁ rfl X₀
    exact ⟨t, o, a1, b1, b2, b3⟩
theorem lw_pre_spec {args : Array Value} {s : State} (h : (Jvm.Cond.and given_1 narrow_1).before args s = true) (hr : rest_1_c.before args s = true) : ∃ (b : Addr) (xs : List Int32), lw_P b xs args s := by
  have hs := flat_of_before _ h
  have hq := flat_of_before _ hr
  have hc : (Cond.count 1).before args s = true := hs _ (by decide +kernel)
  have harr : (Cond.arrayOf (.arg 0) .int).before args s = true := hs _ (by decide +kernel)
  have hle : (Cond.le (.length (.arg 0)) (.int 129)).before args s = true := hs _ (by decide +kernel)
  have hlen : (Cond.isInt (.length (.arg 0))).before args s = true := hq _ (by decide +kernel)
  have hall : (Cond.all (.arg 0) (.isInt (.elem (.arg 0) (.index 0)))).before args s = true := hq _ (by decide +kernel)
  obtain ⟨b, xs, hb, hx⟩ := State.ints_of_pre rfl harr hlen hall
  have hsm : xs.length < 2 ^ 31 := hx.choose_spec.2.2.2
  have hev : (Term.length (.arg 0)).eval args s none [] s = some (.int xs.length.toInt32) := hx.length_eval hb
  have hv := Cond.le_ints hev (show (Term.int 129).eval args s none [] s = some (.int 129) from rfl)
  have hd : xs.length.toInt32 ≤ 129 := by
    simpa [Cond.before, Cond.holds, hv] using hle
  have hN : xs.length ≤ 129 := (Int32.ofNat_le_ofNat hsm (by decide)).mp (show Int32.ofNat xs.length ≤ Int32.ofNat 129 from hd)
  exact ⟨b, xs, Cond.one_arg hc (show args[0]? = some (.ref b) from hb), hx, hN, h⟩
theorem lw_comes (l : Launch) : Comes l x (Jvm.Cond.code x code maxLocals ret :: tables_1) room_1 (fun tb e args s => Calls_1 tb e args s ∧ rest_1 tb e args s ∧ Pre_1 tb e args s)
    (fun _ _ args s o t => lw_Q args s o t) := by
  intro p e ha hc hk s m args below hf hfit hheap happ hpre
  obtain ⟨b, xs, hP⟩ := lw_pre_spec hpre.2.2 hpre.2.1
  obtain ⟨k, o, h1, h2, h3, hQ⟩ := lw_walk l b xs p e ha hc hk s m args below hf ((Spec.applies_iff_loose hf).mp happ).1 hP trivial
  exact ⟨k, o, h1, h2, h3, hQ⟩
theorem lw_frame {s t : State} {o : Outcome} {args : Array Value} (h : Framed s o t [] 600000 7290000) :
    Framed s o t (fieldLocs frame_1_writes args s ++ arrayLocs frame_1_arrays args s ++ staticLocs frame_1_statics s) 600000 7290000 := h
theorem lw_limb (L : Cond) (hL : ∀ (args : Array Value) (s t : State), L.after args s (.returned (some (.int 1))) t = true) :
    ArmFor flags0 classFile x code maxLocals ret World_1 tables_1 room_1 Calls_1 rest_1 Pre_1
      (fun tb e a s o t => postC L tb e a s o t ∧ Framed s o t (fieldLocs frame_1_writes a s ++ arrayLocs frame_1_arrays a s ++ staticLocs frame_1_statics s) 600000 7290000) := by
  intro l _ _ _ p e ha hc hk s m args below hf hfit hheap happ hpre
  obtain ⟨k, o, h1, h2, h3, rfl, hF⟩ := lw_comes l p e ha hc hk s m args below hf hfit hheap happ hpre
  exact ⟨k, _, h1, h2, h3, hL args s _, lw_frame hF⟩
theorem i_vc : Claimed_1_1 ∧ Claimed_1_2 := ⟨lw_limb limb_1_1 (fun args s t => by simp [limb_1_1, Cond.after, Cond.holds, Cond.value]), lw_limb limb_1_2 (fun args s t => Cond.after_iff.mpr (by
  first | (rw [show limb_1_2 = Cond.eq .result (.int 1) from rfl, Cond.eq_ints (x := 1) (y := 1) rfl rfl]; simp; done) | (simp [limb_1_2, Cond.value, Term.eval]; done)))⟩
end
